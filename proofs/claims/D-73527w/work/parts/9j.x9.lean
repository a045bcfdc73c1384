set_option maxRecDepth 100000
theorem mi_X6_buys : gMV RX6 yX6_buys cX6_buys 5 none 4 := ⟨q1117, q1118, q140, q1119, by decide +kernel⟩
set_option maxHeartbeats 4000000 in
set_option maxRecDepth 100000 in
theorem met_X6_buys (l : Launch) {G : gG} (hG : gOK G) {M0 : gM} {r x : Nat} {ba : Nat → Nat} {B : Nat → Int32} {D : Nat → Nat → Int32} {xx : Nat → Nat → Nat → Int32} {Z : Nat → Int64} {st : List Nat} {ex : Nat → Prop} {sb : Int64} {n t u k : Nat} {tax span : Int32} (hBX : BX G r ba x B D xx Z st ex sb M0) (hr4 : 4 ≤ r) (hK : dN (B 1865) ≤ 8 ∧ dN (B 1867) ≤ 40) (hn : B 0 = nI n) (hn6 : n < 64) (ht4 : t < 4) (hu3 : u < 3) (hk : dN (B 1865) = k) (hk8 : k < 8) (hov : (B (1 + 320 * t + 5 * n + (2 + u)) + tax).toInt64 = pQS B t n (2 + u) + tax.toInt64) (hst : ∀ a ∈ st, a < k) (hst9 : st.length < 100) : Met l yX6_buys (ws_ yX6_buys cX6_buys 5 none) ({ frames := 5, cells := 7, slots := 75, locals := 100 }) (gPre G M0 [.ref (ba 0), .int (nI t), .int (nI u), .int (tax), .int (span)]) (gQ G (gV (fun M1 => ∃ ba' xx', BX G r ba' x (pAcq B t u tax span) D xx' Z (st ++ [k]) ex sb M1 ∧ (∀ j, j < 140 ∨ 1000 ≤ j → ba' j = ba j) ∧ (∀ a, a ≠ k → xx' a = xx a) ∧ xx' k = (fun j => if j = 0 then upd (fun _ => 0) (n / 4) (nI t) else fun _ => 0) ∧ gFl (fun l => l.1 = r) M0 M1))) 7 75 (gA G) := by
  refine gMet (L0 := [some (.ref (ba 0)), some (.int (nI t)), some (.int (nI u)), some (.int (tax)), some (.int (span))]) RX6 hG (by decide +kernel) rfl (Nat.le_of_ble_eq_true rfl) rfl ?_
  intro p e s m args below meth c C hnm
  have hBC := hBX.1
  have hb0 := hBC.1
  rw [hn] at hb0
  have hnr : ∀ i, i ≠ 11 → i ≠ 100 → i ≠ 12 → i ≠ 120 → ¬ ((r, i) = (r, 11) ∨ (r, i) = (r, 100) ∨ (r, i) = (r, 12) ∨ (r, i) = (r, 120)) := fun i h1 h2 h3 h4 q => by rcases q with q | q | q | q <;> (have := congrArg Prod.snd q; dsimp only at this; omega)
  refine x_aload_n C dX6_buys_0 rfl rfl ?_
  refine x_get C gcX6 hb0 0 rfl q513 rfl dX6_buys_1 ?_
  refine x_iload_n C dX6_buys_4 rfl rfl ?_
  refine y_aaldR (ty := .array (.object "ExemptDesk$Sums")) (i := t) (b := ba (20 + t)) C 5 rfl rfl hBC.2.1 rfl (by omega) rfl rfl dX6_buys_5 ?_
  refine x_aload_n C dX6_buys_6 rfl rfl ?_
  refine x_get C gcX6 hb0 13 rfl q537 rfl dX6_buys_7 ?_
  refine y_aaldR (ty := .object "ExemptDesk$Sums") (i := n) (b := ba (1000 + 64 * t + n)) C 4 rfl rfl (hBC.2.2.2.1 t (by omega)) rfl (by omega) rfl rfl dX6_buys_10 ?_
  refine x_getN C gcX7 (hBC.2.2.2.2.2.1 t n (by omega) (by omega)).1 0 rfl q508 rfl dX6_buys_11 ?_
  refine x_iconst C dX6_buys_14 kc_2 ?_
  refine x_iload_n C dX6_buys_15 rfl rfl ?_
  refine x_iaddN C dX6_buys_16 ?_
  refine x_dup2 C dX6_buys_17 rfl rfl ?_
  refine y_lald (i := 2 + u) C (hBC.2.2.2.2.2.1 t n (by omega) (by omega)).2 rfl (by omega) rfl dX6_buys_18 ?_
  refine x_iload_n C dX6_buys_19 rfl rfl ?_
  refine x_i2l C dX6_buys_20 ?_
  refine x_ladd C dX6_buys_21 ?_
  rw [← hov]
  refine y_last (i := 2 + u) C (hBC.2.2.2.2.2.1 t n (by omega) (by omega)).2 rfl (by omega) rfl dX6_buys_22 (fun M1 h2 k3 => ?_)
  have hBX1 : BX G r ba x (pAdd B (1 + 320 * t + 5 * n + (2 + u)) tax) D xx Z st ex sb M1 := hBX.sum (k := 2 + u) ht4 hn6 (by omega) hr4 hK h2 k3
  have f1 : gFl (fun l => l.1 = r) M0 M1 := (gFl.of1 (hBC.2.2.2.2.2.1 t n (by omega) (by omega)).2 h2 k3 rfl : gFl (fun l => l = (r, 2000 + 64 * t + n)) M0 _).mono (fun i j q => congrArg Prod.fst q)
  have e65 : (pAdd B (1 + 320 * t + 5 * n + (2 + u)) tax) 1865 = B 1865 := if_neg (by omega)
  have e67 : (pAdd B (1 + 320 * t + 5 * n + (2 + u)) tax) 1867 = B 1867 := if_neg (by omega)
  have e0 : (pAdd B (1 + 320 * t + 5 * n + (2 + u)) tax) 0 = B 0 := if_neg (by omega)
  obtain ⟨mc1, nd1, hl1⟩ := hBX1.2.1
  rw [e65, hk] at hl1
  obtain ⟨mc2, nd2, hl2⟩ := hBX1.2.2.1
  have hb1 := hBX1.1.1
  rw [e0, hn] at hb1
  refine x_aload_n C dX6_buys_23 rfl rfl ?_
  refine y_new (fs := [.int (nI 0), .int (nI 0), .int (nI 0), .int (nI 0), .int (nI 0), .null, .null, .null, .int (nI 0), .int (nI 0), .int (nI 0), .int (nI 0), .int (nI 0), .int (nI 0), .int (nI 0), .null, .int (nI 0)]) C (fun a => (r, 140 + k)) gcX8 q1120 q1121 q163 rfl ⟨Nat.le_of_ble_eq_true rfl, Nat.le_of_ble_eq_true rfl⟩ dX6_buys_24 (fun a4 M5 n6 g7 h8 k9 => ?_)
  have e10 : ba 0 ≠ a4 := gM_nn hb1 n6
  have e11 : ba 11 ≠ a4 := gM_nn hl1.1 n6
  have h12 := (k9 _ e10).trans hb1
  have h13 := (k9 _ e11).trans hl1.1
  have k14 : ∀ zz : Nat, zz ≠ a4 → M5 zz = M1 zz := fun zz z0 => k9 zz z0
  have hN0 : ∀ z : Nat, z ≠ a4 → M5 z = none → M1 z = none := fun z hz h9 => (k14 z hz).symm.trans h9
  refine x_dup C dX6_buys_27 rfl ?_
  refine x_aload_n C dX6_buys_28 rfl rfl ?_
  refine x_get C gcX6 h12 8 rfl q528 rfl dX6_buys_29 ?_
  refine x_V0I C (met_J11_size l C.1 (hl1.keep (ρ := fun _ => False) (gFl.nw n6 k14) (fun q => q) (fun q => q))) mi_J11_size q1115 gcJ11 h13 ⟨rfl, rfl⟩ rfl ⟨Nat.le_of_ble_eq_true rfl, Nat.le_of_ble_eq_true rfl⟩ rfl dX6_buys_32 (fun r16 M15 hr => ?_)
  obtain ⟨hr, rfl⟩ := hr
  rw [hr]
  refine x_iload_n C dX6_buys_35 rfl rfl ?_
  refine x_iload_n C dX6_buys_36 rfl rfl ?_
  refine x_iload_n C dX6_buys_37 rfl rfl ?_
  refine x_iload C dX6_buys_38 rfl ?_
  refine x_aload_n C dX6_buys_40 rfl rfl ?_
  refine x_get C gcX6 h12 13 rfl q537 rfl dX6_buys_41 ?_
  refine x_I6 C (met_X8_init l C.1 r k h8 hn6) mi_X8_init q1122 ⟨rfl, rfl⟩ rfl ⟨Nat.le_of_ble_eq_true rfl, Nat.le_of_ble_eq_true rfl⟩ rfl dX6_buys_44 (fun M17 hr => ?_)
  obtain ⟨aa18, rfl, ⟨h19, h20, h21, h22, h23⟩, n24, n25, n26, n27, k28⟩ := hr
  have hAS : AS G r k aa18 (fnL 0 [nI k, tax, span, nI n, nI (n / 4), 0, 0, 0, nI u, -1, -1, -1, nI t, -999999, 0, 0, 0]) (fun j => if j = 0 then upd (fun _ => 0) (n / 4) (nI t) else fun _ => 0) M17 := ⟨h19, h20, h21, h22, h23⟩
  have hz1 : aa18 0 ≠ aa18 1 := gM_ne h19 h20 (by omega)
  have hz2 : aa18 0 ≠ aa18 2 := gM_ne h19 h21 (by omega)
  have hz3 : aa18 0 ≠ aa18 3 := gM_ne h19 h22 (by omega)
  have hz4 : aa18 0 ≠ aa18 4 := gM_ne h19 h23 (by omega)
  have f2 : ∀ {ρ : Nat × Nat → Prop}, gFl ρ M1 M17 := gFl.n5 n6 (hN0 _ (Ne.symm hz1) n24) (hN0 _ (Ne.symm hz2) n25) (hN0 _ (Ne.symm hz3) n26) (hN0 _ (Ne.symm hz4) n27) (fun z z0 z1 z2 z3 z4 => (k28 z z0 z1 z2 z3 z4).trans (k14 z z0))
  have hBX2 := hBX1.keep (f2 (ρ := fun _ => False)) (fun _ q => q) (fun q => q)
  have hl1' := hl1.keep (f2 (ρ := fun _ => False)) (fun q => q) (fun q => q)
  have hl2' := hl2.keep (f2 (ρ := fun _ => False)) (fun q => q) (fun q => q)
  have hb2 := hBX2.1.1
  rw [e0, hn] at hb2
  refine x_V1V C (met_X6_add l C.1 (vb := fnL Value.null [.ref (ba 1), .ref (ba 2), .ref (ba 3), .ref (ba 4), .ref (ba 5), .ref (ba 7), .ref (ba 8), .ref (ba 6), .null, .null, .ref (ba 13), .ref (ba 15), .ref (ba 9), .int (nI n), .int ((pAdd B (1 + 320 * t + 5 * n + (2 + u)) tax) 1866), .ref x]) (v8 := fnL Value.null [.int (nI k), .int tax, .int span, .int (nI n), .int (nI (n / 4)), .ref (aa18 1), .ref (aa18 2), .ref (aa18 3), .int (nI u), .int (-1), .int (-1), .int (-1), .int (nI t), .int (-999999), .int 0, .ref (aa18 4)]) (sh := nI 0) hb2 hAS.1 hk8 hl1' hl2' (by omega) hst9) mi_X6_add q1211 gcX6 hb2 ⟨rfl, rfl⟩ rfl ⟨Nat.le_of_ble_eq_true rfl, Nat.le_of_ble_eq_true rfl⟩ rfl dX6_buys_47 (fun M29 hr => ?_)
  obtain ⟨hp1, hp2, f3⟩ := hr
  rw [if_pos (show nI 0 = 0 from rfl)] at hp2
  have hpn : pNow B = n := by unfold pNow; rw [hn, dN_nI (by omega)]
  have hat := fun j => pAcq_at (tax := tax) (span := span) hk.symm hpn hk8 ht4 hn6 hu3 j
  have hAS3 := hAS.keep f3 (hnr _ (by omega) (by omega) (by omega) (by omega)) (hnr _ (by omega) (by omega) (by omega) (by omega)) (hnr _ (by omega) (by omega) (by omega) (by omega)) (hnr _ (by omega) (by omega) (by omega) (by omega)) (hnr _ (by omega) (by omega) (by omega) (by omega))
  have hAS4 := hAS3.cg (fun _ _ => rfl) (vA_new (B := pAcq B t u tax span) (t := t) (u := u) (tax := tax) (span := span) hn6 (fun i hi => by
    rw [hat, if_neg (by omega), if_pos (by omega), hn]
    rcases (by omega : i = 4 ∨ i = 3 ∨ i = 2 ∨ i = 1 ∨ i = 0 ∨ i = 5 ∨ 5 < i) with rfl | rfl | rfl | rfl | rfl | rfl | h9
    · rw [if_pos rfl, if_pos rfl]
    · rw [if_neg (by omega), if_pos rfl, if_neg (by omega), if_pos rfl]
    · rw [if_neg (by omega), if_neg (by omega), if_pos rfl, if_neg (by omega), if_neg (by omega), if_pos rfl]
    · rw [if_neg (by omega), if_neg (by omega), if_neg (by omega), if_pos rfl, if_neg (by omega), if_neg (by omega), if_neg (by omega), if_pos rfl]
    · rw [if_neg (by omega), if_neg (by omega), if_neg (by omega), if_neg (by omega), if_pos rfl, if_neg (by omega), if_neg (by omega), if_neg (by omega), if_neg (by omega), if_pos rfl]
    · rw [if_neg (by omega), if_neg (by omega), if_neg (by omega), if_neg (by omega), if_neg (by omega), if_pos rfl, if_neg (by omega), if_neg (by omega), if_neg (by omega), if_neg (by omega), if_neg (by omega), if_pos rfl]
    · rw [if_neg (by omega), if_neg (by omega), if_neg (by omega), if_neg (by omega), if_neg (by omega), if_neg (by omega), if_neg (by omega), if_neg (by omega), if_neg (by omega), if_neg (by omega), if_neg (by omega), if_neg (by omega)])) (fun _ _ _ _ => rfl)
  refine x_vret C dX6_buys_50 ⟨Nat.le_of_ble_eq_true rfl, Nat.le_of_ble_eq_true rfl⟩ ⟨baN ba k aa18, _, hBX2.addA (aa := aa18) (by rw [e65]; exact hk.symm) hk8 (by rw [e67]; exact hK.2) hr4 (fun j j1 j2 => by rw [hat, if_neg j1, if_neg j2]) (by rw [hat, if_pos rfl]) hAS4 hp1 hp2 f3 hst, fun j hj => baN_lo hk8 hj, fun a ha => if_neg ha, if_pos rfl, (f1.tr f2).tr (f3.mono (fun i j q => by rcases q with q | q | q | q <;> exact congrArg Prod.fst q))⟩
