set_option maxRecDepth 100000
theorem mi_X6_asset : gMV RX6 yX6_asset cX6_asset 2 (some (.object "ExemptDesk$Asset")) 1 := ⟨q1572, q1573, q140, q1574, by decide +kernel⟩
set_option maxHeartbeats 4000000 in
set_option maxRecDepth 100000 in
theorem met_X6_asset (l : Launch) {G : gG} (hG : gOK G) {M0 : gM} {r x : Nat} {ba : Nat → Nat} {B : Nat → Int32} {D : Nat → Nat → Int32} {xx : Nat → Nat → Nat → Int32} {Z : Nat → Int64} {st : List Nat} {ex : Nat → Prop} {sb : Int64} {a : Nat} (hBX : BX G r ba x B D xx Z st ex sb M0) (hr4 : 4 ≤ r) (hK : dN (B 1865) ≤ 8 ∧ dN (B 1867) ≤ 40) (ha : a < dN (B 1865)) (hex : ¬ ex a) : Met l yX6_asset (ws_ yX6_asset cX6_asset 2 (some (.object "ExemptDesk$Asset"))) ({ frames := 3, cells := 0, slots := 0, locals := 63 }) (gPre G M0 [.ref (ba 0), .int (nI a)]) (gQ G (gR (fun r9 M1 => M1 = M0 ∧ ba (140 + a) = r9))) 0 0 (gA G) := by
  refine gMet (L0 := [some (.ref (ba 0)), some (.int (nI a))]) RX6 hG (by decide +kernel) rfl (Nat.le_of_ble_eq_true rfl) rfl ?_
  intro p e s m args below meth c C hnm
  have hA := hBX.2.2.2.1 a ha hex
  obtain ⟨mc1, nd1, hl1⟩ := hBX.2.1
  have hBC := hBX.1
  refine x_aload_n C dX6_asset_0 rfl rfl ?_
  refine x_get C gcX6 hBC.1 8 rfl q528 rfl dX6_asset_1 ?_
  refine x_iload_n C dX6_asset_4 rfl rfl ?_
  refine x_V1R C (met_J11_get l C.1 hl1 ha) mi_J11_get q1575 gcJ11 hl1.1 ⟨rfl, rfl⟩ rfl ⟨Nat.le_of_ble_eq_true rfl, Nat.le_of_ble_eq_true rfl⟩ rfl dX6_asset_5 (fun r2 M1 hr => ?_)
  obtain ⟨hr, rfl⟩ := hr
  rw [hr]
  refine x_castS C gcX8 hA.1 q1120 dX6_asset_8 ?_
  exact x_aret C dX6_asset_11 ⟨Nat.le_of_ble_eq_true rfl, Nat.le_of_ble_eq_true rfl⟩ ⟨rfl, rfl⟩
theorem mi_X6_add : gMV RX6 yX6_add cX6_add 2 none 1 := ⟨q1213, qs9, q140, q1214, by decide +kernel⟩
set_option maxHeartbeats 4000000 in
set_option maxRecDepth 100000 in
theorem met_X6_add (l : Launch) {G : gG} (hG : gOK G) {M0 : gM} {r b a ka l1 l2 n1 n2 : Nat} {mc1 mc2 sh : Int32} {nd1 it1 nd2 it2 : Nat → Nat} {v8 vb : Nat → Value} (h0 : M0 b = some ((r, 0), .inr (21, [vb 0, vb 1, vb 2, vb 3, vb 4, vb 5, vb 6, vb 7, .ref (l1), .ref (l2), vb 10, vb 11, vb 12, vb 13, vb 14, vb 15]))) (ha : M0 a = some ((r, 140 + ka), .inr (23, [v8 0, v8 1, v8 2, v8 3, v8 4, v8 5, v8 6, v8 7, v8 8, v8 9, v8 10, v8 11, v8 12, v8 13, v8 14, v8 15, .int (sh)]))) (hka : ka < 8) (h1 : LL (r, 11) (r, 100) l1 n1 mc1 nd1 it1 M0) (h2 : LL (r, 12) (r, 120) l2 n2 mc2 nd2 it2 M0) (hn1 : n1 < 100) (hn2 : n2 < 100) : Met l yX6_add (ws_ yX6_add cX6_add 2 none) ({ frames := 4, cells := 2, slots := 6, locals := 79 }) (gPre G M0 [.ref (b), .ref (a)]) (gQ G (gV (fun M1 => (∃ mc nd, LL (r, 11) (r, 100) l1 (n1 + 1) mc nd (fun i => if i = n1 then a else it1 i) M1) ∧ (∃ mc nd, LL (r, 12) (r, 120) l2 (if sh = 0 then n2 + 1 else n2) mc nd (fun i => if i = n2 then a else it2 i) M1) ∧ gFl (fun l => l = (r, 11) ∨ l = (r, 100) ∨ l = (r, 12) ∨ l = (r, 120)) M0 M1))) 2 6 (gA G) := by
  refine gMet (L0 := [some (.ref (b)), some (.ref (a))]) RX6 hG (by decide +kernel) rfl (Nat.le_of_ble_eq_true rfl) rfl ?_
  intro p e s m args below meth c C hnm
  have n5 : ∀ i j : Nat, i ≠ j → ¬ (r, i) = (r, j) := fun i j hij q => hij (congrArg Prod.snd q)
  refine x_aload_n C dX6_add_0 rfl rfl ?_
  refine x_get C gcX6 h0 8 rfl q528 rfl dX6_add_1 ?_
  refine x_aload_n C dX6_add_4 rfl rfl ?_
  refine x_V1I C (met_J11_add l C.1 h1 (by omega)) mi_J11_add q1215 gcJ11 h1.1 ⟨rfl, rfl⟩ rfl ⟨Nat.le_of_ble_eq_true rfl, Nat.le_of_ble_eq_true rfl⟩ rfl dX6_add_5 (fun r2 M1 hr => ?_)
  obtain ⟨rfl, nd1', -, -, hq1, f1⟩ := hr
  have h0' := f1.keep h0 (fun q => q.elim (n5 _ 11 (by omega)) (n5 _ 100 (by omega)))
  have ha' := f1.keep ha (fun q => q.elim (n5 _ 11 (by omega)) (n5 _ 100 (by omega)))
  have h2' := h2.keep f1 (fun q => q.elim (n5 _ 11 (by omega)) (n5 _ 100 (by omega))) (fun q => q.elim (n5 _ 11 (by omega)) (n5 _ 100 (by omega)))
  refine x_pop C dX6_add_8 rfl ?_
  refine x_aload_n C dX6_add_9 rfl rfl ?_
  refine x_getN C gcX8 ha' 16 rfl q1174 rfl dX6_add_10 ?_
  refine x_if_ne (tgt := 25) C dX6_add_13 rfl (fun c13 => ?_) (fun c13 => ?_)
  · -- 25
    exact x_vret C dX6_add_25 ⟨Nat.le_of_ble_eq_true rfl, Nat.le_of_ble_eq_true rfl⟩ ⟨⟨_, _, hq1⟩, ⟨_, _, by rw [if_neg c13]; exact h2'.ext (nd' := nd2) (fun i hi => rfl) (fun i hi => if_neg (by omega))⟩, f1.mono (fun i j q => q.elim Or.inl (fun q => Or.inr (Or.inl q)))⟩
  · -- 16
    refine x_aload_n C dX6_add_16 rfl rfl ?_
    refine x_get C gcX6 h0' 9 rfl q530 rfl dX6_add_17 ?_
    refine x_aload_n C dX6_add_20 rfl rfl ?_
    refine x_V1I C (met_J11_add l C.1 h2' (by omega)) mi_J11_add q1215 gcJ11 h2'.1 ⟨rfl, rfl⟩ rfl ⟨Nat.le_of_ble_eq_true rfl, Nat.le_of_ble_eq_true rfl⟩ rfl dX6_add_21 (fun r4 M3 hr => ?_)
    obtain ⟨rfl, nd2', -, -, hq2, f2⟩ := hr
    refine x_pop C dX6_add_24 rfl ?_
    exact x_vret C dX6_add_25 ⟨Nat.le_of_ble_eq_true rfl, Nat.le_of_ble_eq_true rfl⟩ ⟨⟨_, _, hq1.keep f2 (fun q => q.elim (n5 _ 12 (by omega)) (n5 _ 120 (by omega))) (fun q => q.elim (n5 _ 12 (by omega)) (n5 _ 120 (by omega)))⟩, ⟨_, _, by rw [if_pos c13]; exact hq2⟩, (f1.mono (fun i j q => q.elim Or.inl (fun q => Or.inr (Or.inl q)))).tr (f2.mono (fun i j q => Or.inr (Or.inr q)))⟩
theorem mi_X6_comes_2 : gMV RX6 yX6_comes_2 cX6_comes_2 3 none 2 := ⟨q1112, qs8, q140, q1113, by decide +kernel⟩
set_option maxHeartbeats 4000000 in
set_option maxRecDepth 100000 in
theorem met_X6_comes_2 (l : Launch) {G : gG} (hG : gOK G) {M0 : gM} {r x : Nat} {ba : Nat → Nat} {B : Nat → Int32} {D : Nat → Nat → Int32} {xx : Nat → Nat → Nat → Int32} {Z : Nat → Int64} {st : List Nat} {ex : Nat → Prop} {sb : Int64} {n o t k fr : Nat} {lab : Nat × Nat} {q v : Int32} (hBX : BX G r ba x B D xx Z st ex sb M0) (hr4 : 4 ≤ r) (hK : dN (B 1865) ≤ 8 ∧ dN (B 1867) ≤ 40) (hn : B 0 = nI n) (hn6 : n < 64) (ho : M0 o = some (lab, .inr (27, [.int (nI t), .int q, .int (nI k), .int v]))) (ht4 : t < 4) (hfk : fr + k < 5) (hov : (B (1 + 320 * t + 5 * n + (fr + k)) + v).toInt64 = pQS B t n (fr + k) + v.toInt64) : Met l yX6_comes_2 (ws_ yX6_comes_2 cX6_comes_2 3 none) ({ frames := 0, cells := 0, slots := 0, locals := 0 }) (gPre G M0 [.ref (ba 0), .ref (o), .int (nI fr)]) (gQ G (gV (fun M1 => BX G r ba x (if q = B 0 then pAdd B (1 + 320 * t + 5 * n + (fr + k)) v else B) D xx Z st ex sb M1 ∧ gFl (fun l => l.1 = r) M0 M1))) 0 0 (gA G) := by
  refine gMet (L0 := [some (.ref (ba 0)), some (.ref (o)), some (.int (nI fr))]) RX6 hG (by decide +kernel) rfl (Nat.le_of_ble_eq_true rfl) rfl ?_
  intro p e s m args below meth c C hnm
  have hBC := hBX.1
  have hb0 := hBC.1
  rw [hn] at hb0
  refine x_aload_n C dX6_comes_2_0 rfl rfl ?_
  refine x_get C gcX12 ho 1 rfl q1505 rfl dX6_comes_2_1 ?_
  refine x_aload_n C dX6_comes_2_4 rfl rfl ?_
  refine x_get C gcX6 hb0 13 rfl q537 rfl dX6_comes_2_5 ?_
  refine x_icmp_ne (tgt := 43) C dX6_comes_2_8 rfl (fun c8 => ?_) (fun c8 => ?_)
  · -- 43
    exact x_vret C dX6_comes_2_43 ⟨Nat.le_of_ble_eq_true rfl, Nat.le_of_ble_eq_true rfl⟩ ⟨by rw [if_neg (show ¬ q = B 0 by rw [hn]; exact c8)]; exact hBX, gFl.rf⟩
  · -- 11
    refine x_aload_n C dX6_comes_2_11 rfl rfl ?_
    refine x_get C gcX6 hb0 0 rfl q513 rfl dX6_comes_2_12 ?_
    refine x_aload_n C dX6_comes_2_15 rfl rfl ?_
    refine x_get C gcX12 ho 0 rfl q1500 rfl dX6_comes_2_16 ?_
    refine y_aaldR (ty := .array (.object "ExemptDesk$Sums")) (i := t) (b := ba (20 + t)) C 5 rfl rfl hBC.2.1 rfl (by omega) rfl rfl dX6_comes_2_19 ?_
    refine x_aload_n C dX6_comes_2_20 rfl rfl ?_
    refine x_get C gcX6 hb0 13 rfl q537 rfl dX6_comes_2_21 ?_
    refine y_aaldR (ty := .object "ExemptDesk$Sums") (i := n) (b := ba (1000 + 64 * t + n)) C 4 rfl rfl (hBC.2.2.2.1 t (by omega)) rfl (by omega) rfl rfl dX6_comes_2_24 ?_
    refine x_getN C gcX7 (hBC.2.2.2.2.2.1 t n (by omega) (by omega)).1 0 rfl q508 rfl dX6_comes_2_25 ?_
    refine x_iload_n C dX6_comes_2_28 rfl rfl ?_
    refine x_aload_n C dX6_comes_2_29 rfl rfl ?_
    refine x_get C gcX12 ho 2 rfl q1510 rfl dX6_comes_2_30 ?_
    refine x_iaddN C dX6_comes_2_33 ?_
    refine x_dup2 C dX6_comes_2_34 rfl rfl ?_
    refine y_lald (i := fr + k) C (hBC.2.2.2.2.2.1 t n (by omega) (by omega)).2 rfl (by omega) rfl dX6_comes_2_35 ?_
    refine x_aload_n C dX6_comes_2_36 rfl rfl ?_
    refine x_get C gcX12 ho 3 rfl q1515 rfl dX6_comes_2_37 ?_
    refine x_i2l C dX6_comes_2_40 ?_
    refine x_ladd C dX6_comes_2_41 ?_
    rw [← hov]
    refine y_last (i := fr + k) C (hBC.2.2.2.2.2.1 t n (by omega) (by omega)).2 rfl (by omega) rfl dX6_comes_2_42 (fun M1 h2 k3 => ?_)
    have hBX' := hBX.sum (k := fr + k) ht4 hn6 (by omega) hr4 hK h2 k3
    exact x_vret C dX6_comes_2_43 ⟨Nat.le_of_ble_eq_true rfl, Nat.le_of_ble_eq_true rfl⟩ ⟨by rw [if_pos (show q = B 0 by rw [hn]; exact c8)]; exact hBX', (gFl.of1 (hBC.2.2.2.2.2.1 t n (by omega) (by omega)).2 h2 k3 rfl : gFl (fun l => l = (r, 2000 + 64 * t + n)) M0 _).mono (fun i j q => congrArg Prod.fst q)⟩
