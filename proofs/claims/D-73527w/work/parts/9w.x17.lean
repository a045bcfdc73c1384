set_option maxRecDepth 100000
theorem mi_X1_isAsset : gMV RX1 yX1_isAsset cX1_isAsset 2 (some .boolean) 1 := ⟨q1568, qs28, q123, q1569, by decide +kernel⟩
set_option maxHeartbeats 4000000 in
set_option maxRecDepth 100000 in
theorem met_X1_isAsset (l : Launch) {G : gG} (hG : gOK G) {M0 : gM} {r x : Nat} {ba : Nat → Nat} {B : Nat → Int32} {D : Nat → Nat → Int32} {Z : Nat → Int64} {tx wl ml : Nat} {wf mf : Nat → Nat} {rt : Nat} {ta : Nat → Nat} {mc : Nat → Int32} {nd it : Nat → Nat → Nat} {A : Nat → Nat → Int32} {ln : Int32} {T n : Nat} {xv : Nat → Value} {a : Int32} {xx : Nat → Nat → Nat → Int32} {st : List Nat} {sb : Int64} (hBC : BC G r ba x (pQS B) (bf B D) (bo B) (B 0) (B 1866) Z M0) (hX : XW G x tx wl ml wf mf M0) (hT : TR G rt tx ta mc nd it (cA T A) (trA A) (wA A ln) M0) (hr4 : 4 ≤ r) (hrx : r ≠ x + 4) (hrt : r ≠ rt) (hw : wT T A) (hn : B 0 = nI n) (hn6 : n < 64) (hx : M0 x = some ((x + 4, 0), .inr (16, [.ref wl, .ref ml, xv 2, xv 3, .ref tx, .ref (ba 0), xv 6, xv 7, xv 8, xv 9, xv 10, xv 11, xv 12, xv 13]))) (hBX : BX G r ba x B D xx Z st (fun _ => False) sb M0) (hK : dN (B 1865) ≤ 8 ∧ dN (B 1867) ≤ 40) : Met l yX1_isAsset (ws_ yX1_isAsset cX1_isAsset 2 (some .boolean)) ({ frames := 1, cells := 0, slots := 0, locals := 25 }) (gPre G M0 [.ref (x), .int (a)]) (gQ G (gI (fun r9 M1 => (M1 = M0 ∧ nI 1 = r9 ∧ (iT (dN (B 1865)) a)) ∨ (M1 = M0 ∧ nI 0 = r9 ∧ ¬ (iT (dN (B 1865)) a))))) 0 0 (gA G) := by
  refine gMet (L0 := [some (.ref (x)), some (.int (a))]) RX1 hG (by decide +kernel) rfl (Nat.le_of_ble_eq_true rfl) rfl ?_
  intro p e s m args below meth c C hnm
  obtain ⟨wk, hwk, hwk3⟩ := isN_to hw.way
  have hsI := hw.stepI
  obtain ⟨⟨vs, hx0⟩, ⟨wq, hwl, hwq⟩, ⟨mq, hml, hmq⟩, hWY, hMT⟩ := id hX
  have ht0 : M0 tx = some ((rt, 0), .inr (20, [.ref (ta 1), .ref (ta 2), .ref (ta 3), .ref (ta 4), .int (A 6 0), .int (A 6 1), .int (A 6 2), .int (A 6 3), .int ln])) := hT.1
  rw [hwk] at ht0
  have hb0 := hBC.1
  rw [hn] at hb0
  obtain ⟨jw, aw, hwc, -⟩ := hWY wk (by omega)
  have hT4 := hw.T4
  obtain ⟨mc1, nd1, hl1⟩ := hBX.2.1
  refine x_iload_n C dX1_isAsset_0 rfl rfl ?_
  refine x_i2l C dX1_isAsset_1 ?_
  refine x_lconst (v := 0) C dX1_isAsset_2 rfl ?_
  refine x_aload_n C dX1_isAsset_3 rfl rfl ?_
  refine x_get C gcX1 hx 5 rfl q1257 rfl dX1_isAsset_4 ?_
  refine x_getN C gcX6 hb0 8 rfl q529 rfl dX1_isAsset_7 ?_
  refine x_V0I C (met_J11_size l C.1 hl1) mi_J11_size q1570 gcJ11 hl1.1 ⟨rfl, rfl⟩ rfl ⟨Nat.le_of_ble_eq_true rfl, Nat.le_of_ble_eq_true rfl⟩ rfl dX1_isAsset_10 (fun r2 M1 hr => ?_)
  obtain ⟨hr, rfl⟩ := hr
  rw [hr]
  refine x_iconst C dX1_isAsset_13 kc_1 ?_
  refine x_isub C dX1_isAsset_14 ?_
  refine x_i2l C dX1_isAsset_15 ?_
  refine x_S3I C (met_X1_in l C.1) mi_X1_in q1308 ⟨rfl, rfl⟩ rfl ⟨Nat.le_of_ble_eq_true rfl, Nat.le_of_ble_eq_true rfl⟩ rfl dX1_isAsset_16 (fun r4 M3 hr => ?_)
  rcases hr with ⟨hr, rfl, p16⟩ | ⟨hr, rfl, p16⟩
  · -- small 1
    rw [hr]
    exact x_zret C (by decide +kernel) dX1_isAsset_19 ⟨Nat.le_of_ble_eq_true rfl, Nat.le_of_ble_eq_true rfl⟩ (Or.inl ⟨rfl, rfl, (in_iT (by omega)).mp p16⟩)
  · -- small 0
    rw [hr]
    exact x_zret C (by decide +kernel) dX1_isAsset_19 ⟨Nat.le_of_ble_eq_true rfl, Nat.le_of_ble_eq_true rfl⟩ (Or.inr ⟨rfl, rfl, fun q => p16 ((in_iT (by omega)).mpr q)⟩)
theorem mi_X1_last : gMV RX1 yX1_last cX1_last 2 (some .int) 1 := ⟨q2115, q2116, q123, q2117, by decide +kernel⟩
set_option maxHeartbeats 4000000 in
set_option maxRecDepth 100000 in
theorem met_X1_last (l : Launch) {G : gG} (hG : gOK G) {M0 : gM} {r x : Nat} {ba : Nat → Nat} {B : Nat → Int32} {D : Nat → Nat → Int32} {Z : Nat → Int64} {tx wl ml : Nat} {wf mf : Nat → Nat} {rt : Nat} {ta : Nat → Nat} {mc : Nat → Int32} {nd it : Nat → Nat → Nat} {A : Nat → Nat → Int32} {ln : Int32} {T n : Nat} {xv : Nat → Value} {a : Int32} {xx : Nat → Nat → Nat → Int32} {st : List Nat} {sb : Int64} (hBC : BC G r ba x (pQS B) (bf B D) (bo B) (B 0) (B 1866) Z M0) (hX : XW G x tx wl ml wf mf M0) (hT : TR G rt tx ta mc nd it (cA T A) (trA A) (wA A ln) M0) (hr4 : 4 ≤ r) (hrx : r ≠ x + 4) (hrt : r ≠ rt) (hw : wT T A) (hn : B 0 = nI n) (hn6 : n < 64) (hx : M0 x = some ((x + 4, 0), .inr (16, [.ref wl, .ref ml, xv 2, xv 3, .ref tx, .ref (ba 0), xv 6, xv 7, xv 8, xv 9, xv 10, xv 11, xv 12, xv 13]))) (hBX : BX G r ba x B D xx Z st (fun _ => False) sb M0) (hK : dN (B 1865) ≤ 8 ∧ dN (B 1867) ≤ 40) : Met l yX1_last (ws_ yX1_last cX1_last 2 (some .int)) ({ frames := 4, cells := 0, slots := 0, locals := 84 }) (gPre G M0 [.ref (x), .int (a)]) (gQ G (gI (fun r9 M1 => M1 = M0 ∧ qLast B a = r9))) 0 0 (gA G) := by
  refine gMet (L0 := [some (.ref (x)), some (.int (a))]) RX1 hG (by decide +kernel) rfl (Nat.le_of_ble_eq_true rfl) rfl ?_
  intro p e s m args below meth c C hnm
  obtain ⟨wk, hwk, hwk3⟩ := isN_to hw.way
  have hsI := hw.stepI
  obtain ⟨⟨vs, hx0⟩, ⟨wq, hwl, hwq⟩, ⟨mq, hml, hmq⟩, hWY, hMT⟩ := id hX
  have ht0 : M0 tx = some ((rt, 0), .inr (20, [.ref (ta 1), .ref (ta 2), .ref (ta 3), .ref (ta 4), .int (A 6 0), .int (A 6 1), .int (A 6 2), .int (A 6 3), .int ln])) := hT.1
  rw [hwk] at ht0
  have hb0 := hBC.1
  rw [hn] at hb0
  obtain ⟨jw, aw, hwc, -⟩ := hWY wk (by omega)
  have hT4 := hw.T4
  obtain ⟨mc1, nd1, hl1⟩ := hBX.2.1
  refine x_aload_n C dX1_last_0 rfl rfl ?_
  refine x_iload_n C dX1_last_1 rfl rfl ?_
  refine x_V1I C (met_X1_isAsset l C.1 hBC hX hT hr4 hrx hrt hw hn hn6 hx hBX hK) mi_X1_isAsset q1566 gcX1 hx ⟨rfl, rfl⟩ rfl ⟨Nat.le_of_ble_eq_true rfl, Nat.le_of_ble_eq_true rfl⟩ rfl dX1_last_2 (fun r2 M1 hr => ?_)
  rcases hr with ⟨hr, rfl, p2⟩ | ⟨hr, rfl, p2⟩
  · -- 2 1
    rw [hr]
    obtain ⟨k_a, rfl, hk_a⟩ := iT_ex (by omega) p2
    refine x_if_neT (tgt := 12) C (by decide) dX1_last_5 rfl ?_
    refine x_aload_n C dX1_last_12 rfl rfl ?_
    refine x_get C gcX1 hx 5 rfl q1257 rfl dX1_last_13 ?_
    refine x_iload_n C dX1_last_16 rfl rfl ?_
    refine x_V1R C (met_X6_asset l C.1 hBX hr4 hK (by omega) (fun q => q)) mi_X6_asset q1571 gcX6 hb0 ⟨rfl, rfl⟩ rfl ⟨Nat.le_of_ble_eq_true rfl, Nat.le_of_ble_eq_true rfl⟩ rfl dX1_last_17 (fun r4 M3 hr => ?_)
    obtain ⟨hr, rfl⟩ := hr
    rw [hr]
    have hAk := hBX.2.2.2.1 k_a (by omega) (fun q => q)
    refine x_getN C gcX8 hAk.1 13 rfl q1167 rfl dX1_last_20 ?_
    exact x_iret C dX1_last_23 ⟨Nat.le_of_ble_eq_true rfl, Nat.le_of_ble_eq_true rfl⟩ ⟨rfl, by unfold qLast; rw [if_pos p2, dN_nI (by omega)]; rfl⟩
  · -- 2 0
    rw [hr]
    refine x_if_neF (tgt := 12) C (by decide) dX1_last_5 rfl ?_
    refine x_ldcw C dX1_last_8 q2080 ?_
    exact x_iret C dX1_last_11 ⟨Nat.le_of_ble_eq_true rfl, Nat.le_of_ble_eq_true rfl⟩ ⟨rfl, by unfold qLast; rw [if_neg p2]⟩
theorem mi_X1_taken : gMV RX1 yX1_taken cX1_taken 2 (some .int) 1 := ⟨q2105, q2106, q123, q2107, by decide +kernel⟩
set_option maxHeartbeats 4000000 in
set_option maxRecDepth 100000 in
theorem met_X1_taken (l : Launch) {G : gG} (hG : gOK G) {M0 : gM} {r x : Nat} {ba : Nat → Nat} {B : Nat → Int32} {D : Nat → Nat → Int32} {Z : Nat → Int64} {tx wl ml : Nat} {wf mf : Nat → Nat} {rt : Nat} {ta : Nat → Nat} {mc : Nat → Int32} {nd it : Nat → Nat → Nat} {A : Nat → Nat → Int32} {ln : Int32} {T n : Nat} {xv : Nat → Value} {a : Int32} {xx : Nat → Nat → Nat → Int32} {st : List Nat} {sb : Int64} (hBC : BC G r ba x (pQS B) (bf B D) (bo B) (B 0) (B 1866) Z M0) (hX : XW G x tx wl ml wf mf M0) (hT : TR G rt tx ta mc nd it (cA T A) (trA A) (wA A ln) M0) (hr4 : 4 ≤ r) (hrx : r ≠ x + 4) (hrt : r ≠ rt) (hw : wT T A) (hn : B 0 = nI n) (hn6 : n < 64) (hx : M0 x = some ((x + 4, 0), .inr (16, [.ref wl, .ref ml, xv 2, xv 3, .ref tx, .ref (ba 0), xv 6, xv 7, xv 8, xv 9, xv 10, xv 11, xv 12, xv 13]))) (hBX : BX G r ba x B D xx Z st (fun _ => False) sb M0) (hK : dN (B 1865) ≤ 8 ∧ dN (B 1867) ≤ 40) (hV : ∀ a, a < dN (B 1865) → aV (vA B a) ∧ -2000 ≤ (vA B a 9).toInt ∧ (vA B a 9).toInt ≤ 2000) (htk : ∀ a, a < dN (B 1865) → (if vA B a 9 = -1 then nI 0 else xSm (xx a 2) ((pCut (A 6 0) ((vA B a 1).toInt64 * (vA B a 9).toInt64) (A 6 1).toInt64).toInt32 + (if vA B a 13 = -999999 then nI 0 else vA B a 13)) 16) = B (2084 + 48 * a + 10)) : Met l yX1_taken (ws_ yX1_taken cX1_taken 2 (some .int)) ({ frames := 6, cells := 0, slots := 0, locals := 140 }) (gPre G M0 [.ref (x), .int (a)]) (gQ G (gI (fun r9 M1 => M1 = M0 ∧ qTak B a = r9))) 0 0 (gA G) := by
  refine gMet (L0 := [some (.ref (x)), some (.int (a))]) RX1 hG (by decide +kernel) rfl (Nat.le_of_ble_eq_true rfl) rfl ?_
  intro p e s m args below meth c C hnm
  obtain ⟨wk, hwk, hwk3⟩ := isN_to hw.way
  have hsI := hw.stepI
  obtain ⟨⟨vs, hx0⟩, ⟨wq, hwl, hwq⟩, ⟨mq, hml, hmq⟩, hWY, hMT⟩ := id hX
  have ht0 : M0 tx = some ((rt, 0), .inr (20, [.ref (ta 1), .ref (ta 2), .ref (ta 3), .ref (ta 4), .int (A 6 0), .int (A 6 1), .int (A 6 2), .int (A 6 3), .int ln])) := hT.1
  rw [hwk] at ht0
  have hb0 := hBC.1
  rw [hn] at hb0
  obtain ⟨jw, aw, hwc, -⟩ := hWY wk (by omega)
  have hT4 := hw.T4
  obtain ⟨mc1, nd1, hl1⟩ := hBX.2.1
  refine x_aload_n C dX1_taken_0 rfl rfl ?_
  refine x_iload_n C dX1_taken_1 rfl rfl ?_
  refine x_V1I C (met_X1_isAsset l C.1 hBC hX hT hr4 hrx hrt hw hn hn6 hx hBX hK) mi_X1_isAsset q1566 gcX1 hx ⟨rfl, rfl⟩ rfl ⟨Nat.le_of_ble_eq_true rfl, Nat.le_of_ble_eq_true rfl⟩ rfl dX1_taken_2 (fun r2 M1 hr => ?_)
  rcases hr with ⟨hr, rfl, p2⟩ | ⟨hr, rfl, p2⟩
  · -- 2 1
    rw [hr]
    obtain ⟨k_a, rfl, hk_a⟩ := iT_ex (by omega) p2
    refine x_if_neT (tgt := 12) C (by decide) dX1_taken_5 rfl ?_
    refine x_aload_n C dX1_taken_12 rfl rfl ?_
    refine x_get C gcX1 hx 5 rfl q1257 rfl dX1_taken_13 ?_
    refine x_aload_n C dX1_taken_16 rfl rfl ?_
    refine x_get C gcX1 hx 5 rfl q1257 rfl dX1_taken_17 ?_
    refine x_iload_n C dX1_taken_20 rfl rfl ?_
    refine x_V1R C (met_X6_asset l C.1 hBX hr4 hK (by omega) (fun q => q)) mi_X6_asset q1571 gcX6 hb0 ⟨rfl, rfl⟩ rfl ⟨Nat.le_of_ble_eq_true rfl, Nat.le_of_ble_eq_true rfl⟩ rfl dX1_taken_21 (fun r4 M3 hr => ?_)
    obtain ⟨hr, rfl⟩ := hr
    rw [hr]
    have hAk := hBX.2.2.2.1 k_a (by omega) (fun q => q)
    refine x_V1I C (met_X6_taken l C.1 hBC hX hT hr4 hrx hrt hw hn hn6 hAk (hV k_a (by omega)).1 (hV k_a (by omega)).2) mi_X6_taken q2108 gcX6 hb0 ⟨rfl, rfl⟩ rfl ⟨Nat.le_of_ble_eq_true rfl, Nat.le_of_ble_eq_true rfl⟩ rfl dX1_taken_24 (fun r6 M5 hr => ?_)
    obtain ⟨hr, hv9⟩ := hr
    rw [hr]
    exact x_iret C dX1_taken_27 ⟨Nat.le_of_ble_eq_true rfl, Nat.le_of_ble_eq_true rfl⟩ ⟨rfl, by unfold qTak; rw [if_pos p2, dN_nI (by omega)]; exact (htk k_a (by omega)).symm.trans hv9⟩
  · -- 2 0
    rw [hr]
    refine x_if_neF (tgt := 12) C (by decide) dX1_taken_5 rfl ?_
    refine x_ldcw C dX1_taken_8 q2080 ?_
    exact x_iret C dX1_taken_11 ⟨Nat.le_of_ble_eq_true rfl, Nat.le_of_ble_eq_true rfl⟩ ⟨rfl, by unfold qTak; rw [if_neg p2]⟩
