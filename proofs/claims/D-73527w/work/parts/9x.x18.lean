set_option maxRecDepth 100000
theorem mi_X1_ownerNow : gMV RX1 yX1_ownerNow cX1_ownerNow 2 (some .int) 1 := ⟨q1578, qs29, q123, q1579, by decide +kernel⟩
set_option maxHeartbeats 4000000 in
set_option maxRecDepth 100000 in
theorem met_X1_ownerNow (l : Launch) {G : gG} (hG : gOK G) {M0 : gM} {r x : Nat} {ba : Nat → Nat} {B : Nat → Int32} {D : Nat → Nat → Int32} {Z : Nat → Int64} {tx wl ml : Nat} {wf mf : Nat → Nat} {rt : Nat} {ta : Nat → Nat} {mc : Nat → Int32} {nd it : Nat → Nat → Nat} {A : Nat → Nat → Int32} {ln : Int32} {T n : Nat} {xv : Nat → Value} {a : Nat} {aa : Nat → Nat} {v : Nat → Int32} {xx : Nat → Nat → Int32} (hBC : BC G r ba x (pQS B) (bf B D) (bo B) (B 0) (B 1866) Z M0) (hX : XW G x tx wl ml wf mf M0) (hT : TR G rt tx ta mc nd it (cA T A) (trA A) (wA A ln) M0) (hr4 : 4 ≤ r) (hrx : r ≠ x + 4) (hrt : r ≠ rt) (hw : wT T A) (hn : B 0 = nI n) (hn6 : n < 64) (hx : M0 x = some ((x + 4, 0), .inr (16, [.ref wl, .ref ml, xv 2, xv 3, .ref tx, .ref (ba 0), xv 6, xv 7, xv 8, xv 9, xv 10, xv 11, xv 12, xv 13]))) (hA : AS G r a aa v xx M0) : Met l yX1_ownerNow (ws_ yX1_ownerNow cX1_ownerNow 2 (some .int)) ({ frames := 1, cells := 0, slots := 0, locals := 20 }) (gPre G M0 [.ref (x), .ref (aa 0)]) (gQ G (gI (fun r9 M1 => M1 = M0 ∧ (if v 16 = 0 then xx 0 (n / 4) else v 12) = r9))) 0 0 (gA G) := by
  refine gMet (L0 := [some (.ref (x)), some (.ref (aa 0))]) RX1 hG (by decide +kernel) rfl (Nat.le_of_ble_eq_true rfl) rfl ?_
  intro p e s m args below meth c C hnm
  obtain ⟨wk, hwk, hwk3⟩ := isN_to hw.way
  have hsI := hw.stepI
  obtain ⟨⟨vs, hx0⟩, ⟨wq, hwl, hwq⟩, ⟨mq, hml, hmq⟩, hWY, hMT⟩ := id hX
  have ht0 : M0 tx = some ((rt, 0), .inr (20, [.ref (ta 1), .ref (ta 2), .ref (ta 3), .ref (ta 4), .int (A 6 0), .int (A 6 1), .int (A 6 2), .int (A 6 3), .int ln])) := hT.1
  rw [hwk] at ht0
  have hb0 := hBC.1
  rw [hn] at hb0
  obtain ⟨jw, aw, hwc, -⟩ := hWY wk (by omega)
  have hT4 := hw.T4
  refine x_aload_n C dX1_ownerNow_0 rfl rfl ?_
  refine x_getN C gcX8 hA.1 16 rfl q1175 rfl dX1_ownerNow_1 ?_
  refine x_if_eq (tgt := 12) C dX1_ownerNow_4 rfl (fun c4 => ?_) (fun c4 => ?_)
  · -- 12
    refine x_aload_n C dX1_ownerNow_12 rfl rfl ?_
    refine x_getN C gcX8 hA.1 5 rfl q1142 rfl dX1_ownerNow_13 ?_
    refine x_aload_n C dX1_ownerNow_16 rfl rfl ?_
    refine x_V0I C (met_X1_year l C.1 hBC hX hT hr4 hrx hrt hw hn hn6 hx) mi_X1_year q1580 gcX1 hx ⟨rfl, rfl⟩ rfl ⟨Nat.le_of_ble_eq_true rfl, Nat.le_of_ble_eq_true rfl⟩ rfl dX1_ownerNow_17 (fun r2 M1 hr => ?_)
    obtain ⟨hr, rfl⟩ := hr
    rw [hr]
    refine y_iald (i := n / 4) C hA.2.1 rfl (by omega) rfl dX1_ownerNow_20 ?_
    exact x_iret C dX1_ownerNow_21 ⟨Nat.le_of_ble_eq_true rfl, Nat.le_of_ble_eq_true rfl⟩ ⟨rfl, if_pos c4⟩
  · -- 7
    refine x_aload_n C dX1_ownerNow_7 rfl rfl ?_
    refine x_getN C gcX8 hA.1 12 rfl q1163 rfl dX1_ownerNow_8 ?_
    exact x_iret C dX1_ownerNow_11 ⟨Nat.le_of_ble_eq_true rfl, Nat.le_of_ble_eq_true rfl⟩ ⟨rfl, if_neg c4⟩
theorem mi_X1_canClose : gMV RX1 yX1_canClose cX1_canClose 2 (some .boolean) 1 := ⟨q1829, qs38, q123, q1830, by decide +kernel⟩
set_option maxHeartbeats 4000000 in
set_option maxRecDepth 100000 in
theorem met_X1_canClose (l : Launch) {G : gG} (hG : gOK G) {M0 : gM} {r x : Nat} {ba : Nat → Nat} {B : Nat → Int32} {D : Nat → Nat → Int32} {Z : Nat → Int64} {tx wl ml : Nat} {wf mf : Nat → Nat} {rt : Nat} {ta : Nat → Nat} {mc : Nat → Int32} {nd it : Nat → Nat → Nat} {A : Nat → Nat → Int32} {ln : Int32} {T n : Nat} {xv : Nat → Value} {k9 : Nat} (hBC : BC G r ba x (pQS B) (bf B D) (bo B) (B 0) (B 1866) Z M0) (hX : XW G x tx wl ml wf mf M0) (hT : TR G rt tx ta mc nd it (cA T A) (trA A) (wA A ln) M0) (hr4 : 4 ≤ r) (hrx : r ≠ x + 4) (hrt : r ≠ rt) (hw : wT T A) (hn : B 0 = nI n) (hn6 : n < 64) (hx : M0 x = some ((x + 4, 0), .inr (16, [.ref wl, .ref ml, xv 2, xv 3, .ref tx, .ref (ba 0), xv 6, xv 7, xv 8, xv 9, xv 10, xv 11, xv 12, xv 13]))) (hk9 : k9 ≤ 100) : Met l yX1_canClose (ws_ yX1_canClose cX1_canClose 2 (some .boolean)) ({ frames := 0, cells := 0, slots := 0, locals := 0 }) (gPre G M0 [.ref (x), .int (nI k9)]) (gQ G (gI (fun r9 M1 => (M1 = M0 ∧ nI 1 = r9 ∧ (n + k9 < 64)) ∨ (M1 = M0 ∧ nI 0 = r9 ∧ ¬ (n + k9 < 64))))) 0 0 (gA G) := by
  refine gMet (L0 := [some (.ref (x)), some (.int (nI k9))]) RX1 hG (by decide +kernel) rfl (Nat.le_of_ble_eq_true rfl) rfl ?_
  intro p e s m args below meth c C hnm
  obtain ⟨wk, hwk, hwk3⟩ := isN_to hw.way
  have hsI := hw.stepI
  obtain ⟨⟨vs, hx0⟩, ⟨wq, hwl, hwq⟩, ⟨mq, hml, hmq⟩, hWY, hMT⟩ := id hX
  have ht0 : M0 tx = some ((rt, 0), .inr (20, [.ref (ta 1), .ref (ta 2), .ref (ta 3), .ref (ta 4), .int (A 6 0), .int (A 6 1), .int (A 6 2), .int (A 6 3), .int ln])) := hT.1
  rw [hwk] at ht0
  have hb0 := hBC.1
  rw [hn] at hb0
  obtain ⟨jw, aw, hwc, -⟩ := hWY wk (by omega)
  have hT4 := hw.T4
  refine x_aload_n C dX1_canClose_0 rfl rfl ?_
  refine x_get C gcX1 hx 5 rfl q1257 rfl dX1_canClose_1 ?_
  refine x_getN C gcX6 hb0 13 rfl q538 rfl dX1_canClose_4 ?_
  refine x_iload_n C dX1_canClose_7 rfl rfl ?_
  refine x_iaddN C dX1_canClose_8 ?_
  refine x_bipush C dX1_canClose_9 kb_64 ?_
  refine x_icmp_geN (tgt := 18) C (by omega) (by omega) dX1_canClose_11 rfl (fun c11 => ?_) (fun c11 => ?_)
  · -- 18
    refine x_iconst C dX1_canClose_18 kc_0 ?_
    exact x_zret C (by decide +kernel) dX1_canClose_19 ⟨Nat.le_of_ble_eq_true rfl, Nat.le_of_ble_eq_true rfl⟩ (Or.inr ⟨rfl, rfl, by omega⟩)
  · -- 14
    refine x_iconst C dX1_canClose_14 kc_1 ?_
    refine x_goto (tgt := 19) C dX1_canClose_15 rfl ?_
    exact x_zret C (by decide +kernel) dX1_canClose_19 ⟨Nat.le_of_ble_eq_true rfl, Nat.le_of_ble_eq_true rfl⟩ (Or.inl ⟨rfl, rfl, by omega⟩)
theorem mi_X1_named : gMV RX1 yX1_named cX1_named 2 (some .int) 1 := ⟨q1558, q1559, q123, q1560, by decide +kernel⟩
set_option maxHeartbeats 4000000 in
set_option maxRecDepth 100000 in
theorem met_X1_named (l : Launch) {G : gG} (hG : gOK G) {M0 : gM} {r x : Nat} {ba : Nat → Nat} {B : Nat → Int32} {D : Nat → Nat → Int32} {Z : Nat → Int64} {tx wl ml : Nat} {wf mf : Nat → Nat} {rt : Nat} {ta : Nat → Nat} {mc : Nat → Int32} {nd it : Nat → Nat → Nat} {A : Nat → Nat → Int32} {ln : Int32} {T n : Nat} {xv : Nat → Value} {z : Int32} (hBC : BC G r ba x (pQS B) (bf B D) (bo B) (B 0) (B 1866) Z M0) (hX : XW G x tx wl ml wf mf M0) (hT : TR G rt tx ta mc nd it (cA T A) (trA A) (wA A ln) M0) (hr4 : 4 ≤ r) (hrx : r ≠ x + 4) (hrt : r ≠ rt) (hw : wT T A) (hn : B 0 = nI n) (hn6 : n < 64) (hx : M0 x = some ((x + 4, 0), .inr (16, [.ref wl, .ref ml, xv 2, xv 3, .ref tx, .ref (ba 0), xv 6, xv 7, xv 8, xv 9, xv 10, xv 11, xv 12, xv 13]))) (hrt4 : 4 ≤ rt) : Met l yX1_named (ws_ yX1_named cX1_named 2 (some .int)) ({ frames := 6, cells := 1, slots := 5, locals := 129 }) (gPre G M0 [.ref (x), .int (z)]) (gQ G (gI (fun r9 M1 => gFl (fun _ => False) M0 M1 ∧ qName A 0 T z = r9))) 1 5 (gA G) := by
  refine gMet (L0 := [some (.ref (x)), some (.int (z))]) RX1 hG (by decide +kernel) rfl (Nat.le_of_ble_eq_true rfl) rfl ?_
  intro p e s m args below meth c C hnm
  obtain ⟨wk, hwk, hwk3⟩ := isN_to hw.way
  have hsI := hw.stepI
  obtain ⟨⟨vs, hx0⟩, ⟨wq, hwl, hwq⟩, ⟨mq, hml, hmq⟩, hWY, hMT⟩ := id hX
  have ht0 : M0 tx = some ((rt, 0), .inr (20, [.ref (ta 1), .ref (ta 2), .ref (ta 3), .ref (ta 4), .int (A 6 0), .int (A 6 1), .int (A 6 2), .int (A 6 3), .int ln])) := hT.1
  rw [hwk] at ht0
  have hb0 := hBC.1
  rw [hn] at hb0
  obtain ⟨jw, aw, hwc, -⟩ := hWY wk (by omega)
  have hT4 := hw.T4
  refine x_aload_n C dX1_named_0 rfl rfl ?_
  refine x_get C gcX1 hx 4 rfl q1256 rfl dX1_named_1 ?_
  refine x_iload_n C dX1_named_4 rfl rfl ?_
  refine x_V1I C (met_X5_find l C.1 hT (by omega)) mi_X5_find q1561 gcX5 ht0 ⟨rfl, rfl⟩ rfl ⟨Nat.le_of_ble_eq_true rfl, Nat.le_of_ble_eq_true rfl⟩ rfl dX1_named_5 (fun r2 M1 hr => ?_)
  obtain ⟨hf9, hv9⟩ := hr
  exact x_iret C dX1_named_8 ⟨Nat.le_of_ble_eq_true rfl, Nat.le_of_ble_eq_true rfl⟩ ⟨hf9, by unfold qName; simp only [Nat.zero_add]; exact hv9⟩
