set_option maxRecDepth 100000
theorem mi_X1_year : gMV RX1 yX1_year cX1_year 1 (some .int) 0 := ⟨q1582, qs30, q123, q1583, by decide +kernel⟩
set_option maxHeartbeats 4000000 in
set_option maxRecDepth 100000 in
theorem met_X1_year (l : Launch) {G : gG} (hG : gOK G) {M0 : gM} {r x : Nat} {ba : Nat → Nat} {B : Nat → Int32} {D : Nat → Nat → Int32} {Z : Nat → Int64} {tx wl ml : Nat} {wf mf : Nat → Nat} {rt : Nat} {ta : Nat → Nat} {mc : Nat → Int32} {nd it : Nat → Nat → Nat} {A : Nat → Nat → Int32} {ln : Int32} {T n : Nat} {xv : Nat → Value} (hBC : BC G r ba x (pQS B) (bf B D) (bo B) (B 0) (B 1866) Z M0) (hX : XW G x tx wl ml wf mf M0) (hT : TR G rt tx ta mc nd it (cA T A) (trA A) (wA A ln) M0) (hr4 : 4 ≤ r) (hrx : r ≠ x + 4) (hrt : r ≠ rt) (hw : wT T A) (hn : B 0 = nI n) (hn6 : n < 64) (hx : M0 x = some ((x + 4, 0), .inr (16, [.ref wl, .ref ml, xv 2, xv 3, .ref tx, .ref (ba 0), xv 6, xv 7, xv 8, xv 9, xv 10, xv 11, xv 12, xv 13]))) : Met l yX1_year (ws_ yX1_year cX1_year 1 (some .int)) ({ frames := 0, cells := 0, slots := 0, locals := 0 }) (gPre G M0 [.ref (x)]) (gQ G (gI (fun r9 M1 => M1 = M0 ∧ nI (n / 4) = r9))) 0 0 (gA G) := by
  refine gMet (L0 := [some (.ref (x))]) RX1 hG (by decide +kernel) rfl (Nat.le_of_ble_eq_true rfl) rfl ?_
  intro p e s m args below meth c C hnm
  obtain ⟨wk, hwk, hwk3⟩ := isN_to hw.way
  have hsI := hw.stepI
  obtain ⟨⟨vs, hx0⟩, ⟨wq, hwl, hwq⟩, ⟨mq, hml, hmq⟩, hWY, hMT⟩ := id hX
  have ht0 : M0 tx = some ((rt, 0), .inr (20, [.ref (ta 1), .ref (ta 2), .ref (ta 3), .ref (ta 4), .int (A 6 0), .int (A 6 1), .int (A 6 2), .int (A 6 3), .int ln])) := hT.1
  rw [hwk] at ht0
  have hb0 := hBC.1
  rw [hn] at hb0
  obtain ⟨jw, aw, hwc, -⟩ := hWY wk (by omega)
  have hT4 := hw.T4
  refine x_aload_n C dX1_year_0 rfl rfl ?_
  refine x_get C gcX1 hx 5 rfl q1257 rfl dX1_year_1 ?_
  refine x_getN C gcX6 hb0 13 rfl q538 rfl dX1_year_4 ?_
  refine x_iconst C dX1_year_7 kc_4 ?_
  refine x_idivN C (by omega) (by omega) (by omega) dX1_year_8 ?_
  exact x_iret C dX1_year_9 ⟨Nat.le_of_ble_eq_true rfl, Nat.le_of_ble_eq_true rfl⟩ ⟨rfl, rfl⟩
theorem mi_X1_isTrader : gMV RX1 yX1_isTrader cX1_isTrader 2 (some .boolean) 1 := ⟨q1650, qs31, q123, q1651, by decide +kernel⟩
set_option maxHeartbeats 4000000 in
set_option maxRecDepth 100000 in
theorem met_X1_isTrader (l : Launch) {G : gG} (hG : gOK G) {M0 : gM} {r x : Nat} {ba : Nat → Nat} {B : Nat → Int32} {D : Nat → Nat → Int32} {Z : Nat → Int64} {tx wl ml : Nat} {wf mf : Nat → Nat} {rt : Nat} {ta : Nat → Nat} {mc : Nat → Int32} {nd it : Nat → Nat → Nat} {A : Nat → Nat → Int32} {ln : Int32} {T n : Nat} {xv : Nat → Value} {t : Int32} (hBC : BC G r ba x (pQS B) (bf B D) (bo B) (B 0) (B 1866) Z M0) (hX : XW G x tx wl ml wf mf M0) (hT : TR G rt tx ta mc nd it (cA T A) (trA A) (wA A ln) M0) (hr4 : 4 ≤ r) (hrx : r ≠ x + 4) (hrt : r ≠ rt) (hw : wT T A) (hn : B 0 = nI n) (hn6 : n < 64) (hx : M0 x = some ((x + 4, 0), .inr (16, [.ref wl, .ref ml, xv 2, xv 3, .ref tx, .ref (ba 0), xv 6, xv 7, xv 8, xv 9, xv 10, xv 11, xv 12, xv 13]))) : Met l yX1_isTrader (ws_ yX1_isTrader cX1_isTrader 2 (some .boolean)) ({ frames := 2, cells := 0, slots := 0, locals := 40 }) (gPre G M0 [.ref (x), .int (t)]) (gQ G (gI (fun r9 M1 => (M1 = M0 ∧ nI 1 = r9 ∧ (iT T t)) ∨ (M1 = M0 ∧ nI 0 = r9 ∧ ¬ (iT T t))))) 0 0 (gA G) := by
  refine gMet (L0 := [some (.ref (x)), some (.int (t))]) RX1 hG (by decide +kernel) rfl (Nat.le_of_ble_eq_true rfl) rfl ?_
  intro p e s m args below meth c C hnm
  obtain ⟨wk, hwk, hwk3⟩ := isN_to hw.way
  have hsI := hw.stepI
  obtain ⟨⟨vs, hx0⟩, ⟨wq, hwl, hwq⟩, ⟨mq, hml, hmq⟩, hWY, hMT⟩ := id hX
  have ht0 : M0 tx = some ((rt, 0), .inr (20, [.ref (ta 1), .ref (ta 2), .ref (ta 3), .ref (ta 4), .int (A 6 0), .int (A 6 1), .int (A 6 2), .int (A 6 3), .int ln])) := hT.1
  rw [hwk] at ht0
  have hb0 := hBC.1
  rw [hn] at hb0
  obtain ⟨jw, aw, hwc, -⟩ := hWY wk (by omega)
  have hT4 := hw.T4
  refine x_iload_n C dX1_isTrader_0 rfl rfl ?_
  refine x_i2l C dX1_isTrader_1 ?_
  refine x_lconst (v := 0) C dX1_isTrader_2 rfl ?_
  refine x_aload_n C dX1_isTrader_3 rfl rfl ?_
  refine x_get C gcX1 hx 4 rfl q1256 rfl dX1_isTrader_4 ?_
  refine x_V0I C (met_X5_many l C.1 hT) mi_X5_many q1652 gcX5 ht0 ⟨rfl, rfl⟩ rfl ⟨Nat.le_of_ble_eq_true rfl, Nat.le_of_ble_eq_true rfl⟩ rfl dX1_isTrader_7 (fun r2 M1 hr => ?_)
  obtain ⟨hr, rfl⟩ := hr
  rw [hr, show cA T A 1 = T from rfl]
  refine x_iconst C dX1_isTrader_10 kc_1 ?_
  refine x_isub C dX1_isTrader_11 ?_
  refine x_i2l C dX1_isTrader_12 ?_
  refine x_S3I C (met_X1_in l C.1) mi_X1_in q1308 ⟨rfl, rfl⟩ rfl ⟨Nat.le_of_ble_eq_true rfl, Nat.le_of_ble_eq_true rfl⟩ rfl dX1_isTrader_13 (fun r4 M3 hr => ?_)
  rcases hr with ⟨hr, rfl, p13⟩ | ⟨hr, rfl, p13⟩
  · -- small 1
    rw [hr]
    exact x_zret C (by decide +kernel) dX1_isTrader_16 ⟨Nat.le_of_ble_eq_true rfl, Nat.le_of_ble_eq_true rfl⟩ (Or.inl ⟨rfl, rfl, (in_iT (by omega)).mp p13⟩)
  · -- small 0
    rw [hr]
    exact x_zret C (by decide +kernel) dX1_isTrader_16 ⟨Nat.le_of_ble_eq_true rfl, Nat.le_of_ble_eq_true rfl⟩ (Or.inr ⟨rfl, rfl, fun q => p13 ((in_iT (by omega)).mpr q)⟩)
