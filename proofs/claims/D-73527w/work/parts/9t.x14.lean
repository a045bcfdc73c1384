set_option maxRecDepth 100000
theorem mi_X1_year : gMV RX1 yX1_year cX1_year 1 (some .int) 0 := ⟨q1582, qs30, q123, q1583, by decide +kernel⟩
set_option maxHeartbeats 4000000 in
set_option maxRecDepth 100000 in
theorem met_X1_year (l : Launch) {G : gG} (hG : gOK G) {M0 : gM} {r x : Nat} {ba : Nat → Nat} {B : Nat → Int32} {D : Nat → Nat → Int32} {Z : Nat → Int64} {tx wl ml : Nat} {wf mf : Nat → Nat} {rt : Nat} {ta : Nat → Nat} {mc : Nat → Int32} {nd it : Nat → Nat → Nat} {A : Nat → Nat → Int32} {ln : Int32} {T n : Nat} {xv : Nat → Value} (hBC : BC G r ba x (pQS B) (bf B D) (bo B) (B 0) (B 1866) Z M0) (hX : XW G x tx wl ml wf mf M0) (hT : TR G rt tx ta mc nd it (cA T A) (trA A) (wA A ln) M0) (hr4 : 4 ≤ r) (hrx : r ≠ x + 4) (hrt : r ≠ rt) (hw : wT T A) (hn : B 0 = nI n) (hn6 : n < 64) (hx : M0 x = some ((x + 4, 0), .inr (16, [.ref wl, .ref ml, xv 2, xv 3, .ref tx, .ref (ba 0), xv 6, xv 7, xv 8, xv 9, xv 10, xv 11, xv 12, xv 13]))) : Met l yX1_year (ws_ yX1_year cX1_year 1 (some .int)) ({ frames := 0, cells := 0, slots := 0, locals := 0 }) (gPre G M0 [.ref (x)]) (gQ G (gI (fun r9 M1 => M1 = M0 ∧ nI (n / 4) = r9))) 0 0 (gA G) := by
  refine gMet (L0 := [some (.ref (x))]) RX1 hG (by decide +kernel) rfl (Nat.le_of_ble_eq_true rfl) rfl ?_
  intro p e s m args below meth c C hnm
  obtain ⟨wk, hwk, hwk3⟩ := isN_to hw.way
  have hsI := hw.stepI
  obtain ⟨⟨vs, hx0⟩, ⟨wq, hwl, hwq⟩, ⟨mq, hml, hmq⟩, hWY, hMT⟩ := id hX
  have ht0 : M0 tx = some ((rt, 0), .inr (20, [.ref (ta 1), .ref (ta 2), .ref (ta 3), .ref (ta 4), .int (A 6 0), .int (A 6 1), .int (A 6 2), .int (A 6 3), .int ln])) := hT.1
  rw [hwk] at ht0
  have hb0 := hBC.1
  rw [hn] at hb0
  obtain ⟨jw, aw, hwc, -⟩ := hWY wk (by omega)
  have hT4 := hw.T4
  refine x_aload_n C dX1_year_0 rfl rfl ?_
  refine x_get C gcX1 hx 5 rfl q1257 rfl dX1_year_1 ?_
  refine x_getN C gcX6 hb0 13 rfl q538 rfl dX1_year_4 ?_
  refine x_iconst C dX1_year_7 kc_4 ?_
  refine x_idivN C (by omega) (by omega) (by omega) dX1_year_8 ?_
  exact x_iret C dX1_year_9 ⟨Nat.le_of_ble_eq_true rfl, Nat.le_of_ble_eq_true rfl⟩ ⟨rfl, rfl⟩
theorem mi_X1_isTrader : gMV RX1 yX1_isTrader cX1_isTrader 2 (some .boolean) 1 := ⟨q1650, qs31, q123, q1651, by decide +kernel⟩
set_option maxHeartbeats 4000000 in
set_option maxRecDepth 100000 in
theorem met_X1_isTrader (l : Launch) {G : gG} (hG : gOK G) {M0 : gM} {r x : Nat} {ba : Nat → Nat} {B : Nat → Int32} {D : Nat → Nat → Int32} {Z : Nat → Int64} {tx wl ml : Nat} {wf mf : Nat → Nat} {rt : Nat} {ta : Nat → Nat} {mc : Nat → Int32} {nd it : Nat → Nat → Nat} {A : Nat → Nat → Int32} {ln : Int32} {T n : Nat} {xv : Nat → Value} {t : Int32} (hBC : BC G r ba x (pQS B) (bf B D) (bo B) (B 0) (B 1866) Z M0) (hX : XW G x tx wl ml wf mf M0) (hT : TR G rt tx ta mc nd it (cA T A) (trA A) (wA A ln) M0) (hr4 : 4 ≤ r) (hrx : r ≠ x + 4) (hrt : r ≠ rt) (hw : wT T A) (hn : B 0 = nI n) (hn6 : n < 64) (hx : M0 x = some ((x + 4, 0), .inr (16, [.ref wl, .ref ml, xv 2, xv 3, .ref tx, .ref (ba 0), xv 6, xv 7, xv 8, xv 9, xv 10, xv 11, xv 12, xv 13]))) : Met l yX1_isTrader (ws_ yX1_isTrader cX1_isTrader 2 (some .boolean)) ({ frames := 2, cells := 0, slots := 0, locals := 40 }) (gPre G M0 [.ref (x), .int (t)]) (gQ G (gI (fun r9 M1 => (M1 = M0 ∧ nI 1 = r9 ∧ (iT T t)) ∨ (M1 = M0 ∧ nI 0 = r9 ∧ ¬ (iT T t))))) 0 0 (gA G) := by
  refine gMet (L0 := [some (.ref (x)), some (.int (t))]) RX1 hG (by decide +kernel) rfl (Nat.le_of_ble_eq_true rfl) rfl ?_
  intro p e s m args below meth c C hnm
  obtain ⟨wk, hwk, hwk3⟩ := isN_to hw.way
  have hsI := hw.stepI
  obtain ⟨⟨vs, hx0⟩, ⟨wq, hwl, hwq⟩, ⟨mq, hml, hmq⟩, hWY, hMT⟩ := id hX
  have ht0 : M0 tx = some ((rt, 0), .inr (20, [.ref (ta 1), .ref (ta 2), .ref (ta 3), .ref (ta 4), .int (A 6 0), .int (A 6 1), .int (A 6 2), .int (A 6 3), .int ln])) := hT.1
  rw [hwk] at ht0
  have hb0 := hBC.1
  rw [hn] at hb0
  obtain ⟨jw, aw, hwc, -⟩ := hWY wk (by omega)
  have hT4 := hw.T4
  refine x_iload_n C dX1_isTrader_0 rfl rfl ?_
  refine x_i2l C dX1_isTrader_1 ?_
  refine x_lconst (v := 0) C dX1_isTrader_2 rfl ?_
  refine x_aload_n C dX1_isTrader_3 rfl rfl ?_
  refine x_get C gcX1 hx 4 rfl q1256 rfl dX1_isTrader_4 ?_
  refine x_V0I C (met_X5_many l C.1 hT) mi_X5_many q1652 gcX5 ht0 ⟨rfl, rfl⟩ rfl ⟨Nat.le_of_ble_eq_true rfl, Nat.le_of_ble_eq_true rfl⟩ rfl dX1_isTrader_7 (fun r2 M1 hr => ?_)
  obtain ⟨hr, rfl⟩ := hr
  rw [hr, show cA T A 1 = T from rfl]
  refine x_iconst C dX1_isTrader_10 kc_1 ?_
  refine x_isub C dX1_isTrader_11 ?_
  refine x_i2l C dX1_isTrader_12 ?_
  refine x_S3I C (met_X1_in l C.1) mi_X1_in q1308 ⟨rfl, rfl⟩ rfl ⟨Nat.le_of_ble_eq_true rfl, Nat.le_of_ble_eq_true rfl⟩ rfl dX1_isTrader_13 (fun r4 M3 hr => ?_)
  rcases hr with ⟨hr, rfl, p13⟩ | ⟨hr, rfl, p13⟩
  · -- small 1
    rw [hr]
    exact x_zret C (by decide +kernel) dX1_isTrader_16 ⟨Nat.le_of_ble_eq_true rfl, Nat.le_of_ble_eq_true rfl⟩ (Or.inl ⟨rfl, rfl, (in_iT (by omega)).mp p13⟩)
  · -- small 0
    rw [hr]
    exact x_zret C (by decide +kernel) dX1_isTrader_16 ⟨Nat.le_of_ble_eq_true rfl, Nat.le_of_ble_eq_true rfl⟩ (Or.inr ⟨rfl, rfl, fun q => p13 ((in_iT (by omega)).mpr q)⟩)
theorem mi_X1_isThere : gMV RX1 yX1_isThere cX1_isThere 3 (some .boolean) 2 := ⟨q2074, qs46, q123, q2075, by decide +kernel⟩
set_option maxHeartbeats 4000000 in
set_option maxRecDepth 100000 in
theorem met_X1_isThere (l : Launch) {G : gG} (hG : gOK G) {M0 : gM} {r x : Nat} {ba : Nat → Nat} {B : Nat → Int32} {D : Nat → Nat → Int32} {Z : Nat → Int64} {tx wl ml : Nat} {wf mf : Nat → Nat} {rt : Nat} {ta : Nat → Nat} {mc : Nat → Int32} {nd it : Nat → Nat → Nat} {A : Nat → Nat → Int32} {ln : Int32} {T n : Nat} {xv : Nat → Value} {t y : Int32} (hBC : BC G r ba x (pQS B) (bf B D) (bo B) (B 0) (B 1866) Z M0) (hX : XW G x tx wl ml wf mf M0) (hT : TR G rt tx ta mc nd it (cA T A) (trA A) (wA A ln) M0) (hr4 : 4 ≤ r) (hrx : r ≠ x + 4) (hrt : r ≠ rt) (hw : wT T A) (hn : B 0 = nI n) (hn6 : n < 64) (hx : M0 x = some ((x + 4, 0), .inr (16, [.ref wl, .ref ml, xv 2, xv 3, .ref tx, .ref (ba 0), xv 6, xv 7, xv 8, xv 9, xv 10, xv 11, xv 12, xv 13]))) : Met l yX1_isThere (ws_ yX1_isThere cX1_isThere 3 (some .boolean)) ({ frames := 3, cells := 0, slots := 0, locals := 61 }) (gPre G M0 [.ref (x), .int (t), .int (y)]) (gQ G (gI (fun r9 M1 => (M1 = M0 ∧ nI 1 = r9 ∧ (iT T t ∧ iT (n / 4 + 1) y)) ∨ (M1 = M0 ∧ nI 0 = r9 ∧ ¬ (iT T t ∧ iT (n / 4 + 1) y))))) 0 0 (gA G) := by
  refine gMet (L0 := [some (.ref (x)), some (.int (t)), some (.int (y))]) RX1 hG (by decide +kernel) rfl (Nat.le_of_ble_eq_true rfl) rfl ?_
  intro p e s m args below meth c C hnm
  obtain ⟨wk, hwk, hwk3⟩ := isN_to hw.way
  have hsI := hw.stepI
  obtain ⟨⟨vs, hx0⟩, ⟨wq, hwl, hwq⟩, ⟨mq, hml, hmq⟩, hWY, hMT⟩ := id hX
  have ht0 : M0 tx = some ((rt, 0), .inr (20, [.ref (ta 1), .ref (ta 2), .ref (ta 3), .ref (ta 4), .int (A 6 0), .int (A 6 1), .int (A 6 2), .int (A 6 3), .int ln])) := hT.1
  rw [hwk] at ht0
  have hb0 := hBC.1
  rw [hn] at hb0
  obtain ⟨jw, aw, hwc, -⟩ := hWY wk (by omega)
  have hT4 := hw.T4
  refine x_aload_n C dX1_isThere_0 rfl rfl ?_
  refine x_iload_n C dX1_isThere_1 rfl rfl ?_
  refine x_V1I C (met_X1_isTrader l C.1 hBC hX hT hr4 hrx hrt hw hn hn6 hx) mi_X1_isTrader q1648 gcX1 hx ⟨rfl, rfl⟩ rfl ⟨Nat.le_of_ble_eq_true rfl, Nat.le_of_ble_eq_true rfl⟩ rfl dX1_isThere_2 (fun r2 M1 hr => ?_)
  rcases hr with ⟨hr, rfl, p2⟩ | ⟨hr, rfl, p2⟩
  · -- 2 1
    rw [hr]
    refine x_if_eqF (tgt := 27) C (by decide) dX1_isThere_5 rfl ?_
    refine x_iload_n C dX1_isThere_8 rfl rfl ?_
    refine x_S1I C (met_X1_isYear l C.1) mi_X1_isYear q2076 ⟨rfl, rfl⟩ rfl ⟨Nat.le_of_ble_eq_true rfl, Nat.le_of_ble_eq_true rfl⟩ rfl dX1_isThere_9 (fun r4 M3 hr => ?_)
    rcases hr with ⟨hr, rfl, p9⟩ | ⟨hr, rfl, p9⟩
    · -- 9 1
      rw [hr]
      refine x_if_eqF (tgt := 27) C (by decide) dX1_isThere_12 rfl ?_
      refine x_iload_n C dX1_isThere_15 rfl rfl ?_
      refine x_aload_n C dX1_isThere_16 rfl rfl ?_
      refine x_V0I C (met_X1_year l C.1 hBC hX hT hr4 hrx hrt hw hn hn6 hx) mi_X1_year q1580 gcX1 hx ⟨rfl, rfl⟩ rfl ⟨Nat.le_of_ble_eq_true rfl, Nat.le_of_ble_eq_true rfl⟩ rfl dX1_isThere_17 (fun r6 M5 hr => ?_)
      obtain ⟨hr, rfl⟩ := hr
      rw [hr]
      refine x_icmp_gt (tgt := 27) C dX1_isThere_20 rfl (fun c20 => ?_) (fun c20 => ?_)
      · -- 27
        refine x_iconst C dX1_isThere_27 kc_0 ?_
        exact x_zret C (by decide +kernel) dX1_isThere_28 ⟨Nat.le_of_ble_eq_true rfl, Nat.le_of_ble_eq_true rfl⟩ (Or.inr ⟨rfl, rfl, fun q => iT_nle (by omega) (Or.inr c20) q.2⟩)
      · -- 23
        refine x_iconst C dX1_isThere_23 kc_1 ?_
        refine x_goto (tgt := 28) C dX1_isThere_24 rfl ?_
        exact x_zret C (by decide +kernel) dX1_isThere_28 ⟨Nat.le_of_ble_eq_true rfl, Nat.le_of_ble_eq_true rfl⟩ (Or.inl ⟨rfl, rfl, p2, iT_le (by omega) (nn64 p9.1) c20⟩)
    · -- 9 0
      rw [hr]
      refine x_if_eqT (tgt := 27) C (by decide) dX1_isThere_12 rfl ?_
      refine x_iconst C dX1_isThere_27 kc_0 ?_
      exact x_zret C (by decide +kernel) dX1_isThere_28 ⟨Nat.le_of_ble_eq_true rfl, Nat.le_of_ble_eq_true rfl⟩ (Or.inr ⟨rfl, rfl, fun q => p9 (iT_y15 hn6 q.2)⟩)
  · -- 2 0
    rw [hr]
    refine x_if_eqT (tgt := 27) C (by decide) dX1_isThere_5 rfl ?_
    refine x_iconst C dX1_isThere_27 kc_0 ?_
    exact x_zret C (by decide +kernel) dX1_isThere_28 ⟨Nat.le_of_ble_eq_true rfl, Nat.le_of_ble_eq_true rfl⟩ (Or.inr ⟨rfl, rfl, fun q => p2 q.1⟩)
theorem mi_X1_sum : gMV RX1 yX1_sum cX1_sum 4 (some .int) 3 := ⟨q2052, q2053, q123, q2054, by decide +kernel⟩
set_option maxHeartbeats 4000000 in
set_option maxRecDepth 100000 in
theorem met_X1_sum (l : Launch) {G : gG} (hG : gOK G) {M0 : gM} {r x : Nat} {ba : Nat → Nat} {B : Nat → Int32} {D : Nat → Nat → Int32} {Z : Nat → Int64} {tx wl ml : Nat} {wf mf : Nat → Nat} {rt : Nat} {ta : Nat → Nat} {mc : Nat → Int32} {nd it : Nat → Nat → Nat} {A : Nat → Nat → Int32} {ln : Int32} {T n : Nat} {xv : Nat → Value} {t q u : Int32} (hBC : BC G r ba x (pQS B) (bf B D) (bo B) (B 0) (B 1866) Z M0) (hX : XW G x tx wl ml wf mf M0) (hT : TR G rt tx ta mc nd it (cA T A) (trA A) (wA A ln) M0) (hr4 : 4 ≤ r) (hrx : r ≠ x + 4) (hrt : r ≠ rt) (hw : wT T A) (hn : B 0 = nI n) (hn6 : n < 64) (hx : M0 x = some ((x + 4, 0), .inr (16, [.ref wl, .ref ml, xv 2, xv 3, .ref tx, .ref (ba 0), xv 6, xv 7, xv 8, xv 9, xv 10, xv 11, xv 12, xv 13]))) : Met l yX1_sum (ws_ yX1_sum cX1_sum 4 (some .int)) ({ frames := 3, cells := 0, slots := 0, locals := 61 }) (gPre G M0 [.ref (x), .int (t), .int (q), .int (u)]) (gQ G (gI (fun r9 M1 => M1 = M0 ∧ qSum T B t q u = r9))) 0 0 (gA G) := by
  refine gMet (L0 := [some (.ref (x)), some (.int (t)), some (.int (q)), some (.int (u))]) RX1 hG (by decide +kernel) rfl (Nat.le_of_ble_eq_true rfl) rfl ?_
  intro p e s m args below meth c C hnm
  obtain ⟨wk, hwk, hwk3⟩ := isN_to hw.way
  have hsI := hw.stepI
  obtain ⟨⟨vs, hx0⟩, ⟨wq, hwl, hwq⟩, ⟨mq, hml, hmq⟩, hWY, hMT⟩ := id hX
  have ht0 : M0 tx = some ((rt, 0), .inr (20, [.ref (ta 1), .ref (ta 2), .ref (ta 3), .ref (ta 4), .int (A 6 0), .int (A 6 1), .int (A 6 2), .int (A 6 3), .int ln])) := hT.1
  rw [hwk] at ht0
  have hb0 := hBC.1
  rw [hn] at hb0
  obtain ⟨jw, aw, hwc, -⟩ := hWY wk (by omega)
  have hT4 := hw.T4
  refine x_aload_n C dX1_sum_0 rfl rfl ?_
  refine x_iload_n C dX1_sum_1 rfl rfl ?_
  refine x_V1I C (met_X1_isTrader l C.1 hBC hX hT hr4 hrx hrt hw hn hn6 hx) mi_X1_isTrader q1648 gcX1 hx ⟨rfl, rfl⟩ rfl ⟨Nat.le_of_ble_eq_true rfl, Nat.le_of_ble_eq_true rfl⟩ rfl dX1_sum_2 (fun r2 M1 hr => ?_)
  rcases hr with ⟨hr, rfl, p2⟩ | ⟨hr, rfl, p2⟩
  · -- 2 1
    rw [hr]
    obtain ⟨k_t, rfl, hk_t⟩ := iT_ex (by omega) p2
    refine x_if_eqF (tgt := 47) C (by decide) dX1_sum_5 rfl ?_
    refine x_iload_n C dX1_sum_8 rfl rfl ?_
    refine x_S1I C (met_X1_isQuarter l C.1) mi_X1_isQuarter q2055 ⟨rfl, rfl⟩ rfl ⟨Nat.le_of_ble_eq_true rfl, Nat.le_of_ble_eq_true rfl⟩ rfl dX1_sum_9 (fun r4 M3 hr => ?_)
    rcases hr with ⟨hr, rfl, p9⟩ | ⟨hr, rfl, p9⟩
    · -- 9 1
      rw [hr]
      obtain ⟨k_q, rfl, hk_q⟩ := iT_ex (by omega) (q64.mp p9)
      refine x_if_eqF (tgt := 47) C (by decide) dX1_sum_12 rfl ?_
      refine x_iload_n C dX1_sum_15 rfl rfl ?_
      refine x_i2l C dX1_sum_16 ?_
      refine x_lconst (v := 0) C dX1_sum_17 rfl ?_
      refine x_ldc2 C dX1_sum_18 q1789 ?_
      refine x_S3I C (met_X1_in l C.1) mi_X1_in q1308 ⟨rfl, rfl⟩ rfl ⟨Nat.le_of_ble_eq_true rfl, Nat.le_of_ble_eq_true rfl⟩ rfl dX1_sum_21 (fun r6 M5 hr => ?_)
      rcases hr with ⟨hr, rfl, p21⟩ | ⟨hr, rfl, p21⟩
      · -- 21 1
        rw [hr]
        obtain ⟨k_u, rfl, lk_u, hk_u⟩ := iI_ex (by omega) (by omega) (u4.mp p21)
        refine x_if_eqF (tgt := 47) C (by decide) dX1_sum_24 rfl ?_
        refine x_aload_n C dX1_sum_27 rfl rfl ?_
        refine x_get C gcX1 hx 5 rfl q1257 rfl dX1_sum_28 ?_
        refine x_getN C gcX6 hb0 0 rfl q514 rfl dX1_sum_31 ?_
        refine x_iload_n C dX1_sum_34 rfl rfl ?_
        refine y_aaldR (ty := .array (.object "ExemptDesk$Sums")) (i := k_t) (b := ba (20 + k_t)) C 5 rfl rfl hBC.2.1 rfl (by omega) rfl rfl dX1_sum_35 ?_
        refine x_iload_n C dX1_sum_36 rfl rfl ?_
        refine y_aaldR (ty := .object "ExemptDesk$Sums") (i := k_q) (b := ba (1000 + 64 * k_t + k_q)) C 4 rfl rfl (hBC.2.2.2.1 k_t (by omega)) rfl (by omega) rfl rfl dX1_sum_37 ?_
        refine x_getN C gcX7 (hBC.2.2.2.2.2.1 k_t k_q (by omega) (by omega)).1 0 rfl q509 rfl dX1_sum_38 ?_
        refine x_iload_n C dX1_sum_41 rfl rfl ?_
        refine y_lald (i := k_u) C (hBC.2.2.2.2.2.1 k_t k_q (by omega) (by omega)).2 rfl (by omega) rfl dX1_sum_42 ?_
        refine x_l2i C dX1_sum_43 ?_
        refine x_goto (tgt := 48) C dX1_sum_44 rfl ?_
        exact x_iret C dX1_sum_48 ⟨Nat.le_of_ble_eq_true rfl, Nat.le_of_ble_eq_true rfl⟩ ⟨rfl, by unfold qSum; rw [if_pos p2, if_pos (q64.mp p9), if_pos (u4.mp p21)]; rw [dN_nI (by omega), dN_nI (by omega), dN_nI (by omega)]; exact (Int32.toInt32_toInt64 _).symm⟩
      · -- 21 0
        rw [hr]
        refine x_if_eqT (tgt := 47) C (by decide) dX1_sum_24 rfl ?_
        refine x_iconst C dX1_sum_47 kc_m1 ?_
        exact x_iret C dX1_sum_48 ⟨Nat.le_of_ble_eq_true rfl, Nat.le_of_ble_eq_true rfl⟩ ⟨rfl, by unfold qSum; rw [if_pos p2, if_pos (q64.mp p9), if_neg (fun q => p21 (u4.mpr q))]⟩
    · -- 9 0
      rw [hr]
      refine x_if_eqT (tgt := 47) C (by decide) dX1_sum_12 rfl ?_
      refine x_iconst C dX1_sum_47 kc_m1 ?_
      exact x_iret C dX1_sum_48 ⟨Nat.le_of_ble_eq_true rfl, Nat.le_of_ble_eq_true rfl⟩ ⟨rfl, by unfold qSum; rw [if_pos p2, if_neg (fun q => p9 (q64.mpr q))]⟩
  · -- 2 0
    rw [hr]
    refine x_if_eqT (tgt := 47) C (by decide) dX1_sum_5 rfl ?_
    refine x_iconst C dX1_sum_47 kc_m1 ?_
    exact x_iret C dX1_sum_48 ⟨Nat.le_of_ble_eq_true rfl, Nat.le_of_ble_eq_true rfl⟩ ⟨rfl, by unfold qSum; rw [if_neg p2]⟩
theorem mi_X1_total : gMV RX1 yX1_total cX1_total 3 (some .int) 2 := ⟨q2132, q2133, q123, q2134, by decide +kernel⟩
set_option maxHeartbeats 4000000 in
set_option maxRecDepth 100000 in
theorem met_X1_total (l : Launch) {G : gG} (hG : gOK G) {M0 : gM} {r x : Nat} {ba : Nat → Nat} {B : Nat → Int32} {D : Nat → Nat → Int32} {Z : Nat → Int64} {tx wl ml : Nat} {wf mf : Nat → Nat} {rt : Nat} {ta : Nat → Nat} {mc : Nat → Int32} {nd it : Nat → Nat → Nat} {A : Nat → Nat → Int32} {ln : Int32} {T n : Nat} {xv : Nat → Value} {t u : Int32} (hBC : BC G r ba x (pQS B) (bf B D) (bo B) (B 0) (B 1866) Z M0) (hX : XW G x tx wl ml wf mf M0) (hT : TR G rt tx ta mc nd it (cA T A) (trA A) (wA A ln) M0) (hr4 : 4 ≤ r) (hrx : r ≠ x + 4) (hrt : r ≠ rt) (hw : wT T A) (hn : B 0 = nI n) (hn6 : n < 64) (hx : M0 x = some ((x + 4, 0), .inr (16, [.ref wl, .ref ml, xv 2, xv 3, .ref tx, .ref (ba 0), xv 6, xv 7, xv 8, xv 9, xv 10, xv 11, xv 12, xv 13]))) : Met l yX1_total (ws_ yX1_total cX1_total 3 (some .int)) ({ frames := 3, cells := 0, slots := 0, locals := 61 }) (gPre G M0 [.ref (x), .int (t), .int (u)]) (gQ G (gI (fun r9 M1 => M1 = M0 ∧ qTot T B t u = r9))) 0 0 (gA G) := by
  refine gMet (L0 := [some (.ref (x)), some (.int (t)), some (.int (u))]) RX1 hG (by decide +kernel) rfl (Nat.le_of_ble_eq_true rfl) rfl ?_
  intro p e s m args below meth c C hnm
  obtain ⟨wk, hwk, hwk3⟩ := isN_to hw.way
  have hsI := hw.stepI
  obtain ⟨⟨vs, hx0⟩, ⟨wq, hwl, hwq⟩, ⟨mq, hml, hmq⟩, hWY, hMT⟩ := id hX
  have ht0 : M0 tx = some ((rt, 0), .inr (20, [.ref (ta 1), .ref (ta 2), .ref (ta 3), .ref (ta 4), .int (A 6 0), .int (A 6 1), .int (A 6 2), .int (A 6 3), .int ln])) := hT.1
  rw [hwk] at ht0
  have hb0 := hBC.1
  rw [hn] at hb0
  obtain ⟨jw, aw, hwc, -⟩ := hWY wk (by omega)
  have hT4 := hw.T4
  refine x_aload_n C dX1_total_0 rfl rfl ?_
  refine x_iload_n C dX1_total_1 rfl rfl ?_
  refine x_V1I C (met_X1_isTrader l C.1 hBC hX hT hr4 hrx hrt hw hn hn6 hx) mi_X1_isTrader q1648 gcX1 hx ⟨rfl, rfl⟩ rfl ⟨Nat.le_of_ble_eq_true rfl, Nat.le_of_ble_eq_true rfl⟩ rfl dX1_total_2 (fun r2 M1 hr => ?_)
  rcases hr with ⟨hr, rfl, p2⟩ | ⟨hr, rfl, p2⟩
  · -- 2 1
    rw [hr]
    obtain ⟨k_t, rfl, hk_t⟩ := iT_ex (by omega) p2
    refine x_if_eqF (tgt := 34) C (by decide) dX1_total_5 rfl ?_
    refine x_iload_n C dX1_total_8 rfl rfl ?_
    refine x_i2l C dX1_total_9 ?_
    refine x_lconst (v := 0) C dX1_total_10 rfl ?_
    refine x_ldc2 C dX1_total_11 q2103 ?_
    refine x_S3I C (met_X1_in l C.1) mi_X1_in q1308 ⟨rfl, rfl⟩ rfl ⟨Nat.le_of_ble_eq_true rfl, Nat.le_of_ble_eq_true rfl⟩ rfl dX1_total_14 (fun r4 M3 hr => ?_)
    rcases hr with ⟨hr, rfl, p14⟩ | ⟨hr, rfl, p14⟩
    · -- 14 1
      rw [hr]
      obtain ⟨k_u, rfl, lk_u, hk_u⟩ := iI_ex (by omega) (by omega) (u3.mp p14)
      refine x_if_eqF (tgt := 34) C (by decide) dX1_total_17 rfl ?_
      refine x_aload_n C dX1_total_20 rfl rfl ?_
      refine x_get C gcX1 hx 5 rfl q1257 rfl dX1_total_21 ?_
      refine x_getN C gcX6 hb0 7 rfl q527 rfl dX1_total_24 ?_
      refine x_iload_n C dX1_total_27 rfl rfl ?_
      refine y_aaldR (ty := .array .int) (i := k_t) (b := ba (70 + k_t)) C 6 rfl rfl (hBC.2.2.1 4 (by omega)) rfl (by omega) rfl rfl dX1_total_28 ?_
      refine x_iload_n C dX1_total_29 rfl rfl ?_
      refine y_iald (i := k_u) C (hBC.r4 (t := k_t) (by omega)) rfl (by omega) rfl dX1_total_30 ?_
      refine x_goto (tgt := 37) C dX1_total_31 rfl ?_
      exact x_iret C dX1_total_37 ⟨Nat.le_of_ble_eq_true rfl, Nat.le_of_ble_eq_true rfl⟩ ⟨rfl, by unfold qTot; rw [if_pos p2, if_pos (u3.mp p14)]; rw [dN_nI (by omega), dN_nI (by omega)]; rfl⟩
    · -- 14 0
      rw [hr]
      refine x_if_eqT (tgt := 34) C (by decide) dX1_total_17 rfl ?_
      refine x_ldcw C dX1_total_34 q2080 ?_
      exact x_iret C dX1_total_37 ⟨Nat.le_of_ble_eq_true rfl, Nat.le_of_ble_eq_true rfl⟩ ⟨rfl, by unfold qTot; rw [if_pos p2, if_neg (fun q => p14 (u3.mpr q))]⟩
  · -- 2 0
    rw [hr]
    refine x_if_eqT (tgt := 34) C (by decide) dX1_total_5 rfl ?_
    refine x_ldcw C dX1_total_34 q2080 ?_
    exact x_iret C dX1_total_37 ⟨Nat.le_of_ble_eq_true rfl, Nat.le_of_ble_eq_true rfl⟩ ⟨rfl, by unfold qTot; rw [if_neg p2]⟩
theorem mi_X1_recovered : gMV RX1 yX1_recovered cX1_recovered 3 (some .int) 2 := ⟨q2065, q2066, q123, q2067, by decide +kernel⟩
set_option maxHeartbeats 4000000 in
set_option maxRecDepth 100000 in
theorem met_X1_recovered (l : Launch) {G : gG} (hG : gOK G) {M0 : gM} {r x : Nat} {ba : Nat → Nat} {B : Nat → Int32} {D : Nat → Nat → Int32} {Z : Nat → Int64} {tx wl ml : Nat} {wf mf : Nat → Nat} {rt : Nat} {ta : Nat → Nat} {mc : Nat → Int32} {nd it : Nat → Nat → Nat} {A : Nat → Nat → Int32} {ln : Int32} {T n : Nat} {xv : Nat → Value} {t q : Int32} (hBC : BC G r ba x (pQS B) (bf B D) (bo B) (B 0) (B 1866) Z M0) (hX : XW G x tx wl ml wf mf M0) (hT : TR G rt tx ta mc nd it (cA T A) (trA A) (wA A ln) M0) (hr4 : 4 ≤ r) (hrx : r ≠ x + 4) (hrt : r ≠ rt) (hw : wT T A) (hn : B 0 = nI n) (hn6 : n < 64) (hx : M0 x = some ((x + 4, 0), .inr (16, [.ref wl, .ref ml, xv 2, xv 3, .ref tx, .ref (ba 0), xv 6, xv 7, xv 8, xv 9, xv 10, xv 11, xv 12, xv 13]))) : Met l yX1_recovered (ws_ yX1_recovered cX1_recovered 3 (some .int)) ({ frames := 3, cells := 0, slots := 0, locals := 61 }) (gPre G M0 [.ref (x), .int (t), .int (q)]) (gQ G (gI (fun r9 M1 => M1 = M0 ∧ qRec T B t q = r9))) 0 0 (gA G) := by
  refine gMet (L0 := [some (.ref (x)), some (.int (t)), some (.int (q))]) RX1 hG (by decide +kernel) rfl (Nat.le_of_ble_eq_true rfl) rfl ?_
  intro p e s m args below meth c C hnm
  obtain ⟨wk, hwk, hwk3⟩ := isN_to hw.way
  have hsI := hw.stepI
  obtain ⟨⟨vs, hx0⟩, ⟨wq, hwl, hwq⟩, ⟨mq, hml, hmq⟩, hWY, hMT⟩ := id hX
  have ht0 : M0 tx = some ((rt, 0), .inr (20, [.ref (ta 1), .ref (ta 2), .ref (ta 3), .ref (ta 4), .int (A 6 0), .int (A 6 1), .int (A 6 2), .int (A 6 3), .int ln])) := hT.1
  rw [hwk] at ht0
  have hb0 := hBC.1
  rw [hn] at hb0
  obtain ⟨jw, aw, hwc, -⟩ := hWY wk (by omega)
  have hT4 := hw.T4
  refine x_aload_n C dX1_recovered_0 rfl rfl ?_
  refine x_iload_n C dX1_recovered_1 rfl rfl ?_
  refine x_V1I C (met_X1_isTrader l C.1 hBC hX hT hr4 hrx hrt hw hn hn6 hx) mi_X1_isTrader q1648 gcX1 hx ⟨rfl, rfl⟩ rfl ⟨Nat.le_of_ble_eq_true rfl, Nat.le_of_ble_eq_true rfl⟩ rfl dX1_recovered_2 (fun r2 M1 hr => ?_)
  rcases hr with ⟨hr, rfl, p2⟩ | ⟨hr, rfl, p2⟩
  · -- 2 1
    rw [hr]
    obtain ⟨k_t, rfl, hk_t⟩ := iT_ex (by omega) p2
    refine x_if_eqF (tgt := 15) C (by decide) dX1_recovered_5 rfl ?_
    refine x_iload_n C dX1_recovered_8 rfl rfl ?_
    refine x_S1I C (met_X1_isQuarter l C.1) mi_X1_isQuarter q2055 ⟨rfl, rfl⟩ rfl ⟨Nat.le_of_ble_eq_true rfl, Nat.le_of_ble_eq_true rfl⟩ rfl dX1_recovered_9 (fun r4 M3 hr => ?_)
    rcases hr with ⟨hr, rfl, p9⟩ | ⟨hr, rfl, p9⟩
    · -- 9 1
      rw [hr]
      obtain ⟨k_q, rfl, hk_q⟩ := iT_ex (by omega) (q64.mp p9)
      refine x_if_neT (tgt := 17) C (by decide) dX1_recovered_12 rfl ?_
      refine x_iload_n C dX1_recovered_17 rfl rfl ?_
      refine x_aload_n C dX1_recovered_18 rfl rfl ?_
      refine x_get C gcX1 hx 5 rfl q1257 rfl dX1_recovered_19 ?_
      refine x_getN C gcX6 hb0 13 rfl q538 rfl dX1_recovered_22 ?_
      refine x_icmp_geN (tgt := 42) C (by omega) (by omega) dX1_recovered_25 rfl (fun c25 => ?_) (fun c25 => ?_)
      · -- 42
        refine x_bipush C dX1_recovered_42 kb_m2 ?_
        exact x_iret C dX1_recovered_44 ⟨Nat.le_of_ble_eq_true rfl, Nat.le_of_ble_eq_true rfl⟩ ⟨rfl, by unfold qRec; rw [if_pos p2, if_pos (q64.mp p9), dN_nI (by omega), dN_nI (by omega), show pNow B = n by unfold pNow; rw [hn, dN_nI (by omega)]]; rw [if_pos c25]⟩
      · -- 28
        refine x_aload_n C dX1_recovered_28 rfl rfl ?_
        refine x_get C gcX1 hx 5 rfl q1257 rfl dX1_recovered_29 ?_
        refine x_getN C gcX6 hb0 2 rfl q517 rfl dX1_recovered_32 ?_
        refine x_iload_n C dX1_recovered_35 rfl rfl ?_
        refine y_aaldR (ty := .array .int) (i := k_t) (b := ba (40 + k_t)) C 6 rfl rfl (hBC.2.2.1 1 (by omega)) rfl (by omega) rfl rfl dX1_recovered_36 ?_
        refine x_iload_n C dX1_recovered_37 rfl rfl ?_
        refine y_iald (i := k_q) C (hBC.r1 (t := k_t) (by omega)) rfl (by omega) rfl dX1_recovered_38 ?_
        refine x_goto (tgt := 44) C dX1_recovered_39 rfl ?_
        exact x_iret C dX1_recovered_44 ⟨Nat.le_of_ble_eq_true rfl, Nat.le_of_ble_eq_true rfl⟩ ⟨rfl, by unfold qRec; rw [if_pos p2, if_pos (q64.mp p9), dN_nI (by omega), dN_nI (by omega), show pNow B = n by unfold pNow; rw [hn, dN_nI (by omega)]]; rw [if_neg (by omega)]; rfl⟩
    · -- 9 0
      rw [hr]
      refine x_if_neF (tgt := 17) C (by decide) dX1_recovered_12 rfl ?_
      refine x_iconst C dX1_recovered_15 kc_m1 ?_
      exact x_iret C dX1_recovered_16 ⟨Nat.le_of_ble_eq_true rfl, Nat.le_of_ble_eq_true rfl⟩ ⟨rfl, by unfold qRec; rw [if_pos p2, if_neg (fun q => p9 (q64.mpr q))]⟩
  · -- 2 0
    rw [hr]
    refine x_if_eqT (tgt := 15) C (by decide) dX1_recovered_5 rfl ?_
    refine x_iconst C dX1_recovered_15 kc_m1 ?_
    exact x_iret C dX1_recovered_16 ⟨Nat.le_of_ble_eq_true rfl, Nat.le_of_ble_eq_true rfl⟩ ⟨rfl, by unfold qRec; rw [if_neg p2]⟩
theorem mi_X1_provisional : gMV RX1 yX1_provisional cX1_provisional 3 (some .int) 2 := ⟨q2060, q2061, q123, q2062, by decide +kernel⟩
set_option maxHeartbeats 4000000 in
set_option maxRecDepth 100000 in
theorem met_X1_provisional (l : Launch) {G : gG} (hG : gOK G) {M0 : gM} {r x : Nat} {ba : Nat → Nat} {B : Nat → Int32} {D : Nat → Nat → Int32} {Z : Nat → Int64} {tx wl ml : Nat} {wf mf : Nat → Nat} {rt : Nat} {ta : Nat → Nat} {mc : Nat → Int32} {nd it : Nat → Nat → Nat} {A : Nat → Nat → Int32} {ln : Int32} {T n : Nat} {xv : Nat → Value} {t q : Int32} (hBC : BC G r ba x (pQS B) (bf B D) (bo B) (B 0) (B 1866) Z M0) (hX : XW G x tx wl ml wf mf M0) (hT : TR G rt tx ta mc nd it (cA T A) (trA A) (wA A ln) M0) (hr4 : 4 ≤ r) (hrx : r ≠ x + 4) (hrt : r ≠ rt) (hw : wT T A) (hn : B 0 = nI n) (hn6 : n < 64) (hx : M0 x = some ((x + 4, 0), .inr (16, [.ref wl, .ref ml, xv 2, xv 3, .ref tx, .ref (ba 0), xv 6, xv 7, xv 8, xv 9, xv 10, xv 11, xv 12, xv 13]))) (hq : qB B) (hh : hdB B) : Met l yX1_provisional (ws_ yX1_provisional cX1_provisional 3 (some .int)) ({ frames := 7, cells := 0, slots := 0, locals := 168 }) (gPre G M0 [.ref (x), .int (t), .int (q)]) (gQ G (gI (fun r9 M1 => M1 = M0 ∧ qProv A T B t q = r9))) 0 0 (gA G) := by
  refine gMet (L0 := [some (.ref (x)), some (.int (t)), some (.int (q))]) RX1 hG (by decide +kernel) rfl (Nat.le_of_ble_eq_true rfl) rfl ?_
  intro p e s m args below meth c C hnm
  obtain ⟨wk, hwk, hwk3⟩ := isN_to hw.way
  have hsI := hw.stepI
  obtain ⟨⟨vs, hx0⟩, ⟨wq, hwl, hwq⟩, ⟨mq, hml, hmq⟩, hWY, hMT⟩ := id hX
  have ht0 : M0 tx = some ((rt, 0), .inr (20, [.ref (ta 1), .ref (ta 2), .ref (ta 3), .ref (ta 4), .int (A 6 0), .int (A 6 1), .int (A 6 2), .int (A 6 3), .int ln])) := hT.1
  rw [hwk] at ht0
  have hb0 := hBC.1
  rw [hn] at hb0
  obtain ⟨jw, aw, hwc, -⟩ := hWY wk (by omega)
  have hT4 := hw.T4
  refine x_aload_n C dX1_provisional_0 rfl rfl ?_
  refine x_iload_n C dX1_provisional_1 rfl rfl ?_
  refine x_V1I C (met_X1_isTrader l C.1 hBC hX hT hr4 hrx hrt hw hn hn6 hx) mi_X1_isTrader q1648 gcX1 hx ⟨rfl, rfl⟩ rfl ⟨Nat.le_of_ble_eq_true rfl, Nat.le_of_ble_eq_true rfl⟩ rfl dX1_provisional_2 (fun r2 M1 hr => ?_)
  rcases hr with ⟨hr, rfl, p2⟩ | ⟨hr, rfl, p2⟩
  · -- 2 1
    rw [hr]
    obtain ⟨k_t, rfl, hk_t⟩ := iT_ex (by omega) p2
    refine x_if_eqF (tgt := 15) C (by decide) dX1_provisional_5 rfl ?_
    refine x_iload_n C dX1_provisional_8 rfl rfl ?_
    refine x_S1I C (met_X1_isQuarter l C.1) mi_X1_isQuarter q2055 ⟨rfl, rfl⟩ rfl ⟨Nat.le_of_ble_eq_true rfl, Nat.le_of_ble_eq_true rfl⟩ rfl dX1_provisional_9 (fun r4 M3 hr => ?_)
    rcases hr with ⟨hr, rfl, p9⟩ | ⟨hr, rfl, p9⟩
    · -- 9 1
      rw [hr]
      obtain ⟨k_q, rfl, hk_q⟩ := iT_ex (by omega) (q64.mp p9)
      refine x_if_neT (tgt := 17) C (by decide) dX1_provisional_12 rfl ?_
      refine x_iload_n C dX1_provisional_17 rfl rfl ?_
      refine x_aload_n C dX1_provisional_18 rfl rfl ?_
      refine x_get C gcX1 hx 5 rfl q1257 rfl dX1_provisional_19 ?_
      refine x_getN C gcX6 hb0 13 rfl q538 rfl dX1_provisional_22 ?_
      refine x_icmp_leN (tgt := 33) C (by omega) (by omega) dX1_provisional_25 rfl (fun c25 => ?_) (fun c25 => ?_)
      · -- 33
        refine x_aload_n C dX1_provisional_33 rfl rfl ?_
        refine x_get C gcX1 hx 5 rfl q1257 rfl dX1_provisional_34 ?_
        refine x_iload_n C dX1_provisional_37 rfl rfl ?_
        refine x_iload_n C dX1_provisional_38 rfl rfl ?_
        refine x_V2I C (met_X6_provisionalOf l C.1 hBC hX hT hr4 hrx hrt hw hn hn6 (by omega) (by omega) hq hh) mi_X6_provisionalOf q2063 gcX6 hb0 ⟨rfl, rfl⟩ rfl ⟨Nat.le_of_ble_eq_true rfl, Nat.le_of_ble_eq_true rfl⟩ rfl dX1_provisional_39 (fun r6 M5 hr => ?_)
        obtain ⟨hr, rfl⟩ := hr
        rw [hr]
        exact x_iret C dX1_provisional_42 ⟨Nat.le_of_ble_eq_true rfl, Nat.le_of_ble_eq_true rfl⟩ ⟨rfl, by unfold qProv; rw [if_pos p2, if_pos (q64.mp p9), dN_nI (by omega), dN_nI (by omega), show pNow B = n by unfold pNow; rw [hn, dN_nI (by omega)]]; rw [if_pos (by omega)]; by_cases z9 : k_q < n; (rw [if_pos z9, if_neg (by omega)]); (rw [if_neg z9, if_pos (by omega)])⟩
      · -- 28
        refine x_bipush C dX1_provisional_28 kb_m2 ?_
        refine x_goto (tgt := 42) C dX1_provisional_30 rfl ?_
        exact x_iret C dX1_provisional_42 ⟨Nat.le_of_ble_eq_true rfl, Nat.le_of_ble_eq_true rfl⟩ ⟨rfl, by unfold qProv; rw [if_pos p2, if_pos (q64.mp p9), dN_nI (by omega), dN_nI (by omega), show pNow B = n by unfold pNow; rw [hn, dN_nI (by omega)]]; rw [if_neg (by omega)]⟩
    · -- 9 0
      rw [hr]
      refine x_if_neF (tgt := 17) C (by decide) dX1_provisional_12 rfl ?_
      refine x_iconst C dX1_provisional_15 kc_m1 ?_
      exact x_iret C dX1_provisional_16 ⟨Nat.le_of_ble_eq_true rfl, Nat.le_of_ble_eq_true rfl⟩ ⟨rfl, by unfold qProv; rw [if_pos p2, if_neg (fun q => p9 (q64.mpr q))]⟩
  · -- 2 0
    rw [hr]
    refine x_if_eqT (tgt := 15) C (by decide) dX1_provisional_5 rfl ?_
    refine x_iconst C dX1_provisional_15 kc_m1 ?_
    exact x_iret C dX1_provisional_16 ⟨Nat.le_of_ble_eq_true rfl, Nat.le_of_ble_eq_true rfl⟩ ⟨rfl, by unfold qProv; rw [if_neg p2]⟩
theorem mi_X1_isSmall : gMV RX1 yX1_isSmall cX1_isSmall 5 (some .boolean) 2 := ⟨q2092, qs47, q123, q2093, by decide +kernel⟩
set_option maxHeartbeats 4000000 in
set_option maxRecDepth 100000 in
theorem met_X1_isSmall (l : Launch) {G : gG} (hG : gOK G) {M0 : gM} {r x : Nat} {ba : Nat → Nat} {B : Nat → Int32} {D : Nat → Nat → Int32} {Z : Nat → Int64} {tx wl ml : Nat} {wf mf : Nat → Nat} {rt : Nat} {ta : Nat → Nat} {mc : Nat → Int32} {nd it : Nat → Nat → Nat} {A : Nat → Nat → Int32} {ln : Int32} {T n : Nat} {xv : Nat → Value} {t y : Nat} (hBC : BC G r ba x (pQS B) (bf B D) (bo B) (B 0) (B 1866) Z M0) (hX : XW G x tx wl ml wf mf M0) (hT : TR G rt tx ta mc nd it (cA T A) (trA A) (wA A ln) M0) (hr4 : 4 ≤ r) (hrx : r ≠ x + 4) (hrt : r ≠ rt) (hw : wT T A) (hn : B 0 = nI n) (hn6 : n < 64) (hx : M0 x = some ((x + 4, 0), .inr (16, [.ref wl, .ref ml, xv 2, xv 3, .ref tx, .ref (ba 0), xv 6, xv 7, xv 8, xv 9, xv 10, xv 11, xv 12, xv 13]))) (htT : t < T) (hy16 : y < 16) (hq : qB B) (hh : hdB B) (hrb : rB A B) : Met l yX1_isSmall (ws_ yX1_isSmall cX1_isSmall 5 (some .boolean)) ({ frames := 7, cells := 0, slots := 0, locals := 167 }) (gPre G M0 [.ref (x), .int (nI t), .int (nI y)]) (gQ G (gI (fun r9 M1 => (∃ Z', BC G r ba x (pQS B) (bf B D) (bo B) (B 0) (B 1866) Z' M1) ∧ (∀ z, z ≠ ba 10 → M1 z = M0 z) ∧ pSm A (pAnn A B t y) (A 6 2) (pYS B t y) = r9))) 0 0 (gA G) := by
  refine gMet (L0 := [some (.ref (x)), some (.int (nI t)), some (.int (nI y)), none, none]) RX1 hG (by decide +kernel) rfl (Nat.le_of_ble_eq_true rfl) rfl ?_
  intro p e s m args below meth c C hnm
  obtain ⟨wk, hwk, hwk3⟩ := isN_to hw.way
  have hsI := hw.stepI
  obtain ⟨⟨vs, hx0⟩, ⟨wq, hwl, hwq⟩, ⟨mq, hml, hmq⟩, hWY, hMT⟩ := id hX
  have ht0 : M0 tx = some ((rt, 0), .inr (20, [.ref (ta 1), .ref (ta 2), .ref (ta 3), .ref (ta 4), .int (A 6 0), .int (A 6 1), .int (A 6 2), .int (A 6 3), .int ln])) := hT.1
  rw [hwk] at ht0
  have hb0 := hBC.1
  rw [hn] at hb0
  obtain ⟨jw, aw, hwc, -⟩ := hWY wk (by omega)
  have hT4 := hw.T4
  refine x_aload_n C dX1_isSmall_0 rfl rfl ?_
  refine x_get C gcX1 hx 5 rfl q1257 rfl dX1_isSmall_1 ?_
  refine x_iload_n C dX1_isSmall_4 rfl rfl ?_
  refine x_iload_n C dX1_isSmall_5 rfl rfl ?_
  refine x_V2I C (met_X6_annualOf l C.1 hBC hX hT hr4 hrx hrt hw hn hn6 (by omega) (by omega) hq hh) mi_X6_annualOf q2081 gcX6 hb0 ⟨rfl, rfl⟩ rfl ⟨Nat.le_of_ble_eq_true rfl, Nat.le_of_ble_eq_true rfl⟩ rfl dX1_isSmall_6 (fun r2 M1 hr => ?_)
  obtain ⟨⟨Z6, hb3, hz5⟩, k4, rfl⟩ := hr
  have hBc7 := hBC.year (Z' := Z6) hb3.2.2.2.2.2.2.2 k4
  have hf10 := hBC.fl10 ⟨_, hBc7⟩ k4
  have hXc8 := hX.k10 hf10 hr4 hrx
  have hTc9 := hT.k10 hf10 hrt
  obtain ⟨⟨vshBc7, hx0hBc7⟩, ⟨wqhBc7, hwlhBc7, hwqhBc7⟩, ⟨mqhBc7, hmlhBc7, hmqhBc7⟩, hWYhBc7, hMThBc7⟩ := id hXc8
  have ht0hBc7 : M1 tx = some ((rt, 0), .inr (20, [.ref (ta 1), .ref (ta 2), .ref (ta 3), .ref (ta 4), .int (A 6 0), .int (A 6 1), .int (A 6 2), .int (A 6 3), .int ln])) := hTc9.1
  rw [hwk] at ht0hBc7
  have hb0hBc7 := hBc7.1
  rw [hn] at hb0hBc7
  obtain ⟨jwhBc7, awhBc7, hwchBc7, -⟩ := hWYhBc7 wk (by omega)
  have hxd11 := hf10.keep hx (fun e => hrx (congrArg Prod.fst e).symm)
  refine x_istore_n C dX1_isSmall_9 rfl (gs1_3 rfl) rfl ?_
  refine x_aload_n C dX1_isSmall_10 rfl rfl ?_
  refine x_get C gcX1 hxd11 5 rfl q1257 rfl dX1_isSmall_11 ?_
  refine x_iload_n C dX1_isSmall_14 rfl rfl ?_
  refine x_iload_n C dX1_isSmall_15 rfl rfl ?_
  refine x_V2R C (met_X6_ofYear l C.1 hBc7 hXc8 hTc9 hr4 hrx hrt hw hn hn6 (by omega) (by omega)) mi_X6_ofYear q2094 gcX6 hb0hBc7 ⟨rfl, rfl⟩ rfl ⟨Nat.le_of_ble_eq_true rfl, Nat.le_of_ble_eq_true rfl⟩ rfl dX1_isSmall_16 (fun r13 M12 hr => ?_)
  obtain ⟨rfl, hb14, k15⟩ := hr
  have hBc17 := hBc7.year (Z' := (pYS B t y)) hb14.2.2.2.2.2.2.2 k15
  have hf20 := hBc7.fl10 ⟨_, hBc17⟩ k15
  have hXc18 := hXc8.k10 hf20 hr4 hrx
  have hTc19 := hTc9.k10 hf20 hrt
  have k21 : ∀ zz : Nat, zz ≠ ba 10 → M12 zz = M0 zz := fun zz hz => (k15 zz hz).trans (k4 zz hz)
  obtain ⟨⟨vshBc17, hx0hBc17⟩, ⟨wqhBc17, hwlhBc17, hwqhBc17⟩, ⟨mqhBc17, hmlhBc17, hmqhBc17⟩, hWYhBc17, hMThBc17⟩ := id hXc18
  have ht0hBc17 : M12 tx = some ((rt, 0), .inr (20, [.ref (ta 1), .ref (ta 2), .ref (ta 3), .ref (ta 4), .int (A 6 0), .int (A 6 1), .int (A 6 2), .int (A 6 3), .int ln])) := hTc19.1
  rw [hwk] at ht0hBc17
  have hb0hBc17 := hBc17.1
  rw [hn] at hb0hBc17
  obtain ⟨jwhBc17, awhBc17, hwchBc17, -⟩ := hWYhBc17 wk (by omega)
  have hxd22 := hf20.keep hxd11 (fun e => hrx (congrArg Prod.fst e).symm)
  refine x_astore C dX1_isSmall_19 (gs1_4 rfl) rfl ?_
  refine x_aload C dX1_isSmall_21 rfl ?_
  refine x_aload C dX1_isSmall_23 rfl ?_
  refine x_iload_n C dX1_isSmall_25 rfl rfl ?_
  refine x_aload_n C dX1_isSmall_26 rfl rfl ?_
  refine x_get C gcX1 hxd22 4 rfl q1256 rfl dX1_isSmall_27 ?_
  refine x_getN C gcX5 ht0hBc17 5 rfl q406 rfl dX1_isSmall_30 ?_
  refine x_aload_n C dX1_isSmall_33 rfl rfl ?_
  refine x_get C gcX1 hxd22 5 rfl q1257 rfl dX1_isSmall_34 ?_
  refine x_V0R C (met_X6_way l C.1 hBc17 hXc18 hTc19 hr4 hrx hrt hw hn hn6) mi_X6_way q2095 gcX6 hb0hBc17 ⟨rfl, rfl⟩ rfl ⟨Nat.le_of_ble_eq_true rfl, Nat.le_of_ble_eq_true rfl⟩ rfl dX1_isSmall_37 (fun r24 M23 hr => ?_)
  obtain ⟨hr, wk', hwk', hw3', rfl⟩ := hr
  rw [hr]
  have ew : wk = wk' := nI_inj (by omega) (by omega) (hwk.symm.trans hwk'); subst ew
  refine x_V3J C (met_X7_backPlain l C.1 hBc17.2.2.2.2.2.2.2 (hWYhBc17 wk (by omega)) (hq.y (by omega) (by omega)) (pAnn_fB hw hq hh hrb (by omega) (by omega))) mi_X7_backPlain q2096 gcX7 hBc17.2.2.2.2.2.2.2.1 ⟨rfl, rfl⟩ rfl ⟨Nat.le_of_ble_eq_true rfl, Nat.le_of_ble_eq_true rfl⟩ rfl dX1_isSmall_40 (fun r26 M25 hr => ?_)
  obtain ⟨hr, rfl⟩ := hr
  rw [hr]
  refine x_aload_n C dX1_isSmall_43 rfl rfl ?_
  refine x_get C gcX1 hxd22 4 rfl q1256 rfl dX1_isSmall_44 ?_
  refine x_getN C gcX5 ht0hBc17 6 rfl q410 rfl dX1_isSmall_47 ?_
  refine x_V2I C (met_X7_isSmall l C.1 hBc17.2.2.2.2.2.2.2) mi_X7_isSmall q2097 gcX7 hBc17.2.2.2.2.2.2.2.1 ⟨rfl, rfl⟩ rfl ⟨Nat.le_of_ble_eq_true rfl, Nat.le_of_ble_eq_true rfl⟩ rfl dX1_isSmall_50 (fun r28 M27 hr => ?_)
  rcases hr with ⟨hr, rfl, p50⟩ | ⟨hr, rfl, p50⟩
  · -- small 1
    rw [hr]
    exact x_zret C (by decide +kernel) dX1_isSmall_53 ⟨Nat.le_of_ble_eq_true rfl, Nat.le_of_ble_eq_true rfl⟩ ⟨⟨_, hBc17⟩, k21, by unfold pSm; rw [hwk, if_pos p50]⟩
  · -- small 0
    rw [hr]
    exact x_zret C (by decide +kernel) dX1_isSmall_53 ⟨Nat.le_of_ble_eq_true rfl, Nat.le_of_ble_eq_true rfl⟩ ⟨⟨_, hBc17⟩, k21, by unfold pSm; rw [hwk, if_neg p50]⟩
theorem mi_X1_annual : gMV RX1 yX1_annual cX1_annual 4 (some .int) 3 := ⟨q2069, q2070, q123, q2071, by decide +kernel⟩
set_option maxHeartbeats 4000000 in
set_option maxRecDepth 100000 in
theorem met_X1_annual (l : Launch) {G : gG} (hG : gOK G) {M0 : gM} {r x : Nat} {ba : Nat → Nat} {B : Nat → Int32} {D : Nat → Nat → Int32} {Z : Nat → Int64} {tx wl ml : Nat} {wf mf : Nat → Nat} {rt : Nat} {ta : Nat → Nat} {mc : Nat → Int32} {nd it : Nat → Nat → Nat} {A : Nat → Nat → Int32} {ln : Int32} {T n : Nat} {xv : Nat → Value} {t y u : Int32} (hBC : BC G r ba x (pQS B) (bf B D) (bo B) (B 0) (B 1866) Z M0) (hX : XW G x tx wl ml wf mf M0) (hT : TR G rt tx ta mc nd it (cA T A) (trA A) (wA A ln) M0) (hr4 : 4 ≤ r) (hrx : r ≠ x + 4) (hrt : r ≠ rt) (hw : wT T A) (hn : B 0 = nI n) (hn6 : n < 64) (hx : M0 x = some ((x + 4, 0), .inr (16, [.ref wl, .ref ml, xv 2, xv 3, .ref tx, .ref (ba 0), xv 6, xv 7, xv 8, xv 9, xv 10, xv 11, xv 12, xv 13]))) (hq : qB B) (hh : hdB B) (hrb : rB A B) (hz : rZ B n) : Met l yX1_annual (ws_ yX1_annual cX1_annual 4 (some .int)) ({ frames := 8, cells := 0, slots := 0, locals := 191 }) (gPre G M0 [.ref (x), .int (t), .int (y), .int (u)]) (gQ G (gI (fun r9 M1 => (∃ Z', BC G r ba x (pQS B) (bf B D) (bo B) (B 0) (B 1866) Z' M1) ∧ (∀ z, z ≠ ba 10 → M1 z = M0 z) ∧ qAnn A T B t y u = r9))) 0 0 (gA G) := by
  refine gMet (L0 := [some (.ref (x)), some (.int (t)), some (.int (y)), some (.int (u))]) RX1 hG (by decide +kernel) rfl (Nat.le_of_ble_eq_true rfl) rfl ?_
  intro p e s m args below meth c C hnm
  obtain ⟨wk, hwk, hwk3⟩ := isN_to hw.way
  have hsI := hw.stepI
  obtain ⟨⟨vs, hx0⟩, ⟨wq, hwl, hwq⟩, ⟨mq, hml, hmq⟩, hWY, hMT⟩ := id hX
  have ht0 : M0 tx = some ((rt, 0), .inr (20, [.ref (ta 1), .ref (ta 2), .ref (ta 3), .ref (ta 4), .int (A 6 0), .int (A 6 1), .int (A 6 2), .int (A 6 3), .int ln])) := hT.1
  rw [hwk] at ht0
  have hb0 := hBC.1
  rw [hn] at hb0
  obtain ⟨jw, aw, hwc, -⟩ := hWY wk (by omega)
  have hT4 := hw.T4
  refine x_aload_n C dX1_annual_0 rfl rfl ?_
  refine x_iload_n C dX1_annual_1 rfl rfl ?_
  refine x_iload_n C dX1_annual_2 rfl rfl ?_
  refine x_V2I C (met_X1_isThere l C.1 hBC hX hT hr4 hrx hrt hw hn hn6 hx) mi_X1_isThere q2072 gcX1 hx ⟨rfl, rfl⟩ rfl ⟨Nat.le_of_ble_eq_true rfl, Nat.le_of_ble_eq_true rfl⟩ rfl dX1_annual_3 (fun r2 M1 hr => ?_)
  rcases hr with ⟨hr, rfl, p3⟩ | ⟨hr, rfl, p3⟩
  · -- 3 1
    rw [hr]
    obtain ⟨k_t, rfl, hk_t⟩ := iT_ex (by omega) p3.1
    obtain ⟨k_y, rfl, hk_y⟩ := iT_ex (by omega) p3.2
    refine x_if_neT (tgt := 13) C (by decide) dX1_annual_6 rfl ?_
    refine x_iload_n C dX1_annual_13 rfl rfl ?_
    rcases tab_ex u 3 (by decide) with ⟨k14, rfl, hk14⟩ | h14
    · -- in
      rcases (by omega : k14 = 0 ∨ k14 = 1 ∨ k14 = 2 ∨ k14 = 3) with rfl | rfl | rfl | rfl
      · -- case 0
        refine x_tableIn (off := 30) (tgt := 44) C dX1_annual_14 (by decide +kernel) (by decide +kernel) (by decide +kernel) rfl ?_
        refine x_aload_n C dX1_annual_44 rfl rfl ?_
        refine x_get C gcX1 hx 5 rfl q1257 rfl dX1_annual_45 ?_
        refine x_iload_n C dX1_annual_48 rfl rfl ?_
        refine x_iload_n C dX1_annual_49 rfl rfl ?_
        refine x_V2I C (met_X6_annualOf l C.1 hBC hX hT hr4 hrx hrt hw hn hn6 (by omega) (by omega) hq hh) mi_X6_annualOf q2081 gcX6 hb0 ⟨rfl, rfl⟩ rfl ⟨Nat.le_of_ble_eq_true rfl, Nat.le_of_ble_eq_true rfl⟩ rfl dX1_annual_50 (fun r4 M3 hr => ?_)
        obtain ⟨⟨Z8, hb5, hz7⟩, k6, rfl⟩ := hr
        have hBc9 := hBC.year (Z' := Z8) hb5.2.2.2.2.2.2.2 k6
        have hf12 := hBC.fl10 ⟨_, hBc9⟩ k6
        have hXc10 := hX.k10 hf12 hr4 hrx
        have hTc11 := hT.k10 hf12 hrt
        obtain ⟨⟨vshBc9, hx0hBc9⟩, ⟨wqhBc9, hwlhBc9, hwqhBc9⟩, ⟨mqhBc9, hmlhBc9, hmqhBc9⟩, hWYhBc9, hMThBc9⟩ := id hXc10
        have ht0hBc9 : M3 tx = some ((rt, 0), .inr (20, [.ref (ta 1), .ref (ta 2), .ref (ta 3), .ref (ta 4), .int (A 6 0), .int (A 6 1), .int (A 6 2), .int (A 6 3), .int ln])) := hTc11.1
        rw [hwk] at ht0hBc9
        have hb0hBc9 := hBc9.1
        rw [hn] at hb0hBc9
        obtain ⟨jwhBc9, awhBc9, hwchBc9, -⟩ := hWYhBc9 wk (by omega)
        have hxd13 := hf12.keep hx (fun e => hrx (congrArg Prod.fst e).symm)
        exact x_iret C dX1_annual_53 ⟨Nat.le_of_ble_eq_true rfl, Nat.le_of_ble_eq_true rfl⟩ ⟨⟨_, hBc9⟩, k6, by unfold qAnn; rw [if_pos (by unfold iY; rw [show pNow B = n by unfold pNow; rw [hn, dN_nI (by omega)]]; exact p3), if_pos (by decide), if_pos (show nI 0 = 0 from rfl), dN_nI (by omega), dN_nI (by omega)]⟩
      · -- case 1
        refine x_tableIn (off := 40) (tgt := 54) C dX1_annual_14 (by decide +kernel) (by decide +kernel) (by decide +kernel) rfl ?_
        refine x_aload_n C dX1_annual_54 rfl rfl ?_
        refine x_get C gcX1 hx 5 rfl q1257 rfl dX1_annual_55 ?_
        refine x_iload_n C dX1_annual_58 rfl rfl ?_
        refine x_iload_n C dX1_annual_59 rfl rfl ?_
        refine x_V2I C (met_X6_backOfYear l C.1 hBC hX hT hr4 hrx hrt hw hn hn6 (by omega) (by omega) hq hh hrb) mi_X6_backOfYear q2085 gcX6 hb0 ⟨rfl, rfl⟩ rfl ⟨Nat.le_of_ble_eq_true rfl, Nat.le_of_ble_eq_true rfl⟩ rfl dX1_annual_60 (fun r15 M14 hr => ?_)
        obtain ⟨hb16, k17, rfl⟩ := hr
        have hBc18 := hBC.year (Z' := (pYS B k_t k_y)) hb16.2.2.2.2.2.2.2 k17
        have hf21 := hBC.fl10 ⟨_, hBc18⟩ k17
        have hXc19 := hX.k10 hf21 hr4 hrx
        have hTc20 := hT.k10 hf21 hrt
        obtain ⟨⟨vshBc18, hx0hBc18⟩, ⟨wqhBc18, hwlhBc18, hwqhBc18⟩, ⟨mqhBc18, hmlhBc18, hmqhBc18⟩, hWYhBc18, hMThBc18⟩ := id hXc19
        have ht0hBc18 : M14 tx = some ((rt, 0), .inr (20, [.ref (ta 1), .ref (ta 2), .ref (ta 3), .ref (ta 4), .int (A 6 0), .int (A 6 1), .int (A 6 2), .int (A 6 3), .int ln])) := hTc20.1
        rw [hwk] at ht0hBc18
        have hb0hBc18 := hBc18.1
        rw [hn] at hb0hBc18
        obtain ⟨jwhBc18, awhBc18, hwchBc18, -⟩ := hWYhBc18 wk (by omega)
        have hxd22 := hf21.keep hx (fun e => hrx (congrArg Prod.fst e).symm)
        exact x_iret C dX1_annual_63 ⟨Nat.le_of_ble_eq_true rfl, Nat.le_of_ble_eq_true rfl⟩ ⟨⟨_, hBc18⟩, k17, by unfold qAnn; rw [if_pos (by unfold iY; rw [show pNow B = n by unfold pNow; rw [hn, dN_nI (by omega)]]; exact p3), if_pos (by decide), if_neg (by decide), if_pos (show nI 1 = nI 1 from rfl), dN_nI (by omega), dN_nI (by omega)]⟩
      · -- case 2
        refine x_tableIn (off := 50) (tgt := 64) C dX1_annual_14 (by decide +kernel) (by decide +kernel) (by decide +kernel) rfl ?_
        refine x_aload_n C dX1_annual_64 rfl rfl ?_
        refine x_iload_n C dX1_annual_65 rfl rfl ?_
        refine x_iload_n C dX1_annual_66 rfl rfl ?_
        refine x_V2I C (met_X1_isSmall l C.1 hBC hX hT hr4 hrx hrt hw hn hn6 hx (by omega) (by omega) hq hh hrb) mi_X1_isSmall q2090 gcX1 hx ⟨rfl, rfl⟩ rfl ⟨Nat.le_of_ble_eq_true rfl, Nat.le_of_ble_eq_true rfl⟩ rfl dX1_annual_67 (fun r24 M23 hr => ?_)
        obtain ⟨⟨Z27, hb25⟩, k26, h28⟩ := hr
        have hBc29 := hBC.year (Z' := Z27) hb25.2.2.2.2.2.2.2 k26
        have hf32 := hBC.fl10 ⟨_, hBc29⟩ k26
        have hXc30 := hX.k10 hf32 hr4 hrx
        have hTc31 := hT.k10 hf32 hrt
        obtain ⟨⟨vshBc29, hx0hBc29⟩, ⟨wqhBc29, hwlhBc29, hwqhBc29⟩, ⟨mqhBc29, hmlhBc29, hmqhBc29⟩, hWYhBc29, hMThBc29⟩ := id hXc30
        have ht0hBc29 : M23 tx = some ((rt, 0), .inr (20, [.ref (ta 1), .ref (ta 2), .ref (ta 3), .ref (ta 4), .int (A 6 0), .int (A 6 1), .int (A 6 2), .int (A 6 3), .int ln])) := hTc31.1
        rw [hwk] at ht0hBc29
        have hb0hBc29 := hBc29.1
        rw [hn] at hb0hBc29
        obtain ⟨jwhBc29, awhBc29, hwchBc29, -⟩ := hWYhBc29 wk (by omega)
        have hxd33 := hf32.keep hx (fun e => hrx (congrArg Prod.fst e).symm)
        have hs01 : pSm A (pAnn A B k_t k_y) (A 6 2) (pYS B k_t k_y) = nI 1 ∨ pSm A (pAnn A B k_t k_y) (A 6 2) (pYS B k_t k_y) = nI 0 := by unfold pSm; split <;> simp
        rw [← h28]
        rcases hs01 with hs9 | hs9 <;> rw [hs9]
        · -- small 1
          refine x_if_eqF (tgt := 77) C (by decide) dX1_annual_70 rfl ?_
          refine x_iconst C dX1_annual_73 kc_1 ?_
          refine x_goto (tgt := 78) C dX1_annual_74 rfl ?_
          exact x_iret C dX1_annual_78 ⟨Nat.le_of_ble_eq_true rfl, Nat.le_of_ble_eq_true rfl⟩ ⟨⟨_, hBc29⟩, k26, by unfold qAnn; rw [if_pos (by unfold iY; rw [show pNow B = n by unfold pNow; rw [hn, dN_nI (by omega)]]; exact p3), if_pos (by decide), if_neg (by decide), if_neg (by decide), if_pos (show nI 2 = nI 2 from rfl), dN_nI (by omega), dN_nI (by omega)]; exact hs9⟩
        · -- small 0
          refine x_if_eqT (tgt := 77) C (by decide) dX1_annual_70 rfl ?_
          refine x_iconst C dX1_annual_77 kc_0 ?_
          exact x_iret C dX1_annual_78 ⟨Nat.le_of_ble_eq_true rfl, Nat.le_of_ble_eq_true rfl⟩ ⟨⟨_, hBc29⟩, k26, by unfold qAnn; rw [if_pos (by unfold iY; rw [show pNow B = n by unfold pNow; rw [hn, dN_nI (by omega)]]; exact p3), if_pos (by decide), if_neg (by decide), if_neg (by decide), if_pos (show nI 2 = nI 2 from rfl), dN_nI (by omega), dN_nI (by omega)]; exact hs9⟩
      · -- case 3
        refine x_tableIn (off := 65) (tgt := 79) C dX1_annual_14 (by decide +kernel) (by decide +kernel) (by decide +kernel) rfl ?_
        refine x_aload_n C dX1_annual_79 rfl rfl ?_
        refine x_get C gcX1 hx 5 rfl q1257 rfl dX1_annual_80 ?_
        refine x_iload_n C dX1_annual_83 rfl rfl ?_
        refine x_iload_n C dX1_annual_84 rfl rfl ?_
        refine x_V2I C (met_X6_backOfYear l C.1 hBC hX hT hr4 hrx hrt hw hn hn6 (by omega) (by omega) hq hh hrb) mi_X6_backOfYear q2085 gcX6 hb0 ⟨rfl, rfl⟩ rfl ⟨Nat.le_of_ble_eq_true rfl, Nat.le_of_ble_eq_true rfl⟩ rfl dX1_annual_85 (fun r35 M34 hr => ?_)
        obtain ⟨hb36, k37, rfl⟩ := hr
        have hBc38 := hBC.year (Z' := (pYS B k_t k_y)) hb36.2.2.2.2.2.2.2 k37
        have hf41 := hBC.fl10 ⟨_, hBc38⟩ k37
        have hXc39 := hX.k10 hf41 hr4 hrx
        have hTc40 := hT.k10 hf41 hrt
        obtain ⟨⟨vshBc38, hx0hBc38⟩, ⟨wqhBc38, hwlhBc38, hwqhBc38⟩, ⟨mqhBc38, hmlhBc38, hmqhBc38⟩, hWYhBc38, hMThBc38⟩ := id hXc39
        have ht0hBc38 : M34 tx = some ((rt, 0), .inr (20, [.ref (ta 1), .ref (ta 2), .ref (ta 3), .ref (ta 4), .int (A 6 0), .int (A 6 1), .int (A 6 2), .int (A 6 3), .int ln])) := hTc40.1
        rw [hwk] at ht0hBc38
        have hb0hBc38 := hBc38.1
        rw [hn] at hb0hBc38
        obtain ⟨jwhBc38, awhBc38, hwchBc38, -⟩ := hWYhBc38 wk (by omega)
        have hxd42 := hf41.keep hx (fun e => hrx (congrArg Prod.fst e).symm)
        refine x_aload_n C dX1_annual_88 rfl rfl ?_
        refine x_get C gcX1 hxd42 5 rfl q1257 rfl dX1_annual_89 ?_
        refine x_iload_n C dX1_annual_92 rfl rfl ?_
        refine x_iload_n C dX1_annual_93 rfl rfl ?_
        refine x_V2I C (met_X6_bookedIn l C.1 hBc38 hXc39 hTc40 hr4 hrx hrt hw hn hn6 (by omega) (by omega)) mi_X6_bookedIn q2098 gcX6 hb0hBc38 ⟨rfl, rfl⟩ rfl ⟨Nat.le_of_ble_eq_true rfl, Nat.le_of_ble_eq_true rfl⟩ rfl dX1_annual_94 (fun r44 M43 hr => ?_)
        obtain ⟨hr, rfl⟩ := hr
        rw [hr]
        refine x_isub C dX1_annual_97 ?_
        exact x_iret C dX1_annual_98 ⟨Nat.le_of_ble_eq_true rfl, Nat.le_of_ble_eq_true rfl⟩ ⟨⟨_, hBc38⟩, k37, by unfold qAnn; rw [if_pos (by unfold iY; rw [show pNow B = n by unfold pNow; rw [hn, dN_nI (by omega)]]; exact p3), if_pos (by decide), if_neg (by decide), if_neg (by decide), if_neg (by decide), dN_nI (by omega), dN_nI (by omega)]; rw [pBin_K hz (by omega) (by omega) (by omega)]⟩
    · -- out
      refine x_tableOut (tgt := 99) C dX1_annual_14 h14 rfl ?_
      refine x_ldcw C dX1_annual_99 q2080 ?_
      exact x_iret C dX1_annual_102 ⟨Nat.le_of_ble_eq_true rfl, Nat.le_of_ble_eq_true rfl⟩ ⟨⟨_, hBC⟩, fun _ _ => rfl, by unfold qAnn; rw [if_pos (by unfold iY; rw [show pNow B = n by unfold pNow; rw [hn, dN_nI (by omega)]]; exact p3), if_neg (tab_no (by omega) h14)]⟩
  · -- 3 0
    rw [hr]
    refine x_if_neF (tgt := 13) C (by decide) dX1_annual_6 rfl ?_
    refine x_ldcw C dX1_annual_9 q2080 ?_
    exact x_iret C dX1_annual_12 ⟨Nat.le_of_ble_eq_true rfl, Nat.le_of_ble_eq_true rfl⟩ ⟨⟨_, hBC⟩, fun _ _ => rfl, by unfold qAnn; rw [if_neg (by unfold iY; rw [show pNow B = n by unfold pNow; rw [hn, dN_nI (by omega)]]; exact p3)]⟩
