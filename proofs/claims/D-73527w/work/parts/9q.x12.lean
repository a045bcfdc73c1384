set_option maxRecDepth 100000
theorem mi_X1_in : gMS yX1_in cX1_in 6 (some .boolean) 3 := ⟨q1309, q123, q1310, by decide +kernel⟩
set_option maxHeartbeats 4000000 in
set_option maxRecDepth 100000 in
theorem met_X1_in (l : Launch) {G : gG} (hG : gOK G) {M0 : gM} {v lo hi : Int64}  : Met l yX1_in (ws_ yX1_in cX1_in 6 (some .boolean)) ({ frames := 0, cells := 0, slots := 0, locals := 0 }) (gPre G M0 [.long (v), .long (lo), .long (hi)]) (gQ G (gI (fun r9 M1 => (M1 = M0 ∧ nI 1 = r9 ∧ (lo ≤ v ∧ v ≤ hi)) ∨ (M1 = M0 ∧ nI 0 = r9 ∧ ¬ (lo ≤ v ∧ v ≤ hi))))) 0 0 (gA G) := by
  refine gMet (L0 := [some (.long (v)), none, some (.long (lo)), none, some (.long (hi)), none]) RX1 hG (by decide +kernel) rfl (Nat.le_of_ble_eq_true rfl) rfl ?_
  intro p e s m args below meth c C hnm
  refine x_lload_n C dX1_in_0 rfl rfl ?_
  refine x_lload_n C dX1_in_1 rfl rfl ?_
  refine x_lcmp C dX1_in_2 ?_
  refine x_if_ltL (tgt := 17) C dX1_in_3 rfl (fun c3 => ?_) (fun c3 => ?_)
  · -- 17
    refine x_iconst C dX1_in_17 kc_0 ?_
    exact x_zret C (by decide +kernel) dX1_in_18 ⟨Nat.le_of_ble_eq_true rfl, Nat.le_of_ble_eq_true rfl⟩ (Or.inr ⟨rfl, rfl, fun q => absurd c3 (i64_nlt' q.1)⟩)
  · -- 6
    refine x_lload_n C dX1_in_6 rfl rfl ?_
    refine x_lload C dX1_in_7 rfl ?_
    refine x_lcmp C dX1_in_9 ?_
    refine x_if_gtL (tgt := 17) C dX1_in_10 rfl (fun c10 => ?_) (fun c10 => ?_)
    · -- 17
      refine x_iconst C dX1_in_17 kc_0 ?_
      exact x_zret C (by decide +kernel) dX1_in_18 ⟨Nat.le_of_ble_eq_true rfl, Nat.le_of_ble_eq_true rfl⟩ (Or.inr ⟨rfl, rfl, fun q => absurd c10 (i64_nlt' q.2)⟩)
    · -- 13
      refine x_iconst C dX1_in_13 kc_1 ?_
      refine x_goto (tgt := 18) C dX1_in_14 rfl ?_
      exact x_zret C (by decide +kernel) dX1_in_18 ⟨Nat.le_of_ble_eq_true rfl, Nat.le_of_ble_eq_true rfl⟩ (Or.inl ⟨rfl, rfl, i64_nlt c3, i64_nlt c10⟩)
theorem mi_X1_isIntervals : gMS yX1_isIntervals cX1_isIntervals 1 (some .boolean) 1 := ⟨q1531, q123, q1532, by decide +kernel⟩
set_option maxHeartbeats 4000000 in
set_option maxRecDepth 100000 in
theorem met_X1_isIntervals (l : Launch) {G : gG} (hG : gOK G) {M0 : gM} {v : Int32}  : Met l yX1_isIntervals (ws_ yX1_isIntervals cX1_isIntervals 1 (some .boolean)) ({ frames := 0, cells := 0, slots := 0, locals := 0 }) (gPre G M0 [.int (v)]) (gQ G (gI (fun r9 M1 => (M1 = M0 ∧ nI 1 = r9 ∧ (v = nI 5 ∨ v = nI 10)) ∨ (M1 = M0 ∧ nI 0 = r9 ∧ ¬ (v = nI 5 ∨ v = nI 10))))) 0 0 (gA G) := by
  refine gMet (L0 := [some (.int (v))]) RX1 hG (by decide +kernel) rfl (Nat.le_of_ble_eq_true rfl) rfl ?_
  intro p e s m args below meth c C hnm
  refine x_iload_n C dX1_isIntervals_0 rfl rfl ?_
  refine x_iconst C dX1_isIntervals_1 kc_5 ?_
  refine x_icmp_eq (tgt := 11) C dX1_isIntervals_2 rfl (fun c2 => ?_) (fun c2 => ?_)
  · -- 11
    refine x_iconst C dX1_isIntervals_11 kc_1 ?_
    refine x_goto (tgt := 16) C dX1_isIntervals_12 rfl ?_
    exact x_zret C (by decide +kernel) dX1_isIntervals_16 ⟨Nat.le_of_ble_eq_true rfl, Nat.le_of_ble_eq_true rfl⟩ (Or.inl ⟨rfl, rfl, Or.inl c2⟩)
  · -- 5
    refine x_iload_n C dX1_isIntervals_5 rfl rfl ?_
    refine x_bipush C dX1_isIntervals_6 kb_10 ?_
    refine x_icmp_ne (tgt := 15) C dX1_isIntervals_8 rfl (fun c8 => ?_) (fun c8 => ?_)
    · -- 15
      refine x_iconst C dX1_isIntervals_15 kc_0 ?_
      exact x_zret C (by decide +kernel) dX1_isIntervals_16 ⟨Nat.le_of_ble_eq_true rfl, Nat.le_of_ble_eq_true rfl⟩ (Or.inr ⟨rfl, rfl, fun q => q.elim c2 c8⟩)
    · -- 11
      refine x_iconst C dX1_isIntervals_11 kc_1 ?_
      refine x_goto (tgt := 16) C dX1_isIntervals_12 rfl ?_
      exact x_zret C (by decide +kernel) dX1_isIntervals_16 ⟨Nat.le_of_ble_eq_true rfl, Nat.le_of_ble_eq_true rfl⟩ (Or.inl ⟨rfl, rfl, Or.inr c8⟩)
theorem mi_X1_isQuarter : gMS yX1_isQuarter cX1_isQuarter 1 (some .boolean) 1 := ⟨q2056, q123, q2057, by decide +kernel⟩
set_option maxHeartbeats 4000000 in
set_option maxRecDepth 100000 in
theorem met_X1_isQuarter (l : Launch) {G : gG} (hG : gOK G) {M0 : gM} {v : Int32}  : Met l yX1_isQuarter (ws_ yX1_isQuarter cX1_isQuarter 1 (some .boolean)) ({ frames := 1, cells := 0, slots := 0, locals := 25 }) (gPre G M0 [.int (v)]) (gQ G (gI (fun r9 M1 => (M1 = M0 ∧ nI 1 = r9 ∧ (0 ≤ v.toInt64 ∧ v.toInt64 ≤ 63)) ∨ (M1 = M0 ∧ nI 0 = r9 ∧ ¬ (0 ≤ v.toInt64 ∧ v.toInt64 ≤ 63))))) 0 0 (gA G) := by
  refine gMet (L0 := [some (.int (v))]) RX1 hG (by decide +kernel) rfl (Nat.le_of_ble_eq_true rfl) rfl ?_
  intro p e s m args below meth c C hnm
  refine x_iload_n C dX1_isQuarter_0 rfl rfl ?_
  refine x_i2l C dX1_isQuarter_1 ?_
  refine x_lconst (v := 0) C dX1_isQuarter_2 rfl ?_
  refine x_ldc2 C dX1_isQuarter_3 q2058 ?_
  refine x_S3I C (met_X1_in l C.1) mi_X1_in q1308 ⟨rfl, rfl⟩ rfl ⟨Nat.le_of_ble_eq_true rfl, Nat.le_of_ble_eq_true rfl⟩ rfl dX1_isQuarter_6 (fun r2 M1 hr => ?_)
  rcases hr with ⟨hr, rfl, p6⟩ | ⟨hr, rfl, p6⟩
  · -- small 1
    rw [hr]
    exact x_zret C (by decide +kernel) dX1_isQuarter_9 ⟨Nat.le_of_ble_eq_true rfl, Nat.le_of_ble_eq_true rfl⟩ (Or.inl ⟨rfl, rfl, p6⟩)
  · -- small 0
    rw [hr]
    exact x_zret C (by decide +kernel) dX1_isQuarter_9 ⟨Nat.le_of_ble_eq_true rfl, Nat.le_of_ble_eq_true rfl⟩ (Or.inr ⟨rfl, rfl, p6⟩)
theorem mi_X1_isYear : gMS yX1_isYear cX1_isYear 1 (some .boolean) 1 := ⟨q2077, q123, q2078, by decide +kernel⟩
set_option maxHeartbeats 4000000 in
set_option maxRecDepth 100000 in
theorem met_X1_isYear (l : Launch) {G : gG} (hG : gOK G) {M0 : gM} {v : Int32}  : Met l yX1_isYear (ws_ yX1_isYear cX1_isYear 1 (some .boolean)) ({ frames := 1, cells := 0, slots := 0, locals := 25 }) (gPre G M0 [.int (v)]) (gQ G (gI (fun r9 M1 => (M1 = M0 ∧ nI 1 = r9 ∧ (0 ≤ v.toInt64 ∧ v.toInt64 ≤ 15)) ∨ (M1 = M0 ∧ nI 0 = r9 ∧ ¬ (0 ≤ v.toInt64 ∧ v.toInt64 ≤ 15))))) 0 0 (gA G) := by
  refine gMet (L0 := [some (.int (v))]) RX1 hG (by decide +kernel) rfl (Nat.le_of_ble_eq_true rfl) rfl ?_
  intro p e s m args below meth c C hnm
  refine x_iload_n C dX1_isYear_0 rfl rfl ?_
  refine x_i2l C dX1_isYear_1 ?_
  refine x_lconst (v := 0) C dX1_isYear_2 rfl ?_
  refine x_ldc2 C dX1_isYear_3 q2079 ?_
  refine x_S3I C (met_X1_in l C.1) mi_X1_in q1308 ⟨rfl, rfl⟩ rfl ⟨Nat.le_of_ble_eq_true rfl, Nat.le_of_ble_eq_true rfl⟩ rfl dX1_isYear_6 (fun r2 M1 hr => ?_)
  rcases hr with ⟨hr, rfl, p6⟩ | ⟨hr, rfl, p6⟩
  · -- small 1
    rw [hr]
    exact x_zret C (by decide +kernel) dX1_isYear_9 ⟨Nat.le_of_ble_eq_true rfl, Nat.le_of_ble_eq_true rfl⟩ (Or.inl ⟨rfl, rfl, p6⟩)
  · -- small 0
    rw [hr]
    exact x_zret C (by decide +kernel) dX1_isYear_9 ⟨Nat.le_of_ble_eq_true rfl, Nat.le_of_ble_eq_true rfl⟩ (Or.inr ⟨rfl, rfl, p6⟩)
theorem mi_X1_next : gMS yX1_next cX1_next 1 (some .int) 1 := ⟨q2278, q123, q2279, by decide +kernel⟩
set_option maxHeartbeats 4000000 in
set_option maxRecDepth 100000 in
theorem met_X1_next (l : Launch) {G : gG} (hG : gOK G) {M0 : gM} {v : Int32}  : Met l yX1_next (ws_ yX1_next cX1_next 1 (some .int)) ({ frames := 0, cells := 0, slots := 0, locals := 0 }) (gPre G M0 [.int (v)]) (gQ G (gI (fun r9 M1 => M1 = M0 ∧ ((v * nI 1103515245 + nI 12345) &&& nI 2147483647) = r9))) 0 0 (gA G) := by
  refine gMet (L0 := [some (.int (v))]) RX1 hG (by decide +kernel) rfl (Nat.le_of_ble_eq_true rfl) rfl ?_
  intro p e s m args below meth c C hnm
  refine x_iload_n C dX1_next_0 rfl rfl ?_
  refine x_ldc C dX1_next_1 q2280 ?_
  rw [show (1103515245 : Int32) = nI 1103515245 from by decide +kernel]
  refine x_imul C dX1_next_3 ?_
  refine x_sipush C dX1_next_4 ks_12345 ?_
  refine x_iadd C dX1_next_7 ?_
  refine x_ldc C dX1_next_8 q2281 ?_
  rw [show (2147483647 : Int32) = nI 2147483647 from by decide +kernel]
  refine x_iand C dX1_next_10 ?_
  exact x_iret C dX1_next_11 ⟨Nat.le_of_ble_eq_true rfl, Nat.le_of_ble_eq_true rfl⟩ ⟨rfl, rfl⟩
