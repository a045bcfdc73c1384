set_option maxRecDepth 100000
theorem mi_J0_floorDiv : gMS yJ0_floorDiv cJ0_floorDiv 6 (some .long) 2 := ⟨q193, q125, q194, by decide +kernel⟩
set_option maxHeartbeats 4000000 in
set_option maxRecDepth 100000 in
theorem met_J0_floorDiv (l : Launch) {G : gG} (hG : gOK G) {M0 : gM} {a b : Int64} (hb : ¬ b = 0) : Met l yJ0_floorDiv (ws_ yJ0_floorDiv cJ0_floorDiv 6 (some .long)) ({ frames := 0, cells := 0, slots := 0, locals := 0 }) (gPre G M0 [.long (a), .long (b)]) (gQ G (gJ (fun r M1 => M1 = M0 ∧ pFD a b = r))) 0 0 (gA G) := by
  refine gMetF (L0 := [some (.long (a)), none, some (.long (b)), none, none, none]) RJ0 hG (by decide +kernel) rfl (Nat.le_of_ble_eq_true rfl) rfl ?_
  intro p e s m args below meth c C hnm hnm2
  refine x_lload_n C dJ0_floorDiv_0 rfl rfl ?_
  refine x_lload_n C dJ0_floorDiv_1 rfl rfl ?_
  refine x_ldiv C dJ0_floorDiv_2 (hb) ?_
  refine x_lstore C dJ0_floorDiv_3 (gs2_4 rfl) rfl ?_
  refine x_lload_n C dJ0_floorDiv_5 rfl rfl ?_
  refine x_lload_n C dJ0_floorDiv_6 rfl rfl ?_
  refine x_lxor C dJ0_floorDiv_7 ?_
  refine x_lconst (v := 0) C dJ0_floorDiv_8 rfl ?_
  refine x_lcmp C dJ0_floorDiv_9 ?_
  refine x_if_geL (tgt := 27) C dJ0_floorDiv_10 rfl (fun c10 => ?_) (fun c10 => ?_)
  · -- 27
    refine x_lload C dJ0_floorDiv_27 rfl ?_
    exact x_lret C dJ0_floorDiv_29 ⟨Nat.le_of_ble_eq_true rfl, Nat.le_of_ble_eq_true rfl⟩ ⟨rfl, by unfold pFD; rw [if_pos c10]⟩
  · -- 13
    refine x_lload C dJ0_floorDiv_13 rfl ?_
    refine x_lload_n C dJ0_floorDiv_15 rfl rfl ?_
    refine x_lmul C dJ0_floorDiv_16 ?_
    refine x_lload_n C dJ0_floorDiv_17 rfl rfl ?_
    refine x_lcmp C dJ0_floorDiv_18 ?_
    refine x_if_eqL (tgt := 27) C dJ0_floorDiv_19 rfl (fun c19 => ?_) (fun c19 => ?_)
    · -- 27
      refine x_lload C dJ0_floorDiv_27 rfl ?_
      exact x_lret C dJ0_floorDiv_29 ⟨Nat.le_of_ble_eq_true rfl, Nat.le_of_ble_eq_true rfl⟩ ⟨rfl, by unfold pFD; rw [if_neg c10, if_pos c19]⟩
    · -- 22
      refine x_lload C dJ0_floorDiv_22 rfl ?_
      refine x_lconst (v := 1) C dJ0_floorDiv_24 rfl ?_
      refine x_lsub C dJ0_floorDiv_25 ?_
      exact x_lret C dJ0_floorDiv_26 ⟨Nat.le_of_ble_eq_true rfl, Nat.le_of_ble_eq_true rfl⟩ ⟨rfl, by unfold pFD; rw [if_neg c10, if_neg c19]⟩
theorem mi_J0_max : gMS yJ0_max cJ0_max 2 (some .int) 2 := ⟨q440, q125, q441, by decide +kernel⟩
set_option maxHeartbeats 4000000 in
set_option maxRecDepth 100000 in
theorem met_J0_max (l : Launch) {G : gG} (hG : gOK G) {M0 : gM} {a b : Int32}  : Met l yJ0_max (ws_ yJ0_max cJ0_max 2 (some .int)) ({ frames := 0, cells := 0, slots := 0, locals := 0 }) (gPre G M0 [.int (a), .int (b)]) (gQ G (gI (fun r M1 => M1 = M0 ∧ pMax a b = r))) 0 0 (gA G) := by
  refine gMetF (L0 := [some (.int (a)), some (.int (b))]) RJ0 hG (by decide +kernel) rfl (Nat.le_of_ble_eq_true rfl) rfl ?_
  intro p e s m args below meth c C hnm hnm2
  refine x_iload_n C dJ0_max_0 rfl rfl ?_
  refine x_iload_n C dJ0_max_1 rfl rfl ?_
  refine x_icmp_lt (tgt := 9) C dJ0_max_2 rfl (fun c2 => ?_) (fun c2 => ?_)
  · -- 9
    refine x_iload_n C dJ0_max_9 rfl rfl ?_
    exact x_iret C dJ0_max_10 ⟨Nat.le_of_ble_eq_true rfl, Nat.le_of_ble_eq_true rfl⟩ ⟨rfl, by unfold pMax; rw [if_pos c2]⟩
  · -- 5
    refine x_iload_n C dJ0_max_5 rfl rfl ?_
    refine x_goto (tgt := 10) C dJ0_max_6 rfl ?_
    exact x_iret C dJ0_max_10 ⟨Nat.le_of_ble_eq_true rfl, Nat.le_of_ble_eq_true rfl⟩ ⟨rfl, by unfold pMax; rw [if_neg c2]⟩
theorem mi_J0_min : gMS yJ0_min cJ0_min 2 (some .int) 2 := ⟨q722, q125, q723, by decide +kernel⟩
set_option maxHeartbeats 4000000 in
set_option maxRecDepth 100000 in
theorem met_J0_min (l : Launch) {G : gG} (hG : gOK G) {M0 : gM} {a b : Int32}  : Met l yJ0_min (ws_ yJ0_min cJ0_min 2 (some .int)) ({ frames := 0, cells := 0, slots := 0, locals := 0 }) (gPre G M0 [.int (a), .int (b)]) (gQ G (gI (fun r M1 => M1 = M0 ∧ pMin a b = r))) 0 0 (gA G) := by
  refine gMetF (L0 := [some (.int (a)), some (.int (b))]) RJ0 hG (by decide +kernel) rfl (Nat.le_of_ble_eq_true rfl) rfl ?_
  intro p e s m args below meth c C hnm hnm2
  refine x_iload_n C dJ0_min_0 rfl rfl ?_
  refine x_iload_n C dJ0_min_1 rfl rfl ?_
  refine x_icmp_gt (tgt := 9) C dJ0_min_2 rfl (fun c2 => ?_) (fun c2 => ?_)
  · -- 9
    refine x_iload_n C dJ0_min_9 rfl rfl ?_
    exact x_iret C dJ0_min_10 ⟨Nat.le_of_ble_eq_true rfl, Nat.le_of_ble_eq_true rfl⟩ ⟨rfl, by unfold pMin; rw [if_pos c2]⟩
  · -- 5
    refine x_iload_n C dJ0_min_5 rfl rfl ?_
    refine x_goto (tgt := 10) C dJ0_min_6 rfl ?_
    exact x_iret C dJ0_min_10 ⟨Nat.le_of_ble_eq_true rfl, Nat.le_of_ble_eq_true rfl⟩ ⟨rfl, by unfold pMin; rw [if_neg c2]⟩
theorem mi_J0_abs : gMS yJ0_abs cJ0_abs 1 (some .int) 1 := ⟨q2287, q125, q2288, by decide +kernel⟩
set_option maxHeartbeats 4000000 in
set_option maxRecDepth 100000 in
theorem met_J0_abs (l : Launch) {G : gG} (hG : gOK G) {M0 : gM} {a : Int32}  : Met l yJ0_abs (ws_ yJ0_abs cJ0_abs 1 (some .int)) ({ frames := 0, cells := 0, slots := 0, locals := 0 }) (gPre G M0 [.int (a)]) (gQ G (gI (fun r M1 => M1 = M0 ∧ pAbs a = r))) 0 0 (gA G) := by
  refine gMetF (L0 := [some (.int (a))]) RJ0 hG (by decide +kernel) rfl (Nat.le_of_ble_eq_true rfl) rfl ?_
  intro p e s m args below meth c C hnm hnm2
  refine x_iload_n C dJ0_abs_0 rfl rfl ?_
  refine x_if_ge (tgt := 9) C dJ0_abs_1 rfl (fun c1 => ?_) (fun c1 => ?_)
  · -- 9
    refine x_iload_n C dJ0_abs_9 rfl rfl ?_
    exact x_iret C dJ0_abs_10 ⟨Nat.le_of_ble_eq_true rfl, Nat.le_of_ble_eq_true rfl⟩ ⟨rfl, by unfold pAbs; rw [if_pos c1]⟩
  · -- 4
    refine x_iload_n C dJ0_abs_4 rfl rfl ?_
    refine x_ineg C dJ0_abs_5 ?_
    refine x_goto (tgt := 10) C dJ0_abs_6 rfl ?_
    exact x_iret C dJ0_abs_10 ⟨Nat.le_of_ble_eq_true rfl, Nat.le_of_ble_eq_true rfl⟩ ⟨rfl, by unfold pAbs; rw [if_neg c1]⟩
theorem mi_J4_init : gMI yJ4_init cJ4_init 1 0 := ⟨q266, q129, q267, rfl, by decide +kernel⟩
set_option maxHeartbeats 4000000 in
set_option maxRecDepth 100000 in
theorem met_J4_init (l : Launch) {G : gG} (hG : gOK G) {M0 : gM} {a : Nat}  : Met l yJ4_init (ws_ yJ4_init cJ4_init 1 none) ({ frames := 1, cells := 0, slots := 0, locals := 12 }) (gPre G M0 [.ref (a)]) (gQ G (gV (fun M1 => M1 = M0))) 0 0 (gA G) := by
  refine gMet (L0 := [some (.ref (a))]) RJ4 hG (by decide +kernel) rfl (Nat.le_of_ble_eq_true rfl) rfl ?_
  intro p e s m args below meth c C hnm
  refine x_aload_n C dJ4_init_0 rfl rfl ?_
  refine x_objInit C q268 q182 q183 rfl dJ4_init_1 ?_
  exact x_vret C dJ4_init_4 ⟨Nat.le_of_ble_eq_true rfl, Nat.le_of_ble_eq_true rfl⟩ rfl
theorem mi_J9_init : gMI yJ9_init cJ9_init 1 0 := ⟨q364, q137, q365, rfl, by decide +kernel⟩
set_option maxHeartbeats 4000000 in
set_option maxRecDepth 100000 in
theorem met_J9_init (l : Launch) {G : gG} (hG : gOK G) {M0 : gM} {a : Nat} {lab : Nat × Nat} (h0 : M0 a = some (lab, .inr (2, [.int (nI 0), .int (nI 0), .null, .null]))) : Met l yJ9_init (ws_ yJ9_init cJ9_init 1 none) ({ frames := 2, cells := 0, slots := 0, locals := 32 }) (gPre G M0 [.ref (a)]) (gQ G (gV (fun M1 => M1 = M0))) 0 0 (gA G) := by
  refine gMet (L0 := [some (.ref (a))]) RJ9 hG (by decide +kernel) rfl (Nat.le_of_ble_eq_true rfl) rfl ?_
  intro p e s m args below meth c C hnm
  refine x_aload_n C dJ9_init_0 rfl rfl ?_
  refine x_I0 C (met_J4_init l C.1) mi_J4_init q366 ⟨rfl, rfl⟩ rfl ⟨Nat.le_of_ble_eq_true rfl, Nat.le_of_ble_eq_true rfl⟩ rfl dJ9_init_1 (fun M1 hr => ?_)
  rw [hr]
  refine x_aload_n C dJ9_init_4 rfl rfl ?_
  refine x_iconst C dJ9_init_5 kc_0 ?_
  refine y_put (fs' := [.int (nI 0), .int (nI 0), .null, .null]) C gcJ11 h0 0 rfl q371 rfl rfl rfl rfl rfl dJ9_init_6 (fun M2 h3 k4 => ?_)
  have k5 : ∀ q : Nat, q ≠ a → M2 q = M0 q := fun q z0 => k4 q z0
  exact x_vret C dJ9_init_9 ⟨Nat.le_of_ble_eq_true rfl, Nat.le_of_ble_eq_true rfl⟩ (gM_same h0 h3 k5)
theorem mi_J10_init : gMI yJ10_init cJ10_init 1 0 := ⟨q361, q138, q362, rfl, by decide +kernel⟩
set_option maxHeartbeats 4000000 in
set_option maxRecDepth 100000 in
theorem met_J10_init (l : Launch) {G : gG} (hG : gOK G) {M0 : gM} {a : Nat} {lab : Nat × Nat} (h0 : M0 a = some (lab, .inr (2, [.int (nI 0), .int (nI 0), .null, .null]))) : Met l yJ10_init (ws_ yJ10_init cJ10_init 1 none) ({ frames := 3, cells := 0, slots := 0, locals := 52 }) (gPre G M0 [.ref (a)]) (gQ G (gV (fun M1 => M1 = M0))) 0 0 (gA G) := by
  refine gMet (L0 := [some (.ref (a))]) RJ10 hG (by decide +kernel) rfl (Nat.le_of_ble_eq_true rfl) rfl ?_
  intro p e s m args below meth c C hnm
  refine x_aload_n C dJ10_init_0 rfl rfl ?_
  refine x_I0 C (met_J9_init l C.1 h0) mi_J9_init q363 ⟨rfl, rfl⟩ rfl ⟨Nat.le_of_ble_eq_true rfl, Nat.le_of_ble_eq_true rfl⟩ rfl dJ10_init_1 (fun M1 hr => ?_)
  rw [hr]
  exact x_vret C dJ10_init_4 ⟨Nat.le_of_ble_eq_true rfl, Nat.le_of_ble_eq_true rfl⟩ rfl
theorem mi_J11_init : gMI yJ11_init cJ11_init 1 0 := ⟨q358, q139, q359, rfl, by decide +kernel⟩
set_option maxHeartbeats 4000000 in
set_option maxRecDepth 100000 in
theorem met_J11_init (l : Launch) {G : gG} (hG : gOK G) {M0 : gM} {a : Nat} {lab : Nat × Nat} (h0 : M0 a = some (lab, .inr (2, [.int (nI 0), .int (nI 0), .null, .null]))) : Met l yJ11_init (ws_ yJ11_init cJ11_init 1 none) ({ frames := 4, cells := 0, slots := 0, locals := 72 }) (gPre G M0 [.ref (a)]) (gQ G (gV (fun M1 => M1 = M0))) 0 0 (gA G) := by
  refine gMet (L0 := [some (.ref (a))]) RJ11 hG (by decide +kernel) rfl (Nat.le_of_ble_eq_true rfl) rfl ?_
  intro p e s m args below meth c C hnm
  refine x_aload_n C dJ11_init_0 rfl rfl ?_
  refine x_I0 C (met_J10_init l C.1 h0) mi_J10_init q360 ⟨rfl, rfl⟩ rfl ⟨Nat.le_of_ble_eq_true rfl, Nat.le_of_ble_eq_true rfl⟩ rfl dJ11_init_1 (fun M1 hr => ?_)
  rw [hr]
  refine x_aload_n C dJ11_init_4 rfl rfl ?_
  refine x_iconst C dJ11_init_5 kc_0 ?_
  refine y_put (fs' := [.int (nI 0), .int (nI 0), .null, .null]) C gcJ11 h0 1 rfl q367 rfl rfl rfl rfl rfl dJ11_init_6 (fun M2 h3 k4 => ?_)
  have k5 : ∀ q : Nat, q ≠ a → M2 q = M0 q := fun q z0 => k4 q z0
  exact x_vret C dJ11_init_9 ⟨Nat.le_of_ble_eq_true rfl, Nat.le_of_ble_eq_true rfl⟩ (gM_same h0 h3 k5)
theorem mi_J30_init : gMI yJ30_init cJ30_init 4 3 := ⟨q1226, q164, q1227, rfl, by decide +kernel⟩
set_option maxHeartbeats 4000000 in
set_option maxRecDepth 100000 in
theorem met_J30_init (l : Launch) {G : gG} (hG : gOK G) {M0 : gM} {a x : Nat} {lab : Nat × Nat} {pv nx : Option Nat} (h0 : M0 a = some (lab, .inr (11, [.null, .null, .null]))) : Met l yJ30_init (ws_ yJ30_init cJ30_init 4 none) ({ frames := 1, cells := 0, slots := 0, locals := 12 }) (gPre G M0 [.ref (a), va_rf (pv), .ref (x), va_rf (nx)]) (gQ G (gV (fun M1 => M1 a = some (lab, .inr (11, [.ref x, va_rf nx, va_rf pv])) ∧ ∀ q, q ≠ a → M1 q = M0 q))) 0 0 (gA G) := by
  refine gMet (L0 := [some (.ref (a)), some (va_rf (pv)), some (.ref (x)), some (va_rf (nx))]) RJ30 hG (by decide +kernel) rfl (by cases pv <;> cases nx <;> exact Nat.le_of_ble_eq_true rfl) (by cases pv <;> cases nx <;> rfl) ?_
  intro p e s m args below meth c C hnm
  refine x_aload_n C dJ30_init_0 rfl rfl ?_
  refine x_objInit C q1228 q182 q183 rfl dJ30_init_1 ?_
  refine x_aload_n C dJ30_init_4 rfl rfl ?_
  refine x_aload_n C dJ30_init_5 rfl rfl ?_
  refine y_put (fs' := [.ref (x), .null, .null]) C gcJ30 h0 0 rfl q1229 rfl rfl rfl rfl rfl dJ30_init_6 (fun M1 h2 k3 => ?_)
  have k4 : ∀ q : Nat, q ≠ a → M1 q = M0 q := fun q z0 => k3 q z0
  refine x_aload_n C dJ30_init_9 rfl rfl ?_
  refine x_aload_nq C dJ30_init_10 rfl rfl ?_
  refine y_put (fs' := [.ref (x), va_rf (nx), .null]) C gcJ30 h2 1 rfl q1232 rfl (nar_rf _) (fit_rf _) rfl rfl dJ30_init_11 (fun M5 h6 k7 => ?_)
  have k8 : ∀ q : Nat, q ≠ a → M5 q = M0 q := fun q z0 => (k7 q z0).trans (k4 q z0)
  refine x_aload_n C dJ30_init_14 rfl rfl ?_
  refine x_aload_nq C dJ30_init_15 rfl rfl ?_
  refine y_put (fs' := [.ref (x), va_rf (nx), va_rf (pv)]) C gcJ30 h6 2 rfl q1235 rfl (nar_rf _) (fit_rf _) rfl rfl dJ30_init_16 (fun M9 h10 k11 => ?_)
  have k12 : ∀ q : Nat, q ≠ a → M9 q = M0 q := fun q z0 => (k11 q z0).trans (k8 q z0)
  exact x_vret C dJ30_init_19 ⟨Nat.le_of_ble_eq_true rfl, Nat.le_of_ble_eq_true rfl⟩ ⟨h10, k12⟩
theorem mi_J11_size : gMV RJ11 yJ11_size cJ11_size 1 (some .int) 0 := ⟨q584, q585, q139, q586, by decide +kernel⟩
set_option maxHeartbeats 4000000 in
set_option maxRecDepth 100000 in
theorem met_J11_size (l : Launch) {G : gG} (hG : gOK G) {M0 : gM} {l0 lN : Nat × Nat} {hd n : Nat} {mc : Int32} {nd it : Nat → Nat} (h : LL l0 lN hd n mc nd it M0) : Met l yJ11_size (ws_ yJ11_size cJ11_size 1 (some .int)) ({ frames := 0, cells := 0, slots := 0, locals := 0 }) (gPre G M0 [.ref (hd)]) (gQ G (gI (fun r M1 => M1 = M0 ∧ nI n = r))) 0 0 (gA G) := by
  refine gMet (L0 := [some (.ref (hd))]) RJ11 hG (by decide +kernel) rfl (Nat.le_of_ble_eq_true rfl) rfl ?_
  intro p e s m args below meth c C hnm
  refine x_aload_n C dJ11_size_0 rfl rfl ?_
  refine x_get C gcJ11 h.1 1 rfl q367 rfl dJ11_size_1 ?_
  exact x_iret C dJ11_size_4 ⟨Nat.le_of_ble_eq_true rfl, Nat.le_of_ble_eq_true rfl⟩ ⟨rfl, rfl⟩
theorem mi_J11_isElementIndex : gMV RJ11 yJ11_isElementIndex cJ11_isElementIndex 2 (some .boolean) 1 := ⟨q601, qs2, q139, q602, by decide +kernel⟩
set_option maxHeartbeats 4000000 in
set_option maxRecDepth 100000 in
theorem met_J11_isElementIndex (l : Launch) {G : gG} (hG : gOK G) {M0 : gM} {l0 lN : Nat × Nat} {hd n : Nat} {mc : Int32} {nd it : Nat → Nat} {i : Nat} (h : LL l0 lN hd n mc nd it M0) (hi : i < n) : Met l yJ11_isElementIndex (ws_ yJ11_isElementIndex cJ11_isElementIndex 2 (some .boolean)) ({ frames := 0, cells := 0, slots := 0, locals := 0 }) (gPre G M0 [.ref (hd), .int (nI i)]) (gQ G (gI (fun r M1 => M1 = M0 ∧ nI 1 = r))) 0 0 (gA G) := by
  refine gMet (L0 := [some (.ref (hd)), some (.int (nI i))]) RJ11 hG (by decide +kernel) rfl (Nat.le_of_ble_eq_true rfl) rfl ?_
  intro p e s m args below meth c C hnm
  have hnb := h.2.2.2.2
  refine x_iload_n C dJ11_isElementIndex_0 rfl rfl ?_
  refine x_if_ltF (tgt := 16) C (nI_pos (by omega)) dJ11_isElementIndex_1 rfl ?_
  refine x_iload_n C dJ11_isElementIndex_4 rfl rfl ?_
  refine x_aload_n C dJ11_isElementIndex_5 rfl rfl ?_
  refine x_get C gcJ11 h.1 1 rfl q367 rfl dJ11_isElementIndex_6 ?_
  refine x_icmp_geF (tgt := 16) C (nI_ge (by omega) (by omega)) dJ11_isElementIndex_9 rfl ?_
  refine x_iconst C dJ11_isElementIndex_12 kc_1 ?_
  refine x_goto (tgt := 17) C dJ11_isElementIndex_13 rfl ?_
  exact x_zret C (by decide +kernel) dJ11_isElementIndex_17 ⟨Nat.le_of_ble_eq_true rfl, Nat.le_of_ble_eq_true rfl⟩ ⟨rfl, rfl⟩
theorem mi_J11_isPositionIndex : gMV RJ11 yJ11_isPositionIndex cJ11_isPositionIndex 2 (some .boolean) 1 := ⟨q946, qs7, q139, q947, by decide +kernel⟩
set_option maxHeartbeats 4000000 in
set_option maxRecDepth 100000 in
theorem met_J11_isPositionIndex (l : Launch) {G : gG} (hG : gOK G) {M0 : gM} {l0 lN : Nat × Nat} {hd n : Nat} {mc : Int32} {nd it : Nat → Nat} {i : Nat} (h : LL l0 lN hd n mc nd it M0) (hi : i ≤ n) : Met l yJ11_isPositionIndex (ws_ yJ11_isPositionIndex cJ11_isPositionIndex 2 (some .boolean)) ({ frames := 0, cells := 0, slots := 0, locals := 0 }) (gPre G M0 [.ref (hd), .int (nI i)]) (gQ G (gI (fun r M1 => M1 = M0 ∧ nI 1 = r))) 0 0 (gA G) := by
  refine gMet (L0 := [some (.ref (hd)), some (.int (nI i))]) RJ11 hG (by decide +kernel) rfl (Nat.le_of_ble_eq_true rfl) rfl ?_
  intro p e s m args below meth c C hnm
  have hnb := h.2.2.2.2
  refine x_iload_n C dJ11_isPositionIndex_0 rfl rfl ?_
  refine x_if_ltF (tgt := 16) C (nI_pos (by omega)) dJ11_isPositionIndex_1 rfl ?_
  refine x_iload_n C dJ11_isPositionIndex_4 rfl rfl ?_
  refine x_aload_n C dJ11_isPositionIndex_5 rfl rfl ?_
  refine x_get C gcJ11 h.1 1 rfl q367 rfl dJ11_isPositionIndex_6 ?_
  refine x_icmp_gtF (tgt := 16) C (nI_nlt (by omega) (by omega)) dJ11_isPositionIndex_9 rfl ?_
  refine x_iconst C dJ11_isPositionIndex_12 kc_1 ?_
  refine x_goto (tgt := 17) C dJ11_isPositionIndex_13 rfl ?_
  exact x_zret C (by decide +kernel) dJ11_isPositionIndex_17 ⟨Nat.le_of_ble_eq_true rfl, Nat.le_of_ble_eq_true rfl⟩ ⟨rfl, rfl⟩
theorem mi_J11_checkElementIndex : gMV RJ11 yJ11_checkElementIndex cJ11_checkElementIndex 2 none 1 := ⟨q597, qs1, q139, q598, by decide +kernel⟩
set_option maxHeartbeats 4000000 in
set_option maxRecDepth 100000 in
theorem met_J11_checkElementIndex (l : Launch) {G : gG} (hG : gOK G) {M0 : gM} {l0 lN : Nat × Nat} {hd n : Nat} {mc : Int32} {nd it : Nat → Nat} {i : Nat} (h : LL l0 lN hd n mc nd it M0) (hi : i < n) : Met l yJ11_checkElementIndex (ws_ yJ11_checkElementIndex cJ11_checkElementIndex 2 none) ({ frames := 1, cells := 0, slots := 0, locals := 21 }) (gPre G M0 [.ref (hd), .int (nI i)]) (gQ G (gV (fun M1 => M1 = M0))) 0 0 (gA G) := by
  refine gMet (L0 := [some (.ref (hd)), some (.int (nI i))]) RJ11 hG (by decide +kernel) rfl (Nat.le_of_ble_eq_true rfl) rfl ?_
  intro p e s m args below meth c C hnm
  refine x_aload_n C dJ11_checkElementIndex_0 rfl rfl ?_
  refine x_iload_n C dJ11_checkElementIndex_1 rfl rfl ?_
  refine x_V1I C (met_J11_isElementIndex l C.1 h hi) mi_J11_isElementIndex q599 gcJ11 h.1 ⟨rfl, rfl⟩ rfl ⟨Nat.le_of_ble_eq_true rfl, Nat.le_of_ble_eq_true rfl⟩ rfl dJ11_checkElementIndex_2 (fun r2 M1 hr => ?_)
  obtain ⟨hr, rfl⟩ := hr
  rw [hr]
  refine x_if_neT (tgt := 21) C (by decide) dJ11_checkElementIndex_5 rfl ?_
  exact x_vret C dJ11_checkElementIndex_21 ⟨Nat.le_of_ble_eq_true rfl, Nat.le_of_ble_eq_true rfl⟩ rfl
theorem mi_J11_checkPositionIndex : gMV RJ11 yJ11_checkPositionIndex cJ11_checkPositionIndex 2 none 1 := ⟨q942, qs6, q139, q943, by decide +kernel⟩
set_option maxHeartbeats 4000000 in
set_option maxRecDepth 100000 in
theorem met_J11_checkPositionIndex (l : Launch) {G : gG} (hG : gOK G) {M0 : gM} {l0 lN : Nat × Nat} {hd n : Nat} {mc : Int32} {nd it : Nat → Nat} {i : Nat} (h : LL l0 lN hd n mc nd it M0) (hi : i ≤ n) : Met l yJ11_checkPositionIndex (ws_ yJ11_checkPositionIndex cJ11_checkPositionIndex 2 none) ({ frames := 1, cells := 0, slots := 0, locals := 21 }) (gPre G M0 [.ref (hd), .int (nI i)]) (gQ G (gV (fun M1 => M1 = M0))) 0 0 (gA G) := by
  refine gMet (L0 := [some (.ref (hd)), some (.int (nI i))]) RJ11 hG (by decide +kernel) rfl (Nat.le_of_ble_eq_true rfl) rfl ?_
  intro p e s m args below meth c C hnm
  refine x_aload_n C dJ11_checkPositionIndex_0 rfl rfl ?_
  refine x_iload_n C dJ11_checkPositionIndex_1 rfl rfl ?_
  refine x_V1I C (met_J11_isPositionIndex l C.1 h hi) mi_J11_isPositionIndex q944 gcJ11 h.1 ⟨rfl, rfl⟩ rfl ⟨Nat.le_of_ble_eq_true rfl, Nat.le_of_ble_eq_true rfl⟩ rfl dJ11_checkPositionIndex_2 (fun r2 M1 hr => ?_)
  obtain ⟨hr, rfl⟩ := hr
  rw [hr]
  refine x_if_neT (tgt := 21) C (by decide) dJ11_checkPositionIndex_5 rfl ?_
  exact x_vret C dJ11_checkPositionIndex_21 ⟨Nat.le_of_ble_eq_true rfl, Nat.le_of_ble_eq_true rfl⟩ rfl
theorem mi_J11_node : gMV RJ11 yJ11_node cJ11_node 4 (some (.object "java/util/LinkedList$Node")) 1 := ⟨q913, q914, q139, q915, by decide +kernel⟩
set_option maxHeartbeats 4000000 in
set_option maxRecDepth 100000 in
theorem met_J11_node (l : Launch) {G : gG} (hG : gOK G) {M0 : gM} {l0 lN : Nat × Nat} {hd n : Nat} {mc : Int32} {nd it : Nat → Nat} {i : Nat} (h : LL l0 lN hd n mc nd it M0) (hi : i < n) : Met l yJ11_node (ws_ yJ11_node cJ11_node 4 (some (.object "java/util/LinkedList$Node"))) ({ frames := 0, cells := 0, slots := 0, locals := 0 }) (gPre G M0 [.ref (hd), .int (nI i)]) (gQ G (gR (fun r M1 => M1 = M0 ∧ nd i = r))) 0 0 (gA G) := by
  refine gMet (L0 := [some (.ref (hd)), some (.int (nI i)), none, none]) RJ11 hG (by decide +kernel) rfl (Nat.le_of_ble_eq_true rfl) rfl ?_
  intro p e s m args below meth c C hnm
  have hnb := h.2.2.2.2
  have hp := h.hdr (by omega)
  refine x_iload_n C dJ11_node_0 rfl rfl ?_
  refine x_aload_n C dJ11_node_1 rfl rfl ?_
  refine x_get C gcJ11 hp 1 rfl q367 rfl dJ11_node_2 ?_
  refine x_iconst C dJ11_node_5 kc_1 ?_
  refine x_ishr C dJ11_node_6 ?_
  refine x_icmp_ge (tgt := 35) C dJ11_node_7 rfl (fun c7 => ?_) (fun c7 => ?_)
  · -- 35
    refine x_aload_n C dJ11_node_35 rfl rfl ?_
    refine x_get C gcJ11 hp 3 rfl q370 rfl dJ11_node_36 ?_
    refine x_astore_n C dJ11_node_39 rfl (gs1_2 rfl) rfl ?_
    refine x_aload_n C dJ11_node_40 rfl rfl ?_
    refine x_get C gcJ11 hp 1 rfl q367 rfl dJ11_node_41 ?_
    refine x_iconst C dJ11_node_44 kc_1 ?_
    refine x_isubN C (by omega) dJ11_node_45 ?_
    refine x_istore_n C dJ11_node_46 rfl (gs1_3 rfl) rfl ?_
    refine x_loop (head := 47) (E := n - 1 - i) (fun j M => M = M0) (fun j => [some (.ref hd), some (.int (nI i)), some (.ref (nd (n - 1 - j))), some (.int (nI (n - 1 - j)))]) rfl (fun j M hj hk ih => ?_)
    rw [hk]
    refine x_iload_n C dJ11_node_47 rfl rfl ?_
    refine x_iload_n C dJ11_node_48 rfl rfl ?_
    refine x_icmp_leN (tgt := 63) C (by omega) (by omega) dJ11_node_49 rfl (fun c49 => ?_) (fun c49 => ?_)
    · -- 63
      refine x_aload_n C dJ11_node_63 rfl rfl ?_
      exact x_aret C dJ11_node_64 ⟨Nat.le_of_ble_eq_true rfl, Nat.le_of_ble_eq_true rfl⟩ ⟨rfl, by rw [show n - 1 - j = i by omega]⟩
    · -- 52
      refine x_aload_n C dJ11_node_52 rfl rfl ?_
      refine x_get C gcJ30 (h.prv (i := n - 1 - j) (by omega) (by omega)) 2 rfl q1236 rfl dJ11_node_53 ?_
      refine x_astore_n C dJ11_node_56 rfl (gs1_2 rfl) rfl ?_
      refine x_iinc C dJ11_node_57 rfl (nI_dec (a := n - 1 - j) (by omega)) (gs1_3 rfl) rfl ?_
      refine x_goto (tgt := 47) C dJ11_node_60 rfl ?_
      rw [show n - 1 - j - 1 = n - 1 - (j + 1) by omega]
      exact ih (by omega) _ rfl
  · -- 10
    refine x_aload_n C dJ11_node_10 rfl rfl ?_
    refine x_get C gcJ11 hp 2 rfl q369 rfl dJ11_node_11 ?_
    refine x_astore_n C dJ11_node_14 rfl (gs1_2 rfl) rfl ?_
    refine x_iconst C dJ11_node_15 kc_0 ?_
    refine x_istore_n C dJ11_node_16 rfl (gs1_3 rfl) rfl ?_
    refine x_wk [true, true, true, true] rfl ?_
    refine x_loop (head := 17) (E := i) (fun j M => M = M0) (fun j => [some (.ref hd), some (.int (nI i)), some (.ref (nd j)), some (.int (nI j))]) rfl (fun j M hj hk ih => ?_)
    rw [hk]
    refine x_iload_n C dJ11_node_17 rfl rfl ?_
    refine x_iload_n C dJ11_node_18 rfl rfl ?_
    refine x_icmp_geN (tgt := 33) C (by omega) (by omega) dJ11_node_19 rfl (fun c19 => ?_) (fun c19 => ?_)
    · -- 33
      refine x_aload_n C dJ11_node_33 rfl rfl ?_
      exact x_aret C dJ11_node_34 ⟨Nat.le_of_ble_eq_true rfl, Nat.le_of_ble_eq_true rfl⟩ ⟨rfl, by rw [show j = i by omega]⟩
    · -- 22
      refine x_aload_n C dJ11_node_22 rfl rfl ?_
      refine x_get C gcJ30 (h.nxt (i := j) (by omega)) 1 rfl q1234 rfl dJ11_node_23 ?_
      refine x_astore_n C dJ11_node_26 rfl (gs1_2 rfl) rfl ?_
      refine x_iincN C dJ11_node_27 rfl (gs1_3 rfl) rfl ?_
      refine x_goto (tgt := 17) C dJ11_node_30 rfl ?_
      exact ih (by omega) _ rfl
theorem mi_J11_get : gMV RJ11 yJ11_get cJ11_get 2 (some (.object "java/lang/Object")) 1 := ⟨q592, q593, q139, q594, by decide +kernel⟩
set_option maxHeartbeats 4000000 in
set_option maxRecDepth 100000 in
theorem met_J11_get (l : Launch) {G : gG} (hG : gOK G) {M0 : gM} {l0 lN : Nat × Nat} {hd n : Nat} {mc : Int32} {nd it : Nat → Nat} {i : Nat} (h : LL l0 lN hd n mc nd it M0) (hi : i < n) : Met l yJ11_get (ws_ yJ11_get cJ11_get 2 (some (.object "java/lang/Object"))) ({ frames := 2, cells := 0, slots := 0, locals := 42 }) (gPre G M0 [.ref (hd), .int (nI i)]) (gQ G (gR (fun r M1 => M1 = M0 ∧ it i = r))) 0 0 (gA G) := by
  refine gMet (L0 := [some (.ref (hd)), some (.int (nI i))]) RJ11 hG (by decide +kernel) rfl (Nat.le_of_ble_eq_true rfl) rfl ?_
  intro p e s m args below meth c C hnm
  refine x_aload_n C dJ11_get_0 rfl rfl ?_
  refine x_iload_n C dJ11_get_1 rfl rfl ?_
  refine x_V1V C (met_J11_checkElementIndex l C.1 h hi) mi_J11_checkElementIndex q595 gcJ11 h.1 ⟨rfl, rfl⟩ rfl ⟨Nat.le_of_ble_eq_true rfl, Nat.le_of_ble_eq_true rfl⟩ rfl dJ11_get_2 (fun M1 hr => ?_)
  rw [hr]
  refine x_aload_n C dJ11_get_5 rfl rfl ?_
  refine x_iload_n C dJ11_get_6 rfl rfl ?_
  refine x_V1R C (met_J11_node l C.1 h hi) mi_J11_node q912 gcJ11 h.1 ⟨rfl, rfl⟩ rfl ⟨Nat.le_of_ble_eq_true rfl, Nat.le_of_ble_eq_true rfl⟩ rfl dJ11_get_7 (fun r3 M2 hr => ?_)
  obtain ⟨hr, rfl⟩ := hr
  rw [hr]
  refine x_get C gcJ30 (h.nod hi) 0 rfl q1231 rfl dJ11_get_10 ?_
  exact x_aret C dJ11_get_13 ⟨Nat.le_of_ble_eq_true rfl, Nat.le_of_ble_eq_true rfl⟩ ⟨rfl, rfl⟩
theorem mi_J11_linkLast : gMV RJ11 yJ11_linkLast cJ11_linkLast 4 none 1 := ⟨q1220, q1221, q139, q1222, by decide +kernel⟩
set_option maxHeartbeats 4000000 in
set_option maxRecDepth 100000 in
theorem met_J11_linkLast (l : Launch) {G : gG} (hG : gOK G) {M0 : gM} {l0 lN : Nat × Nat} {hd n : Nat} {mc : Int32} {nd it : Nat → Nat} {x : Nat} (h : LL l0 lN hd n mc nd it M0) (hb : n + 1 < 1000000) : Met l yJ11_linkLast (ws_ yJ11_linkLast cJ11_linkLast 4 none) ({ frames := 2, cells := 1, slots := 3, locals := 35 }) (gPre G M0 [.ref (hd), .ref (x)]) (gQ G (gV (fun M1 => ∃ nd' : Nat → Nat, (∀ i, i < n → nd' i = nd i) ∧ M0 (nd' n) = none ∧ LL l0 lN hd (n + 1) (mc + nI 1) nd' (fun i => if i = n then x else it i) M1 ∧ gFl (ro2 l0 lN) M0 M1))) 1 3 (gA G) := by
  refine gMet (L0 := [some (.ref (hd)), some (.ref (x)), none, none]) RJ11 hG (by decide +kernel) rfl (Nat.le_of_ble_eq_true rfl) rfl ?_
  intro p e s m args below meth c C hnm
  have hnb := h.2.2.2.2
  rcases Nat.eq_zero_or_pos n with hz | hz
  · -- empty
    have hp := h.hdr0 hz
    refine x_aload_n C dJ11_linkLast_0 rfl rfl ?_
    refine x_get C gcJ11 hp 3 rfl q370 rfl dJ11_linkLast_1 ?_
    refine x_astore_nN C dJ11_linkLast_4 rfl (gs1_2 rfl) rfl ?_
    refine y_new (fs := [.null, .null, .null]) C (fun a => lN) gcJ30 q1223 q1224 q164 rfl ⟨Nat.le_of_ble_eq_true rfl, Nat.le_of_ble_eq_true rfl⟩ dJ11_linkLast_5 (fun a1 M2 n3 g4 h5 k6 => ?_)
    have e7 : hd ≠ a1 := gM_nn hp n3
    have h8 := (k6 _ e7).trans hp
    have k9 : ∀ q : Nat, q ≠ a1 → M2 q = M0 q := fun q z0 => k6 q z0
    refine x_dup C dJ11_linkLast_8 rfl ?_
    refine x_aload_nN C dJ11_linkLast_9 rfl rfl ?_
    refine x_aload_n C dJ11_linkLast_10 rfl rfl ?_
    refine x_null C dJ11_linkLast_11 ?_
    refine x_I3 C (met_J30_init l C.1 (pv := none) (nx := none) h5) mi_J30_init q1225 ⟨rfl, rfl⟩ rfl ⟨Nat.le_of_ble_eq_true rfl, Nat.le_of_ble_eq_true rfl⟩ rfl dJ11_linkLast_12 (fun M10 hr => ?_)
    obtain ⟨h11, k12⟩ := hr
    have h13 := (k12 _ e7).trans h8
    have k14 : ∀ q : Nat, q ≠ a1 → M10 q = M0 q := fun q z0 => (k12 q z0).trans (k9 q z0)
    refine x_astore_n C dJ11_linkLast_15 rfl (gs1_3 rfl) rfl ?_
    refine x_aload_n C dJ11_linkLast_16 rfl rfl ?_
    refine x_aload_n C dJ11_linkLast_17 rfl rfl ?_
    refine y_put (fs' := [.int (mc), .int (nI n), .null, .ref (a1)]) C gcJ11 h13 3 rfl q370 rfl rfl rfl rfl rfl dJ11_linkLast_18 (fun M15 h16 k17 => ?_)
    have h18 := (k17 _ (Ne.symm e7)).trans h11
    have k19 : ∀ q : Nat, q ≠ a1 → q ≠ hd → M15 q = M0 q := fun q z0 z1 => (k17 q z1).trans (k14 q z0)
    refine x_aload_nN C dJ11_linkLast_21 rfl rfl ?_
    refine x_ifnonnullN C dJ11_linkLast_22 ?_
    refine x_aload_n C dJ11_linkLast_25 rfl rfl ?_
    refine x_aload_n C dJ11_linkLast_26 rfl rfl ?_
    refine y_put (fs' := [.int (mc), .int (nI n), .ref (a1), .ref (a1)]) C gcJ11 h16 2 rfl q369 rfl rfl rfl rfl rfl dJ11_linkLast_27 (fun M20 h21 k22 => ?_)
    have h23 := (k22 _ (Ne.symm e7)).trans h18
    have k24 : ∀ q : Nat, q ≠ a1 → q ≠ hd → M20 q = M0 q := fun q z0 z1 => (k22 q z1).trans (k19 q z0 z1)
    refine x_goto (tgt := 38) C dJ11_linkLast_30 rfl ?_
    refine x_aload_n C dJ11_linkLast_38 rfl rfl ?_
    refine x_dup C dJ11_linkLast_39 rfl ?_
    refine x_get C gcJ11 h21 1 rfl q367 rfl dJ11_linkLast_40 ?_
    refine x_iconst C dJ11_linkLast_43 kc_1 ?_
    refine x_iaddN C dJ11_linkLast_44 ?_
    refine y_put (fs' := [.int (mc), .int (nI (n + 1)), .ref (a1), .ref (a1)]) C gcJ11 h21 1 rfl q367 rfl rfl rfl rfl rfl dJ11_linkLast_45 (fun M25 h26 k27 => ?_)
    have h28 := (k27 _ (Ne.symm e7)).trans h23
    have k29 : ∀ q : Nat, q ≠ a1 → q ≠ hd → M25 q = M0 q := fun q z0 z1 => (k27 q z1).trans (k24 q z0 z1)
    refine x_aload_n C dJ11_linkLast_48 rfl rfl ?_
    refine x_dup C dJ11_linkLast_49 rfl ?_
    refine x_getS C gcJ11 h26 0 rfl q375 q373 rfl dJ11_linkLast_50 ?_
    refine x_iconst C dJ11_linkLast_53 kc_1 ?_
    refine x_iadd C dJ11_linkLast_54 ?_
    refine y_putS (fs' := [.int (mc + (nI 1)), .int (nI (n + 1)), .ref (a1), .ref (a1)]) C gcJ11 h26 0 rfl q375 q373 rfl rfl rfl rfl rfl dJ11_linkLast_55 (fun M30 h31 k32 => ?_)
    have h33 := (k32 _ (Ne.symm e7)).trans h28
    have k34 : ∀ q : Nat, q ≠ a1 → q ≠ hd → M30 q = M0 q := fun q z0 z1 => (k32 q z1).trans (k29 q z0 z1)
    subst hz
    obtain ⟨g1, g2⟩ := h.push (x := x) n3 (by omega) h31 h33 (fun q => absurd q (by omega)) (fun z a b _ => k34 z b a)
    exact x_vret C dJ11_linkLast_58 ⟨Nat.le_of_ble_eq_true rfl, Nat.le_of_ble_eq_true rfl⟩ ⟨_, fun i hi => if_neg (by omega), by rw [if_pos rfl]; exact n3, g1, g2⟩
  · -- not empty
    have hp := h.hdr hz
    have hq := h.lst (i := n - 1) (by omega)
    have hne := h.ne (i := n - 1) (by omega)
    refine x_aload_n C dJ11_linkLast_0 rfl rfl ?_
    refine x_get C gcJ11 hp 3 rfl q370 rfl dJ11_linkLast_1 ?_
    refine x_astore_n C dJ11_linkLast_4 rfl (gs1_2 rfl) rfl ?_
    refine y_new (fs := [.null, .null, .null]) C (fun a => lN) gcJ30 q1223 q1224 q164 rfl ⟨Nat.le_of_ble_eq_true rfl, Nat.le_of_ble_eq_true rfl⟩ dJ11_linkLast_5 (fun a35 M36 n37 g38 h39 k40 => ?_)
    have e41 : hd ≠ a35 := gM_nn hp n37
    have e42 : nd (n - 1) ≠ a35 := gM_nn hq n37
    have h43 := (k40 _ e41).trans hp
    have h44 := (k40 _ e42).trans hq
    have k45 : ∀ q : Nat, q ≠ a35 → M36 q = M0 q := fun q z0 => k40 q z0
    refine x_dup C dJ11_linkLast_8 rfl ?_
    refine x_aload_n C dJ11_linkLast_9 rfl rfl ?_
    refine x_aload_n C dJ11_linkLast_10 rfl rfl ?_
    refine x_null C dJ11_linkLast_11 ?_
    refine x_I3 C (met_J30_init l C.1 (pv := (some (nd (n - 1)))) (nx := none) h39) mi_J30_init q1225 ⟨rfl, rfl⟩ rfl ⟨Nat.le_of_ble_eq_true rfl, Nat.le_of_ble_eq_true rfl⟩ rfl dJ11_linkLast_12 (fun M46 hr => ?_)
    obtain ⟨h47, k48⟩ := hr
    have h49 := (k48 _ e41).trans h43
    have h50 := (k48 _ e42).trans h44
    have k51 : ∀ q : Nat, q ≠ a35 → M46 q = M0 q := fun q z0 => (k48 q z0).trans (k45 q z0)
    refine x_astore_n C dJ11_linkLast_15 rfl (gs1_3 rfl) rfl ?_
    refine x_aload_n C dJ11_linkLast_16 rfl rfl ?_
    refine x_aload_n C dJ11_linkLast_17 rfl rfl ?_
    refine y_put (fs' := [.int (mc), .int (nI n), .ref (nd 0), .ref (a35)]) C gcJ11 h49 3 rfl q370 rfl rfl rfl rfl rfl dJ11_linkLast_18 (fun M52 h53 k54 => ?_)
    have h55 := (k54 _ (Ne.symm hne)).trans h50
    have h56 := (k54 _ (Ne.symm e41)).trans h47
    have k57 : ∀ q : Nat, q ≠ a35 → q ≠ hd → M52 q = M0 q := fun q z0 z1 => (k54 q z1).trans (k51 q z0)
    refine x_aload_n C dJ11_linkLast_21 rfl rfl ?_
    refine x_ifnonnull (tgt := 33) C dJ11_linkLast_22 rfl ?_
    refine x_aload_n C dJ11_linkLast_33 rfl rfl ?_
    refine x_aload_n C dJ11_linkLast_34 rfl rfl ?_
    refine y_put (fs' := [.ref (it (n - 1)), .ref (a35), va_rf (if n - 1 = 0 then none else some (nd (n - 1 - 1)))]) C gcJ30 h55 1 rfl q1234 rfl rfl rfl rfl rfl dJ11_linkLast_35 (fun M58 h59 k60 => ?_)
    have h61 := (k60 _ hne).trans h53
    have h62 := (k60 _ (Ne.symm e42)).trans h56
    have k63 : ∀ q : Nat, q ≠ a35 → q ≠ hd → q ≠ nd (n - 1) → M58 q = M0 q := fun q z0 z1 z2 => (k60 q z2).trans (k57 q z0 z1)
    refine x_aload_n C dJ11_linkLast_38 rfl rfl ?_
    refine x_dup C dJ11_linkLast_39 rfl ?_
    refine x_get C gcJ11 h61 1 rfl q367 rfl dJ11_linkLast_40 ?_
    refine x_iconst C dJ11_linkLast_43 kc_1 ?_
    refine x_iaddN C dJ11_linkLast_44 ?_
    refine y_put (fs' := [.int (mc), .int (nI (n + 1)), .ref (nd 0), .ref (a35)]) C gcJ11 h61 1 rfl q367 rfl rfl rfl rfl rfl dJ11_linkLast_45 (fun M64 h65 k66 => ?_)
    have h67 := (k66 _ (Ne.symm hne)).trans h59
    have h68 := (k66 _ (Ne.symm e41)).trans h62
    have k69 : ∀ q : Nat, q ≠ a35 → q ≠ hd → q ≠ nd (n - 1) → M64 q = M0 q := fun q z0 z1 z2 => (k66 q z1).trans (k63 q z0 z1 z2)
    refine x_aload_n C dJ11_linkLast_48 rfl rfl ?_
    refine x_dup C dJ11_linkLast_49 rfl ?_
    refine x_getS C gcJ11 h65 0 rfl q375 q373 rfl dJ11_linkLast_50 ?_
    refine x_iconst C dJ11_linkLast_53 kc_1 ?_
    refine x_iadd C dJ11_linkLast_54 ?_
    refine y_putS (fs' := [.int (mc + (nI 1)), .int (nI (n + 1)), .ref (nd 0), .ref (a35)]) C gcJ11 h65 0 rfl q375 q373 rfl rfl rfl rfl rfl dJ11_linkLast_55 (fun M70 h71 k72 => ?_)
    have h73 := (k72 _ (Ne.symm hne)).trans h67
    have h74 := (k72 _ (Ne.symm e41)).trans h68
    have k75 : ∀ q : Nat, q ≠ a35 → q ≠ hd → q ≠ nd (n - 1) → M70 q = M0 q := fun q z0 z1 z2 => (k72 q z1).trans (k69 q z0 z1 z2)
    obtain ⟨g1, g2⟩ := h.push (x := x) n37 (by omega) (by rw [if_neg (show ¬ n = 0 by omega)]; exact h71) (by rw [if_neg (show ¬ n = 0 by omega)]; exact h74) (fun _ => h73) (fun z a b e => k75 z b a (e hz))
    exact x_vret C dJ11_linkLast_58 ⟨Nat.le_of_ble_eq_true rfl, Nat.le_of_ble_eq_true rfl⟩ ⟨_, fun i hi => if_neg (by omega), by rw [if_pos rfl]; exact n37, g1, g2⟩
theorem mi_J11_addLast : gMV RJ11 yJ11_addLast cJ11_addLast 2 none 1 := ⟨q1776, q1777, q139, q1778, by decide +kernel⟩
set_option maxHeartbeats 4000000 in
set_option maxRecDepth 100000 in
theorem met_J11_addLast (l : Launch) {G : gG} (hG : gOK G) {M0 : gM} {l0 lN : Nat × Nat} {hd n : Nat} {mc : Int32} {nd it : Nat → Nat} {x : Nat} (h : LL l0 lN hd n mc nd it M0) (hb : n + 1 < 1000000) : Met l yJ11_addLast (ws_ yJ11_addLast cJ11_addLast 2 none) ({ frames := 3, cells := 1, slots := 3, locals := 58 }) (gPre G M0 [.ref (hd), .ref (x)]) (gQ G (gV (fun M1 => ∃ nd' : Nat → Nat, (∀ i, i < n → nd' i = nd i) ∧ M0 (nd' n) = none ∧ LL l0 lN hd (n + 1) (mc + nI 1) nd' (fun i => if i = n then x else it i) M1 ∧ gFl (ro2 l0 lN) M0 M1))) 1 3 (gA G) := by
  refine gMet (L0 := [some (.ref (hd)), some (.ref (x))]) RJ11 hG (by decide +kernel) rfl (Nat.le_of_ble_eq_true rfl) rfl ?_
  intro p e s m args below meth c C hnm
  refine x_aload_n C dJ11_addLast_0 rfl rfl ?_
  refine x_aload_n C dJ11_addLast_1 rfl rfl ?_
  refine x_V1V C (met_J11_linkLast l C.1 h (by omega)) mi_J11_linkLast q1219 gcJ11 h.1 ⟨rfl, rfl⟩ rfl ⟨Nat.le_of_ble_eq_true rfl, Nat.le_of_ble_eq_true rfl⟩ rfl dJ11_addLast_2 (fun M1 hr => ?_)
  exact x_vret C dJ11_addLast_5 ⟨Nat.le_of_ble_eq_true rfl, Nat.le_of_ble_eq_true rfl⟩ hr
theorem mi_J11_add : gMV RJ11 yJ11_add cJ11_add 2 (some .boolean) 1 := ⟨q1216, q1217, q139, q1218, by decide +kernel⟩
set_option maxHeartbeats 4000000 in
set_option maxRecDepth 100000 in
theorem met_J11_add (l : Launch) {G : gG} (hG : gOK G) {M0 : gM} {l0 lN : Nat × Nat} {hd n : Nat} {mc : Int32} {nd it : Nat → Nat} {x : Nat} (h : LL l0 lN hd n mc nd it M0) (hb : n + 1 < 1000000) : Met l yJ11_add (ws_ yJ11_add cJ11_add 2 (some .boolean)) ({ frames := 3, cells := 1, slots := 3, locals := 58 }) (gPre G M0 [.ref (hd), .ref (x)]) (gQ G (gI (fun r M1 => nI 1 = r ∧ ∃ nd' : Nat → Nat, (∀ i, i < n → nd' i = nd i) ∧ M0 (nd' n) = none ∧ LL l0 lN hd (n + 1) (mc + nI 1) nd' (fun i => if i = n then x else it i) M1 ∧ gFl (ro2 l0 lN) M0 M1))) 1 3 (gA G) := by
  refine gMet (L0 := [some (.ref (hd)), some (.ref (x))]) RJ11 hG (by decide +kernel) rfl (Nat.le_of_ble_eq_true rfl) rfl ?_
  intro p e s m args below meth c C hnm
  refine x_aload_n C dJ11_add_0 rfl rfl ?_
  refine x_aload_n C dJ11_add_1 rfl rfl ?_
  refine x_V1V C (met_J11_linkLast l C.1 h (by omega)) mi_J11_linkLast q1219 gcJ11 h.1 ⟨rfl, rfl⟩ rfl ⟨Nat.le_of_ble_eq_true rfl, Nat.le_of_ble_eq_true rfl⟩ rfl dJ11_add_2 (fun M1 hr => ?_)
  refine x_iconst C dJ11_add_5 kc_1 ?_
  exact x_zret C (by decide +kernel) dJ11_add_6 ⟨Nat.le_of_ble_eq_true rfl, Nat.le_of_ble_eq_true rfl⟩ ⟨rfl, hr⟩
