set_option maxRecDepth 100000
theorem i64_nlt {x y : Int64} (h : ¬ y < x) : x ≤ y := Int64.not_lt.mp h
theorem i64_nlt' {x y : Int64} (h : x ≤ y) : ¬ y < x := Int64.not_lt.mpr h
theorem mi_X2_lambda_new_0 : gMS yX2_lambda_new_0 cX2_lambda_new_0 4 (some .long) 2 := ⟨q190, q124, q191, by decide +kernel⟩
set_option maxHeartbeats 4000000 in
set_option maxRecDepth 100000 in
theorem met_X2_lambda_new_0 (l : Launch) {G : gG} (hG : gOK G) {M0 : gM} {a b : Int64} (hb : 0 < b.toInt) (ha : bg a) (hb2 : bg b) : Met l yX2_lambda_new_0 (ws_ yX2_lambda_new_0 cX2_lambda_new_0 4 (some .long)) ({ frames := 1, cells := 0, slots := 0, locals := 25 }) (gPre G M0 [.long (a), .long (b)]) (gQ G (gJ (fun r M1 => M1 = M0 ∧ pCut (nI 0) a b = r))) 0 0 (gA G) := by
  refine gMet (L0 := [some (.long (a)), none, some (.long (b)), none]) RX2 hG (by decide +kernel) rfl (Nat.le_of_ble_eq_true rfl) rfl ?_
  intro p e s m args below meth c C hnm
  refine x_lload_n C dX2_lambda_new_0_0 rfl rfl ?_
  refine x_lload_n C dX2_lambda_new_0_1 rfl rfl ?_
  refine x_S2J C (met_J0_floorDiv l C.1 (nz_pos hb)) mi_J0_floorDiv q192 ⟨rfl, rfl⟩ rfl ⟨Nat.le_of_ble_eq_true rfl, Nat.le_of_ble_eq_true rfl⟩ rfl dX2_lambda_new_0_2 (fun r2 M1 hr => ?_)
  obtain ⟨hr, rfl⟩ := hr
  rw [hr]
  exact x_lret C dX2_lambda_new_0_5 ⟨Nat.le_of_ble_eq_true rfl, Nat.le_of_ble_eq_true rfl⟩ ⟨rfl, by rw [show nI 0 = 0 from rfl, pCut_0, pFD_quot hb]⟩
theorem mi_X2_lambda_new_1 : gMS yX2_lambda_new_1 cX2_lambda_new_1 4 (some .long) 2 := ⟨q195, q124, q196, by decide +kernel⟩
set_option maxHeartbeats 4000000 in
set_option maxRecDepth 100000 in
theorem met_X2_lambda_new_1 (l : Launch) {G : gG} (hG : gOK G) {M0 : gM} {a b : Int64} (hb : 0 < b.toInt) (ha : bg a) (hb2 : bg b) : Met l yX2_lambda_new_1 (ws_ yX2_lambda_new_1 cX2_lambda_new_1 4 (some .long)) ({ frames := 1, cells := 0, slots := 0, locals := 25 }) (gPre G M0 [.long (a), .long (b)]) (gQ G (gJ (fun r M1 => M1 = M0 ∧ pCut (nI 1) a b = r))) 0 0 (gA G) := by
  refine gMet (L0 := [some (.long (a)), none, some (.long (b)), none]) RX2 hG (by decide +kernel) rfl (Nat.le_of_ble_eq_true rfl) rfl ?_
  intro p e s m args below meth c C hnm
  refine x_lload_n C dX2_lambda_new_1_0 rfl rfl ?_
  refine x_lneg C dX2_lambda_new_1_1 ?_
  refine x_lload_n C dX2_lambda_new_1_2 rfl rfl ?_
  refine x_S2J C (met_J0_floorDiv l C.1 (nz_pos hb)) mi_J0_floorDiv q192 ⟨rfl, rfl⟩ rfl ⟨Nat.le_of_ble_eq_true rfl, Nat.le_of_ble_eq_true rfl⟩ rfl dX2_lambda_new_1_3 (fun r2 M1 hr => ?_)
  obtain ⟨hr, rfl⟩ := hr
  rw [hr]
  refine x_lneg C dX2_lambda_new_1_6 ?_
  exact x_lret C dX2_lambda_new_1_7 ⟨Nat.le_of_ble_eq_true rfl, Nat.le_of_ble_eq_true rfl⟩ ⟨rfl, by rw [pCut_1, pFD_quot hb]⟩
theorem mi_X2_lambda_new_2 : gMS yX2_lambda_new_2 cX2_lambda_new_2 4 (some .long) 2 := ⟨q197, q124, q198, by decide +kernel⟩
set_option maxHeartbeats 4000000 in
set_option maxRecDepth 100000 in
theorem met_X2_lambda_new_2 (l : Launch) {G : gG} (hG : gOK G) {M0 : gM} {a b : Int64} (hb : 0 < b.toInt) (ha : bg a) (hb2 : bg b) : Met l yX2_lambda_new_2 (ws_ yX2_lambda_new_2 cX2_lambda_new_2 4 (some .long)) ({ frames := 1, cells := 0, slots := 0, locals := 25 }) (gPre G M0 [.long (a), .long (b)]) (gQ G (gJ (fun r M1 => M1 = M0 ∧ pCut (nI 2) a b = r))) 0 0 (gA G) := by
  refine gMet (L0 := [some (.long (a)), none, some (.long (b)), none]) RX2 hG (by decide +kernel) rfl (Nat.le_of_ble_eq_true rfl) rfl ?_
  intro p e s m args below meth c C hnm
  refine x_ldc2 C dX2_lambda_new_2_0 q199 ?_
  refine x_lload_n C dX2_lambda_new_2_3 rfl rfl ?_
  refine x_lmul C dX2_lambda_new_2_4 ?_
  refine x_lload_n C dX2_lambda_new_2_5 rfl rfl ?_
  refine x_ladd C dX2_lambda_new_2_6 ?_
  refine x_ldc2 C dX2_lambda_new_2_7 q199 ?_
  refine x_lload_n C dX2_lambda_new_2_10 rfl rfl ?_
  refine x_lmul C dX2_lambda_new_2_11 ?_
  refine x_S2J C (met_J0_floorDiv l C.1 (nz_pos (nz_dbl hb hb2))) mi_J0_floorDiv q192 ⟨rfl, rfl⟩ rfl ⟨Nat.le_of_ble_eq_true rfl, Nat.le_of_ble_eq_true rfl⟩ rfl dX2_lambda_new_2_12 (fun r2 M1 hr => ?_)
  obtain ⟨hr, rfl⟩ := hr
  rw [hr]
  exact x_lret C dX2_lambda_new_2_15 ⟨Nat.le_of_ble_eq_true rfl, Nat.le_of_ble_eq_true rfl⟩ ⟨rfl, by rw [pCut_2, pFD_quot (nz_dbl hb hb2)]⟩
theorem mi_X2_init : gMI yX2_init cX2_init 2 1 := ⟨q187, q124, q188, rfl, by decide +kernel⟩
set_option maxHeartbeats 4000000 in
set_option maxRecDepth 100000 in
theorem met_X2_init (l : Launch) {G : gG} (hG : gOK G) {M0 : gM} {a j k : Nat} (hk : k < 3) (h0 : M0 a = some ((1, j), .inr (17, [.null]))) : Met l yX2_init (ws_ yX2_init cX2_init 2 none) ({ frames := 1, cells := 0, slots := 0, locals := 3080 }) (gPre G M0 [.ref (a), .int (nI k)]) (gQ G (gV (fun M1 => WY G k a M1 ∧ ∀ z, z ≠ a → M1 z = M0 z))) 0 0 (gA G) := by
  refine gMetF (L0 := [some (.ref (a)), some (.int (nI k))]) RX2 hG (by decide +kernel) rfl (Nat.le_of_ble_eq_true rfl) rfl ?_
  intro p e s m args below meth c C hnm hnm2
  rcases (by omega : k = 0 ∨ k = 1 ∨ k = 2) with rfl | rfl | rfl
  · -- way 0
    refine x_aload_n C dX2_init_0 rfl rfl ?_
    refine x_objInit C q189 q182 q183 rfl dX2_init_1 ?_
    refine x_iload_n C dX2_init_4 rfl rfl ?_
    refine x_lookup (off := 27) (tgt := 32) C dX2_init_5 (by decide +kernel) (by decide +kernel) rfl ?_
    refine x_aload_n C dX2_init_32 rfl rfl ?_
    obtain ⟨b33, hb33⟩ := gW0_of C.1
    refine x_indy C hnm2 hb33 rfl dX2_init_33 ?_
    refine y_putF (fs' := [.ref (b33)]) C (hnm rfl) gcX2 h0 0 rfl q200 rfl rfl rfl rfl rfl rfl dX2_init_38 (fun M1 h2 k3 => ?_)
    have k4 : ∀ zz : Nat, zz ≠ a → M1 zz = M0 zz := fun zz z0 => k3 zz z0
    refine x_goto (tgt := 65) C dX2_init_41 rfl ?_
    exact x_vret C dX2_init_65 ⟨Nat.le_of_ble_eq_true rfl, Nat.le_of_ble_eq_true rfl⟩ ⟨⟨j, b33, h2, Or.inl ⟨rfl, hb33⟩⟩, k4⟩
  · -- way 1
    refine x_aload_n C dX2_init_0 rfl rfl ?_
    refine x_objInit C q189 q182 q183 rfl dX2_init_1 ?_
    refine x_iload_n C dX2_init_4 rfl rfl ?_
    refine x_lookup (off := 39) (tgt := 44) C dX2_init_5 (by decide +kernel) (by decide +kernel) rfl ?_
    refine x_aload_n C dX2_init_44 rfl rfl ?_
    obtain ⟨b45, hb45⟩ := gW1_of C.1
    refine x_indy C hnm2 hb45 rfl dX2_init_45 ?_
    refine y_putF (fs' := [.ref (b45)]) C (hnm rfl) gcX2 h0 0 rfl q200 rfl rfl rfl rfl rfl rfl dX2_init_50 (fun M5 h6 k7 => ?_)
    have k8 : ∀ zz : Nat, zz ≠ a → M5 zz = M0 zz := fun zz z0 => k7 zz z0
    refine x_goto (tgt := 65) C dX2_init_53 rfl ?_
    exact x_vret C dX2_init_65 ⟨Nat.le_of_ble_eq_true rfl, Nat.le_of_ble_eq_true rfl⟩ ⟨⟨j, b45, h6, Or.inr (Or.inl ⟨rfl, hb45⟩)⟩, k8⟩
  · -- way 2
    refine x_aload_n C dX2_init_0 rfl rfl ?_
    refine x_objInit C q189 q182 q183 rfl dX2_init_1 ?_
    refine x_iload_n C dX2_init_4 rfl rfl ?_
    refine x_lookup (off := 51) (tgt := 56) C dX2_init_5 (by decide +kernel) (by decide +kernel) rfl ?_
    refine x_aload_n C dX2_init_56 rfl rfl ?_
    obtain ⟨b57, hb57⟩ := gW2_of C.1
    refine x_indy C hnm2 hb57 rfl dX2_init_57 ?_
    refine y_putF (fs' := [.ref (b57)]) C (hnm rfl) gcX2 h0 0 rfl q200 rfl rfl rfl rfl rfl rfl dX2_init_62 (fun M9 h10 k11 => ?_)
    have k12 : ∀ zz : Nat, zz ≠ a → M9 zz = M0 zz := fun zz z0 => k11 zz z0
    exact x_vret C dX2_init_65 ⟨Nat.le_of_ble_eq_true rfl, Nat.le_of_ble_eq_true rfl⟩ ⟨⟨j, b57, h10, Or.inr (Or.inr ⟨rfl, hb57⟩)⟩, k12⟩
theorem mi_X2_cut : gMV RX2 yX2_cut cX2_cut 5 (some .int) 2 := ⟨q1637, q1638, q124, q1639, by decide +kernel⟩
set_option maxHeartbeats 4000000 in
set_option maxRecDepth 100000 in
theorem met_X2_cut (l : Launch) {G : gG} (hG : gOK G) {M0 : gM} {v k : Nat} {a b : Int64} (h : WY G k v M0) (hb : 0 < b.toInt) (ha : bg a) (hb2 : bg b) : Met l yX2_cut (ws_ yX2_cut cX2_cut 5 (some .int)) ({ frames := 3, cells := 0, slots := 0, locals := 72 }) (gPre G M0 [.ref (v), .long (a), .long (b)]) (gQ G (gI (fun r M1 => M1 = M0 ∧ (pCut (nI k) a b).toInt32 = r))) 0 0 (gA G) := by
  refine gMet (L0 := [some (.ref (v)), some (.long (a)), none, some (.long (b)), none]) RX2 hG (by decide +kernel) rfl (Nat.le_of_ble_eq_true rfl) rfl ?_
  intro p e s m args below meth c C hnm
  obtain ⟨j, a9, h0, hk⟩ := h
  rcases hk with hk | hk | hk
  · -- way 0
    obtain ⟨rfl, hL⟩ := hk
    refine x_aload_n C dX2_cut_0 rfl rfl ?_
    refine x_get C gcX2 h0 0 rfl q200 rfl dX2_cut_1 ?_
    refine x_lload_n C dX2_cut_4 rfl rfl ?_
    refine x_lload_n C dX2_cut_5 rfl rfl ?_
    refine x_lamJJ C hL lW0 ⟨rfl, rfl, rfl, rfl, rfl, rfl⟩ (met_X2_lambda_new_0 l C.1 hb ha hb2) mi_X2_lambda_new_0 q1641 q1643 q1642 (by decide +kernel) (by decide +kernel) (by decide +kernel) (by decide +kernel) ⟨rfl, rfl⟩ rfl ⟨Nat.le_of_ble_eq_true rfl, Nat.le_of_ble_eq_true rfl⟩ rfl dX2_cut_6 (fun r2 M1 hr => ?_)
    obtain ⟨hr, rfl⟩ := hr
    rw [hr]
    refine x_l2i C dX2_cut_11 ?_
    exact x_iret C dX2_cut_12 ⟨Nat.le_of_ble_eq_true rfl, Nat.le_of_ble_eq_true rfl⟩ ⟨rfl, rfl⟩
  · -- way 1
    obtain ⟨rfl, hL⟩ := hk
    refine x_aload_n C dX2_cut_0 rfl rfl ?_
    refine x_get C gcX2 h0 0 rfl q200 rfl dX2_cut_1 ?_
    refine x_lload_n C dX2_cut_4 rfl rfl ?_
    refine x_lload_n C dX2_cut_5 rfl rfl ?_
    refine x_lamJJ C hL lW1 ⟨rfl, rfl, rfl, rfl, rfl, rfl⟩ (met_X2_lambda_new_1 l C.1 hb ha hb2) mi_X2_lambda_new_1 q1641 q1643 q1642 (by decide +kernel) (by decide +kernel) (by decide +kernel) (by decide +kernel) ⟨rfl, rfl⟩ rfl ⟨Nat.le_of_ble_eq_true rfl, Nat.le_of_ble_eq_true rfl⟩ rfl dX2_cut_6 (fun r4 M3 hr => ?_)
    obtain ⟨hr, rfl⟩ := hr
    rw [hr]
    refine x_l2i C dX2_cut_11 ?_
    exact x_iret C dX2_cut_12 ⟨Nat.le_of_ble_eq_true rfl, Nat.le_of_ble_eq_true rfl⟩ ⟨rfl, rfl⟩
  · -- way 2
    obtain ⟨rfl, hL⟩ := hk
    refine x_aload_n C dX2_cut_0 rfl rfl ?_
    refine x_get C gcX2 h0 0 rfl q200 rfl dX2_cut_1 ?_
    refine x_lload_n C dX2_cut_4 rfl rfl ?_
    refine x_lload_n C dX2_cut_5 rfl rfl ?_
    refine x_lamJJ C hL lW2 ⟨rfl, rfl, rfl, rfl, rfl, rfl⟩ (met_X2_lambda_new_2 l C.1 hb ha hb2) mi_X2_lambda_new_2 q1641 q1643 q1642 (by decide +kernel) (by decide +kernel) (by decide +kernel) (by decide +kernel) ⟨rfl, rfl⟩ rfl ⟨Nat.le_of_ble_eq_true rfl, Nat.le_of_ble_eq_true rfl⟩ rfl dX2_cut_6 (fun r6 M5 hr => ?_)
    obtain ⟨hr, rfl⟩ := hr
    rw [hr]
    refine x_l2i C dX2_cut_11 ?_
    exact x_iret C dX2_cut_12 ⟨Nat.le_of_ble_eq_true rfl, Nat.le_of_ble_eq_true rfl⟩ ⟨rfl, rfl⟩
theorem mi_X3_lambda_new_0 : gMS yX3_lambda_new_0 cX3_lambda_new_0 3 (some .long) 3 := ⟨q301, q134, q302, by decide +kernel⟩
set_option maxHeartbeats 4000000 in
set_option maxRecDepth 100000 in
theorem met_X3_lambda_new_0 (l : Launch) {G : gG} (hG : gOK G) {M0 : gM} {o w : Nat} {lO lW : Nat × Nat} {Z : Nat → Int64} {u x : Int32} (h : SU G lO lW o w Z M0) : Met l yX3_lambda_new_0 (ws_ yX3_lambda_new_0 cX3_lambda_new_0 3 (some .long)) ({ frames := 0, cells := 0, slots := 0, locals := 0 }) (gPre G M0 [.ref (o), .int (u), .int (x)]) (gQ G (gJ (fun r M1 => M1 = M0 ∧ Z 0 = r))) 0 0 (gA G) := by
  refine gMet (L0 := [some (.ref (o)), some (.int (u)), some (.int (x))]) RX3 hG (by decide +kernel) rfl (Nat.le_of_ble_eq_true rfl) rfl ?_
  intro p e s m args below meth c C hnm
  refine x_aload_n C dX3_lambda_new_0_0 rfl rfl ?_
  refine x_getN C gcX7 h.1 0 rfl q507 rfl dX3_lambda_new_0_1 ?_
  refine x_iconst C dX3_lambda_new_0_4 kc_0 ?_
  refine y_lald (i := 0) C h.2 rfl (by omega) rfl dX3_lambda_new_0_5 ?_
  exact x_lret C dX3_lambda_new_0_6 ⟨Nat.le_of_ble_eq_true rfl, Nat.le_of_ble_eq_true rfl⟩ ⟨rfl, rfl⟩
theorem mi_X3_lambda_new_1 : gMS yX3_lambda_new_1 cX3_lambda_new_1 3 (some .long) 3 := ⟨q303, q134, q304, by decide +kernel⟩
set_option maxHeartbeats 4000000 in
set_option maxRecDepth 100000 in
theorem met_X3_lambda_new_1 (l : Launch) {G : gG} (hG : gOK G) {M0 : gM} {o w : Nat} {lO lW : Nat × Nat} {Z : Nat → Int64} {u x : Int32} (h : SU G lO lW o w Z M0) : Met l yX3_lambda_new_1 (ws_ yX3_lambda_new_1 cX3_lambda_new_1 3 (some .long)) ({ frames := 0, cells := 0, slots := 0, locals := 0 }) (gPre G M0 [.ref (o), .int (u), .int (x)]) (gQ G (gJ (fun r M1 => M1 = M0 ∧ Z 0 + Z 1 = r))) 0 0 (gA G) := by
  refine gMet (L0 := [some (.ref (o)), some (.int (u)), some (.int (x))]) RX3 hG (by decide +kernel) rfl (Nat.le_of_ble_eq_true rfl) rfl ?_
  intro p e s m args below meth c C hnm
  refine x_aload_n C dX3_lambda_new_1_0 rfl rfl ?_
  refine x_getN C gcX7 h.1 0 rfl q507 rfl dX3_lambda_new_1_1 ?_
  refine x_iconst C dX3_lambda_new_1_4 kc_0 ?_
  refine y_lald (i := 0) C h.2 rfl (by omega) rfl dX3_lambda_new_1_5 ?_
  refine x_aload_n C dX3_lambda_new_1_6 rfl rfl ?_
  refine x_getN C gcX7 h.1 0 rfl q507 rfl dX3_lambda_new_1_7 ?_
  refine x_iconst C dX3_lambda_new_1_10 kc_1 ?_
  refine y_lald (i := 1) C h.2 rfl (by omega) rfl dX3_lambda_new_1_11 ?_
  refine x_ladd C dX3_lambda_new_1_12 ?_
  exact x_lret C dX3_lambda_new_1_13 ⟨Nat.le_of_ble_eq_true rfl, Nat.le_of_ble_eq_true rfl⟩ ⟨rfl, rfl⟩
theorem mi_X3_lambda_new_2 : gMS yX3_lambda_new_2 cX3_lambda_new_2 3 (some .long) 3 := ⟨q305, q134, q306, by decide +kernel⟩
set_option maxHeartbeats 4000000 in
set_option maxRecDepth 100000 in
theorem met_X3_lambda_new_2 (l : Launch) {G : gG} (hG : gOK G) {M0 : gM} {o w : Nat} {lO lW : Nat × Nat} {Z : Nat → Int64} {u x : Int32} (h : SU G lO lW o w Z M0) : Met l yX3_lambda_new_2 (ws_ yX3_lambda_new_2 cX3_lambda_new_2 3 (some .long)) ({ frames := 0, cells := 0, slots := 0, locals := 0 }) (gPre G M0 [.ref (o), .int (u), .int (x)]) (gQ G (gJ (fun r M1 => M1 = M0 ∧ Z 2 = r))) 0 0 (gA G) := by
  refine gMet (L0 := [some (.ref (o)), some (.int (u)), some (.int (x))]) RX3 hG (by decide +kernel) rfl (Nat.le_of_ble_eq_true rfl) rfl ?_
  intro p e s m args below meth c C hnm
  refine x_aload_n C dX3_lambda_new_2_0 rfl rfl ?_
  refine x_getN C gcX7 h.1 0 rfl q507 rfl dX3_lambda_new_2_1 ?_
  refine x_iconst C dX3_lambda_new_2_4 kc_2 ?_
  refine y_lald (i := 2) C h.2 rfl (by omega) rfl dX3_lambda_new_2_5 ?_
  exact x_lret C dX3_lambda_new_2_6 ⟨Nat.le_of_ble_eq_true rfl, Nat.le_of_ble_eq_true rfl⟩ ⟨rfl, rfl⟩
theorem mi_X3_lambda_new_3 : gMS yX3_lambda_new_3 cX3_lambda_new_3 3 (some .long) 3 := ⟨q307, q134, q308, by decide +kernel⟩
set_option maxHeartbeats 4000000 in
set_option maxRecDepth 100000 in
theorem met_X3_lambda_new_3 (l : Launch) {G : gG} (hG : gOK G) {M0 : gM} {o w : Nat} {lO lW : Nat × Nat} {Z : Nat → Int64} {u x : Int32} (h : SU G lO lW o w Z M0) : Met l yX3_lambda_new_3 (ws_ yX3_lambda_new_3 cX3_lambda_new_3 3 (some .long)) ({ frames := 0, cells := 0, slots := 0, locals := 0 }) (gPre G M0 [.ref (o), .int (u), .int (x)]) (gQ G (gJ (fun r M1 => M1 = M0 ∧ Z 2 + Z 3 = r))) 0 0 (gA G) := by
  refine gMet (L0 := [some (.ref (o)), some (.int (u)), some (.int (x))]) RX3 hG (by decide +kernel) rfl (Nat.le_of_ble_eq_true rfl) rfl ?_
  intro p e s m args below meth c C hnm
  refine x_aload_n C dX3_lambda_new_3_0 rfl rfl ?_
  refine x_getN C gcX7 h.1 0 rfl q507 rfl dX3_lambda_new_3_1 ?_
  refine x_iconst C dX3_lambda_new_3_4 kc_2 ?_
  refine y_lald (i := 2) C h.2 rfl (by omega) rfl dX3_lambda_new_3_5 ?_
  refine x_aload_n C dX3_lambda_new_3_6 rfl rfl ?_
  refine x_getN C gcX7 h.1 0 rfl q507 rfl dX3_lambda_new_3_7 ?_
  refine x_iconst C dX3_lambda_new_3_10 kc_3 ?_
  refine y_lald (i := 3) C h.2 rfl (by omega) rfl dX3_lambda_new_3_11 ?_
  refine x_ladd C dX3_lambda_new_3_12 ?_
  exact x_lret C dX3_lambda_new_3_13 ⟨Nat.le_of_ble_eq_true rfl, Nat.le_of_ble_eq_true rfl⟩ ⟨rfl, rfl⟩
theorem mi_X3_lambda_new_4 : gMS yX3_lambda_new_4 cX3_lambda_new_4 3 (some .long) 3 := ⟨q309, q134, q310, by decide +kernel⟩
set_option maxHeartbeats 4000000 in
set_option maxRecDepth 100000 in
theorem met_X3_lambda_new_4 (l : Launch) {G : gG} (hG : gOK G) {M0 : gM} {o w : Nat} {lO lW : Nat × Nat} {Z : Nat → Int64} {u x : Int32} (h : SU G lO lW o w Z M0) : Met l yX3_lambda_new_4 (ws_ yX3_lambda_new_4 cX3_lambda_new_4 3 (some .long)) ({ frames := 0, cells := 0, slots := 0, locals := 0 }) (gPre G M0 [.ref (o), .int (u), .int (x)]) (gQ G (gJ (fun r M1 => M1 = M0 ∧ u.toInt64 = r))) 0 0 (gA G) := by
  refine gMet (L0 := [some (.ref (o)), some (.int (u)), some (.int (x))]) RX3 hG (by decide +kernel) rfl (Nat.le_of_ble_eq_true rfl) rfl ?_
  intro p e s m args below meth c C hnm
  refine x_iload_n C dX3_lambda_new_4_0 rfl rfl ?_
  refine x_i2l C dX3_lambda_new_4_1 ?_
  exact x_lret C dX3_lambda_new_4_2 ⟨Nat.le_of_ble_eq_true rfl, Nat.le_of_ble_eq_true rfl⟩ ⟨rfl, rfl⟩
theorem mi_X3_lambda_new_5 : gMS yX3_lambda_new_5 cX3_lambda_new_5 3 (some .long) 3 := ⟨q311, q134, q312, by decide +kernel⟩
set_option maxHeartbeats 4000000 in
set_option maxRecDepth 100000 in
theorem met_X3_lambda_new_5 (l : Launch) {G : gG} (hG : gOK G) {M0 : gM} {o w : Nat} {lO lW : Nat × Nat} {Z : Nat → Int64} {u x : Int32} (h : SU G lO lW o w Z M0) : Met l yX3_lambda_new_5 (ws_ yX3_lambda_new_5 cX3_lambda_new_5 3 (some .long)) ({ frames := 0, cells := 0, slots := 0, locals := 0 }) (gPre G M0 [.ref (o), .int (u), .int (x)]) (gQ G (gJ (fun r M1 => M1 = M0 ∧ x.toInt64 = r))) 0 0 (gA G) := by
  refine gMet (L0 := [some (.ref (o)), some (.int (u)), some (.int (x))]) RX3 hG (by decide +kernel) rfl (Nat.le_of_ble_eq_true rfl) rfl ?_
  intro p e s m args below meth c C hnm
  refine x_iload_n C dX3_lambda_new_5_0 rfl rfl ?_
  refine x_i2l C dX3_lambda_new_5_1 ?_
  exact x_lret C dX3_lambda_new_5_2 ⟨Nat.le_of_ble_eq_true rfl, Nat.le_of_ble_eq_true rfl⟩ ⟨rfl, rfl⟩
theorem mi_X3_init : gMI yX3_init cX3_init 2 1 := ⟨q298, q134, q299, rfl, by decide +kernel⟩
set_option maxHeartbeats 4000000 in
set_option maxRecDepth 100000 in
theorem met_X3_init (l : Launch) {G : gG} (hG : gOK G) {M0 : gM} {a j k : Nat} (hk : k < 3) (h0 : M0 a = some ((1, j), .inr (18, [.null, .null]))) : Met l yX3_init (ws_ yX3_init cX3_init 2 none) ({ frames := 1, cells := 0, slots := 0, locals := 3080 }) (gPre G M0 [.ref (a), .int (nI k)]) (gQ G (gV (fun M1 => MT G k a M1 ∧ ∀ z, z ≠ a → M1 z = M0 z))) 0 0 (gA G) := by
  refine gMetF (L0 := [some (.ref (a)), some (.int (nI k))]) RX3 hG (by decide +kernel) rfl (Nat.le_of_ble_eq_true rfl) rfl ?_
  intro p e s m args below meth c C hnm hnm2
  rcases (by omega : k = 0 ∨ k = 1 ∨ k = 2) with rfl | rfl | rfl
  · -- method 0
    refine x_aload_n C dX3_init_0 rfl rfl ?_
    refine x_objInit C q300 q182 q183 rfl dX3_init_1 ?_
    refine x_iload_n C dX3_init_4 rfl rfl ?_
    refine x_lookup (off := 27) (tgt := 32) C dX3_init_5 (by decide +kernel) (by decide +kernel) rfl ?_
    refine x_aload_n C dX3_init_32 rfl rfl ?_
    obtain ⟨b33, hb33⟩ := gP0_of C.1
    refine x_indy C hnm2 hb33 rfl dX3_init_33 ?_
    refine y_putF (fs' := [.ref (b33), .null]) C (hnm rfl) gcX3 h0 0 rfl q313 rfl rfl rfl rfl rfl rfl dX3_init_38 (fun M1 h2 k3 => ?_)
    have k4 : ∀ zz : Nat, zz ≠ a → M1 zz = M0 zz := fun zz z0 => k3 zz z0
    refine x_aload_n C dX3_init_41 rfl rfl ?_
    obtain ⟨b42, hb42⟩ := gP1_of C.1
    refine x_indy C hnm2 hb42 rfl dX3_init_42 ?_
    refine y_putF (fs' := [.ref (b33), .ref (b42)]) C (hnm rfl) gcX3 h2 1 rfl q314 rfl rfl rfl rfl rfl rfl dX3_init_47 (fun M5 h6 k7 => ?_)
    have k8 : ∀ zz : Nat, zz ≠ a → M5 zz = M0 zz := fun zz z0 => (k7 zz z0).trans (k4 zz z0)
    refine x_goto (tgt := 92) C dX3_init_50 rfl ?_
    exact x_vret C dX3_init_92 ⟨Nat.le_of_ble_eq_true rfl, Nat.le_of_ble_eq_true rfl⟩ ⟨⟨j, b33, b42, h6, Or.inl ⟨rfl, hb33, hb42⟩⟩, k8⟩
  · -- method 1
    refine x_aload_n C dX3_init_0 rfl rfl ?_
    refine x_objInit C q300 q182 q183 rfl dX3_init_1 ?_
    refine x_iload_n C dX3_init_4 rfl rfl ?_
    refine x_lookup (off := 48) (tgt := 53) C dX3_init_5 (by decide +kernel) (by decide +kernel) rfl ?_
    refine x_aload_n C dX3_init_53 rfl rfl ?_
    obtain ⟨b54, hb54⟩ := gP2_of C.1
    refine x_indy C hnm2 hb54 rfl dX3_init_54 ?_
    refine y_putF (fs' := [.ref (b54), .null]) C (hnm rfl) gcX3 h0 0 rfl q313 rfl rfl rfl rfl rfl rfl dX3_init_59 (fun M9 h10 k11 => ?_)
    have k12 : ∀ zz : Nat, zz ≠ a → M9 zz = M0 zz := fun zz z0 => k11 zz z0
    refine x_aload_n C dX3_init_62 rfl rfl ?_
    obtain ⟨b63, hb63⟩ := gP3_of C.1
    refine x_indy C hnm2 hb63 rfl dX3_init_63 ?_
    refine y_putF (fs' := [.ref (b54), .ref (b63)]) C (hnm rfl) gcX3 h10 1 rfl q314 rfl rfl rfl rfl rfl rfl dX3_init_68 (fun M13 h14 k15 => ?_)
    have k16 : ∀ zz : Nat, zz ≠ a → M13 zz = M0 zz := fun zz z0 => (k15 zz z0).trans (k12 zz z0)
    refine x_goto (tgt := 92) C dX3_init_71 rfl ?_
    exact x_vret C dX3_init_92 ⟨Nat.le_of_ble_eq_true rfl, Nat.le_of_ble_eq_true rfl⟩ ⟨⟨j, b54, b63, h14, Or.inr (Or.inl ⟨rfl, hb54, hb63⟩)⟩, k16⟩
  · -- method 2
    refine x_aload_n C dX3_init_0 rfl rfl ?_
    refine x_objInit C q300 q182 q183 rfl dX3_init_1 ?_
    refine x_iload_n C dX3_init_4 rfl rfl ?_
    refine x_lookup (off := 69) (tgt := 74) C dX3_init_5 (by decide +kernel) (by decide +kernel) rfl ?_
    refine x_aload_n C dX3_init_74 rfl rfl ?_
    obtain ⟨b75, hb75⟩ := gP4_of C.1
    refine x_indy C hnm2 hb75 rfl dX3_init_75 ?_
    refine y_putF (fs' := [.ref (b75), .null]) C (hnm rfl) gcX3 h0 0 rfl q313 rfl rfl rfl rfl rfl rfl dX3_init_80 (fun M17 h18 k19 => ?_)
    have k20 : ∀ zz : Nat, zz ≠ a → M17 zz = M0 zz := fun zz z0 => k19 zz z0
    refine x_aload_n C dX3_init_83 rfl rfl ?_
    obtain ⟨b84, hb84⟩ := gP5_of C.1
    refine x_indy C hnm2 hb84 rfl dX3_init_84 ?_
    refine y_putF (fs' := [.ref (b75), .ref (b84)]) C (hnm rfl) gcX3 h18 1 rfl q314 rfl rfl rfl rfl rfl rfl dX3_init_89 (fun M21 h22 k23 => ?_)
    have k24 : ∀ zz : Nat, zz ≠ a → M21 zz = M0 zz := fun zz z0 => (k23 zz z0).trans (k20 zz z0)
    exact x_vret C dX3_init_92 ⟨Nat.le_of_ble_eq_true rfl, Nat.le_of_ble_eq_true rfl⟩ ⟨⟨j, b75, b84, h22, Or.inr (Or.inr ⟨rfl, hb75, hb84⟩)⟩, k24⟩
theorem mi_X3_fraction : gMV RX3 yX3_fraction cX3_fraction 8 (some .int) 5 := ⟨q1849, q1850, q134, q1851, by decide +kernel⟩
set_option maxHeartbeats 4000000 in
set_option maxRecDepth 100000 in
theorem met_X3_fraction (l : Launch) {G : gG} (hG : gOK G) {M0 : gM} {o w : Nat} {lO lW : Nat × Nat} {Z : Nat → Int64} {v mk wv wk : Nat} {u x step : Int32} (h : SU G lO lW o w Z M0) (hm : MT G mk v M0) (hwy : WY G wk wv M0) (hs : 10 ≤ step.toInt ∧ step.toInt ≤ 1000) (hz : zB Z) (hh : hB u.toInt64 x.toInt64) : Met l yX3_fraction (ws_ yX3_fraction cX3_fraction 8 (some .int)) ({ frames := 4, cells := 0, slots := 0, locals := 96 }) (gPre G M0 [.ref (v), .ref (o), .int (u), .int (x), .int (step), .ref (wv)]) (gQ G (gI (fun r M1 => M1 = M0 ∧ pFrac (nI mk) (nI wk) step Z u.toInt64 x.toInt64 = r))) 0 0 (gA G) := by
  refine gMet (L0 := [some (.ref (v)), some (.ref (o)), some (.int (u)), some (.int (x)), some (.int (step)), some (.ref (wv)), none, none]) RX3 hG (by decide +kernel) rfl (Nat.le_of_ble_eq_true rfl) rfl ?_
  intro p e s m args below meth c C hnm
  obtain ⟨jw, aw, hwc, -⟩ := id hwy
  obtain ⟨j, a1, a2, h0, hk⟩ := hm
  rcases hk with hk | hk | hk
  · -- way 0
    obtain ⟨rfl, hL1, hL2⟩ := hk
    refine x_aload_n C dX3_fraction_0 rfl rfl ?_
    refine x_get C gcX3 h0 1 rfl q314 rfl dX3_fraction_1 ?_
    refine x_aload_n C dX3_fraction_4 rfl rfl ?_
    refine x_iload_n C dX3_fraction_5 rfl rfl ?_
    refine x_iload_n C dX3_fraction_6 rfl rfl ?_
    refine x_lamRII C hL2 lP1 ⟨rfl, rfl, rfl, rfl, rfl, rfl⟩ (met_X3_lambda_new_1 l C.1 h) mi_X3_lambda_new_1 q1853 q1855 q1854 (by decide +kernel) (by decide +kernel) (by decide +kernel) (by decide +kernel) ⟨rfl, rfl⟩ rfl ⟨Nat.le_of_ble_eq_true rfl, Nat.le_of_ble_eq_true rfl⟩ rfl dX3_fraction_7 (fun r2 M1 hr => ?_)
    obtain ⟨hr, rfl⟩ := hr
    rw [hr]
    refine x_lstore C dX3_fraction_12 (gs2_6 rfl) rfl ?_
    refine x_lload C dX3_fraction_14 rfl ?_
    refine x_lconst (v := 0) C dX3_fraction_16 rfl ?_
    refine x_lcmp C dX3_fraction_17 ?_
    refine x_if_neL (tgt := 26) C dX3_fraction_18 rfl (fun c18 => ?_) (fun c18 => ?_)
    · -- 26
      refine x_aload C dX3_fraction_26 rfl ?_
      refine x_iload C dX3_fraction_28 rfl ?_
      refine x_i2l C dX3_fraction_30 ?_
      refine x_aload_n C dX3_fraction_31 rfl rfl ?_
      refine x_get C gcX3 h0 0 rfl q313 rfl dX3_fraction_32 ?_
      refine x_aload_n C dX3_fraction_35 rfl rfl ?_
      refine x_iload_n C dX3_fraction_36 rfl rfl ?_
      refine x_iload_n C dX3_fraction_37 rfl rfl ?_
      refine x_lamRII C hL1 lP0 ⟨rfl, rfl, rfl, rfl, rfl, rfl⟩ (met_X3_lambda_new_0 l C.1 h) mi_X3_lambda_new_0 q1853 q1855 q1854 (by decide +kernel) (by decide +kernel) (by decide +kernel) (by decide +kernel) ⟨rfl, rfl⟩ rfl ⟨Nat.le_of_ble_eq_true rfl, Nat.le_of_ble_eq_true rfl⟩ rfl dX3_fraction_38 (fun r4 M3 hr => ?_)
      obtain ⟨hr, rfl⟩ := hr
      rw [hr]
      refine x_lmul C dX3_fraction_43 ?_
      refine x_lload C dX3_fraction_44 rfl ?_
      refine x_V2I C (met_X2_cut l C.1 hwy (frac_k0 (way := 0) hs hz c18).1 (frac_k0 (way := 0) hs hz c18).2.1 (frac_k0 (way := 0) hs hz c18).2.2) mi_X2_cut q1856 gcX2 hwc ⟨rfl, rfl⟩ rfl ⟨Nat.le_of_ble_eq_true rfl, Nat.le_of_ble_eq_true rfl⟩ rfl dX3_fraction_46 (fun r6 M5 hr => ?_)
      obtain ⟨hr, rfl⟩ := hr
      rw [hr]
      exact x_iret C dX3_fraction_49 ⟨Nat.le_of_ble_eq_true rfl, Nat.le_of_ble_eq_true rfl⟩ ⟨rfl, by rw [pFrac_k0, if_neg c18]⟩
    · -- 21
      refine x_iload C dX3_fraction_21 rfl ?_
      refine x_goto (tgt := 49) C dX3_fraction_23 rfl ?_
      exact x_iret C dX3_fraction_49 ⟨Nat.le_of_ble_eq_true rfl, Nat.le_of_ble_eq_true rfl⟩ ⟨rfl, by rw [pFrac_k0, if_pos c18]⟩
  · -- way 1
    obtain ⟨rfl, hL1, hL2⟩ := hk
    refine x_aload_n C dX3_fraction_0 rfl rfl ?_
    refine x_get C gcX3 h0 1 rfl q314 rfl dX3_fraction_1 ?_
    refine x_aload_n C dX3_fraction_4 rfl rfl ?_
    refine x_iload_n C dX3_fraction_5 rfl rfl ?_
    refine x_iload_n C dX3_fraction_6 rfl rfl ?_
    refine x_lamRII C hL2 lP3 ⟨rfl, rfl, rfl, rfl, rfl, rfl⟩ (met_X3_lambda_new_3 l C.1 h) mi_X3_lambda_new_3 q1853 q1855 q1854 (by decide +kernel) (by decide +kernel) (by decide +kernel) (by decide +kernel) ⟨rfl, rfl⟩ rfl ⟨Nat.le_of_ble_eq_true rfl, Nat.le_of_ble_eq_true rfl⟩ rfl dX3_fraction_7 (fun r8 M7 hr => ?_)
    obtain ⟨hr, rfl⟩ := hr
    rw [hr]
    refine x_lstore C dX3_fraction_12 (gs2_6 rfl) rfl ?_
    refine x_lload C dX3_fraction_14 rfl ?_
    refine x_lconst (v := 0) C dX3_fraction_16 rfl ?_
    refine x_lcmp C dX3_fraction_17 ?_
    refine x_if_neL (tgt := 26) C dX3_fraction_18 rfl (fun c18 => ?_) (fun c18 => ?_)
    · -- 26
      refine x_aload C dX3_fraction_26 rfl ?_
      refine x_iload C dX3_fraction_28 rfl ?_
      refine x_i2l C dX3_fraction_30 ?_
      refine x_aload_n C dX3_fraction_31 rfl rfl ?_
      refine x_get C gcX3 h0 0 rfl q313 rfl dX3_fraction_32 ?_
      refine x_aload_n C dX3_fraction_35 rfl rfl ?_
      refine x_iload_n C dX3_fraction_36 rfl rfl ?_
      refine x_iload_n C dX3_fraction_37 rfl rfl ?_
      refine x_lamRII C hL1 lP2 ⟨rfl, rfl, rfl, rfl, rfl, rfl⟩ (met_X3_lambda_new_2 l C.1 h) mi_X3_lambda_new_2 q1853 q1855 q1854 (by decide +kernel) (by decide +kernel) (by decide +kernel) (by decide +kernel) ⟨rfl, rfl⟩ rfl ⟨Nat.le_of_ble_eq_true rfl, Nat.le_of_ble_eq_true rfl⟩ rfl dX3_fraction_38 (fun r10 M9 hr => ?_)
      obtain ⟨hr, rfl⟩ := hr
      rw [hr]
      refine x_lmul C dX3_fraction_43 ?_
      refine x_lload C dX3_fraction_44 rfl ?_
      refine x_V2I C (met_X2_cut l C.1 hwy (frac_k1 (way := 0) hs hz c18).1 (frac_k1 (way := 0) hs hz c18).2.1 (frac_k1 (way := 0) hs hz c18).2.2) mi_X2_cut q1856 gcX2 hwc ⟨rfl, rfl⟩ rfl ⟨Nat.le_of_ble_eq_true rfl, Nat.le_of_ble_eq_true rfl⟩ rfl dX3_fraction_46 (fun r12 M11 hr => ?_)
      obtain ⟨hr, rfl⟩ := hr
      rw [hr]
      exact x_iret C dX3_fraction_49 ⟨Nat.le_of_ble_eq_true rfl, Nat.le_of_ble_eq_true rfl⟩ ⟨rfl, by rw [pFrac_k1, if_neg c18]⟩
    · -- 21
      refine x_iload C dX3_fraction_21 rfl ?_
      refine x_goto (tgt := 49) C dX3_fraction_23 rfl ?_
      exact x_iret C dX3_fraction_49 ⟨Nat.le_of_ble_eq_true rfl, Nat.le_of_ble_eq_true rfl⟩ ⟨rfl, by rw [pFrac_k1, if_pos c18]⟩
  · -- way 2
    obtain ⟨rfl, hL1, hL2⟩ := hk
    refine x_aload_n C dX3_fraction_0 rfl rfl ?_
    refine x_get C gcX3 h0 1 rfl q314 rfl dX3_fraction_1 ?_
    refine x_aload_n C dX3_fraction_4 rfl rfl ?_
    refine x_iload_n C dX3_fraction_5 rfl rfl ?_
    refine x_iload_n C dX3_fraction_6 rfl rfl ?_
    refine x_lamRII C hL2 lP5 ⟨rfl, rfl, rfl, rfl, rfl, rfl⟩ (met_X3_lambda_new_5 l C.1 h) mi_X3_lambda_new_5 q1853 q1855 q1854 (by decide +kernel) (by decide +kernel) (by decide +kernel) (by decide +kernel) ⟨rfl, rfl⟩ rfl ⟨Nat.le_of_ble_eq_true rfl, Nat.le_of_ble_eq_true rfl⟩ rfl dX3_fraction_7 (fun r14 M13 hr => ?_)
    obtain ⟨hr, rfl⟩ := hr
    rw [hr]
    refine x_lstore C dX3_fraction_12 (gs2_6 rfl) rfl ?_
    refine x_lload C dX3_fraction_14 rfl ?_
    refine x_lconst (v := 0) C dX3_fraction_16 rfl ?_
    refine x_lcmp C dX3_fraction_17 ?_
    refine x_if_neL (tgt := 26) C dX3_fraction_18 rfl (fun c18 => ?_) (fun c18 => ?_)
    · -- 26
      refine x_aload C dX3_fraction_26 rfl ?_
      refine x_iload C dX3_fraction_28 rfl ?_
      refine x_i2l C dX3_fraction_30 ?_
      refine x_aload_n C dX3_fraction_31 rfl rfl ?_
      refine x_get C gcX3 h0 0 rfl q313 rfl dX3_fraction_32 ?_
      refine x_aload_n C dX3_fraction_35 rfl rfl ?_
      refine x_iload_n C dX3_fraction_36 rfl rfl ?_
      refine x_iload_n C dX3_fraction_37 rfl rfl ?_
      refine x_lamRII C hL1 lP4 ⟨rfl, rfl, rfl, rfl, rfl, rfl⟩ (met_X3_lambda_new_4 l C.1 h) mi_X3_lambda_new_4 q1853 q1855 q1854 (by decide +kernel) (by decide +kernel) (by decide +kernel) (by decide +kernel) ⟨rfl, rfl⟩ rfl ⟨Nat.le_of_ble_eq_true rfl, Nat.le_of_ble_eq_true rfl⟩ rfl dX3_fraction_38 (fun r16 M15 hr => ?_)
      obtain ⟨hr, rfl⟩ := hr
      rw [hr]
      refine x_lmul C dX3_fraction_43 ?_
      refine x_lload C dX3_fraction_44 rfl ?_
      refine x_V2I C (met_X2_cut l C.1 hwy (frac_k2 (way := 0) hs hh c18).1 (frac_k2 (way := 0) hs hh c18).2.1 (frac_k2 (way := 0) hs hh c18).2.2) mi_X2_cut q1856 gcX2 hwc ⟨rfl, rfl⟩ rfl ⟨Nat.le_of_ble_eq_true rfl, Nat.le_of_ble_eq_true rfl⟩ rfl dX3_fraction_46 (fun r18 M17 hr => ?_)
      obtain ⟨hr, rfl⟩ := hr
      rw [hr]
      exact x_iret C dX3_fraction_49 ⟨Nat.le_of_ble_eq_true rfl, Nat.le_of_ble_eq_true rfl⟩ ⟨rfl, by rw [pFrac_k2, if_neg c18]⟩
    · -- 21
      refine x_iload C dX3_fraction_21 rfl ?_
      refine x_goto (tgt := 49) C dX3_fraction_23 rfl ?_
      exact x_iret C dX3_fraction_49 ⟨Nat.le_of_ble_eq_true rfl, Nat.le_of_ble_eq_true rfl⟩ ⟨rfl, by rw [pFrac_k2, if_pos c18]⟩
theorem mi_X7_init : gMI yX7_init cX7_init 1 0 := ⟨q503, q143, q504, rfl, by decide +kernel⟩
set_option maxHeartbeats 4000000 in
set_option maxRecDepth 100000 in
theorem met_X7_init (l : Launch) {G : gG} (hG : gOK G) {M0 : gM} {a : Nat} {lO : Nat × Nat} (lW : Nat × Nat) (h0 : M0 a = some (lO, .inr (22, [.null]))) : Met l yX7_init (ws_ yX7_init cX7_init 1 none) ({ frames := 1, cells := 1, slots := 5, locals := 12 }) (gPre G M0 [.ref (a)]) (gQ G (gV (fun M1 => ∃ w, M0 w = none ∧ SU G lO lW a w (fun _ => 0) M1 ∧ ∀ z, z ≠ a → z ≠ w → M1 z = M0 z))) 1 5 (gA G) := by
  refine gMet (L0 := [some (.ref (a))]) RX7 hG (by decide +kernel) rfl (Nat.le_of_ble_eq_true rfl) rfl ?_
  intro p e s m args below meth c C hnm
  refine x_aload_n C dX7_init_0 rfl rfl ?_
  refine x_objInit C q505 q182 q183 rfl dX7_init_1 ?_
  refine x_aload_n C dX7_init_4 rfl rfl ?_
  refine x_iconst C dX7_init_5 kc_5 ?_
  refine y_newa (atype := .long) (N := 5) (a0 := (5, .inr (.inl (clipL 5 (fun _ => 0))))) C 1 (fun a => lW) q499 rfl rfl (by intro C; simp) (fun cA => by rw [← clipL_0 (n := 5)]; rfl) rfl rfl (by decide +kernel) ⟨Nat.le_of_ble_eq_true rfl, Nat.le_of_ble_eq_true rfl⟩ dX7_init_6 (fun a1 M2 n3 g4 h5 k6 => ?_)
  have e7 : a ≠ a1 := gM_nn h0 n3
  have h8 := (k6 _ e7).trans h0
  have k9 : ∀ zz : Nat, zz ≠ a1 → M2 zz = M0 zz := fun zz z0 => k6 zz z0
  refine y_putF (fs' := [.ref (a1)]) C (hnm rfl) gcX7 h8 0 rfl q506 rfl rfl rfl rfl rfl rfl dX7_init_8 (fun M10 h11 k12 => ?_)
  have h13 := (k12 _ (Ne.symm e7)).trans h5
  have k14 : ∀ zz : Nat, zz ≠ a1 → zz ≠ a → M10 zz = M0 zz := fun zz z0 z1 => (k12 zz z1).trans (k9 zz z0)
  exact x_vret C dX7_init_11 ⟨Nat.le_of_ble_eq_true rfl, Nat.le_of_ble_eq_true rfl⟩ ⟨a1, n3, ⟨h11, h13⟩, fun z z1 z2 => k14 z z2 z1⟩
theorem mi_X7_clear : gMV RX7 yX7_clear cX7_clear 2 none 0 := ⟨q1931, q1932, q143, q1933, by decide +kernel⟩
set_option maxHeartbeats 4000000 in
set_option maxRecDepth 100000 in
theorem met_X7_clear (l : Launch) {G : gG} (hG : gOK G) {M0 : gM} {o w : Nat} {lO lW : Nat × Nat} {Z : Nat → Int64} (h : SU G lO lW o w Z M0) : Met l yX7_clear (ws_ yX7_clear cX7_clear 2 none) ({ frames := 0, cells := 0, slots := 0, locals := 0 }) (gPre G M0 [.ref (o)]) (gQ G (gV (fun M1 => SU G lO lW o w (fun _ => 0) M1 ∧ ∀ z, z ≠ w → M1 z = M0 z))) 0 0 (gA G) := by
  refine gMet (L0 := [some (.ref (o)), none]) RX7 hG (by decide +kernel) rfl (Nat.le_of_ble_eq_true rfl) rfl ?_
  intro p e s m args below meth c C hnm
  have how : o ≠ w := fun e => by have := h.1; rw [e, h.2] at this; cases this
  refine x_iconst C dX7_clear_0 kc_0 ?_
  refine x_istore_n C dX7_clear_1 rfl (gs1_1 rfl) rfl ?_
  refine x_iload_n C dX7_clear_2 rfl rfl ?_
  refine x_iconst C dX7_clear_3 kc_5 ?_
  refine x_icmp_geF (tgt := 20) C (by decide +kernel) dX7_clear_4 rfl ?_
  refine x_aload_n C dX7_clear_7 rfl rfl ?_
  refine x_get C gcX7 h.1 0 rfl q506 rfl dX7_clear_8 ?_
  refine x_iload_n C dX7_clear_11 rfl rfl ?_
  refine x_lconst (v := 0) C dX7_clear_12 rfl ?_
  refine y_last (i := 0) C h.2 rfl (by omega) rfl dX7_clear_13 (fun M1 h2 k3 => ?_)
  have h4 := (k3 _ how).trans h.1
  have k5 : ∀ zz : Nat, zz ≠ w → M1 zz = M0 zz := fun zz z0 => k3 zz z0
  refine x_iincN (z := 1) C dX7_clear_14 rfl (gs1_1 rfl) rfl ?_
  refine x_goto (tgt := 2) C dX7_clear_17 rfl ?_
  refine x_iload_n C dX7_clear_2 rfl rfl ?_
  refine x_iconst C dX7_clear_3 kc_5 ?_
  refine x_icmp_geF (tgt := 20) C (by decide +kernel) dX7_clear_4 rfl ?_
  refine x_aload_n C dX7_clear_7 rfl rfl ?_
  refine x_get C gcX7 h4 0 rfl q506 rfl dX7_clear_8 ?_
  refine x_iload_n C dX7_clear_11 rfl rfl ?_
  refine x_lconst (v := 0) C dX7_clear_12 rfl ?_
  refine y_last (i := 1) C h2 rfl (by omega) rfl dX7_clear_13 (fun M6 h7 k8 => ?_)
  have h9 := (k8 _ how).trans h4
  have k10 : ∀ zz : Nat, zz ≠ w → M6 zz = M0 zz := fun zz z0 => (k8 zz z0).trans (k5 zz z0)
  refine x_iincN (z := 1) C dX7_clear_14 rfl (gs1_1 rfl) rfl ?_
  refine x_goto (tgt := 2) C dX7_clear_17 rfl ?_
  refine x_iload_n C dX7_clear_2 rfl rfl ?_
  refine x_iconst C dX7_clear_3 kc_5 ?_
  refine x_icmp_geF (tgt := 20) C (by decide +kernel) dX7_clear_4 rfl ?_
  refine x_aload_n C dX7_clear_7 rfl rfl ?_
  refine x_get C gcX7 h9 0 rfl q506 rfl dX7_clear_8 ?_
  refine x_iload_n C dX7_clear_11 rfl rfl ?_
  refine x_lconst (v := 0) C dX7_clear_12 rfl ?_
  refine y_last (i := 2) C h7 rfl (by omega) rfl dX7_clear_13 (fun M11 h12 k13 => ?_)
  have h14 := (k13 _ how).trans h9
  have k15 : ∀ zz : Nat, zz ≠ w → M11 zz = M0 zz := fun zz z0 => (k13 zz z0).trans (k10 zz z0)
  refine x_iincN (z := 1) C dX7_clear_14 rfl (gs1_1 rfl) rfl ?_
  refine x_goto (tgt := 2) C dX7_clear_17 rfl ?_
  refine x_iload_n C dX7_clear_2 rfl rfl ?_
  refine x_iconst C dX7_clear_3 kc_5 ?_
  refine x_icmp_geF (tgt := 20) C (by decide +kernel) dX7_clear_4 rfl ?_
  refine x_aload_n C dX7_clear_7 rfl rfl ?_
  refine x_get C gcX7 h14 0 rfl q506 rfl dX7_clear_8 ?_
  refine x_iload_n C dX7_clear_11 rfl rfl ?_
  refine x_lconst (v := 0) C dX7_clear_12 rfl ?_
  refine y_last (i := 3) C h12 rfl (by omega) rfl dX7_clear_13 (fun M16 h17 k18 => ?_)
  have h19 := (k18 _ how).trans h14
  have k20 : ∀ zz : Nat, zz ≠ w → M16 zz = M0 zz := fun zz z0 => (k18 zz z0).trans (k15 zz z0)
  refine x_iincN (z := 1) C dX7_clear_14 rfl (gs1_1 rfl) rfl ?_
  refine x_goto (tgt := 2) C dX7_clear_17 rfl ?_
  refine x_iload_n C dX7_clear_2 rfl rfl ?_
  refine x_iconst C dX7_clear_3 kc_5 ?_
  refine x_icmp_geF (tgt := 20) C (by decide +kernel) dX7_clear_4 rfl ?_
  refine x_aload_n C dX7_clear_7 rfl rfl ?_
  refine x_get C gcX7 h19 0 rfl q506 rfl dX7_clear_8 ?_
  refine x_iload_n C dX7_clear_11 rfl rfl ?_
  refine x_lconst (v := 0) C dX7_clear_12 rfl ?_
  refine y_last (i := 4) C h17 rfl (by omega) rfl dX7_clear_13 (fun M21 h22 k23 => ?_)
  have h24 := (k23 _ how).trans h19
  have k25 : ∀ zz : Nat, zz ≠ w → M21 zz = M0 zz := fun zz z0 => (k23 zz z0).trans (k20 zz z0)
  refine x_iincN (z := 1) C dX7_clear_14 rfl (gs1_1 rfl) rfl ?_
  refine x_goto (tgt := 2) C dX7_clear_17 rfl ?_
  refine x_iload_n C dX7_clear_2 rfl rfl ?_
  refine x_iconst C dX7_clear_3 kc_5 ?_
  refine x_icmp_geT (tgt := 20) C (by decide +kernel) dX7_clear_4 rfl ?_
  refine x_vret C dX7_clear_20 ⟨Nat.le_of_ble_eq_true rfl, Nat.le_of_ble_eq_true rfl⟩ ⟨⟨h24, Eq.trans h22 ?_⟩, k25⟩
  exact congrArg (fun y => some (lW, (.inl (G.2.1 1, 5, .inr (.inl y)) : va_E))) (clipL_eq (fun j hj => by rcases (by omega : j = 0 ∨ j = 1 ∨ j = 2 ∨ j = 3 ∨ j = 4) with rfl | rfl | rfl | rfl | rfl <;> simp [vp_updL]))
theorem mi_X7_add : gMV RX7 yX7_add cX7_add 3 none 1 := ⟨q1935, q1936, q143, q1937, by decide +kernel⟩
set_option maxHeartbeats 4000000 in
set_option maxRecDepth 100000 in
theorem met_X7_add (l : Launch) {G : gG} (hG : gOK G) {M0 : gM} {o w : Nat} {lO lW : Nat × Nat} {Z : Nat → Int64} {o2 w2 : Nat} {mO mW : Nat × Nat} {Y : Nat → Int64} (h : SU G lO lW o w Z M0) (hY : SU G mO mW o2 w2 Y M0) (hne : w2 ≠ w) : Met l yX7_add (ws_ yX7_add cX7_add 3 none) ({ frames := 0, cells := 0, slots := 0, locals := 0 }) (gPre G M0 [.ref (o), .ref (o2)]) (gQ G (gV (fun M1 => SU G lO lW o w (fun k => Z k + Y k) M1 ∧ ∀ z, z ≠ w → M1 z = M0 z))) 0 0 (gA G) := by
  refine gMet (L0 := [some (.ref (o)), some (.ref (o2)), none]) RX7 hG (by decide +kernel) rfl (Nat.le_of_ble_eq_true rfl) rfl ?_
  intro p e s m args below meth c C hnm
  have how : o ≠ w := fun e => by have := h.1; rw [e, h.2] at this; cases this
  have how2 : o2 ≠ w := fun e => by have := hY.1; rw [e, h.2] at this; cases this
  refine x_iconst C dX7_add_0 kc_0 ?_
  refine x_istore_n C dX7_add_1 rfl (gs1_2 rfl) rfl ?_
  refine x_iload_n C dX7_add_2 rfl rfl ?_
  refine x_iconst C dX7_add_3 kc_5 ?_
  refine x_icmp_geF (tgt := 28) C (by decide +kernel) dX7_add_4 rfl ?_
  refine x_aload_n C dX7_add_7 rfl rfl ?_
  refine x_get C gcX7 h.1 0 rfl q506 rfl dX7_add_8 ?_
  refine x_iload_n C dX7_add_11 rfl rfl ?_
  refine x_dup2 C dX7_add_12 rfl rfl ?_
  refine y_lald (i := 0) C h.2 rfl (by omega) rfl dX7_add_13 ?_
  refine x_aload_n C dX7_add_14 rfl rfl ?_
  refine x_get C gcX7 hY.1 0 rfl q506 rfl dX7_add_15 ?_
  refine x_iload_n C dX7_add_18 rfl rfl ?_
  refine y_lald (i := 0) C hY.2 rfl (by omega) rfl dX7_add_19 ?_
  refine x_ladd C dX7_add_20 ?_
  refine y_last (i := 0) C h.2 rfl (by omega) rfl dX7_add_21 (fun M1 h2 k3 => ?_)
  have h4 := (k3 _ how).trans h.1
  have h5 := (k3 _ how2).trans hY.1
  have h6 := (k3 _ hne).trans hY.2
  have k7 : ∀ zz : Nat, zz ≠ w → M1 zz = M0 zz := fun zz z0 => k3 zz z0
  refine x_iincN (z := 1) C dX7_add_22 rfl (gs1_2 rfl) rfl ?_
  refine x_goto (tgt := 2) C dX7_add_25 rfl ?_
  refine x_iload_n C dX7_add_2 rfl rfl ?_
  refine x_iconst C dX7_add_3 kc_5 ?_
  refine x_icmp_geF (tgt := 28) C (by decide +kernel) dX7_add_4 rfl ?_
  refine x_aload_n C dX7_add_7 rfl rfl ?_
  refine x_get C gcX7 h4 0 rfl q506 rfl dX7_add_8 ?_
  refine x_iload_n C dX7_add_11 rfl rfl ?_
  refine x_dup2 C dX7_add_12 rfl rfl ?_
  refine y_lald (i := 1) C h2 rfl (by omega) rfl dX7_add_13 ?_
  refine x_aload_n C dX7_add_14 rfl rfl ?_
  refine x_get C gcX7 h5 0 rfl q506 rfl dX7_add_15 ?_
  refine x_iload_n C dX7_add_18 rfl rfl ?_
  refine y_lald (i := 1) C h6 rfl (by omega) rfl dX7_add_19 ?_
  refine x_ladd C dX7_add_20 ?_
  refine y_last (i := 1) C h2 rfl (by omega) rfl dX7_add_21 (fun M8 h9 k10 => ?_)
  have h11 := (k10 _ how).trans h4
  have h12 := (k10 _ how2).trans h5
  have h13 := (k10 _ hne).trans h6
  have k14 : ∀ zz : Nat, zz ≠ w → M8 zz = M0 zz := fun zz z0 => (k10 zz z0).trans (k7 zz z0)
  refine x_iincN (z := 1) C dX7_add_22 rfl (gs1_2 rfl) rfl ?_
  refine x_goto (tgt := 2) C dX7_add_25 rfl ?_
  refine x_iload_n C dX7_add_2 rfl rfl ?_
  refine x_iconst C dX7_add_3 kc_5 ?_
  refine x_icmp_geF (tgt := 28) C (by decide +kernel) dX7_add_4 rfl ?_
  refine x_aload_n C dX7_add_7 rfl rfl ?_
  refine x_get C gcX7 h11 0 rfl q506 rfl dX7_add_8 ?_
  refine x_iload_n C dX7_add_11 rfl rfl ?_
  refine x_dup2 C dX7_add_12 rfl rfl ?_
  refine y_lald (i := 2) C h9 rfl (by omega) rfl dX7_add_13 ?_
  refine x_aload_n C dX7_add_14 rfl rfl ?_
  refine x_get C gcX7 h12 0 rfl q506 rfl dX7_add_15 ?_
  refine x_iload_n C dX7_add_18 rfl rfl ?_
  refine y_lald (i := 2) C h13 rfl (by omega) rfl dX7_add_19 ?_
  refine x_ladd C dX7_add_20 ?_
  refine y_last (i := 2) C h9 rfl (by omega) rfl dX7_add_21 (fun M15 h16 k17 => ?_)
  have h18 := (k17 _ how).trans h11
  have h19 := (k17 _ how2).trans h12
  have h20 := (k17 _ hne).trans h13
  have k21 : ∀ zz : Nat, zz ≠ w → M15 zz = M0 zz := fun zz z0 => (k17 zz z0).trans (k14 zz z0)
  refine x_iincN (z := 1) C dX7_add_22 rfl (gs1_2 rfl) rfl ?_
  refine x_goto (tgt := 2) C dX7_add_25 rfl ?_
  refine x_iload_n C dX7_add_2 rfl rfl ?_
  refine x_iconst C dX7_add_3 kc_5 ?_
  refine x_icmp_geF (tgt := 28) C (by decide +kernel) dX7_add_4 rfl ?_
  refine x_aload_n C dX7_add_7 rfl rfl ?_
  refine x_get C gcX7 h18 0 rfl q506 rfl dX7_add_8 ?_
  refine x_iload_n C dX7_add_11 rfl rfl ?_
  refine x_dup2 C dX7_add_12 rfl rfl ?_
  refine y_lald (i := 3) C h16 rfl (by omega) rfl dX7_add_13 ?_
  refine x_aload_n C dX7_add_14 rfl rfl ?_
  refine x_get C gcX7 h19 0 rfl q506 rfl dX7_add_15 ?_
  refine x_iload_n C dX7_add_18 rfl rfl ?_
  refine y_lald (i := 3) C h20 rfl (by omega) rfl dX7_add_19 ?_
  refine x_ladd C dX7_add_20 ?_
  refine y_last (i := 3) C h16 rfl (by omega) rfl dX7_add_21 (fun M22 h23 k24 => ?_)
  have h25 := (k24 _ how).trans h18
  have h26 := (k24 _ how2).trans h19
  have h27 := (k24 _ hne).trans h20
  have k28 : ∀ zz : Nat, zz ≠ w → M22 zz = M0 zz := fun zz z0 => (k24 zz z0).trans (k21 zz z0)
  refine x_iincN (z := 1) C dX7_add_22 rfl (gs1_2 rfl) rfl ?_
  refine x_goto (tgt := 2) C dX7_add_25 rfl ?_
  refine x_iload_n C dX7_add_2 rfl rfl ?_
  refine x_iconst C dX7_add_3 kc_5 ?_
  refine x_icmp_geF (tgt := 28) C (by decide +kernel) dX7_add_4 rfl ?_
  refine x_aload_n C dX7_add_7 rfl rfl ?_
  refine x_get C gcX7 h25 0 rfl q506 rfl dX7_add_8 ?_
  refine x_iload_n C dX7_add_11 rfl rfl ?_
  refine x_dup2 C dX7_add_12 rfl rfl ?_
  refine y_lald (i := 4) C h23 rfl (by omega) rfl dX7_add_13 ?_
  refine x_aload_n C dX7_add_14 rfl rfl ?_
  refine x_get C gcX7 h26 0 rfl q506 rfl dX7_add_15 ?_
  refine x_iload_n C dX7_add_18 rfl rfl ?_
  refine y_lald (i := 4) C h27 rfl (by omega) rfl dX7_add_19 ?_
  refine x_ladd C dX7_add_20 ?_
  refine y_last (i := 4) C h23 rfl (by omega) rfl dX7_add_21 (fun M29 h30 k31 => ?_)
  have h32 := (k31 _ how).trans h25
  have h33 := (k31 _ how2).trans h26
  have h34 := (k31 _ hne).trans h27
  have k35 : ∀ zz : Nat, zz ≠ w → M29 zz = M0 zz := fun zz z0 => (k31 zz z0).trans (k28 zz z0)
  refine x_iincN (z := 1) C dX7_add_22 rfl (gs1_2 rfl) rfl ?_
  refine x_goto (tgt := 2) C dX7_add_25 rfl ?_
  refine x_iload_n C dX7_add_2 rfl rfl ?_
  refine x_iconst C dX7_add_3 kc_5 ?_
  refine x_icmp_geT (tgt := 28) C (by decide +kernel) dX7_add_4 rfl ?_
  refine x_vret C dX7_add_28 ⟨Nat.le_of_ble_eq_true rfl, Nat.le_of_ble_eq_true rfl⟩ ⟨⟨h32, Eq.trans h30 ?_⟩, k35⟩
  exact congrArg (fun y => some (lW, (.inl (G.2.1 1, 5, .inr (.inl y)) : va_E))) (clipL_eq (fun j hj => by rcases (by omega : j = 0 ∨ j = 1 ∨ j = 2 ∨ j = 3 ∨ j = 4) with rfl | rfl | rfl | rfl | rfl <;> simp [vp_updL]))
theorem mi_X7_be : gMV RX7 yX7_be cX7_be 3 none 1 := ⟨q1673, q1674, q143, q1675, by decide +kernel⟩
set_option maxHeartbeats 4000000 in
set_option maxRecDepth 100000 in
theorem met_X7_be (l : Launch) {G : gG} (hG : gOK G) {M0 : gM} {o w : Nat} {lO lW : Nat × Nat} {Z : Nat → Int64} {o2 w2 : Nat} {mO mW : Nat × Nat} {Y : Nat → Int64} (h : SU G lO lW o w Z M0) (hY : SU G mO mW o2 w2 Y M0) (hne : w2 ≠ w) : Met l yX7_be (ws_ yX7_be cX7_be 3 none) ({ frames := 0, cells := 0, slots := 0, locals := 0 }) (gPre G M0 [.ref (o), .ref (o2)]) (gQ G (gV (fun M1 => SU G lO lW o w (Y) M1 ∧ ∀ z, z ≠ w → M1 z = M0 z))) 0 0 (gA G) := by
  refine gMet (L0 := [some (.ref (o)), some (.ref (o2)), none]) RX7 hG (by decide +kernel) rfl (Nat.le_of_ble_eq_true rfl) rfl ?_
  intro p e s m args below meth c C hnm
  have how : o ≠ w := fun e => by have := h.1; rw [e, h.2] at this; cases this
  have how2 : o2 ≠ w := fun e => by have := hY.1; rw [e, h.2] at this; cases this
  refine x_iconst C dX7_be_0 kc_0 ?_
  refine x_istore_n C dX7_be_1 rfl (gs1_2 rfl) rfl ?_
  refine x_iload_n C dX7_be_2 rfl rfl ?_
  refine x_iconst C dX7_be_3 kc_5 ?_
  refine x_icmp_geF (tgt := 25) C (by decide +kernel) dX7_be_4 rfl ?_
  refine x_aload_n C dX7_be_7 rfl rfl ?_
  refine x_get C gcX7 h.1 0 rfl q506 rfl dX7_be_8 ?_
  refine x_iload_n C dX7_be_11 rfl rfl ?_
  refine x_aload_n C dX7_be_12 rfl rfl ?_
  refine x_get C gcX7 hY.1 0 rfl q506 rfl dX7_be_13 ?_
  refine x_iload_n C dX7_be_16 rfl rfl ?_
  refine y_lald (i := 0) C hY.2 rfl (by omega) rfl dX7_be_17 ?_
  refine y_last (i := 0) C h.2 rfl (by omega) rfl dX7_be_18 (fun M1 h2 k3 => ?_)
  have h4 := (k3 _ how).trans h.1
  have h5 := (k3 _ how2).trans hY.1
  have h6 := (k3 _ hne).trans hY.2
  have k7 : ∀ zz : Nat, zz ≠ w → M1 zz = M0 zz := fun zz z0 => k3 zz z0
  refine x_iincN (z := 1) C dX7_be_19 rfl (gs1_2 rfl) rfl ?_
  refine x_goto (tgt := 2) C dX7_be_22 rfl ?_
  refine x_iload_n C dX7_be_2 rfl rfl ?_
  refine x_iconst C dX7_be_3 kc_5 ?_
  refine x_icmp_geF (tgt := 25) C (by decide +kernel) dX7_be_4 rfl ?_
  refine x_aload_n C dX7_be_7 rfl rfl ?_
  refine x_get C gcX7 h4 0 rfl q506 rfl dX7_be_8 ?_
  refine x_iload_n C dX7_be_11 rfl rfl ?_
  refine x_aload_n C dX7_be_12 rfl rfl ?_
  refine x_get C gcX7 h5 0 rfl q506 rfl dX7_be_13 ?_
  refine x_iload_n C dX7_be_16 rfl rfl ?_
  refine y_lald (i := 1) C h6 rfl (by omega) rfl dX7_be_17 ?_
  refine y_last (i := 1) C h2 rfl (by omega) rfl dX7_be_18 (fun M8 h9 k10 => ?_)
  have h11 := (k10 _ how).trans h4
  have h12 := (k10 _ how2).trans h5
  have h13 := (k10 _ hne).trans h6
  have k14 : ∀ zz : Nat, zz ≠ w → M8 zz = M0 zz := fun zz z0 => (k10 zz z0).trans (k7 zz z0)
  refine x_iincN (z := 1) C dX7_be_19 rfl (gs1_2 rfl) rfl ?_
  refine x_goto (tgt := 2) C dX7_be_22 rfl ?_
  refine x_iload_n C dX7_be_2 rfl rfl ?_
  refine x_iconst C dX7_be_3 kc_5 ?_
  refine x_icmp_geF (tgt := 25) C (by decide +kernel) dX7_be_4 rfl ?_
  refine x_aload_n C dX7_be_7 rfl rfl ?_
  refine x_get C gcX7 h11 0 rfl q506 rfl dX7_be_8 ?_
  refine x_iload_n C dX7_be_11 rfl rfl ?_
  refine x_aload_n C dX7_be_12 rfl rfl ?_
  refine x_get C gcX7 h12 0 rfl q506 rfl dX7_be_13 ?_
  refine x_iload_n C dX7_be_16 rfl rfl ?_
  refine y_lald (i := 2) C h13 rfl (by omega) rfl dX7_be_17 ?_
  refine y_last (i := 2) C h9 rfl (by omega) rfl dX7_be_18 (fun M15 h16 k17 => ?_)
  have h18 := (k17 _ how).trans h11
  have h19 := (k17 _ how2).trans h12
  have h20 := (k17 _ hne).trans h13
  have k21 : ∀ zz : Nat, zz ≠ w → M15 zz = M0 zz := fun zz z0 => (k17 zz z0).trans (k14 zz z0)
  refine x_iincN (z := 1) C dX7_be_19 rfl (gs1_2 rfl) rfl ?_
  refine x_goto (tgt := 2) C dX7_be_22 rfl ?_
  refine x_iload_n C dX7_be_2 rfl rfl ?_
  refine x_iconst C dX7_be_3 kc_5 ?_
  refine x_icmp_geF (tgt := 25) C (by decide +kernel) dX7_be_4 rfl ?_
  refine x_aload_n C dX7_be_7 rfl rfl ?_
  refine x_get C gcX7 h18 0 rfl q506 rfl dX7_be_8 ?_
  refine x_iload_n C dX7_be_11 rfl rfl ?_
  refine x_aload_n C dX7_be_12 rfl rfl ?_
  refine x_get C gcX7 h19 0 rfl q506 rfl dX7_be_13 ?_
  refine x_iload_n C dX7_be_16 rfl rfl ?_
  refine y_lald (i := 3) C h20 rfl (by omega) rfl dX7_be_17 ?_
  refine y_last (i := 3) C h16 rfl (by omega) rfl dX7_be_18 (fun M22 h23 k24 => ?_)
  have h25 := (k24 _ how).trans h18
  have h26 := (k24 _ how2).trans h19
  have h27 := (k24 _ hne).trans h20
  have k28 : ∀ zz : Nat, zz ≠ w → M22 zz = M0 zz := fun zz z0 => (k24 zz z0).trans (k21 zz z0)
  refine x_iincN (z := 1) C dX7_be_19 rfl (gs1_2 rfl) rfl ?_
  refine x_goto (tgt := 2) C dX7_be_22 rfl ?_
  refine x_iload_n C dX7_be_2 rfl rfl ?_
  refine x_iconst C dX7_be_3 kc_5 ?_
  refine x_icmp_geF (tgt := 25) C (by decide +kernel) dX7_be_4 rfl ?_
  refine x_aload_n C dX7_be_7 rfl rfl ?_
  refine x_get C gcX7 h25 0 rfl q506 rfl dX7_be_8 ?_
  refine x_iload_n C dX7_be_11 rfl rfl ?_
  refine x_aload_n C dX7_be_12 rfl rfl ?_
  refine x_get C gcX7 h26 0 rfl q506 rfl dX7_be_13 ?_
  refine x_iload_n C dX7_be_16 rfl rfl ?_
  refine y_lald (i := 4) C h27 rfl (by omega) rfl dX7_be_17 ?_
  refine y_last (i := 4) C h23 rfl (by omega) rfl dX7_be_18 (fun M29 h30 k31 => ?_)
  have h32 := (k31 _ how).trans h25
  have h33 := (k31 _ how2).trans h26
  have h34 := (k31 _ hne).trans h27
  have k35 : ∀ zz : Nat, zz ≠ w → M29 zz = M0 zz := fun zz z0 => (k31 zz z0).trans (k28 zz z0)
  refine x_iincN (z := 1) C dX7_be_19 rfl (gs1_2 rfl) rfl ?_
  refine x_goto (tgt := 2) C dX7_be_22 rfl ?_
  refine x_iload_n C dX7_be_2 rfl rfl ?_
  refine x_iconst C dX7_be_3 kc_5 ?_
  refine x_icmp_geT (tgt := 25) C (by decide +kernel) dX7_be_4 rfl ?_
  refine x_vret C dX7_be_25 ⟨Nat.le_of_ble_eq_true rfl, Nat.le_of_ble_eq_true rfl⟩ ⟨⟨h32, Eq.trans h30 ?_⟩, k35⟩
  exact congrArg (fun y => some (lW, (.inl (G.2.1 1, 5, .inr (.inl y)) : va_E))) (clipL_eq (fun j hj => by rcases (by omega : j = 0 ∨ j = 1 ∨ j = 2 ∨ j = 3 ∨ j = 4) with rfl | rfl | rfl | rfl | rfl <;> simp [vp_updL]))
theorem mi_X7_tax : gMV RX7 yX7_tax cX7_tax 1 (some .long) 0 := ⟨q1872, q1873, q143, q1874, by decide +kernel⟩
set_option maxHeartbeats 4000000 in
set_option maxRecDepth 100000 in
theorem met_X7_tax (l : Launch) {G : gG} (hG : gOK G) {M0 : gM} {o w : Nat} {lO lW : Nat × Nat} {Z : Nat → Int64} (h : SU G lO lW o w Z M0) : Met l yX7_tax (ws_ yX7_tax cX7_tax 1 (some .long)) ({ frames := 0, cells := 0, slots := 0, locals := 0 }) (gPre G M0 [.ref (o)]) (gQ G (gJ (fun r M1 => M1 = M0 ∧ pWh Z = r))) 0 0 (gA G) := by
  refine gMet (L0 := [some (.ref (o))]) RX7 hG (by decide +kernel) rfl (Nat.le_of_ble_eq_true rfl) rfl ?_
  intro p e s m args below meth c C hnm
  refine x_aload_n C dX7_tax_0 rfl rfl ?_
  refine x_get C gcX7 h.1 0 rfl q506 rfl dX7_tax_1 ?_
  refine x_iconst C dX7_tax_4 kc_2 ?_
  refine y_lald (i := 2) C h.2 rfl (by omega) rfl dX7_tax_5 ?_
  refine x_aload_n C dX7_tax_6 rfl rfl ?_
  refine x_get C gcX7 h.1 0 rfl q506 rfl dX7_tax_7 ?_
  refine x_iconst C dX7_tax_10 kc_3 ?_
  refine y_lald (i := 3) C h.2 rfl (by omega) rfl dX7_tax_11 ?_
  refine x_ladd C dX7_tax_12 ?_
  refine x_aload_n C dX7_tax_13 rfl rfl ?_
  refine x_get C gcX7 h.1 0 rfl q506 rfl dX7_tax_14 ?_
  refine x_iconst C dX7_tax_17 kc_4 ?_
  refine y_lald (i := 4) C h.2 rfl (by omega) rfl dX7_tax_18 ?_
  refine x_ladd C dX7_tax_19 ?_
  exact x_lret C dX7_tax_20 ⟨Nat.le_of_ble_eq_true rfl, Nat.le_of_ble_eq_true rfl⟩ ⟨rfl, rfl⟩
theorem mi_X7_backPlain : gMV RX7 yX7_backPlain cX7_backPlain 4 (some .long) 3 := ⟨q1863, q1864, q143, q1865, by decide +kernel⟩
set_option maxHeartbeats 4000000 in
set_option maxRecDepth 100000 in
theorem met_X7_backPlain (l : Launch) {G : gG} (hG : gOK G) {M0 : gM} {o w : Nat} {lO lW : Nat × Nat} {Z : Nat → Int64} {wv wk : Nat} {f step : Int32} (h : SU G lO lW o w Z M0) (hwy : WY G wk wv M0) (hz : zB Z) (hf : fB step f) : Met l yX7_backPlain (ws_ yX7_backPlain cX7_backPlain 4 (some .long)) ({ frames := 4, cells := 0, slots := 0, locals := 96 }) (gPre G M0 [.ref (o), .int (f), .int (step), .ref (wv)]) (gQ G (gJ (fun r M1 => M1 = M0 ∧ pIts (nI wk) step f Z = r))) 0 0 (gA G) := by
  refine gMet (L0 := [some (.ref (o)), some (.int (f)), some (.int (step)), some (.ref (wv))]) RX7 hG (by decide +kernel) rfl (Nat.le_of_ble_eq_true rfl) rfl ?_
  intro p e s m args below meth c C hnm
  obtain ⟨jw, aw, hwc, -⟩ := id hwy
  refine x_aload_n C dX7_backPlain_0 rfl rfl ?_
  refine x_get C gcX7 h.1 0 rfl q506 rfl dX7_backPlain_1 ?_
  refine x_iconst C dX7_backPlain_4 kc_2 ?_
  refine y_lald (i := 2) C h.2 rfl (by omega) rfl dX7_backPlain_5 ?_
  refine x_aload_n C dX7_backPlain_6 rfl rfl ?_
  refine x_aload_n C dX7_backPlain_7 rfl rfl ?_
  refine x_get C gcX7 h.1 0 rfl q506 rfl dX7_backPlain_8 ?_
  refine x_iconst C dX7_backPlain_11 kc_4 ?_
  refine y_lald (i := 4) C h.2 rfl (by omega) rfl dX7_backPlain_12 ?_
  refine x_iload_n C dX7_backPlain_13 rfl rfl ?_
  refine x_i2l C dX7_backPlain_14 ?_
  refine x_lmul C dX7_backPlain_15 ?_
  refine x_iload_n C dX7_backPlain_16 rfl rfl ?_
  refine x_i2l C dX7_backPlain_17 ?_
  refine x_V2I C (met_X2_cut l C.1 hwy (its_rng (way := nI wk) hz hf).2.2.1 (its_rng (way := nI wk) hz hf).2.2.2.1 (its_rng (way := nI wk) hz hf).2.2.2.2) mi_X2_cut q1866 gcX2 hwc ⟨rfl, rfl⟩ rfl ⟨Nat.le_of_ble_eq_true rfl, Nat.le_of_ble_eq_true rfl⟩ rfl dX7_backPlain_18 (fun r2 M1 hr => ?_)
  obtain ⟨hr, rfl⟩ := hr
  rw [hr]
  refine x_i2l C dX7_backPlain_21 ?_
  refine x_ladd C dX7_backPlain_22 ?_
  exact x_lret C dX7_backPlain_23 ⟨Nat.le_of_ble_eq_true rfl, Nat.le_of_ble_eq_true rfl⟩ ⟨rfl, (its_eq hz hf).symm⟩
theorem mi_X7_isSmall : gMV RX7 yX7_isSmall cX7_isSmall 4 (some .boolean) 2 := ⟨q1868, q1869, q143, q1870, by decide +kernel⟩
set_option maxHeartbeats 4000000 in
set_option maxRecDepth 100000 in
theorem met_X7_isSmall (l : Launch) {G : gG} (hG : gOK G) {M0 : gM} {o w : Nat} {lO lW : Nat × Nat} {Z : Nat → Int64} {b : Int64} {lim : Int32} (h : SU G lO lW o w Z M0) : Met l yX7_isSmall (ws_ yX7_isSmall cX7_isSmall 4 (some .boolean)) ({ frames := 1, cells := 0, slots := 0, locals := 20 }) (gPre G M0 [.ref (o), .long (b), .int (lim)]) (gQ G (gI (fun r M1 => (M1 = M0 ∧ nI 1 = r ∧ pWh Z - b ≤ lim.toInt64 ∧ 2 * (pWh Z - b) ≤ pWh Z) ∨ (M1 = M0 ∧ nI 0 = r ∧ ¬ (pWh Z - b ≤ lim.toInt64 ∧ 2 * (pWh Z - b) ≤ pWh Z))))) 0 0 (gA G) := by
  refine gMet (L0 := [some (.ref (o)), some (.long (b)), none, some (.int (lim))]) RX7 hG (by decide +kernel) rfl (Nat.le_of_ble_eq_true rfl) rfl ?_
  intro p e s m args below meth c C hnm
  refine x_aload_n C dX7_isSmall_0 rfl rfl ?_
  refine x_V0J C (met_X7_tax l C.1 h) mi_X7_tax q1871 gcX7 h.1 ⟨rfl, rfl⟩ rfl ⟨Nat.le_of_ble_eq_true rfl, Nat.le_of_ble_eq_true rfl⟩ rfl dX7_isSmall_1 (fun r2 M1 hr => ?_)
  obtain ⟨hr, rfl⟩ := hr
  rw [hr]
  refine x_lload_n C dX7_isSmall_4 rfl rfl ?_
  refine x_lsub C dX7_isSmall_5 ?_
  refine x_iload_n C dX7_isSmall_6 rfl rfl ?_
  refine x_i2l C dX7_isSmall_7 ?_
  refine x_lcmp C dX7_isSmall_8 ?_
  refine x_if_gtL (tgt := 34) C dX7_isSmall_9 rfl (fun c9 => ?_) (fun c9 => ?_)
  · -- 34
    refine x_iconst C dX7_isSmall_34 kc_0 ?_
    exact x_zret C (by decide +kernel) dX7_isSmall_35 ⟨Nat.le_of_ble_eq_true rfl, Nat.le_of_ble_eq_true rfl⟩ (Or.inr ⟨rfl, rfl, fun q => absurd c9 (i64_nlt' q.1)⟩)
  · -- 12
    refine x_ldc2 C dX7_isSmall_12 q1875 ?_
    refine x_aload_n C dX7_isSmall_15 rfl rfl ?_
    refine x_V0J C (met_X7_tax l C.1 h) mi_X7_tax q1871 gcX7 h.1 ⟨rfl, rfl⟩ rfl ⟨Nat.le_of_ble_eq_true rfl, Nat.le_of_ble_eq_true rfl⟩ rfl dX7_isSmall_16 (fun r4 M3 hr => ?_)
    obtain ⟨hr, rfl⟩ := hr
    rw [hr]
    refine x_lload_n C dX7_isSmall_19 rfl rfl ?_
    refine x_lsub C dX7_isSmall_20 ?_
    refine x_lmul C dX7_isSmall_21 ?_
    refine x_aload_n C dX7_isSmall_22 rfl rfl ?_
    refine x_V0J C (met_X7_tax l C.1 h) mi_X7_tax q1871 gcX7 h.1 ⟨rfl, rfl⟩ rfl ⟨Nat.le_of_ble_eq_true rfl, Nat.le_of_ble_eq_true rfl⟩ rfl dX7_isSmall_23 (fun r6 M5 hr => ?_)
    obtain ⟨hr, rfl⟩ := hr
    rw [hr]
    refine x_lcmp C dX7_isSmall_26 ?_
    refine x_if_gtL (tgt := 34) C dX7_isSmall_27 rfl (fun c27 => ?_) (fun c27 => ?_)
    · -- 34
      refine x_iconst C dX7_isSmall_34 kc_0 ?_
      exact x_zret C (by decide +kernel) dX7_isSmall_35 ⟨Nat.le_of_ble_eq_true rfl, Nat.le_of_ble_eq_true rfl⟩ (Or.inr ⟨rfl, rfl, fun q => absurd c27 (i64_nlt' q.2)⟩)
    · -- 30
      refine x_iconst C dX7_isSmall_30 kc_1 ?_
      refine x_goto (tgt := 35) C dX7_isSmall_31 rfl ?_
      exact x_zret C (by decide +kernel) dX7_isSmall_35 ⟨Nat.le_of_ble_eq_true rfl, Nat.le_of_ble_eq_true rfl⟩ (Or.inl ⟨rfl, rfl, i64_nlt c9, i64_nlt c27⟩)
theorem mi_X7_back : gMV RX7 yX7_back cX7_back 7 (some .int) 4 := ⟨q1859, q1860, q143, q1861, by decide +kernel⟩
set_option maxHeartbeats 4000000 in
set_option maxRecDepth 100000 in
theorem met_X7_back (l : Launch) {G : gG} (hG : gOK G) {M0 : gM} {o w : Nat} {lO lW : Nat × Nat} {Z : Nat → Int64} {wv wk : Nat} {f step lim : Int32} (h : SU G lO lW o w Z M0) (hwy : WY G wk wv M0) (hz : zB Z) (hf : fB step f) : Met l yX7_back (ws_ yX7_back cX7_back 7 (some .int)) ({ frames := 5, cells := 0, slots := 0, locals := 119 }) (gPre G M0 [.ref (o), .int (f), .int (step), .ref (wv), .int (lim)]) (gQ G (gI (fun r M1 => M1 = M0 ∧ pBack (nI wk) step f lim Z = r))) 0 0 (gA G) := by
  refine gMet (L0 := [some (.ref (o)), some (.int (f)), some (.int (step)), some (.ref (wv)), some (.int (lim)), none, none]) RX7 hG (by decide +kernel) rfl (Nat.le_of_ble_eq_true rfl) rfl ?_
  intro p e s m args below meth c C hnm
  obtain ⟨jw, aw, hwc, -⟩ := id hwy
  refine x_aload_n C dX7_back_0 rfl rfl ?_
  refine x_iload_n C dX7_back_1 rfl rfl ?_
  refine x_iload_n C dX7_back_2 rfl rfl ?_
  refine x_aload_n C dX7_back_3 rfl rfl ?_
  refine x_V3J C (met_X7_backPlain l C.1 h hwy hz hf) mi_X7_backPlain q1862 gcX7 h.1 ⟨rfl, rfl⟩ rfl ⟨Nat.le_of_ble_eq_true rfl, Nat.le_of_ble_eq_true rfl⟩ rfl dX7_back_4 (fun r2 M1 hr => ?_)
  obtain ⟨hr, rfl⟩ := hr
  rw [hr]
  refine x_lstore C dX7_back_7 (gs2_5 rfl) rfl ?_
  refine x_aload_n C dX7_back_9 rfl rfl ?_
  refine x_lload C dX7_back_10 rfl ?_
  refine x_iload C dX7_back_12 rfl ?_
  refine x_V2I C (met_X7_isSmall l C.1 h) mi_X7_isSmall q1867 gcX7 h.1 ⟨rfl, rfl⟩ rfl ⟨Nat.le_of_ble_eq_true rfl, Nat.le_of_ble_eq_true rfl⟩ rfl dX7_back_14 (fun r4 M3 hr => ?_)
  rcases hr with ⟨hr, rfl, p14⟩ | ⟨hr, rfl, p14⟩
  · -- small 1
    rw [hr]
    refine x_if_eqF (tgt := 27) C (by decide) dX7_back_17 rfl ?_
    refine x_aload_n C dX7_back_20 rfl rfl ?_
    refine x_V0J C (met_X7_tax l C.1 h) mi_X7_tax q1871 gcX7 h.1 ⟨rfl, rfl⟩ rfl ⟨Nat.le_of_ble_eq_true rfl, Nat.le_of_ble_eq_true rfl⟩ rfl dX7_back_21 (fun r6 M5 hr => ?_)
    obtain ⟨hr, rfl⟩ := hr
    rw [hr]
    refine x_goto (tgt := 29) C dX7_back_24 rfl ?_
    refine x_l2i C dX7_back_29 ?_
    exact x_iret C dX7_back_30 ⟨Nat.le_of_ble_eq_true rfl, Nat.le_of_ble_eq_true rfl⟩ ⟨rfl, by unfold pBack; rw [if_pos p14]⟩
  · -- small 0
    rw [hr]
    refine x_if_eqT (tgt := 27) C (by decide) dX7_back_17 rfl ?_
    refine x_lload C dX7_back_27 rfl ?_
    refine x_l2i C dX7_back_29 ?_
    exact x_iret C dX7_back_30 ⟨Nat.le_of_ble_eq_true rfl, Nat.le_of_ble_eq_true rfl⟩ ⟨rfl, by unfold pBack; rw [if_neg p14]⟩
