set_option maxRecDepth 100000
theorem mi_J12_inc : gMS yJ12_inc cJ12_inc 2 (some .int) 2 := ⟨q1095, q141, q1096, by decide +kernel⟩
set_option maxHeartbeats 4000000 in
set_option maxRecDepth 100000 in
theorem met_J12_inc (l : Launch) {G : gG} (hG : gOK G) {M0 : gM} {i c9 : Nat} (hi : i < c9) (hc : c9 < 1000000) : Met l yJ12_inc (ws_ yJ12_inc cJ12_inc 2 (some .int)) ({ frames := 0, cells := 0, slots := 0, locals := 0 }) (gPre G M0 [.int (nI i), .int (nI c9)]) (gQ G (gI (fun r M1 => M1 = M0 ∧ nI ((i + 1) % c9) = r))) 0 0 (gA G) := by
  refine gMet (L0 := [some (.int (nI i)), some (.int (nI c9))]) RJ12 hG (by decide +kernel) rfl (Nat.le_of_ble_eq_true rfl) rfl ?_
  intro p e s m args below meth c C hnm
  refine x_iincN (z := 1) C dJ12_inc_0 rfl (gs1_0) rfl ?_
  refine x_iload_n C dJ12_inc_3 rfl rfl ?_
  refine x_iload_n C dJ12_inc_4 rfl rfl ?_
  refine x_icmp_ltN (tgt := 10) C (by omega) (by omega) dJ12_inc_5 rfl (fun c5 => ?_) (fun c5 => ?_)
  · -- 10
    refine x_iload_n C dJ12_inc_10 rfl rfl ?_
    exact x_iret C dJ12_inc_11 ⟨Nat.le_of_ble_eq_true rfl, Nat.le_of_ble_eq_true rfl⟩ ⟨rfl, by rw [Nat.mod_eq_of_lt c5]⟩
  · -- 8
    refine x_iconst C dJ12_inc_8 kc_0 ?_
    refine x_istore_n C dJ12_inc_9 rfl (gs1_0) rfl ?_
    refine x_iload_n C dJ12_inc_10 rfl rfl ?_
    exact x_iret C dJ12_inc_11 ⟨Nat.le_of_ble_eq_true rfl, Nat.le_of_ble_eq_true rfl⟩ ⟨rfl, by rw [show i + 1 = c9 by omega, Nat.mod_self]⟩
theorem mi_J12_dec : gMS yJ12_dec cJ12_dec 2 (some .int) 2 := ⟨q1890, q141, q1891, by decide +kernel⟩
set_option maxHeartbeats 4000000 in
set_option maxRecDepth 100000 in
theorem met_J12_dec (l : Launch) {G : gG} (hG : gOK G) {M0 : gM} {i c9 : Nat} (hi : i < c9) (hc : c9 < 1000000) : Met l yJ12_dec (ws_ yJ12_dec cJ12_dec 2 (some .int)) ({ frames := 0, cells := 0, slots := 0, locals := 0 }) (gPre G M0 [.int (nI i), .int (nI c9)]) (gQ G (gI (fun r M1 => M1 = M0 ∧ nI ((i + c9 - 1) % c9) = r))) 0 0 (gA G) := by
  refine gMet (L0 := [some (.int (nI i)), some (.int (nI c9))]) RJ12 hG (by decide +kernel) rfl (Nat.le_of_ble_eq_true rfl) rfl ?_
  intro p e s m args below meth c C hnm
  rcases Nat.eq_zero_or_pos i with h0 | h0
  · -- zero
    subst h0
    refine x_iinc C dJ12_dec_0 rfl (show nI 0 + Int32.ofInt (-1) = (-1) by decide) gs1_0 rfl ?_
    refine x_iload_n C dJ12_dec_3 rfl rfl ?_
    refine x_if_geF (tgt := 11) C (by decide) dJ12_dec_4 rfl ?_
    refine x_iload_n C dJ12_dec_7 rfl rfl ?_
    refine x_iconst C dJ12_dec_8 kc_1 ?_
    refine x_isubN C (by omega) dJ12_dec_9 ?_
    refine x_istore_n C dJ12_dec_10 rfl (gs1_0) rfl ?_
    refine x_iload_n C dJ12_dec_11 rfl rfl ?_
    exact x_iret C dJ12_dec_12 ⟨Nat.le_of_ble_eq_true rfl, Nat.le_of_ble_eq_true rfl⟩ ⟨rfl, by rw [show 0 + c9 - 1 = c9 - 1 by omega, Nat.mod_eq_of_lt (by omega)]⟩
  · -- more
    refine x_iinc C dJ12_dec_0 rfl (nI_dec h0) gs1_0 rfl ?_
    refine x_iload_n C dJ12_dec_3 rfl rfl ?_
    refine x_if_geT (tgt := 11) C (nI_pos' (by omega)) dJ12_dec_4 rfl ?_
    refine x_iload_n C dJ12_dec_11 rfl rfl ?_
    exact x_iret C dJ12_dec_12 ⟨Nat.le_of_ble_eq_true rfl, Nat.le_of_ble_eq_true rfl⟩ ⟨rfl, by rw [show i + c9 - 1 = i - 1 + c9 by omega, Nat.add_mod_right, Nat.mod_eq_of_lt (by omega)]⟩
theorem mi_J12_sub : gMS yJ12_sub cJ12_sub 3 (some .int) 3 := ⟨q1705, q141, q1706, by decide +kernel⟩
set_option maxHeartbeats 4000000 in
set_option maxRecDepth 100000 in
theorem met_J12_sub (l : Launch) {G : gG} (hG : gOK G) {M0 : gM} {i j c9 : Nat} (hi : i < c9) (hj : j < c9) (hc : c9 < 1000000) : Met l yJ12_sub (ws_ yJ12_sub cJ12_sub 3 (some .int)) ({ frames := 0, cells := 0, slots := 0, locals := 0 }) (gPre G M0 [.int (nI i), .int (nI j), .int (nI c9)]) (gQ G (gI (fun r M1 => M1 = M0 ∧ nI (if i < j then i + c9 - j else i - j) = r))) 0 0 (gA G) := by
  refine gMet (L0 := [some (.int (nI i)), some (.int (nI j)), some (.int (nI c9))]) RJ12 hG (by decide +kernel) rfl (Nat.le_of_ble_eq_true rfl) rfl ?_
  intro p e s m args below meth c C hnm
  rcases Nat.lt_or_ge i j with h0 | h0
  · -- less
    refine x_iload_n C dJ12_sub_0 rfl rfl ?_
    refine x_iload_n C dJ12_sub_1 rfl rfl ?_
    refine x_isub C dJ12_sub_2 ?_
    refine x_dup C dJ12_sub_3 rfl ?_
    refine x_istore_n C dJ12_sub_4 rfl (gs1_0) rfl ?_
    refine x_if_geF (tgt := 12) C (Int32.not_le.mpr (pk_sneg (by omega) h0)) dJ12_sub_5 rfl ?_
    refine x_iload_n C dJ12_sub_8 rfl rfl ?_
    refine x_iload_n C dJ12_sub_9 rfl rfl ?_
    refine x_iadd C dJ12_sub_10 ?_
    refine x_istore_n C dJ12_sub_11 rfl (gs1_0) rfl ?_
    refine x_iload_n C dJ12_sub_12 rfl rfl ?_
    exact x_iret C dJ12_sub_13 ⟨Nat.le_of_ble_eq_true rfl, Nat.le_of_ble_eq_true rfl⟩ ⟨rfl, by rw [if_pos h0, nI_sadd h0 (by omega)]⟩
  · -- not less
    refine x_iload_n C dJ12_sub_0 rfl rfl ?_
    refine x_iload_n C dJ12_sub_1 rfl rfl ?_
    refine x_isubN C (by omega) dJ12_sub_2 ?_
    refine x_dup C dJ12_sub_3 rfl ?_
    refine x_istore_n C dJ12_sub_4 rfl (gs1_0) rfl ?_
    refine x_if_geT (tgt := 12) C (nI_pos' (by omega)) dJ12_sub_5 rfl ?_
    refine x_iload_n C dJ12_sub_12 rfl rfl ?_
    exact x_iret C dJ12_sub_13 ⟨Nat.le_of_ble_eq_true rfl, Nat.le_of_ble_eq_true rfl⟩ ⟨rfl, by rw [if_neg (show ¬ i < j by omega)]⟩
theorem mi_J12_elementAt : gMS yJ12_elementAt cJ12_elementAt 2 (some (.object "java/lang/Object")) 2 := ⟨q1893, q141, q1894, by decide +kernel⟩
set_option maxHeartbeats 4000000 in
set_option maxRecDepth 100000 in
theorem met_J12_elementAt (l : Launch) {G : gG} (hG : gOK G) {M0 : gM} {el cap i : Nat} {lE : Nat × Nat} {f : Nat → Option Nat} {b : Nat} (h0 : M0 el = some (lE, .inl (G.2.1 3, cap, .inr (.inr (.inr (.inr (clipQ cap f))))))) (hi : i < cap) (hc : cap < 1000000) (hb : f i = some b) : Met l yJ12_elementAt (ws_ yJ12_elementAt cJ12_elementAt 2 (some (.object "java/lang/Object"))) ({ frames := 0, cells := 0, slots := 0, locals := 0 }) (gPre G M0 [.ref (el), .int (nI i)]) (gQ G (gR (fun r M1 => M1 = M0 ∧ b = r))) 0 0 (gA G) := by
  refine gMet (L0 := [some (.ref (el)), some (.int (nI i))]) RJ12 hG (by decide +kernel) rfl (Nat.le_of_ble_eq_true rfl) rfl ?_
  intro p e s m args below meth c C hnm
  refine x_aload_n C dJ12_elementAt_0 rfl rfl ?_
  refine x_iload_n C dJ12_elementAt_1 rfl rfl ?_
  refine y_aaldR (ty := .object "java/lang/Object") (i := i) (b := b) C 3 rfl rfl h0 rfl (by omega) (Nat.ble_eq_true_of_le (by omega)) hb dJ12_elementAt_2 ?_
  exact x_aret C dJ12_elementAt_3 ⟨Nat.le_of_ble_eq_true rfl, Nat.le_of_ble_eq_true rfl⟩ ⟨rfl, rfl⟩
theorem mi_J12_nonNullElementAt : gMS yJ12_nonNullElementAt cJ12_nonNullElementAt 3 (some (.object "java/lang/Object")) 2 := ⟨q1092, q141, q1093, by decide +kernel⟩
set_option maxHeartbeats 4000000 in
set_option maxRecDepth 100000 in
theorem met_J12_nonNullElementAt (l : Launch) {G : gG} (hG : gOK G) {M0 : gM} {el cap i : Nat} {lE : Nat × Nat} {f : Nat → Option Nat} {b : Nat} (h0 : M0 el = some (lE, .inl (G.2.1 3, cap, .inr (.inr (.inr (.inr (clipQ cap f))))))) (hi : i < cap) (hc : cap < 1000000) (hb : f i = some b) : Met l yJ12_nonNullElementAt (ws_ yJ12_nonNullElementAt cJ12_nonNullElementAt 3 (some (.object "java/lang/Object"))) ({ frames := 0, cells := 0, slots := 0, locals := 0 }) (gPre G M0 [.ref (el), .int (nI i)]) (gQ G (gR (fun r M1 => M1 = M0 ∧ b = r))) 0 0 (gA G) := by
  refine gMet (L0 := [some (.ref (el)), some (.int (nI i)), none]) RJ12 hG (by decide +kernel) rfl (Nat.le_of_ble_eq_true rfl) rfl ?_
  intro p e s m args below meth c C hnm
  refine x_aload_n C dJ12_nonNullElementAt_0 rfl rfl ?_
  refine x_iload_n C dJ12_nonNullElementAt_1 rfl rfl ?_
  refine y_aaldR (ty := .object "java/lang/Object") (i := i) (b := b) C 3 rfl rfl h0 rfl (by omega) (Nat.ble_eq_true_of_le (by omega)) hb dJ12_nonNullElementAt_2 ?_
  refine x_astore_n C dJ12_nonNullElementAt_3 rfl (gs1_2 rfl) rfl ?_
  refine x_aload_n C dJ12_nonNullElementAt_4 rfl rfl ?_
  refine x_ifnonnull (tgt := 16) C dJ12_nonNullElementAt_5 rfl ?_
  refine x_aload_n C dJ12_nonNullElementAt_16 rfl rfl ?_
  exact x_aret C dJ12_nonNullElementAt_17 ⟨Nat.le_of_ble_eq_true rfl, Nat.le_of_ble_eq_true rfl⟩ ⟨rfl, rfl⟩
theorem mi_J23_copyOf_3 : gMS yJ23_copyOf_3 cJ23_copyOf_3 4 (Option.some (Jvm.ClassFile.FieldType.array (Jvm.ClassFile.FieldType.object "java/lang/Object"))) 3 := ⟨q1741, q153, q1742, by decide +kernel⟩
set_option maxHeartbeats 4000000 in
set_option maxRecDepth 100000 in
theorem met_J23_copyOf_3 (l : Launch) {G : gG} (hG : gOK G) {M0 : gM} {a0 n0 n1 : Nat} {la : Nat × Nat} {f : Nat → Option Nat} {mi : Nat} (lN : Nat × Nat) (h0 : M0 a0 = some (la, .inl (G.2.1 3, n0, .inr (.inr (.inr (.inr (clipQ n0 f))))))) (hn : n0 ≤ n1) (hb : n1 ≤ 100) (hel : ∀ i, i < n0 → ∀ y, f i = some y → ∃ lb fs, M0 y = some (lb, .inr (29, fs))) (hmi : gMi G "[Ljava/lang/Object;" mi) : Met l yJ23_copyOf_3 (ws_ yJ23_copyOf_3 cJ23_copyOf_3 4 (Option.some (Jvm.ClassFile.FieldType.array (Jvm.ClassFile.FieldType.object "java/lang/Object")))) ({ frames := 1, cells := 1, slots := 100, locals := 60 }) (gPre G M0 [.ref (a0), .int (nI n1), .ref (mi)]) (gQ G (gR (fun r M1 => M0 r = none ∧ M1 r = some (lN, .inl (G.2.1 3, n1, .inr (.inr (.inr (.inr (clipQ n1 (fun j => if j < n0 then f j else none))))))) ∧ ∀ z, z ≠ r → M1 z = M0 z))) 1 100 (gA G) := by
  refine gMet (L0 := [some (.ref (a0)), some (.int (nI n1)), some (.ref (mi)), none]) RJ23 hG (by decide +kernel) rfl (Nat.le_of_ble_eq_true rfl) rfl ?_
  intro p e s m args below meth c C hnm
  refine x_aload_n C dJ23_copyOf_3_0 rfl rfl ?_
  refine x_ldcM C hmi q1743 dJ23_copyOf_3_1 ?_
  refine x_acmp_ne (rx := (some (mi))) (ry := (some (mi))) (tgt := 13) C dJ23_copyOf_3_3 rfl (fun q => absurd rfl q) (fun _ => ?_)
  refine x_iload_n C dJ23_copyOf_3_6 rfl rfl ?_
  refine y_newq (N := n1) C 3 (fun a => lN) q1744 q208 rfl rfl (Nat.ble_eq_true_of_le (by omega)) ⟨Nat.le_of_ble_eq_true rfl, by show _ ≤ 100; omega⟩ dJ23_copyOf_3_7 (fun a1 M2 n3 g4 h5 k6 => ?_)
  have e7 : a0 ≠ a1 := gM_nn h0 n3
  have h8 := (k6 _ e7).trans h0
  have k9 : ∀ zz : Nat, zz ≠ a1 → M2 zz = M0 zz := fun zz z0 => k6 zz z0
  refine x_goto (tgt := 24) C dJ23_copyOf_3_10 rfl ?_
  refine x_astore_n C dJ23_copyOf_3_24 rfl (gs1_3 rfl) rfl ?_
  refine x_aload_n C dJ23_copyOf_3_25 rfl rfl ?_
  refine x_iconst C dJ23_copyOf_3_26 kc_0 ?_
  refine x_aload_n C dJ23_copyOf_3_27 rfl rfl ?_
  refine x_iconst C dJ23_copyOf_3_28 kc_0 ?_
  refine x_aload_n C dJ23_copyOf_3_29 rfl rfl ?_
  refine y_alen C 3 rfl h8 dJ23_copyOf_3_30 ?_
  refine x_iload_n C dJ23_copyOf_3_31 rfl rfl ?_
  refine x_S2I C (met_J0_min l C.1) mi_J0_min q721 ⟨rfl, rfl⟩ rfl ⟨Nat.le_of_ble_eq_true rfl, by show _ ≤ 100; omega⟩ rfl dJ23_copyOf_3_32 (fun r11 M10 hr => ?_)
  obtain ⟨hr, rfl⟩ := hr
  rw [hr, pMin_le hn (by omega)]
  refine x_copyq C 3 rfl h8 h5 gcX14 q2993 (fun i hi y hy => by obtain ⟨lb, fs, hz⟩ := hel i hi y (by rw [Nat.zero_add] at hy; exact hy); exact ⟨lb, fs, (k9 y (gM_nn hz n3)).trans hz⟩) (sp := 0) (dp := 0) (n9 := n0) (by omega) (by omega) (by omega) (by omega) q724 q726 q725 q154 rfl dJ23_copyOf_3_35 (fun M12 h13 k14 => ?_)
  have h15 := (k14 _ e7).trans h8
  have k16 : ∀ zz : Nat, zz ≠ a1 → M12 zz = M0 zz := fun zz z0 => (k14 zz z0).trans (k9 zz z0)
  refine x_aload_n C dJ23_copyOf_3_38 rfl rfl ?_
  refine x_aret9 C dJ23_copyOf_3_39 ⟨Nat.le_of_ble_eq_true rfl, by show _ ≤ 100; omega⟩ ⟨n3, ?_, k16⟩
  have e9 : clipQ n1 (va_cpy f (fun _ => none) 0 0 n0) = clipQ n1 (fun j => if j < n0 then f j else none) := clipQ_eq (fun j hj => by by_cases z : j < n0; rw [if_pos z, pk_cpy_in (by omega) (by omega), Nat.sub_zero, Nat.zero_add]; rw [if_neg z, pk_cpy_out (by omega)])
  rw [← e9]; exact h13
theorem mi_J23_copyOf_2 : gMS yJ23_copyOf_2 cJ23_copyOf_2 2 (Option.some (Jvm.ClassFile.FieldType.array (Jvm.ClassFile.FieldType.object "java/lang/Object"))) 2 := ⟨q1737, q153, q1738, by decide +kernel⟩
set_option maxHeartbeats 4000000 in
set_option maxRecDepth 100000 in
theorem met_J23_copyOf_2 (l : Launch) {G : gG} (hG : gOK G) {M0 : gM} {a0 n0 n1 : Nat} {la : Nat × Nat} {f : Nat → Option Nat} (lN : Nat × Nat) (h0 : M0 a0 = some (la, .inl (G.2.1 3, n0, .inr (.inr (.inr (.inr (clipQ n0 f))))))) (hn : n0 ≤ n1) (hb : n1 ≤ 100) (hel : ∀ i, i < n0 → ∀ y, f i = some y → ∃ lb fs, M0 y = some (lb, .inr (29, fs))) : Met l yJ23_copyOf_2 (ws_ yJ23_copyOf_2 cJ23_copyOf_2 2 (Option.some (Jvm.ClassFile.FieldType.array (Jvm.ClassFile.FieldType.object "java/lang/Object")))) ({ frames := 2, cells := 1, slots := 100, locals := 83 }) (gPre G M0 [.ref (a0), .int (nI n1)]) (gQ G (gR (fun r M1 => M0 r = none ∧ M1 r = some (lN, .inl (G.2.1 3, n1, .inr (.inr (.inr (.inr (clipQ n1 (fun j => if j < n0 then f j else none))))))) ∧ ∀ z, z ≠ r → M1 z = M0 z))) 1 100 (gA G) := by
  refine gMet (L0 := [some (.ref (a0)), some (.int (nI n1))]) RJ23 hG (by decide +kernel) rfl (Nat.le_of_ble_eq_true rfl) rfl ?_
  intro p e s m args below meth c C hnm
  refine x_aload_n C dJ23_copyOf_2_0 rfl rfl ?_
  refine x_iload_n C dJ23_copyOf_2_1 rfl rfl ?_
  refine x_aload_n C dJ23_copyOf_2_2 rfl rfl ?_
  obtain ⟨mi, hmi⟩ := gMi_OA C.1
  refine x_getC C (t := 3) hmi rfl (by decide +kernel) h0 ⟨rfl, rfl⟩ q1739 q2999 q2998 q215 q247 rfl dJ23_copyOf_2_3 ?_
  refine x_S3R C (met_J23_copyOf_3 l C.1 lN h0 hn hb hel hmi) mi_J23_copyOf_3 q1740 ⟨rfl, rfl⟩ rfl ⟨Nat.le_of_ble_eq_true rfl, Nat.le_of_ble_eq_true rfl⟩ rfl dJ23_copyOf_2_6 (fun r2 M1 hr => ?_)
  exact x_aret9 C dJ23_copyOf_2_9 ⟨Nat.le_of_ble_eq_true rfl, Nat.le_of_ble_eq_true rfl⟩ hr
