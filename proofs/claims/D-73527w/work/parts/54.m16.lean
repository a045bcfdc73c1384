set_option maxRecDepth 100000
theorem mi_X9_isSmall : gMV RX9 yX9_isSmall cX9_isSmall 2 (some .boolean) 1 := ⟨q2515, qs64, q165, q2516, by decide +kernel⟩
set_option maxHeartbeats 4000000 in
set_option maxRecDepth 100000 in
theorem met_X9_isSmall (l : Launch) {G : gG} (hG : gOK G) {ad : Nat → Nat} {σ : mS} {M0 : gM} {sp a : Nat} {tp : Nat → Int32} (h : MR G ad σ M0) (hsp : mI σ 6 = nI sp) (hb0_ : sp ≤ 700) (hb1_ : a ≤ 700) (htp : mA σ 0 = tp) : Met l yX9_isSmall (ws_ yX9_isSmall cX9_isSmall 2 (some .boolean)) ({ frames := 0, cells := 0, slots := 0, locals := 0 }) (gPre G M0 [.ref (ad 0), .int (nI a)]) (gQ G (gI (fun r M1 => (M0 = M1 ∧ nI 1 = r ∧ (a < sp ∧ isSm (tp a))) ∨ (M0 = M1 ∧ nI 0 = r ∧ ¬ (a < sp ∧ isSm (tp a)))))) 0 0 (gA G) := by
  refine gMet (L0 := [some (.ref (ad 0)), some (.int (nI a))]) RX9 hG (by decide +kernel) rfl (Nat.le_of_ble_eq_true rfl) rfl ?_
  intro p e s m args below meth c C hnm
  have h := MF.rf h
  refine x_iload_n C dX9_isSmall_0 rfl rfl ?_
  refine x_aload_n C dX9_isSmall_1 rfl rfl ?_
  refine m_get C h 6 (v := .int (nI sp)) rfl q2415 (m_v rfl hsp) dX9_isSmall_2 ?_
  refine x_icmp_geN (tgt := 34) C (by omega) (by omega) dX9_isSmall_5 rfl (fun c5 => ?_) (fun c5 => ?_)
  · -- 34
    refine x_iconst C dX9_isSmall_34 kc_0 ?_
    exact x_zret C (by decide +kernel) dX9_isSmall_35 ⟨Nat.le_refl _, Nat.le_refl _⟩ (Or.inr ⟨rfl, rfl, fun q => by have := q.1; omega⟩)
  · -- 8
    refine x_aload_n C dX9_isSmall_8 rfl rfl ?_
    refine m_get C h 0 rfl q2409 rfl dX9_isSmall_9 ?_
    refine x_iload_n C dX9_isSmall_12 rfl rfl ?_
    refine m_ald C h 0 (N := 700) (by decide) rfl rfl (by omega) (congrFun htp _) dX9_isSmall_13 ?_
    refine x_bipush C dX9_isSmall_14 kb_97 ?_
    refine x_icmp_lt (tgt := 34) C dX9_isSmall_16 rfl (fun c16 => ?_) (fun c16 => ?_)
    · -- 34
      refine x_iconst C dX9_isSmall_34 kc_0 ?_
      exact x_zret C (by decide +kernel) dX9_isSmall_35 ⟨Nat.le_refl _, Nat.le_refl _⟩ (Or.inr ⟨rfl, rfl, fun q => Int32.not_le.mpr c16 q.2.1⟩)
    · -- 19
      refine x_aload_n C dX9_isSmall_19 rfl rfl ?_
      refine m_get C h 0 rfl q2409 rfl dX9_isSmall_20 ?_
      refine x_iload_n C dX9_isSmall_23 rfl rfl ?_
      refine m_ald C h 0 (N := 700) (by decide) rfl rfl (by omega) (congrFun htp _) dX9_isSmall_24 ?_
      refine x_bipush C dX9_isSmall_25 kb_122 ?_
      refine x_icmp_gt (tgt := 34) C dX9_isSmall_27 rfl (fun c27 => ?_) (fun c27 => ?_)
      · -- 34
        refine x_iconst C dX9_isSmall_34 kc_0 ?_
        exact x_zret C (by decide +kernel) dX9_isSmall_35 ⟨Nat.le_refl _, Nat.le_refl _⟩ (Or.inr ⟨rfl, rfl, fun q => Int32.not_le.mpr c27 q.2.2⟩)
      · -- 30
        refine x_iconst C dX9_isSmall_30 kc_1 ?_
        refine x_goto (tgt := 35) C dX9_isSmall_31 rfl ?_
        exact x_zret C (by decide +kernel) dX9_isSmall_35 ⟨Nat.le_refl _, Nat.le_refl _⟩ (Or.inl ⟨rfl, rfl, by omega, Int32.not_lt.mp c16, Int32.not_lt.mp c27⟩)
theorem mi_X9_isDigit : gMV RX9 yX9_isDigit cX9_isDigit 2 (some .boolean) 1 := ⟨q2527, qs67, q165, q2528, by decide +kernel⟩
set_option maxHeartbeats 4000000 in
set_option maxRecDepth 100000 in
theorem met_X9_isDigit (l : Launch) {G : gG} (hG : gOK G) {ad : Nat → Nat} {σ : mS} {M0 : gM} {sp a : Nat} {tp : Nat → Int32} (h : MR G ad σ M0) (hsp : mI σ 6 = nI sp) (hb0_ : sp ≤ 700) (hb1_ : a ≤ 700) (htp : mA σ 0 = tp) : Met l yX9_isDigit (ws_ yX9_isDigit cX9_isDigit 2 (some .boolean)) ({ frames := 0, cells := 0, slots := 0, locals := 0 }) (gPre G M0 [.ref (ad 0), .int (nI a)]) (gQ G (gI (fun r M1 => (M0 = M1 ∧ nI 1 = r ∧ (a < sp ∧ isDg (tp a))) ∨ (M0 = M1 ∧ nI 0 = r ∧ ¬ (a < sp ∧ isDg (tp a)))))) 0 0 (gA G) := by
  refine gMet (L0 := [some (.ref (ad 0)), some (.int (nI a))]) RX9 hG (by decide +kernel) rfl (Nat.le_of_ble_eq_true rfl) rfl ?_
  intro p e s m args below meth c C hnm
  have h := MF.rf h
  refine x_iload_n C dX9_isDigit_0 rfl rfl ?_
  refine x_aload_n C dX9_isDigit_1 rfl rfl ?_
  refine m_get C h 6 (v := .int (nI sp)) rfl q2415 (m_v rfl hsp) dX9_isDigit_2 ?_
  refine x_icmp_geN (tgt := 34) C (by omega) (by omega) dX9_isDigit_5 rfl (fun c5 => ?_) (fun c5 => ?_)
  · -- 34
    refine x_iconst C dX9_isDigit_34 kc_0 ?_
    exact x_zret C (by decide +kernel) dX9_isDigit_35 ⟨Nat.le_refl _, Nat.le_refl _⟩ (Or.inr ⟨rfl, rfl, fun q => by have := q.1; omega⟩)
  · -- 8
    refine x_aload_n C dX9_isDigit_8 rfl rfl ?_
    refine m_get C h 0 rfl q2409 rfl dX9_isDigit_9 ?_
    refine x_iload_n C dX9_isDigit_12 rfl rfl ?_
    refine m_ald C h 0 (N := 700) (by decide) rfl rfl (by omega) (congrFun htp _) dX9_isDigit_13 ?_
    refine x_bipush C dX9_isDigit_14 kb_48 ?_
    refine x_icmp_lt (tgt := 34) C dX9_isDigit_16 rfl (fun c16 => ?_) (fun c16 => ?_)
    · -- 34
      refine x_iconst C dX9_isDigit_34 kc_0 ?_
      exact x_zret C (by decide +kernel) dX9_isDigit_35 ⟨Nat.le_refl _, Nat.le_refl _⟩ (Or.inr ⟨rfl, rfl, fun q => Int32.not_le.mpr c16 q.2.1⟩)
    · -- 19
      refine x_aload_n C dX9_isDigit_19 rfl rfl ?_
      refine m_get C h 0 rfl q2409 rfl dX9_isDigit_20 ?_
      refine x_iload_n C dX9_isDigit_23 rfl rfl ?_
      refine m_ald C h 0 (N := 700) (by decide) rfl rfl (by omega) (congrFun htp _) dX9_isDigit_24 ?_
      refine x_bipush C dX9_isDigit_25 kb_57 ?_
      refine x_icmp_gt (tgt := 34) C dX9_isDigit_27 rfl (fun c27 => ?_) (fun c27 => ?_)
      · -- 34
        refine x_iconst C dX9_isDigit_34 kc_0 ?_
        exact x_zret C (by decide +kernel) dX9_isDigit_35 ⟨Nat.le_refl _, Nat.le_refl _⟩ (Or.inr ⟨rfl, rfl, fun q => Int32.not_le.mpr c27 q.2.2⟩)
      · -- 30
        refine x_iconst C dX9_isDigit_30 kc_1 ?_
        refine x_goto (tgt := 35) C dX9_isDigit_31 rfl ?_
        exact x_zret C (by decide +kernel) dX9_isDigit_35 ⟨Nat.le_refl _, Nat.le_refl _⟩ (Or.inl ⟨rfl, rfl, by omega, Int32.not_lt.mp c16, Int32.not_lt.mp c27⟩)
theorem mi_X9_packed : gMV RX9 yX9_packed cX9_packed 5 (some .int) 2 := ⟨q2523, qs66, q165, q2524, by decide +kernel⟩
set_option maxHeartbeats 4000000 in
set_option maxRecDepth 100000 in
theorem met_X9_packed (l : Launch) {G : gG} (hG : gOK G) {ad : Nat → Nat} {σ : mS} {M0 : gM} {a b : Nat} {tp : Nat → Int32} (h : MR G ad σ M0) (hb0_ : a ≤ 700) (hb1_ : b ≤ 700) (htp : mA σ 0 = tp) : Met l yX9_packed (ws_ yX9_packed cX9_packed 5 (some .int)) ({ frames := 0, cells := 0, slots := 0, locals := 0 }) (gPre G M0 [.ref (ad 0), .int (nI a), .int (nI b)]) (gQ G (gI (fun r M1 => M0 = M1 ∧ pPk tp a b 6 = r))) 0 0 (gA G) := by
  refine gMet (L0 := [some (.ref (ad 0)), some (.int (nI a)), some (.int (nI b)), none, none]) RX9 hG (by decide +kernel) rfl (Nat.le_of_ble_eq_true rfl) rfl ?_
  intro p e s m args below meth c C hnm
  have h := MF.rf h
  refine x_iconst C dX9_packed_0 kc_0 ?_
  refine x_istore_n C dX9_packed_1 rfl (gs1_3 rfl) rfl ?_
  refine x_iload_n C dX9_packed_2 rfl rfl ?_
  refine x_istore C dX9_packed_3 (gs1_4 rfl) rfl ?_
  refine x_loopS (head := 5) (E := 6) (α := Int32) (β := Unit) 0 (by omega) (fun i x u_ M => M0 = M ∧ x = pPk tp a b i ∧ MF G ad M0 σ M) (fun i x u_ => [some (.ref (ad 0)), some (.int (nI a)), some (.int (nI b)), some (.int x), some (.int (nI (a + i)))]) (nI 0) () ⟨rfl, rfl, h⟩ (fun i x u_ M ha hi h ih => ?_)
  obtain ⟨rfl, ex, h⟩ := h
  refine x_iload C dX9_packed_5 rfl ?_
  refine x_iload_n C dX9_packed_7 rfl rfl ?_
  refine x_bipush C dX9_packed_8 kb_6 ?_
  refine x_iaddN C dX9_packed_10 ?_
  refine x_icmp_geN (tgt := 45) C (by omega) (by omega) dX9_packed_11 rfl (fun c11 => ?_) (fun c11 => ?_)
  · -- 45
    obtain rfl : i = 6 := by omega
    refine x_iload_n C dX9_packed_45 rfl rfl ?_
    exact x_iret C dX9_packed_46 ⟨Nat.le_refl _, Nat.le_refl _⟩ ⟨rfl, ex.symm⟩
  · -- 14
    refine x_iload_n C dX9_packed_14 rfl rfl ?_
    refine x_iconst C dX9_packed_15 kc_5 ?_
    refine x_ishl C dX9_packed_16 ?_
    refine x_iload C dX9_packed_17 rfl ?_
    refine x_iload_n C dX9_packed_19 rfl rfl ?_
    refine x_icmp_geN (tgt := 36) C (by omega) (by omega) dX9_packed_20 rfl (fun c20 => ?_) (fun c20 => ?_)
    · -- 36
      refine x_iconst C dX9_packed_36 kc_0 ?_
      refine x_ior C dX9_packed_37 ?_
      refine x_istore_n C dX9_packed_38 rfl (gs1_3 rfl) rfl ?_
      refine x_iincN C dX9_packed_39 rfl (gs1_4 rfl) rfl ?_
      refine x_goto (tgt := 5) C dX9_packed_42 rfl ?_
      exact (ih (by omega) _ () _ ⟨rfl, (by rw [ex]; show _ = (pPk tp a b i <<< (nI 5 &&& 31)) ||| (if _ then _ else _); rw [if_neg (by omega)]), h⟩)
    · -- 23
      refine x_aload_n C dX9_packed_23 rfl rfl ?_
      refine m_get C h 0 rfl q2409 rfl dX9_packed_24 ?_
      refine x_iload C dX9_packed_27 rfl ?_
      refine m_ald C h 0 (N := 700) (by decide) rfl rfl (by omega) (congrFun htp _) dX9_packed_29 ?_
      refine x_bipush C dX9_packed_30 kb_96 ?_
      refine x_isub C dX9_packed_32 ?_
      refine x_goto (tgt := 37) C dX9_packed_33 rfl ?_
      refine x_ior C dX9_packed_37 ?_
      refine x_istore_n C dX9_packed_38 rfl (gs1_3 rfl) rfl ?_
      refine x_iincN C dX9_packed_39 rfl (gs1_4 rfl) rfl ?_
      refine x_goto (tgt := 5) C dX9_packed_42 rfl ?_
      exact (ih (by omega) _ () _ ⟨rfl, (by rw [ex]; show _ = (pPk tp a b i <<< (nI 5 &&& 31)) ||| (if _ then _ else _); rw [if_pos (by omega)]), h⟩)
