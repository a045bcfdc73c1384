set_option maxRecDepth 100000
theorem mi_X9_told1 : gMV RX9 yX9_told1 cX9_told1 3 (some .int) 2 := ⟨q2383, qs56, q165, q2384, by decide +kernel⟩
set_option maxHeartbeats 4000000 in
set_option maxRecDepth 100000 in
theorem met_X9_told1 (l : Launch) {G : gG} (hG : gOK G) {ad : Nat → Nat} {σ : mS} {M0 : gM} {t i : Nat} {A : Nat → Nat → Int32} (h : MR G ad σ M0) (hA : mA σ = A) (hb0_ : 8 * t + i < 64) : Met l yX9_told1 (ws_ yX9_told1 cX9_told1 3 (some .int)) ({ frames := 0, cells := 0, slots := 0, locals := 0 }) (gPre G M0 [.ref (ad 0), .int (nI t), .int (nI i)]) (gQ G (gI (fun r M1 => M0 = M1 ∧ A 2 (8 * t + i) = r))) 0 0 (gA G) := by
  refine gMet (L0 := [some (.ref (ad 0)), some (.int (nI t)), some (.int (nI i))]) RX9 hG (by decide +kernel) rfl (Nat.le_of_ble_eq_true rfl) rfl ?_
  intro p e s m args below meth c C hnm
  have h := MF.rf h
  refine x_aload_n C dX9_told1_0 rfl rfl ?_
  refine m_get C h 13 rfl q2422 rfl dX9_told1_1 ?_
  refine x_bipush C dX9_told1_4 kb_8 ?_
  refine x_iload_n C dX9_told1_6 rfl rfl ?_
  refine x_imulN C dX9_told1_7 ?_
  refine x_iload_n C dX9_told1_8 rfl rfl ?_
  refine x_iaddN C dX9_told1_9 ?_
  refine m_ald C h 2 (N := 64) (by decide) rfl rfl (by omega) (congrFun (congrFun hA 2) _) dX9_told1_10 ?_
  exact x_iret C dX9_told1_11 ⟨Nat.le_refl _, Nat.le_refl _⟩ ⟨rfl, rfl⟩
theorem mi_X9_quotient : gMS yX9_quotient cX9_quotient 6 (some .long) 2 := ⟨q2713, q165, q2714, by decide +kernel⟩
set_option maxHeartbeats 4000000 in
set_option maxRecDepth 100000 in
theorem met_X9_quotient (l : Launch) {G : gG} (hG : gOK G) {M0 : gM} {a b : Int64} (hne : ¬ b = 0) : Met l yX9_quotient (ws_ yX9_quotient cX9_quotient 6 (some .long)) ({ frames := 0, cells := 0, slots := 0, locals := 0 }) (gPre G M0 [.long (a), .long (b)]) (gQ G (gJ (fun r M1 => M0 = M1 ∧ pQuot a b = r))) 0 0 (gA G) := by
  refine gMet (L0 := [some (.long (a)), none, some (.long (b)), none, none, none]) RX9 hG (by decide +kernel) rfl (Nat.le_of_ble_eq_true rfl) rfl ?_
  intro p e s m args below meth c C hnm
  refine x_lload_n C dX9_quotient_0 rfl rfl ?_
  refine x_lload_n C dX9_quotient_1 rfl rfl ?_
  refine x_ldiv C dX9_quotient_2 (hne) ?_
  refine x_lstore C dX9_quotient_3 (gs2_4 rfl) rfl ?_
  refine x_lload_n C dX9_quotient_5 rfl rfl ?_
  refine x_lload_n C dX9_quotient_6 rfl rfl ?_
  refine x_lrem C dX9_quotient_7 (hne) ?_
  refine x_lconst (v := 0) C dX9_quotient_8 rfl ?_
  refine x_lcmp C dX9_quotient_9 ?_
  refine x_if_geL (tgt := 20) C dX9_quotient_10 rfl (fun c10 => ?_) (fun c10 => ?_)
  · -- 20
    refine x_lload C dX9_quotient_20 rfl ?_
    exact x_lret C dX9_quotient_22 ⟨Nat.le_refl _, Nat.le_refl _⟩ ⟨rfl, (by unfold pQuot; first | rw [if_pos (Int64.not_le.mp c10)] | rw [if_neg (Int64.not_lt.mpr c10)])⟩
  · -- 13
    refine x_lload C dX9_quotient_13 rfl ?_
    refine x_lconst (v := 1) C dX9_quotient_15 rfl ?_
    refine x_lsub C dX9_quotient_16 ?_
    refine x_goto (tgt := 22) C dX9_quotient_17 rfl ?_
    exact x_lret C dX9_quotient_22 ⟨Nat.le_refl _, Nat.le_refl _⟩ ⟨rfl, (by unfold pQuot; first | rw [if_pos (Int64.not_le.mp c10)] | rw [if_neg (Int64.not_lt.mpr c10)])⟩
theorem mi_X9_cutBy : gMS yX9_cutBy cX9_cutBy 5 (some .long) 3 := ⟨q2710, q165, q2711, by decide +kernel⟩
set_option maxHeartbeats 4000000 in
set_option maxRecDepth 100000 in
theorem met_X9_cutBy (l : Launch) {G : gG} (hG : gOK G) {M0 : gM} {way : Int32} {a b : Int64} (hne : ¬ b = 0) (hn2 : ¬ 2 * b = 0) : Met l yX9_cutBy (ws_ yX9_cutBy cX9_cutBy 5 (some .long)) ({ frames := 1, cells := 0, slots := 0, locals := 25 }) (gPre G M0 [.int (way), .long (a), .long (b)]) (gQ G (gJ (fun r M1 => M0 = M1 ∧ pCut way a b = r))) 0 0 (gA G) := by
  refine gMet (L0 := [some (.int (way)), some (.long (a)), none, some (.long (b)), none]) RX9 hG (by decide +kernel) rfl (Nat.le_of_ble_eq_true rfl) rfl ?_
  intro p e s m args below meth c C hnm
  refine x_iload_n C dX9_cutBy_0 rfl rfl ?_
  refine x_if_ne (tgt := 12) C dX9_cutBy_1 rfl (fun c1 => ?_) (fun c1 => ?_)
  · -- 12
    refine x_iload_n C dX9_cutBy_12 rfl rfl ?_
    refine x_iconst C dX9_cutBy_13 kc_1 ?_
    refine x_icmp_ne (tgt := 27) C dX9_cutBy_14 rfl (fun c14 => ?_) (fun c14 => ?_)
    · -- 27
      refine x_ldc2 C dX9_cutBy_27 q2715 ?_
      refine x_lload_n C dX9_cutBy_30 rfl rfl ?_
      refine x_lmul C dX9_cutBy_31 ?_
      refine x_lload_n C dX9_cutBy_32 rfl rfl ?_
      refine x_ladd C dX9_cutBy_33 ?_
      refine x_ldc2 C dX9_cutBy_34 q2715 ?_
      refine x_lload_n C dX9_cutBy_37 rfl rfl ?_
      refine x_lmul C dX9_cutBy_38 ?_
      refine x_S2J C (met_X9_quotient l C.1 (hn2)) mi_X9_quotient q2712 ⟨rfl, rfl⟩ rfl ⟨Nat.le_refl _, Nat.le_refl _⟩ rfl dX9_cutBy_39 (fun r M1 hr => ?_)
      obtain ⟨rfl, rfl⟩ := hr
      exact x_lret C dX9_cutBy_42 ⟨Nat.le_refl _, Nat.le_refl _⟩ ⟨rfl, (by unfold pCut; rw [if_neg c1, if_neg c14])⟩
    · -- 17
      refine x_lload_n C dX9_cutBy_17 rfl rfl ?_
      refine x_lneg C dX9_cutBy_18 ?_
      refine x_lload_n C dX9_cutBy_19 rfl rfl ?_
      refine x_S2J C (met_X9_quotient l C.1 (hne)) mi_X9_quotient q2712 ⟨rfl, rfl⟩ rfl ⟨Nat.le_refl _, Nat.le_refl _⟩ rfl dX9_cutBy_20 (fun r M1 hr => ?_)
      obtain ⟨rfl, rfl⟩ := hr
      refine x_lneg C dX9_cutBy_23 ?_
      refine x_goto (tgt := 42) C dX9_cutBy_24 rfl ?_
      exact x_lret C dX9_cutBy_42 ⟨Nat.le_refl _, Nat.le_refl _⟩ ⟨rfl, (by unfold pCut; rw [if_neg c1, if_pos c14])⟩
  · -- 4
    refine x_lload_n C dX9_cutBy_4 rfl rfl ?_
    refine x_lload_n C dX9_cutBy_5 rfl rfl ?_
    refine x_S2J C (met_X9_quotient l C.1 (hne)) mi_X9_quotient q2712 ⟨rfl, rfl⟩ rfl ⟨Nat.le_refl _, Nat.le_refl _⟩ rfl dX9_cutBy_6 (fun r M1 hr => ?_)
    obtain ⟨rfl, rfl⟩ := hr
    refine x_goto (tgt := 42) C dX9_cutBy_9 rfl ?_
    exact x_lret C dX9_cutBy_42 ⟨Nat.le_refl _, Nat.le_refl _⟩ ⟨rfl, (by unfold pCut; rw [if_pos c1])⟩
theorem mi_X9_cut : gMV RX9 yX9_cut cX9_cut 5 (some .long) 2 := ⟨q2759, qs108, q165, q2760, by decide +kernel⟩
set_option maxHeartbeats 4000000 in
set_option maxRecDepth 100000 in
theorem met_X9_cut (l : Launch) {G : gG} (hG : gOK G) {ad : Nat → Nat} {σ : mS} {M0 : gM} {a b : Int64} {A : Nat → Nat → Int32} (h : MR G ad σ M0) (hA : mA σ = A) (hne : ¬ b = 0) (hn2 : ¬ 2 * b = 0) : Met l yX9_cut (ws_ yX9_cut cX9_cut 5 (some .long)) ({ frames := 2, cells := 0, slots := 0, locals := 49 }) (gPre G M0 [.ref (ad 0), .long (a), .long (b)]) (gQ G (gJ (fun r M1 => M0 = M1 ∧ pCut (A 6 0) a b = r))) 0 0 (gA G) := by
  refine gMet (L0 := [some (.ref (ad 0)), some (.long (a)), none, some (.long (b)), none]) RX9 hG (by decide +kernel) rfl (Nat.le_of_ble_eq_true rfl) rfl ?_
  intro p e s m args below meth c C hnm
  have h := MF.rf h
  refine x_aload_n C dX9_cut_0 rfl rfl ?_
  refine m_get C h 17 rfl q2426 rfl dX9_cut_1 ?_
  refine x_iconst C dX9_cut_4 kc_0 ?_
  refine m_ald C h 6 (N := 14) (by decide) rfl rfl (by omega) (congrFun (congrFun hA 6) _) dX9_cut_5 ?_
  refine x_lload_n C dX9_cut_6 rfl rfl ?_
  refine x_lload_n C dX9_cut_7 rfl rfl ?_
  refine x_S3J C (met_X9_cutBy l C.1 hne hn2) mi_X9_cutBy q2709 ⟨rfl, rfl⟩ rfl ⟨Nat.le_refl _, Nat.le_refl _⟩ rfl dX9_cut_8 (fun r M1 hr => ?_)
  obtain ⟨rfl, rfl⟩ := hr
  exact x_lret C dX9_cut_11 ⟨Nat.le_refl _, Nat.le_refl _⟩ ⟨rfl, rfl⟩
theorem mi_X9_layNone : gMV RX9 yX9_layNone cX9_layNone 2 none 0 := ⟨q2691, qs93, q165, q2692, by decide +kernel⟩
set_option maxHeartbeats 4000000 in
set_option maxRecDepth 100000 in
theorem met_X9_layNone (l : Launch) {G : gG} (hG : gOK G) {ad : Nat → Nat} {σ : mS} {M0 : gM} {b : Nat} {B : Nat → Int32}  (h : MR G ad (sb σ b B) M0) (hb : mI σ 21 = nI b) (hb0_ : b < 23) : Met l yX9_layNone (ws_ yX9_layNone cX9_layNone 2 none) ({ frames := 0, cells := 0, slots := 0, locals := 0 }) (gPre G M0 [.ref (ad 0)]) (gQ G (gV (fun M1 => MF G ad M0 (sb (sy σ (fun _ => 0) (0) (0)) b B) M1))) 0 0 (gA G) := by
  refine gMet (L0 := [some (.ref (ad 0)), none]) RX9 hG (by decide +kernel) rfl (Nat.le_of_ble_eq_true rfl) rfl ?_
  intro p e s m args below meth c C hnm
  have h := MF.rf h
  refine x_iconst C dX9_layNone_0 kc_0 ?_
  refine x_istore_n C dX9_layNone_1 rfl (gs1_1 rfl) rfl ?_
  refine x_loop (head := 2) (E := 5) (fun i M => ∃ Z : Nat → Int64, (∀ k, k < i → Z k = 0) ∧ MF G ad M0 (sb (sy σ Z (mL σ 25) (mL σ 26)) b B) M) (fun i => [some (.ref (ad 0)), some (.int (nI i))]) ⟨_, fun k hk => absurd hk (by omega), MF.y0 h⟩ (fun i M hi h ih => ?_)
  obtain ⟨Z, hz, h⟩ := h
  refine x_iload_n C dX9_layNone_2 rfl rfl ?_
  refine x_iconst C dX9_layNone_3 kc_5 ?_
  refine x_icmp_geN (tgt := 20) C (by omega) (by omega) dX9_layNone_4 rfl (fun c4 => ?_) (fun c4 => ?_)
  · -- 20
    obtain rfl : i = 5 := by omega
    refine x_aload_n C dX9_layNone_20 rfl rfl ?_
    refine x_lconst (v := 0) C dX9_layNone_21 rfl ?_
    refine m_putl C h 25 rfl q2434 rfl rfl rfl rfl dX9_layNone_22 (fun M h => ?_)
    have h := MF.l25 h
    refine x_aload_n C dX9_layNone_25 rfl rfl ?_
    refine x_lconst (v := 0) C dX9_layNone_26 rfl ?_
    refine m_putl C h 26 rfl q2435 rfl rfl rfl rfl dX9_layNone_27 (fun M h => ?_)
    have h := MF.cy (MF.l26 h) (Z' := fun _ => 0) (fun k hk => hz k (by omega))
    exact x_vret C dX9_layNone_30 ⟨Nat.le_refl _, Nat.le_refl _⟩ h
  · -- 7
    refine x_aload_n C dX9_layNone_7 rfl rfl ?_
    refine m_get C h 24 rfl q2433 rfl dX9_layNone_8 ?_
    refine x_iload_n C dX9_layNone_11 rfl rfl ?_
    refine x_lconst (v := 0) C dX9_layNone_12 rfl ?_
    refine m_last C h rfl (by omega) dX9_layNone_13 (fun M h => ?_)
    refine x_iincN C dX9_layNone_14 rfl (gs1_1 rfl) rfl ?_
    refine x_goto (tgt := 2) C dX9_layNone_17 rfl ?_
    exact (ih c4 _ ⟨_, (fun k hk => (by by_cases e : k = i; (subst e; exact pk_uLs); exact (pk_uLn e).trans (hz k (by omega)))), MF.zs h⟩)
theorem mi_X9_addQuarter : gMV RX9 yX9_addQuarter cX9_addQuarter 4 none 2 := ⟨q2695, qs94, q165, q2696, by decide +kernel⟩
set_option maxHeartbeats 4000000 in
set_option maxRecDepth 100000 in
theorem met_X9_addQuarter (l : Launch) {G : gG} (hG : gOK G) {ad : Nat → Nat} {σ : mS} {M0 : gM} {b : Nat} {B : Nat → Int32} {Z : Nat → Int64} {ho ha : Int64} {t q : Nat} (h : MR G ad (sb (sy σ Z ho ha) b B) M0) (hb : mI σ 21 = nI b) (hb0_ : b < 23) (hb1_ : t < 4) (hb2_ : q < 64) : Met l yX9_addQuarter (ws_ yX9_addQuarter cX9_addQuarter 4 none) ({ frames := 1, cells := 0, slots := 0, locals := 23 }) (gPre G M0 [.ref (ad 0), .int (nI t), .int (nI q)]) (gQ G (gV (fun M1 => MF G ad M0 (sb (sy σ (fun k => Z k + (B (1 + 320 * t + 5 * q + k)).toInt64) (ho) (ha)) b B) M1))) 0 0 (gA G) := by
  refine gMet (L0 := [some (.ref (ad 0)), some (.int (nI t)), some (.int (nI q)), none]) RX9 hG (by decide +kernel) rfl (Nat.le_of_ble_eq_true rfl) rfl ?_
  intro p e s m args below meth c C hnm
  have h := MF.rf h
  refine x_iconst C dX9_addQuarter_0 kc_0 ?_
  refine x_istore_n C dX9_addQuarter_1 rfl (gs1_3 rfl) rfl ?_
  refine x_loop (head := 2) (E := 5) (fun i M => ∃ Z' : Nat → Int64, (∀ k, k < 5 → Z' k = if k < i then Z k + (B (1 + 320 * t + 5 * q + k)).toInt64 else Z k) ∧ MF G ad M0 (sb (sy σ Z' ho ha) b B) M) (fun i => [some (.ref (ad 0)), some (.int (nI t)), some (.int (nI q)), some (.int (nI i))]) ⟨_, fun k hk => (if_neg (by omega)).symm, h⟩ (fun i M hi h ih => ?_)
  obtain ⟨Z', hz, h⟩ := h
  refine x_iload_n C dX9_addQuarter_2 rfl rfl ?_
  refine x_iconst C dX9_addQuarter_3 kc_5 ?_
  refine x_icmp_geN (tgt := 34) C (by omega) (by omega) dX9_addQuarter_4 rfl (fun c4 => ?_) (fun c4 => ?_)
  · -- 34
    obtain rfl : i = 5 := by omega
    have h := MF.cy h (Z' := fun k => Z k + (B (1 + 320 * t + 5 * q + k)).toInt64) (fun k hk => (by rw [hz k hk, if_pos hk]))
    exact x_vret C dX9_addQuarter_34 ⟨Nat.le_refl _, Nat.le_refl _⟩ h
  · -- 7
    refine x_aload_n C dX9_addQuarter_7 rfl rfl ?_
    refine m_get C h 24 rfl q2433 rfl dX9_addQuarter_8 ?_
    refine x_iload_n C dX9_addQuarter_11 rfl rfl ?_
    refine x_dup2 C dX9_addQuarter_12 rfl rfl ?_
    refine m_lald C h rfl (by omega) dX9_addQuarter_13 ?_
    refine x_aload_n C dX9_addQuarter_14 rfl rfl ?_
    refine x_aload_n C dX9_addQuarter_15 rfl rfl ?_
    refine x_iload_n C dX9_addQuarter_16 rfl rfl ?_
    refine x_iload_n C dX9_addQuarter_17 rfl rfl ?_
    refine x_iload_n C dX9_addQuarter_18 rfl rfl ?_
    refine x_V3I C (met_X9_sumAt l C.1 h.1) mi_X9_sumAt q2393 gcX9 h.1.1 ⟨rfl, rfl⟩ rfl ⟨Nat.le_refl _, Nat.le_refl _⟩ rfl dX9_addQuarter_19 (fun r M1 hr => ?_)
    obtain ⟨rfl, rfl⟩ := hr
    refine x_V1I C (met_X9_of l C.1 h.1 hb (by omega) (by omega)) mi_X9_of q2389 gcX9 h.1.1 ⟨rfl, rfl⟩ rfl ⟨Nat.le_refl _, Nat.le_refl _⟩ rfl dX9_addQuarter_22 (fun r M1 hr => ?_)
    obtain ⟨rfl, rfl⟩ := hr
    refine x_i2l C dX9_addQuarter_25 ?_
    refine x_ladd C dX9_addQuarter_26 ?_
    refine m_last C h rfl (by omega) dX9_addQuarter_27 (fun M h => ?_)
    refine x_iincN C dX9_addQuarter_28 rfl (gs1_3 rfl) rfl ?_
    refine x_goto (tgt := 2) C dX9_addQuarter_31 rfl ?_
    exact (ih c4 _ ⟨_, (fun k hk => (by by_cases e : k = i; (subst e; rw [pk_uLs, if_pos (by omega)]; show Z' k + _ = _; rw [hz k hk, if_neg (by omega)]); rw [pk_uLn e, hz k hk]; by_cases e2 : k < i; rw [if_pos e2, if_pos (by omega)]; rw [if_neg e2, if_neg (by omega)])), MF.zs h⟩)
theorem mi_X9_addHeads : gMV RX9 yX9_addHeads cX9_addHeads 2 none 1 := ⟨q2699, qs95, q165, q2700, by decide +kernel⟩
set_option maxHeartbeats 4000000 in
set_option maxRecDepth 100000 in
theorem met_X9_addHeads (l : Launch) {G : gG} (hG : gOK G) {ad : Nat → Nat} {σ : mS} {M0 : gM} {b : Nat} {B : Nat → Int32} {Z : Nat → Int64} {ho ha : Int64} {t : Nat} (h : MR G ad (sb (sy σ Z ho ha) b B) M0) (hb : mI σ 21 = nI b) (hb0_ : b < 23) (hb1_ : t < 4) : Met l yX9_addHeads (ws_ yX9_addHeads cX9_addHeads 2 none) ({ frames := 1, cells := 0, slots := 0, locals := 21 }) (gPre G M0 [.ref (ad 0), .int (nI t)]) (gQ G (gV (fun M1 => MF G ad M0 (sb (sy σ (Z) (ho + pHO B t) (ha + pHA B t)) b B) M1))) 0 0 (gA G) := by
  refine gMet (L0 := [some (.ref (ad 0)), some (.int (nI t))]) RX9 hG (by decide +kernel) rfl (Nat.le_of_ble_eq_true rfl) rfl ?_
  intro p e s m args below meth c C hnm
  have h := MF.rf h
  refine x_aload_n C dX9_addHeads_0 rfl rfl ?_
  refine x_dup C dX9_addHeads_1 rfl ?_
  refine m_get C h 25 rfl q2434 rfl dX9_addHeads_2 ?_
  refine x_aload_n C dX9_addHeads_5 rfl rfl ?_
  refine x_sipush C dX9_addHeads_6 ks_1281 ?_
  refine x_iconst C dX9_addHeads_9 kc_2 ?_
  refine x_iload_n C dX9_addHeads_10 rfl rfl ?_
  refine x_imulN C dX9_addHeads_11 ?_
  refine x_iaddN C dX9_addHeads_12 ?_
  refine x_V1I C (met_X9_of l C.1 h.1 hb (by omega) (by omega)) mi_X9_of q2389 gcX9 h.1.1 ⟨rfl, rfl⟩ rfl ⟨Nat.le_refl _, Nat.le_refl _⟩ rfl dX9_addHeads_13 (fun r M1 hr => ?_)
  obtain ⟨rfl, rfl⟩ := hr
  refine x_i2l C dX9_addHeads_16 ?_
  refine x_ladd C dX9_addHeads_17 ?_
  refine m_putl C h 25 rfl q2434 rfl rfl rfl rfl dX9_addHeads_18 (fun M h => ?_)
  have h := MF.l25 h
  refine x_aload_n C dX9_addHeads_21 rfl rfl ?_
  refine x_dup C dX9_addHeads_22 rfl ?_
  refine m_get C h 26 rfl q2435 rfl dX9_addHeads_23 ?_
  refine x_aload_n C dX9_addHeads_26 rfl rfl ?_
  refine x_sipush C dX9_addHeads_27 ks_1281 ?_
  refine x_iconst C dX9_addHeads_30 kc_2 ?_
  refine x_iload_n C dX9_addHeads_31 rfl rfl ?_
  refine x_imulN C dX9_addHeads_32 ?_
  refine x_iaddN C dX9_addHeads_33 ?_
  refine x_iconst C dX9_addHeads_34 kc_1 ?_
  refine x_iaddN C dX9_addHeads_35 ?_
  refine x_V1I C (met_X9_of l C.1 h.1 hb (by omega) (by omega)) mi_X9_of q2389 gcX9 h.1.1 ⟨rfl, rfl⟩ rfl ⟨Nat.le_refl _, Nat.le_refl _⟩ rfl dX9_addHeads_36 (fun r M1 hr => ?_)
  obtain ⟨rfl, rfl⟩ := hr
  refine x_i2l C dX9_addHeads_39 ?_
  refine x_ladd C dX9_addHeads_40 ?_
  refine m_putl C h 26 rfl q2435 rfl rfl rfl rfl dX9_addHeads_41 (fun M h => ?_)
  have h := MF.l26 h
  exact x_vret C dX9_addHeads_44 ⟨Nat.le_refl _, Nat.le_refl _⟩ h
theorem mi_X9_layQuarter : gMV RX9 yX9_layQuarter cX9_layQuarter 3 none 2 := ⟨q2687, qs92, q165, q2688, by decide +kernel⟩
set_option maxHeartbeats 4000000 in
set_option maxRecDepth 100000 in
theorem met_X9_layQuarter (l : Launch) {G : gG} (hG : gOK G) {ad : Nat → Nat} {σ : mS} {M0 : gM} {b : Nat} {B : Nat → Int32} {t q : Nat} (h : MR G ad (sb σ b B) M0) (hb : mI σ 21 = nI b) (hb0_ : b < 23) (hb1_ : t < 4) (hb2_ : q < 64) : Met l yX9_layQuarter (ws_ yX9_layQuarter cX9_layQuarter 3 none) ({ frames := 2, cells := 0, slots := 0, locals := 46 }) (gPre G M0 [.ref (ad 0), .int (nI t), .int (nI q)]) (gQ G (gV (fun M1 => MF G ad M0 (sb (sy σ (pQS B t q) (pHO B t) (pHA B t)) b B) M1))) 0 0 (gA G) := by
  refine gMet (L0 := [some (.ref (ad 0)), some (.int (nI t)), some (.int (nI q))]) RX9 hG (by decide +kernel) rfl (Nat.le_of_ble_eq_true rfl) rfl ?_
  intro p e s m args below meth c C hnm
  have h := MF.rf h
  refine x_aload_n C dX9_layQuarter_0 rfl rfl ?_
  refine x_V0V C (met_X9_layNone l C.1 h.1 hb (by omega)) mi_X9_layNone q2689 gcX9 h.1.1 ⟨rfl, rfl⟩ rfl ⟨Nat.le_refl _, Nat.le_refl _⟩ rfl dX9_layQuarter_1 (fun M1 hr => ?_)
  have h := h.tr hr
  refine x_aload_n C dX9_layQuarter_4 rfl rfl ?_
  refine x_iload_n C dX9_layQuarter_5 rfl rfl ?_
  refine x_iload_n C dX9_layQuarter_6 rfl rfl ?_
  refine x_V2V C (met_X9_addQuarter l C.1 h.1 hb (by omega) (by omega) (by omega)) mi_X9_addQuarter q2693 gcX9 h.1.1 ⟨rfl, rfl⟩ rfl ⟨Nat.le_refl _, Nat.le_refl _⟩ rfl dX9_layQuarter_7 (fun M1 hr => ?_)
  have h := h.tr hr
  refine x_aload_n C dX9_layQuarter_10 rfl rfl ?_
  refine x_iload_n C dX9_layQuarter_11 rfl rfl ?_
  refine x_V1V C (met_X9_addHeads l C.1 h.1 hb (by omega) (by omega)) mi_X9_addHeads q2697 gcX9 h.1.1 ⟨rfl, rfl⟩ rfl ⟨Nat.le_refl _, Nat.le_refl _⟩ rfl dX9_layQuarter_12 (fun M1 hr => ?_)
  have h := h.tr hr
  rw [Int64.zero_add, Int64.zero_add] at h
  have h := MF.cy h (Z' := pQS B t q) (fun k hk => (by show (0 : Int64) + _ = _; rw [Int64.zero_add]; rfl))
  exact x_vret C dX9_layQuarter_15 ⟨Nat.le_refl _, Nat.le_refl _⟩ h
theorem mi_X9_layYear : gMV RX9 yX9_layYear cX9_layYear 4 none 2 := ⟨q2738, qs103, q165, q2739, by decide +kernel⟩
set_option maxHeartbeats 4000000 in
set_option maxRecDepth 100000 in
theorem met_X9_layYear (l : Launch) {G : gG} (hG : gOK G) {ad : Nat → Nat} {σ : mS} {M0 : gM} {b : Nat} {B : Nat → Int32} {t y : Nat} (h : MR G ad (sb σ b B) M0) (hb : mI σ 21 = nI b) (hb0_ : b < 23) (hb1_ : t < 4) (hb2_ : y < 16) : Met l yX9_layYear (ws_ yX9_layYear cX9_layYear 4 none) ({ frames := 2, cells := 0, slots := 0, locals := 46 }) (gPre G M0 [.ref (ad 0), .int (nI t), .int (nI y)]) (gQ G (gV (fun M1 => MF G ad M0 (sb (sy σ (pYS B t y) (pHO B t) (pHA B t)) b B) M1))) 0 0 (gA G) := by
  refine gMet (L0 := [some (.ref (ad 0)), some (.int (nI t)), some (.int (nI y)), none]) RX9 hG (by decide +kernel) rfl (Nat.le_of_ble_eq_true rfl) rfl ?_
  intro p e s m args below meth c C hnm
  have h := MF.rf h
  refine x_aload_n C dX9_layYear_0 rfl rfl ?_
  refine x_V0V C (met_X9_layNone l C.1 h.1 hb (by omega)) mi_X9_layNone q2689 gcX9 h.1.1 ⟨rfl, rfl⟩ rfl ⟨Nat.le_refl _, Nat.le_refl _⟩ rfl dX9_layYear_1 (fun M1 hr => ?_)
  have h := h.tr hr
  refine x_iconst C dX9_layYear_4 kc_4 ?_
  refine x_iload_n C dX9_layYear_5 rfl rfl ?_
  refine x_imulN C dX9_layYear_6 ?_
  refine x_istore_n C dX9_layYear_7 rfl (gs1_3 rfl) rfl ?_
  refine x_loop (head := 8) (E := 4) (fun i M => MF G ad M0 (sb (sy σ (pYSn B t y i) 0 0) b B) M) (fun i => [some (.ref (ad 0)), some (.int (nI t)), some (.int (nI y)), some (.int (nI (4 * y + i)))]) h (fun i M hi h ih => ?_)
  refine x_iload_n C dX9_layYear_8 rfl rfl ?_
  refine x_iconst C dX9_layYear_9 kc_4 ?_
  refine x_iload_n C dX9_layYear_10 rfl rfl ?_
  refine x_imulN C dX9_layYear_11 ?_
  refine x_iconst C dX9_layYear_12 kc_4 ?_
  refine x_iaddN C dX9_layYear_13 ?_
  refine x_icmp_geN (tgt := 29) C (by omega) (by omega) dX9_layYear_14 rfl (fun c14 => ?_) (fun c14 => ?_)
  · -- 29
    obtain rfl : i = 4 := by omega
    refine x_aload_n C dX9_layYear_29 rfl rfl ?_
    refine x_iload_n C dX9_layYear_30 rfl rfl ?_
    refine x_V1V C (met_X9_addHeads l C.1 h.1 hb (by omega) (by omega)) mi_X9_addHeads q2697 gcX9 h.1.1 ⟨rfl, rfl⟩ rfl ⟨Nat.le_refl _, Nat.le_refl _⟩ rfl dX9_layYear_31 (fun M1 hr => ?_)
    have h := h.tr hr
    rw [Int64.zero_add, Int64.zero_add] at h
    exact x_vret C dX9_layYear_34 ⟨Nat.le_refl _, Nat.le_refl _⟩ h
  · -- 17
    refine x_aload_n C dX9_layYear_17 rfl rfl ?_
    refine x_iload_n C dX9_layYear_18 rfl rfl ?_
    refine x_iload_n C dX9_layYear_19 rfl rfl ?_
    refine x_V2V C (met_X9_addQuarter l C.1 h.1 hb (by omega) (by omega) (by omega)) mi_X9_addQuarter q2693 gcX9 h.1.1 ⟨rfl, rfl⟩ rfl ⟨Nat.le_refl _, Nat.le_refl _⟩ rfl dX9_layYear_20 (fun M1 hr => ?_)
    have h := h.tr hr
    refine x_iincN C dX9_layYear_23 rfl (gs1_3 rfl) rfl ?_
    refine x_goto (tgt := 8) C dX9_layYear_26 rfl ?_
    exact (ih (by omega) _ h)
