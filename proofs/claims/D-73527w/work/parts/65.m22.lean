set_option maxRecDepth 100000
theorem mi_X9_saleLine : gMV RX9 yX9_saleLine cX9_saleLine 1 (some .boolean) 0 := ⟨q2567, qs76, q165, q2568, by decide +kernel⟩
set_option maxHeartbeats 4000000 in
set_option maxRecDepth 100000 in
theorem met_X9_saleLine (l : Launch) {G : gG} (hG : gOK G) {ad : Nat → Nat} {σ : mS} {M0 : gM} {tr ns : Nat} (h : MR G ad σ M0) (h12 : mI σ 12 = nI tr) (hb0_ : tr ≤ 4) (hb1_ : ns ≤ 12) (hns : mA σ 6 11 = nI ns) (hN : wN σ) : Met l yX9_saleLine (ws_ yX9_saleLine cX9_saleLine 1 (some .boolean)) ({ frames := 4, cells := 0, slots := 0, locals := 95 }) (gPre G M0 [.ref (ad 0)]) (gQ G (gI (gP G ad M0 (gSl tr ns σ)))) 0 0 (gA G) := by
  refine gMet (L0 := [some (.ref (ad 0))]) RX9 hG (by decide +kernel) rfl (Nat.le_of_ble_eq_true rfl) rfl ?_
  intro p e s m args below meth c C hnm
  have h := MF.rf h
  refine x_aload_n C dX9_saleLine_0 rfl rfl ?_
  refine m_get C h 17 rfl q2426 rfl dX9_saleLine_1 ?_
  refine x_bipush C dX9_saleLine_4 kb_11 ?_
  refine m_ald C h 6 (N := 14) (by decide) rfl rfl (by omega) hns dX9_saleLine_6 ?_
  refine x_bipush C dX9_saleLine_7 kb_12 ?_
  refine x_icmp_neN (tgt := 18) C (by omega) (by omega) dX9_saleLine_9 rfl (fun c9 => ?_) (fun c9 => ?_)
  · -- 18
    refine x_aload_n C dX9_saleLine_18 rfl rfl ?_
    refine x_aload_n C dX9_saleLine_19 rfl rfl ?_
    refine m_get C h 14 rfl q2423 rfl dX9_saleLine_20 ?_
    refine x_bipush C dX9_saleLine_23 kb_48 ?_
    refine x_iconst C dX9_saleLine_25 kc_4 ?_
    refine x_aload_n C dX9_saleLine_26 rfl rfl ?_
    refine m_get C h 17 rfl q2426 rfl dX9_saleLine_27 ?_
    refine x_bipush C dX9_saleLine_30 kb_11 ?_
    refine m_ald C h 6 (N := 14) (by decide) rfl rfl (by omega) hns dX9_saleLine_32 ?_
    refine x_imulN C dX9_saleLine_33 ?_
    refine x_iaddN C dX9_saleLine_34 ?_
    refine x_iconst C dX9_saleLine_35 kc_4 ?_
    refine x_iconst C dX9_saleLine_36 kc_1 ?_
    refine x_ldc C dX9_saleLine_37 q2529 ?_
    rw [show (99999 : Int32) = nI 99999 from by decide +kernel]
    refine x_iconst C dX9_saleLine_39 kc_1 ?_
    refine x_V6I C (met_X9_rowLine3 l C.1 h.1 h12 (by omega) (by omega) (by omega) (Or.inl (by omega)) hN) mi_X9_rowLine q2569 gcX9 h.1.1 ⟨rfl, rfl⟩ rfl ⟨Nat.le_refl _, Nat.le_refl _⟩ rfl dX9_saleLine_40 (fun r M1 hr => ?_)
    rcases gP_c hr with ⟨s1, e1, hq, rfl⟩ | ⟨s1, e1, hq, rfl⟩
    · -- right
      have h := h.tr hq
      have R1 := rQ_row (by decide) hN e1
      refine x_if_neT (tgt := 48) C (by decide) dX9_saleLine_43 rfl ?_
      refine x_aload_n C dX9_saleLine_48 rfl rfl ?_
      refine m_get C h 17 rfl q2426 rfl dX9_saleLine_49 ?_
      refine x_bipush C dX9_saleLine_52 kb_11 ?_
      refine x_dup2 C dX9_saleLine_54 rfl rfl ?_
      refine m_ald C h 6 (N := 14) (by decide) rfl rfl (by omega) ((congrFun (R1.2.1 6 (by decide)) _).trans hns) dX9_saleLine_55 ?_
      refine x_iconst C dX9_saleLine_56 kc_1 ?_
      refine x_iaddN C dX9_saleLine_57 ?_
      refine m_ast C h 6 (N := 14) (by decide) rfl rfl (by omega) dX9_saleLine_58 (fun M h => ?_)
      refine x_iconst C dX9_saleLine_59 kc_1 ?_
      exact x_zret C (by decide +kernel) dX9_saleLine_60 ⟨Nat.le_refl _, Nat.le_refl _⟩ (gP_t h (by unfold gSl; rw [if_neg (by omega), gB_t e1]; first | done | rfl))
    · -- wrong
      have h := h.tr hq
      have R1 := rQ_row (by decide) hN e1
      refine x_if_neF (tgt := 48) C (by decide) dX9_saleLine_43 rfl ?_
      refine x_iconst C dX9_saleLine_46 kc_0 ?_
      exact x_zret C (by decide +kernel) dX9_saleLine_47 ⟨Nat.le_refl _, Nat.le_refl _⟩ (gP_f h (by unfold gSl; rw [if_neg (by omega), gB_f e1]; first | done | rfl))
  · -- 12
    refine x_aload_n C dX9_saleLine_12 rfl rfl ?_
    refine x_iconst C dX9_saleLine_13 kc_2 ?_
    refine x_V1I C (met_X9_wrong l C.1 h.1) mi_X9_wrong q2534 gcX9 h.1.1 ⟨rfl, rfl⟩ rfl ⟨Nat.le_refl _, Nat.le_refl _⟩ rfl dX9_saleLine_14 (fun r M1 hr => ?_)
    obtain ⟨hr, rfl⟩ := hr
    have h := h.tr hr
    exact x_zret C (by decide +kernel) dX9_saleLine_17 ⟨Nat.le_refl _, Nat.le_refl _⟩ (gP_f h (by unfold gSl; rw [if_pos c9]; first | done | rfl))
theorem mi_X9_buyLine : gMV RX9 yX9_buyLine cX9_buyLine 1 (some .boolean) 0 := ⟨q2575, qs78, q165, q2576, by decide +kernel⟩
set_option maxHeartbeats 4000000 in
set_option maxRecDepth 100000 in
theorem met_X9_buyLine (l : Launch) {G : gG} (hG : gOK G) {ad : Nat → Nat} {σ : mS} {M0 : gM} {tr nb : Nat} (h : MR G ad σ M0) (h12 : mI σ 12 = nI tr) (hb0_ : tr ≤ 4) (hb1_ : nb ≤ 12) (hnb : mA σ 6 12 = nI nb) (hN : wN σ) : Met l yX9_buyLine (ws_ yX9_buyLine cX9_buyLine 1 (some .boolean)) ({ frames := 4, cells := 0, slots := 0, locals := 95 }) (gPre G M0 [.ref (ad 0)]) (gQ G (gI (gP G ad M0 (gBy tr nb σ)))) 0 0 (gA G) := by
  refine gMet (L0 := [some (.ref (ad 0))]) RX9 hG (by decide +kernel) rfl (Nat.le_of_ble_eq_true rfl) rfl ?_
  intro p e s m args below meth c C hnm
  have h := MF.rf h
  refine x_aload_n C dX9_buyLine_0 rfl rfl ?_
  refine m_get C h 17 rfl q2426 rfl dX9_buyLine_1 ?_
  refine x_bipush C dX9_buyLine_4 kb_12 ?_
  refine m_ald C h 6 (N := 14) (by decide) rfl rfl (by omega) hnb dX9_buyLine_6 ?_
  refine x_bipush C dX9_buyLine_7 kb_12 ?_
  refine x_icmp_neN (tgt := 18) C (by omega) (by omega) dX9_buyLine_9 rfl (fun c9 => ?_) (fun c9 => ?_)
  · -- 18
    refine x_aload_n C dX9_buyLine_18 rfl rfl ?_
    refine x_aload_n C dX9_buyLine_19 rfl rfl ?_
    refine m_get C h 15 rfl q2424 rfl dX9_buyLine_20 ?_
    refine x_bipush C dX9_buyLine_23 kb_48 ?_
    refine x_iconst C dX9_buyLine_25 kc_4 ?_
    refine x_aload_n C dX9_buyLine_26 rfl rfl ?_
    refine m_get C h 17 rfl q2426 rfl dX9_buyLine_27 ?_
    refine x_bipush C dX9_buyLine_30 kb_12 ?_
    refine m_ald C h 6 (N := 14) (by decide) rfl rfl (by omega) hnb dX9_buyLine_32 ?_
    refine x_imulN C dX9_buyLine_33 ?_
    refine x_iaddN C dX9_buyLine_34 ?_
    refine x_iconst C dX9_buyLine_35 kc_4 ?_
    refine x_iconst C dX9_buyLine_36 kc_2 ?_
    refine x_sipush C dX9_buyLine_37 ks_9999 ?_
    refine x_iconst C dX9_buyLine_40 kc_1 ?_
    refine x_V6I C (met_X9_rowLine4 l C.1 h.1 h12 (by omega) (by omega) (by omega) (Or.inl (by omega)) hN) mi_X9_rowLine q2569 gcX9 h.1.1 ⟨rfl, rfl⟩ rfl ⟨Nat.le_refl _, Nat.le_refl _⟩ rfl dX9_buyLine_41 (fun r M1 hr => ?_)
    rcases gP_c hr with ⟨s1, e1, hq, rfl⟩ | ⟨s1, e1, hq, rfl⟩
    · -- right
      have h := h.tr hq
      have R1 := rQ_row (by decide) hN e1
      refine x_if_neT (tgt := 49) C (by decide) dX9_buyLine_44 rfl ?_
      refine x_aload_n C dX9_buyLine_49 rfl rfl ?_
      refine m_get C h 17 rfl q2426 rfl dX9_buyLine_50 ?_
      refine x_bipush C dX9_buyLine_53 kb_12 ?_
      refine x_dup2 C dX9_buyLine_55 rfl rfl ?_
      refine m_ald C h 6 (N := 14) (by decide) rfl rfl (by omega) ((congrFun (R1.2.1 6 (by decide)) _).trans hnb) dX9_buyLine_56 ?_
      refine x_iconst C dX9_buyLine_57 kc_1 ?_
      refine x_iaddN C dX9_buyLine_58 ?_
      refine m_ast C h 6 (N := 14) (by decide) rfl rfl (by omega) dX9_buyLine_59 (fun M h => ?_)
      refine x_iconst C dX9_buyLine_60 kc_1 ?_
      exact x_zret C (by decide +kernel) dX9_buyLine_61 ⟨Nat.le_refl _, Nat.le_refl _⟩ (gP_t h (by unfold gBy; rw [if_neg (by omega), gB_t e1]; first | done | rfl))
    · -- wrong
      have h := h.tr hq
      have R1 := rQ_row (by decide) hN e1
      refine x_if_neF (tgt := 49) C (by decide) dX9_buyLine_44 rfl ?_
      refine x_iconst C dX9_buyLine_47 kc_0 ?_
      exact x_zret C (by decide +kernel) dX9_buyLine_48 ⟨Nat.le_refl _, Nat.le_refl _⟩ (gP_f h (by unfold gBy; rw [if_neg (by omega), gB_f e1]; first | done | rfl))
  · -- 12
    refine x_aload_n C dX9_buyLine_12 rfl rfl ?_
    refine x_iconst C dX9_buyLine_13 kc_2 ?_
    refine x_V1I C (met_X9_wrong l C.1 h.1) mi_X9_wrong q2534 gcX9 h.1.1 ⟨rfl, rfl⟩ rfl ⟨Nat.le_refl _, Nat.le_refl _⟩ rfl dX9_buyLine_14 (fun r M1 hr => ?_)
    obtain ⟨hr, rfl⟩ := hr
    have h := h.tr hr
    exact x_zret C (by decide +kernel) dX9_buyLine_17 ⟨Nat.le_refl _, Nat.le_refl _⟩ (gP_f h (by unfold gBy; rw [if_pos c9]; first | done | rfl))
theorem mi_X9_assetLine : gMV RX9 yX9_assetLine cX9_assetLine 1 (some .boolean) 0 := ⟨q2579, qs79, q165, q2580, by decide +kernel⟩
set_option maxHeartbeats 4000000 in
set_option maxRecDepth 100000 in
theorem met_X9_assetLine (l : Launch) {G : gG} (hG : gOK G) {ad : Nat → Nat} {σ : mS} {M0 : gM} {tr na : Nat} (h : MR G ad σ M0) (h12 : mI σ 12 = nI tr) (hb0_ : tr ≤ 4) (hb1_ : na ≤ 4) (hna : mA σ 6 13 = nI na) (hN : wN σ) : Met l yX9_assetLine (ws_ yX9_assetLine cX9_assetLine 1 (some .boolean)) ({ frames := 4, cells := 0, slots := 0, locals := 95 }) (gPre G M0 [.ref (ad 0)]) (gQ G (gI (gP G ad M0 (gAs tr na σ)))) 0 0 (gA G) := by
  refine gMet (L0 := [some (.ref (ad 0))]) RX9 hG (by decide +kernel) rfl (Nat.le_of_ble_eq_true rfl) rfl ?_
  intro p e s m args below meth c C hnm
  have h := MF.rf h
  refine x_aload_n C dX9_assetLine_0 rfl rfl ?_
  refine m_get C h 17 rfl q2426 rfl dX9_assetLine_1 ?_
  refine x_bipush C dX9_assetLine_4 kb_13 ?_
  refine m_ald C h 6 (N := 14) (by decide) rfl rfl (by omega) hna dX9_assetLine_6 ?_
  refine x_iconst C dX9_assetLine_7 kc_4 ?_
  refine x_icmp_neN (tgt := 17) C (by omega) (by omega) dX9_assetLine_8 rfl (fun c8 => ?_) (fun c8 => ?_)
  · -- 17
    refine x_aload_n C dX9_assetLine_17 rfl rfl ?_
    refine x_aload_n C dX9_assetLine_18 rfl rfl ?_
    refine m_get C h 16 rfl q2425 rfl dX9_assetLine_19 ?_
    refine x_bipush C dX9_assetLine_22 kb_20 ?_
    refine x_iconst C dX9_assetLine_24 kc_5 ?_
    refine x_aload_n C dX9_assetLine_25 rfl rfl ?_
    refine m_get C h 17 rfl q2426 rfl dX9_assetLine_26 ?_
    refine x_bipush C dX9_assetLine_29 kb_13 ?_
    refine m_ald C h 6 (N := 14) (by decide) rfl rfl (by omega) hna dX9_assetLine_31 ?_
    refine x_imulN C dX9_assetLine_32 ?_
    refine x_iaddN C dX9_assetLine_33 ?_
    refine x_iconst C dX9_assetLine_34 kc_5 ?_
    refine x_iconst C dX9_assetLine_35 kc_2 ?_
    refine x_sipush C dX9_assetLine_36 ks_9999 ?_
    refine x_iconst C dX9_assetLine_39 kc_1 ?_
    refine x_V6I C (met_X9_rowLine5 l C.1 h.1 h12 (by omega) (by omega) (by omega) (Or.inr (by omega)) hN) mi_X9_rowLine q2569 gcX9 h.1.1 ⟨rfl, rfl⟩ rfl ⟨Nat.le_refl _, Nat.le_refl _⟩ rfl dX9_assetLine_40 (fun r M1 hr => ?_)
    rcases gP_c hr with ⟨s1, e1, hq, rfl⟩ | ⟨s1, e1, hq, rfl⟩
    · -- right
      have h := h.tr hq
      have R1 := rQ_row (by decide) hN e1
      refine x_if_neT (tgt := 48) C (by decide) dX9_assetLine_43 rfl ?_
      refine x_aload_n C dX9_assetLine_48 rfl rfl ?_
      refine m_get C h 17 rfl q2426 rfl dX9_assetLine_49 ?_
      refine x_bipush C dX9_assetLine_52 kb_13 ?_
      refine x_dup2 C dX9_assetLine_54 rfl rfl ?_
      refine m_ald C h 6 (N := 14) (by decide) rfl rfl (by omega) ((congrFun (R1.2.1 6 (by decide)) _).trans hna) dX9_assetLine_55 ?_
      refine x_iconst C dX9_assetLine_56 kc_1 ?_
      refine x_iaddN C dX9_assetLine_57 ?_
      refine m_ast C h 6 (N := 14) (by decide) rfl rfl (by omega) dX9_assetLine_58 (fun M h => ?_)
      refine x_iconst C dX9_assetLine_59 kc_1 ?_
      exact x_zret C (by decide +kernel) dX9_assetLine_60 ⟨Nat.le_refl _, Nat.le_refl _⟩ (gP_t h (by unfold gAs; rw [if_neg (by omega), gB_t e1]; first | done | rfl))
    · -- wrong
      have h := h.tr hq
      have R1 := rQ_row (by decide) hN e1
      refine x_if_neF (tgt := 48) C (by decide) dX9_assetLine_43 rfl ?_
      refine x_iconst C dX9_assetLine_46 kc_0 ?_
      exact x_zret C (by decide +kernel) dX9_assetLine_47 ⟨Nat.le_refl _, Nat.le_refl _⟩ (gP_f h (by unfold gAs; rw [if_neg (by omega), gB_f e1]; first | done | rfl))
  · -- 11
    refine x_aload_n C dX9_assetLine_11 rfl rfl ?_
    refine x_iconst C dX9_assetLine_12 kc_2 ?_
    refine x_V1I C (met_X9_wrong l C.1 h.1) mi_X9_wrong q2534 gcX9 h.1.1 ⟨rfl, rfl⟩ rfl ⟨Nat.le_refl _, Nat.le_refl _⟩ rfl dX9_assetLine_13 (fun r M1 hr => ?_)
    obtain ⟨hr, rfl⟩ := hr
    have h := h.tr hr
    exact x_zret C (by decide +kernel) dX9_assetLine_16 ⟨Nat.le_refl _, Nat.le_refl _⟩ (gP_f h (by unfold gAs; rw [if_pos c8]; first | done | rfl))
