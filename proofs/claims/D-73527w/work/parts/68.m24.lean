set_option maxRecDepth 100000
theorem mi_X9_lineRead : gMV RX9 yX9_lineRead cX9_lineRead 2 (some .boolean) 0 := ⟨q2532, qs68, q165, q2533, by decide +kernel⟩
set_option maxHeartbeats 4000000 in
set_option maxRecDepth 100000 in
theorem met_X9_lineRead (l : Launch) {G : gG} (hG : gOK G) {ad : Nat → Nat} {σ : mS} {M0 : gM} {tr ns nb na : Nat} (h : MR G ad σ M0) (h12 : mI σ 12 = nI tr) (hb0_ : tr ≤ 4) (hb1_ : ns ≤ 12) (hb2_ : nb ≤ 12) (hb3_ : na ≤ 4) (h11 : mA σ 6 11 = nI ns) (hb12 : mA σ 6 12 = nI nb) (ha13 : mA σ 6 13 = nI na) (hN : wN σ) : Met l yX9_lineRead (ws_ yX9_lineRead cX9_lineRead 2 (some .boolean)) ({ frames := 5, cells := 0, slots := 0, locals := 115 }) (gPre G M0 [.ref (ad 0)]) (gQ G (gI (gP G ad M0 (gLn tr ns nb na σ)))) 0 0 (gA G) := by
  refine gMet (L0 := [some (.ref (ad 0)), none]) RX9 hG (by decide +kernel) rfl (Nat.le_of_ble_eq_true rfl) rfl ?_
  intro p e s m args below meth c C hnm
  have h := MF.rf h
  refine x_aload_n C dX9_lineRead_0 rfl rfl ?_
  refine m_get C h 8 rfl q2417 rfl dX9_lineRead_1 ?_
  refine x_iconst C dX9_lineRead_4 kc_1 ?_
  refine x_icmp_eq (tgt := 14) C dX9_lineRead_5 rfl (fun c5 => ?_) (fun c5 => ?_)
  · -- 14
    refine x_aload_n C dX9_lineRead_14 rfl rfl ?_
    refine m_get C h 9 rfl q2418 rfl dX9_lineRead_15 ?_
    generalize hwh : mI σ 9 = wh
    rcases tab_ex wh 9 (by decide) with ⟨k18, rfl, hk18⟩ | h18
    · -- in
      rcases (by omega : k18 = 0 ∨ k18 = 1 ∨ k18 = 2 ∨ k18 = 3 ∨ k18 = 4 ∨ k18 = 5 ∨ k18 = 6 ∨ k18 = 7 ∨ k18 = 8 ∨ k18 = 9) with rfl | rfl | rfl | rfl | rfl | rfl | rfl | rfl | rfl | rfl
      · -- case 0
        refine x_tableIn (off := 54) (tgt := 72) C dX9_lineRead_18 (by decide +kernel) (by decide +kernel) (by decide +kernel) rfl ?_
        refine x_aload_n C dX9_lineRead_72 rfl rfl ?_
        refine x_V0I C (met_X9_traderLine l C.1 h.1 h12 (by omega) hN) mi_X9_traderLine q2538 gcX9 h.1.1 ⟨rfl, rfl⟩ rfl ⟨Nat.le_refl _, Nat.le_refl _⟩ rfl dX9_lineRead_73 (fun r M1 hr => ?_)
        rcases gP_c hr with ⟨s1, e1, hq, rfl⟩ | ⟨s1, e1, hq, rfl⟩
        · -- right
          have h := h.tr hq
          have R1 := rW_TL hN e1
          refine x_istore_n C dX9_lineRead_76 rfl (gs1_1 rfl) rfl ?_
          refine x_goto (tgt := 134) C dX9_lineRead_77 rfl ?_
          refine x_iload_n C dX9_lineRead_134 rfl rfl ?_
          refine x_if_neT (tgt := 140) C (by decide) dX9_lineRead_135 rfl ?_
          refine x_aload_n C dX9_lineRead_140 rfl rfl ?_
          refine m_get C h 8 rfl q2417 rfl dX9_lineRead_141 ?_
          refine x_iconst C dX9_lineRead_144 kc_4 ?_
          refine x_icmp_eq (tgt := 154) C dX9_lineRead_145 rfl (fun c145 => ?_) (fun c145 => ?_)
          · -- 154
            refine x_aload_n C dX9_lineRead_154 rfl rfl ?_
            refine x_V0V C (met_tok l C.1 h.1 R1.1) mi_X9_token q2509 gcX9 h.1.1 ⟨rfl, rfl⟩ rfl ⟨Nat.le_refl _, Nat.le_refl _⟩ rfl dX9_lineRead_155 (fun M1 hr => ?_)
            obtain ⟨s2, e2, N2, T2, h⟩ : ∃ s', s' = tTok _ ∧ wN s' ∧ sT _ s' ∧ MF G ad M0 s' M1 := ⟨_, rfl, (wN.tok R1.1).1, (wN.tok R1.1).2.1, h.tr hr⟩
            refine x_iconst C dX9_lineRead_158 kc_1 ?_
            exact x_zret C (by decide +kernel) dX9_lineRead_159 ⟨Nat.le_refl _, Nat.le_refl _⟩ (gP_t h (by unfold gLn; rw [if_pos c5, gB_t (show gKw tr ns nb na σ = (true, s1) from by unfold gKw; rw [hwh, if_pos rfl]; exact e1), if_pos c145, ← e2]; first | done | rfl))
          · -- 148
            refine x_aload_n C dX9_lineRead_148 rfl rfl ?_
            refine x_iconst C dX9_lineRead_149 kc_1 ?_
            refine x_V1I C (met_X9_wrong l C.1 h.1) mi_X9_wrong q2534 gcX9 h.1.1 ⟨rfl, rfl⟩ rfl ⟨Nat.le_refl _, Nat.le_refl _⟩ rfl dX9_lineRead_150 (fun r M1 hr => ?_)
            obtain ⟨hr, rfl⟩ := hr
            have h := h.tr hr
            exact x_zret C (by decide +kernel) dX9_lineRead_153 ⟨Nat.le_refl _, Nat.le_refl _⟩ (gP_f h (by unfold gLn; rw [if_pos c5, gB_t (show gKw tr ns nb na σ = (true, s1) from by unfold gKw; rw [hwh, if_pos rfl]; exact e1), if_neg c145]; first | done | rfl))
        · -- wrong
          have h := h.tr hq
          have R1 := rW_TL hN e1
          refine x_istore_n C dX9_lineRead_76 rfl (gs1_1 rfl) rfl ?_
          refine x_goto (tgt := 134) C dX9_lineRead_77 rfl ?_
          refine x_iload_n C dX9_lineRead_134 rfl rfl ?_
          refine x_if_neF (tgt := 140) C (by decide) dX9_lineRead_135 rfl ?_
          refine x_iconst C dX9_lineRead_138 kc_0 ?_
          exact x_zret C (by decide +kernel) dX9_lineRead_139 ⟨Nat.le_refl _, Nat.le_refl _⟩ (gP_f h (by unfold gLn; rw [if_pos c5, gB_f (show gKw tr ns nb na σ = (false, s1) from by unfold gKw; rw [hwh, if_pos rfl]; exact e1)]; first | done | rfl))
      · -- case 1
        refine x_tableIn (off := 62) (tgt := 80) C dX9_lineRead_18 (by decide +kernel) (by decide +kernel) (by decide +kernel) rfl ?_
        refine x_aload_n C dX9_lineRead_80 rfl rfl ?_
        refine x_V0I C (met_X9_headLine l C.1 h.1 h12 (by omega) hN) mi_X9_headLine q2553 gcX9 h.1.1 ⟨rfl, rfl⟩ rfl ⟨Nat.le_refl _, Nat.le_refl _⟩ rfl dX9_lineRead_81 (fun r M1 hr => ?_)
        rcases gP_c hr with ⟨s3, e3, hq, rfl⟩ | ⟨s3, e3, hq, rfl⟩
        · -- right
          have h := h.tr hq
          have R3 := rW_Hd hN e3
          refine x_istore_n C dX9_lineRead_84 rfl (gs1_1 rfl) rfl ?_
          refine x_goto (tgt := 134) C dX9_lineRead_85 rfl ?_
          refine x_iload_n C dX9_lineRead_134 rfl rfl ?_
          refine x_if_neT (tgt := 140) C (by decide) dX9_lineRead_135 rfl ?_
          refine x_aload_n C dX9_lineRead_140 rfl rfl ?_
          refine m_get C h 8 rfl q2417 rfl dX9_lineRead_141 ?_
          refine x_iconst C dX9_lineRead_144 kc_4 ?_
          refine x_icmp_eq (tgt := 154) C dX9_lineRead_145 rfl (fun c145 => ?_) (fun c145 => ?_)
          · -- 154
            refine x_aload_n C dX9_lineRead_154 rfl rfl ?_
            refine x_V0V C (met_tok l C.1 h.1 R3.1) mi_X9_token q2509 gcX9 h.1.1 ⟨rfl, rfl⟩ rfl ⟨Nat.le_refl _, Nat.le_refl _⟩ rfl dX9_lineRead_155 (fun M1 hr => ?_)
            obtain ⟨s4, e4, N4, T4, h⟩ : ∃ s', s' = tTok _ ∧ wN s' ∧ sT _ s' ∧ MF G ad M0 s' M1 := ⟨_, rfl, (wN.tok R3.1).1, (wN.tok R3.1).2.1, h.tr hr⟩
            refine x_iconst C dX9_lineRead_158 kc_1 ?_
            exact x_zret C (by decide +kernel) dX9_lineRead_159 ⟨Nat.le_refl _, Nat.le_refl _⟩ (gP_t h (by unfold gLn; rw [if_pos c5, gB_t (show gKw tr ns nb na σ = (true, s3) from by unfold gKw; rw [hwh, if_neg (nI_nn (by decide) (by decide) (by decide)), if_pos rfl]; exact e3), if_pos c145, ← e4]; first | done | rfl))
          · -- 148
            refine x_aload_n C dX9_lineRead_148 rfl rfl ?_
            refine x_iconst C dX9_lineRead_149 kc_1 ?_
            refine x_V1I C (met_X9_wrong l C.1 h.1) mi_X9_wrong q2534 gcX9 h.1.1 ⟨rfl, rfl⟩ rfl ⟨Nat.le_refl _, Nat.le_refl _⟩ rfl dX9_lineRead_150 (fun r M1 hr => ?_)
            obtain ⟨hr, rfl⟩ := hr
            have h := h.tr hr
            exact x_zret C (by decide +kernel) dX9_lineRead_153 ⟨Nat.le_refl _, Nat.le_refl _⟩ (gP_f h (by unfold gLn; rw [if_pos c5, gB_t (show gKw tr ns nb na σ = (true, s3) from by unfold gKw; rw [hwh, if_neg (nI_nn (by decide) (by decide) (by decide)), if_pos rfl]; exact e3), if_neg c145]; first | done | rfl))
        · -- wrong
          have h := h.tr hq
          have R3 := rW_Hd hN e3
          refine x_istore_n C dX9_lineRead_84 rfl (gs1_1 rfl) rfl ?_
          refine x_goto (tgt := 134) C dX9_lineRead_85 rfl ?_
          refine x_iload_n C dX9_lineRead_134 rfl rfl ?_
          refine x_if_neF (tgt := 140) C (by decide) dX9_lineRead_135 rfl ?_
          refine x_iconst C dX9_lineRead_138 kc_0 ?_
          exact x_zret C (by decide +kernel) dX9_lineRead_139 ⟨Nat.le_refl _, Nat.le_refl _⟩ (gP_f h (by unfold gLn; rw [if_pos c5, gB_f (show gKw tr ns nb na σ = (false, s3) from by unfold gKw; rw [hwh, if_neg (nI_nn (by decide) (by decide) (by decide)), if_pos rfl]; exact e3)]; first | done | rfl))
      · -- case 2
        refine x_tableIn (off := 70) (tgt := 88) C dX9_lineRead_18 (by decide +kernel) (by decide +kernel) (by decide +kernel) rfl ?_
        refine x_aload_n C dX9_lineRead_88 rfl rfl ?_
        refine x_V0I C (met_X9_startLine l C.1 h.1 h12 (by omega) hN) mi_X9_startLine q2561 gcX9 h.1.1 ⟨rfl, rfl⟩ rfl ⟨Nat.le_refl _, Nat.le_refl _⟩ rfl dX9_lineRead_89 (fun r M1 hr => ?_)
        rcases gP_c hr with ⟨s5, e5, hq, rfl⟩ | ⟨s5, e5, hq, rfl⟩
        · -- right
          have h := h.tr hq
          have R5 := rW_St hN e5
          refine x_istore_n C dX9_lineRead_92 rfl (gs1_1 rfl) rfl ?_
          refine x_goto (tgt := 134) C dX9_lineRead_93 rfl ?_
          refine x_iload_n C dX9_lineRead_134 rfl rfl ?_
          refine x_if_neT (tgt := 140) C (by decide) dX9_lineRead_135 rfl ?_
          refine x_aload_n C dX9_lineRead_140 rfl rfl ?_
          refine m_get C h 8 rfl q2417 rfl dX9_lineRead_141 ?_
          refine x_iconst C dX9_lineRead_144 kc_4 ?_
          refine x_icmp_eq (tgt := 154) C dX9_lineRead_145 rfl (fun c145 => ?_) (fun c145 => ?_)
          · -- 154
            refine x_aload_n C dX9_lineRead_154 rfl rfl ?_
            refine x_V0V C (met_tok l C.1 h.1 R5.1) mi_X9_token q2509 gcX9 h.1.1 ⟨rfl, rfl⟩ rfl ⟨Nat.le_refl _, Nat.le_refl _⟩ rfl dX9_lineRead_155 (fun M1 hr => ?_)
            obtain ⟨s6, e6, N6, T6, h⟩ : ∃ s', s' = tTok _ ∧ wN s' ∧ sT _ s' ∧ MF G ad M0 s' M1 := ⟨_, rfl, (wN.tok R5.1).1, (wN.tok R5.1).2.1, h.tr hr⟩
            refine x_iconst C dX9_lineRead_158 kc_1 ?_
            exact x_zret C (by decide +kernel) dX9_lineRead_159 ⟨Nat.le_refl _, Nat.le_refl _⟩ (gP_t h (by unfold gLn; rw [if_pos c5, gB_t (show gKw tr ns nb na σ = (true, s5) from by unfold gKw; rw [hwh, if_neg (nI_nn (by decide) (by decide) (by decide)), if_neg (nI_nn (by decide) (by decide) (by decide)), if_pos rfl]; exact e5), if_pos c145, ← e6]; first | done | rfl))
          · -- 148
            refine x_aload_n C dX9_lineRead_148 rfl rfl ?_
            refine x_iconst C dX9_lineRead_149 kc_1 ?_
            refine x_V1I C (met_X9_wrong l C.1 h.1) mi_X9_wrong q2534 gcX9 h.1.1 ⟨rfl, rfl⟩ rfl ⟨Nat.le_refl _, Nat.le_refl _⟩ rfl dX9_lineRead_150 (fun r M1 hr => ?_)
            obtain ⟨hr, rfl⟩ := hr
            have h := h.tr hr
            exact x_zret C (by decide +kernel) dX9_lineRead_153 ⟨Nat.le_refl _, Nat.le_refl _⟩ (gP_f h (by unfold gLn; rw [if_pos c5, gB_t (show gKw tr ns nb na σ = (true, s5) from by unfold gKw; rw [hwh, if_neg (nI_nn (by decide) (by decide) (by decide)), if_neg (nI_nn (by decide) (by decide) (by decide)), if_pos rfl]; exact e5), if_neg c145]; first | done | rfl))
        · -- wrong
          have h := h.tr hq
          have R5 := rW_St hN e5
          refine x_istore_n C dX9_lineRead_92 rfl (gs1_1 rfl) rfl ?_
          refine x_goto (tgt := 134) C dX9_lineRead_93 rfl ?_
          refine x_iload_n C dX9_lineRead_134 rfl rfl ?_
          refine x_if_neF (tgt := 140) C (by decide) dX9_lineRead_135 rfl ?_
          refine x_iconst C dX9_lineRead_138 kc_0 ?_
          exact x_zret C (by decide +kernel) dX9_lineRead_139 ⟨Nat.le_refl _, Nat.le_refl _⟩ (gP_f h (by unfold gLn; rw [if_pos c5, gB_f (show gKw tr ns nb na σ = (false, s5) from by unfold gKw; rw [hwh, if_neg (nI_nn (by decide) (by decide) (by decide)), if_neg (nI_nn (by decide) (by decide) (by decide)), if_pos rfl]; exact e5)]; first | done | rfl))
      · -- case 3
        refine x_tableIn (off := 102) (tgt := 120) C dX9_lineRead_18 (by decide +kernel) (by decide +kernel) (by decide +kernel) rfl ?_
        refine x_aload_n C dX9_lineRead_120 rfl rfl ?_
        refine x_V0I C (met_X9_wordLine l C.1 h.1 hwh (by omega) (by omega) hN) mi_X9_wordLine q2581 gcX9 h.1.1 ⟨rfl, rfl⟩ rfl ⟨Nat.le_refl _, Nat.le_refl _⟩ rfl dX9_lineRead_121 (fun r M1 hr => ?_)
        rcases gP_c hr with ⟨s7, e7, hq, rfl⟩ | ⟨s7, e7, hq, rfl⟩
        · -- right
          have h := h.tr hq
          have R7 := rW_Wd hN e7
          refine x_istore_n C dX9_lineRead_124 rfl (gs1_1 rfl) rfl ?_
          refine x_goto (tgt := 134) C dX9_lineRead_125 rfl ?_
          refine x_iload_n C dX9_lineRead_134 rfl rfl ?_
          refine x_if_neT (tgt := 140) C (by decide) dX9_lineRead_135 rfl ?_
          refine x_aload_n C dX9_lineRead_140 rfl rfl ?_
          refine m_get C h 8 rfl q2417 rfl dX9_lineRead_141 ?_
          refine x_iconst C dX9_lineRead_144 kc_4 ?_
          refine x_icmp_eq (tgt := 154) C dX9_lineRead_145 rfl (fun c145 => ?_) (fun c145 => ?_)
          · -- 154
            refine x_aload_n C dX9_lineRead_154 rfl rfl ?_
            refine x_V0V C (met_tok l C.1 h.1 R7.1) mi_X9_token q2509 gcX9 h.1.1 ⟨rfl, rfl⟩ rfl ⟨Nat.le_refl _, Nat.le_refl _⟩ rfl dX9_lineRead_155 (fun M1 hr => ?_)
            obtain ⟨s8, e8, N8, T8, h⟩ : ∃ s', s' = tTok _ ∧ wN s' ∧ sT _ s' ∧ MF G ad M0 s' M1 := ⟨_, rfl, (wN.tok R7.1).1, (wN.tok R7.1).2.1, h.tr hr⟩
            refine x_iconst C dX9_lineRead_158 kc_1 ?_
            exact x_zret C (by decide +kernel) dX9_lineRead_159 ⟨Nat.le_refl _, Nat.le_refl _⟩ (gP_t h (by unfold gLn; rw [if_pos c5, gB_t (show gKw tr ns nb na σ = (true, s7) from by unfold gKw; rw [hwh, if_neg (nI_nn (by decide) (by decide) (by decide)), if_neg (nI_nn (by decide) (by decide) (by decide)), if_neg (nI_nn (by decide) (by decide) (by decide)), if_pos rfl]; exact e7), if_pos c145, ← e8]; first | done | rfl))
          · -- 148
            refine x_aload_n C dX9_lineRead_148 rfl rfl ?_
            refine x_iconst C dX9_lineRead_149 kc_1 ?_
            refine x_V1I C (met_X9_wrong l C.1 h.1) mi_X9_wrong q2534 gcX9 h.1.1 ⟨rfl, rfl⟩ rfl ⟨Nat.le_refl _, Nat.le_refl _⟩ rfl dX9_lineRead_150 (fun r M1 hr => ?_)
            obtain ⟨hr, rfl⟩ := hr
            have h := h.tr hr
            exact x_zret C (by decide +kernel) dX9_lineRead_153 ⟨Nat.le_refl _, Nat.le_refl _⟩ (gP_f h (by unfold gLn; rw [if_pos c5, gB_t (show gKw tr ns nb na σ = (true, s7) from by unfold gKw; rw [hwh, if_neg (nI_nn (by decide) (by decide) (by decide)), if_neg (nI_nn (by decide) (by decide) (by decide)), if_neg (nI_nn (by decide) (by decide) (by decide)), if_pos rfl]; exact e7), if_neg c145]; first | done | rfl))
        · -- wrong
          have h := h.tr hq
          have R7 := rW_Wd hN e7
          refine x_istore_n C dX9_lineRead_124 rfl (gs1_1 rfl) rfl ?_
          refine x_goto (tgt := 134) C dX9_lineRead_125 rfl ?_
          refine x_iload_n C dX9_lineRead_134 rfl rfl ?_
          refine x_if_neF (tgt := 140) C (by decide) dX9_lineRead_135 rfl ?_
          refine x_iconst C dX9_lineRead_138 kc_0 ?_
          exact x_zret C (by decide +kernel) dX9_lineRead_139 ⟨Nat.le_refl _, Nat.le_refl _⟩ (gP_f h (by unfold gLn; rw [if_pos c5, gB_f (show gKw tr ns nb na σ = (false, s7) from by unfold gKw; rw [hwh, if_neg (nI_nn (by decide) (by decide) (by decide)), if_neg (nI_nn (by decide) (by decide) (by decide)), if_neg (nI_nn (by decide) (by decide) (by decide)), if_pos rfl]; exact e7)]; first | done | rfl))
      · -- case 4
        refine x_tableIn (off := 102) (tgt := 120) C dX9_lineRead_18 (by decide +kernel) (by decide +kernel) (by decide +kernel) rfl ?_
        refine x_aload_n C dX9_lineRead_120 rfl rfl ?_
        refine x_V0I C (met_X9_wordLine l C.1 h.1 hwh (by omega) (by omega) hN) mi_X9_wordLine q2581 gcX9 h.1.1 ⟨rfl, rfl⟩ rfl ⟨Nat.le_refl _, Nat.le_refl _⟩ rfl dX9_lineRead_121 (fun r M1 hr => ?_)
        rcases gP_c hr with ⟨s9, e9, hq, rfl⟩ | ⟨s9, e9, hq, rfl⟩
        · -- right
          have h := h.tr hq
          have R9 := rW_Wd hN e9
          refine x_istore_n C dX9_lineRead_124 rfl (gs1_1 rfl) rfl ?_
          refine x_goto (tgt := 134) C dX9_lineRead_125 rfl ?_
          refine x_iload_n C dX9_lineRead_134 rfl rfl ?_
          refine x_if_neT (tgt := 140) C (by decide) dX9_lineRead_135 rfl ?_
          refine x_aload_n C dX9_lineRead_140 rfl rfl ?_
          refine m_get C h 8 rfl q2417 rfl dX9_lineRead_141 ?_
          refine x_iconst C dX9_lineRead_144 kc_4 ?_
          refine x_icmp_eq (tgt := 154) C dX9_lineRead_145 rfl (fun c145 => ?_) (fun c145 => ?_)
          · -- 154
            refine x_aload_n C dX9_lineRead_154 rfl rfl ?_
            refine x_V0V C (met_tok l C.1 h.1 R9.1) mi_X9_token q2509 gcX9 h.1.1 ⟨rfl, rfl⟩ rfl ⟨Nat.le_refl _, Nat.le_refl _⟩ rfl dX9_lineRead_155 (fun M1 hr => ?_)
            obtain ⟨s10, e10, N10, T10, h⟩ : ∃ s', s' = tTok _ ∧ wN s' ∧ sT _ s' ∧ MF G ad M0 s' M1 := ⟨_, rfl, (wN.tok R9.1).1, (wN.tok R9.1).2.1, h.tr hr⟩
            refine x_iconst C dX9_lineRead_158 kc_1 ?_
            exact x_zret C (by decide +kernel) dX9_lineRead_159 ⟨Nat.le_refl _, Nat.le_refl _⟩ (gP_t h (by unfold gLn; rw [if_pos c5, gB_t (show gKw tr ns nb na σ = (true, s9) from by unfold gKw; rw [hwh, if_neg (nI_nn (by decide) (by decide) (by decide)), if_neg (nI_nn (by decide) (by decide) (by decide)), if_neg (nI_nn (by decide) (by decide) (by decide)), if_neg (nI_nn (by decide) (by decide) (by decide)), if_pos rfl]; exact e9), if_pos c145, ← e10]; first | done | rfl))
          · -- 148
            refine x_aload_n C dX9_lineRead_148 rfl rfl ?_
            refine x_iconst C dX9_lineRead_149 kc_1 ?_
            refine x_V1I C (met_X9_wrong l C.1 h.1) mi_X9_wrong q2534 gcX9 h.1.1 ⟨rfl, rfl⟩ rfl ⟨Nat.le_refl _, Nat.le_refl _⟩ rfl dX9_lineRead_150 (fun r M1 hr => ?_)
            obtain ⟨hr, rfl⟩ := hr
            have h := h.tr hr
            exact x_zret C (by decide +kernel) dX9_lineRead_153 ⟨Nat.le_refl _, Nat.le_refl _⟩ (gP_f h (by unfold gLn; rw [if_pos c5, gB_t (show gKw tr ns nb na σ = (true, s9) from by unfold gKw; rw [hwh, if_neg (nI_nn (by decide) (by decide) (by decide)), if_neg (nI_nn (by decide) (by decide) (by decide)), if_neg (nI_nn (by decide) (by decide) (by decide)), if_neg (nI_nn (by decide) (by decide) (by decide)), if_pos rfl]; exact e9), if_neg c145]; first | done | rfl))
        · -- wrong
          have h := h.tr hq
          have R9 := rW_Wd hN e9
          refine x_istore_n C dX9_lineRead_124 rfl (gs1_1 rfl) rfl ?_
          refine x_goto (tgt := 134) C dX9_lineRead_125 rfl ?_
          refine x_iload_n C dX9_lineRead_134 rfl rfl ?_
          refine x_if_neF (tgt := 140) C (by decide) dX9_lineRead_135 rfl ?_
          refine x_iconst C dX9_lineRead_138 kc_0 ?_
          exact x_zret C (by decide +kernel) dX9_lineRead_139 ⟨Nat.le_refl _, Nat.le_refl _⟩ (gP_f h (by unfold gLn; rw [if_pos c5, gB_f (show gKw tr ns nb na σ = (false, s9) from by unfold gKw; rw [hwh, if_neg (nI_nn (by decide) (by decide) (by decide)), if_neg (nI_nn (by decide) (by decide) (by decide)), if_neg (nI_nn (by decide) (by decide) (by decide)), if_neg (nI_nn (by decide) (by decide) (by decide)), if_pos rfl]; exact e9)]; first | done | rfl))
      · -- case 5
        refine x_tableIn (off := 102) (tgt := 120) C dX9_lineRead_18 (by decide +kernel) (by decide +kernel) (by decide +kernel) rfl ?_
        refine x_aload_n C dX9_lineRead_120 rfl rfl ?_
        refine x_V0I C (met_X9_wordLine l C.1 h.1 hwh (by omega) (by omega) hN) mi_X9_wordLine q2581 gcX9 h.1.1 ⟨rfl, rfl⟩ rfl ⟨Nat.le_refl _, Nat.le_refl _⟩ rfl dX9_lineRead_121 (fun r M1 hr => ?_)
        rcases gP_c hr with ⟨s11, e11, hq, rfl⟩ | ⟨s11, e11, hq, rfl⟩
        · -- right
          have h := h.tr hq
          have R11 := rW_Wd hN e11
          refine x_istore_n C dX9_lineRead_124 rfl (gs1_1 rfl) rfl ?_
          refine x_goto (tgt := 134) C dX9_lineRead_125 rfl ?_
          refine x_iload_n C dX9_lineRead_134 rfl rfl ?_
          refine x_if_neT (tgt := 140) C (by decide) dX9_lineRead_135 rfl ?_
          refine x_aload_n C dX9_lineRead_140 rfl rfl ?_
          refine m_get C h 8 rfl q2417 rfl dX9_lineRead_141 ?_
          refine x_iconst C dX9_lineRead_144 kc_4 ?_
          refine x_icmp_eq (tgt := 154) C dX9_lineRead_145 rfl (fun c145 => ?_) (fun c145 => ?_)
          · -- 154
            refine x_aload_n C dX9_lineRead_154 rfl rfl ?_
            refine x_V0V C (met_tok l C.1 h.1 R11.1) mi_X9_token q2509 gcX9 h.1.1 ⟨rfl, rfl⟩ rfl ⟨Nat.le_refl _, Nat.le_refl _⟩ rfl dX9_lineRead_155 (fun M1 hr => ?_)
            obtain ⟨s12, e12, N12, T12, h⟩ : ∃ s', s' = tTok _ ∧ wN s' ∧ sT _ s' ∧ MF G ad M0 s' M1 := ⟨_, rfl, (wN.tok R11.1).1, (wN.tok R11.1).2.1, h.tr hr⟩
            refine x_iconst C dX9_lineRead_158 kc_1 ?_
            exact x_zret C (by decide +kernel) dX9_lineRead_159 ⟨Nat.le_refl _, Nat.le_refl _⟩ (gP_t h (by unfold gLn; rw [if_pos c5, gB_t (show gKw tr ns nb na σ = (true, s11) from by unfold gKw; rw [hwh, if_neg (nI_nn (by decide) (by decide) (by decide)), if_neg (nI_nn (by decide) (by decide) (by decide)), if_neg (nI_nn (by decide) (by decide) (by decide)), if_neg (nI_nn (by decide) (by decide) (by decide)), if_neg (nI_nn (by decide) (by decide) (by decide)), if_pos rfl]; exact e11), if_pos c145, ← e12]; first | done | rfl))
          · -- 148
            refine x_aload_n C dX9_lineRead_148 rfl rfl ?_
            refine x_iconst C dX9_lineRead_149 kc_1 ?_
            refine x_V1I C (met_X9_wrong l C.1 h.1) mi_X9_wrong q2534 gcX9 h.1.1 ⟨rfl, rfl⟩ rfl ⟨Nat.le_refl _, Nat.le_refl _⟩ rfl dX9_lineRead_150 (fun r M1 hr => ?_)
            obtain ⟨hr, rfl⟩ := hr
            have h := h.tr hr
            exact x_zret C (by decide +kernel) dX9_lineRead_153 ⟨Nat.le_refl _, Nat.le_refl _⟩ (gP_f h (by unfold gLn; rw [if_pos c5, gB_t (show gKw tr ns nb na σ = (true, s11) from by unfold gKw; rw [hwh, if_neg (nI_nn (by decide) (by decide) (by decide)), if_neg (nI_nn (by decide) (by decide) (by decide)), if_neg (nI_nn (by decide) (by decide) (by decide)), if_neg (nI_nn (by decide) (by decide) (by decide)), if_neg (nI_nn (by decide) (by decide) (by decide)), if_pos rfl]; exact e11), if_neg c145]; first | done | rfl))
        · -- wrong
          have h := h.tr hq
          have R11 := rW_Wd hN e11
          refine x_istore_n C dX9_lineRead_124 rfl (gs1_1 rfl) rfl ?_
          refine x_goto (tgt := 134) C dX9_lineRead_125 rfl ?_
          refine x_iload_n C dX9_lineRead_134 rfl rfl ?_
          refine x_if_neF (tgt := 140) C (by decide) dX9_lineRead_135 rfl ?_
          refine x_iconst C dX9_lineRead_138 kc_0 ?_
          exact x_zret C (by decide +kernel) dX9_lineRead_139 ⟨Nat.le_refl _, Nat.le_refl _⟩ (gP_f h (by unfold gLn; rw [if_pos c5, gB_f (show gKw tr ns nb na σ = (false, s11) from by unfold gKw; rw [hwh, if_neg (nI_nn (by decide) (by decide) (by decide)), if_neg (nI_nn (by decide) (by decide) (by decide)), if_neg (nI_nn (by decide) (by decide) (by decide)), if_neg (nI_nn (by decide) (by decide) (by decide)), if_neg (nI_nn (by decide) (by decide) (by decide)), if_pos rfl]; exact e11)]; first | done | rfl))
      · -- case 6
        refine x_tableIn (off := 102) (tgt := 120) C dX9_lineRead_18 (by decide +kernel) (by decide +kernel) (by decide +kernel) rfl ?_
        refine x_aload_n C dX9_lineRead_120 rfl rfl ?_
        refine x_V0I C (met_X9_wordLine l C.1 h.1 hwh (by omega) (by omega) hN) mi_X9_wordLine q2581 gcX9 h.1.1 ⟨rfl, rfl⟩ rfl ⟨Nat.le_refl _, Nat.le_refl _⟩ rfl dX9_lineRead_121 (fun r M1 hr => ?_)
        rcases gP_c hr with ⟨s13, e13, hq, rfl⟩ | ⟨s13, e13, hq, rfl⟩
        · -- right
          have h := h.tr hq
          have R13 := rW_Wd hN e13
          refine x_istore_n C dX9_lineRead_124 rfl (gs1_1 rfl) rfl ?_
          refine x_goto (tgt := 134) C dX9_lineRead_125 rfl ?_
          refine x_iload_n C dX9_lineRead_134 rfl rfl ?_
          refine x_if_neT (tgt := 140) C (by decide) dX9_lineRead_135 rfl ?_
          refine x_aload_n C dX9_lineRead_140 rfl rfl ?_
          refine m_get C h 8 rfl q2417 rfl dX9_lineRead_141 ?_
          refine x_iconst C dX9_lineRead_144 kc_4 ?_
          refine x_icmp_eq (tgt := 154) C dX9_lineRead_145 rfl (fun c145 => ?_) (fun c145 => ?_)
          · -- 154
            refine x_aload_n C dX9_lineRead_154 rfl rfl ?_
            refine x_V0V C (met_tok l C.1 h.1 R13.1) mi_X9_token q2509 gcX9 h.1.1 ⟨rfl, rfl⟩ rfl ⟨Nat.le_refl _, Nat.le_refl _⟩ rfl dX9_lineRead_155 (fun M1 hr => ?_)
            obtain ⟨s14, e14, N14, T14, h⟩ : ∃ s', s' = tTok _ ∧ wN s' ∧ sT _ s' ∧ MF G ad M0 s' M1 := ⟨_, rfl, (wN.tok R13.1).1, (wN.tok R13.1).2.1, h.tr hr⟩
            refine x_iconst C dX9_lineRead_158 kc_1 ?_
            exact x_zret C (by decide +kernel) dX9_lineRead_159 ⟨Nat.le_refl _, Nat.le_refl _⟩ (gP_t h (by unfold gLn; rw [if_pos c5, gB_t (show gKw tr ns nb na σ = (true, s13) from by unfold gKw; rw [hwh, if_neg (nI_nn (by decide) (by decide) (by decide)), if_neg (nI_nn (by decide) (by decide) (by decide)), if_neg (nI_nn (by decide) (by decide) (by decide)), if_neg (nI_nn (by decide) (by decide) (by decide)), if_neg (nI_nn (by decide) (by decide) (by decide)), if_neg (nI_nn (by decide) (by decide) (by decide)), if_pos rfl]; exact e13), if_pos c145, ← e14]; first | done | rfl))
          · -- 148
            refine x_aload_n C dX9_lineRead_148 rfl rfl ?_
            refine x_iconst C dX9_lineRead_149 kc_1 ?_
            refine x_V1I C (met_X9_wrong l C.1 h.1) mi_X9_wrong q2534 gcX9 h.1.1 ⟨rfl, rfl⟩ rfl ⟨Nat.le_refl _, Nat.le_refl _⟩ rfl dX9_lineRead_150 (fun r M1 hr => ?_)
            obtain ⟨hr, rfl⟩ := hr
            have h := h.tr hr
            exact x_zret C (by decide +kernel) dX9_lineRead_153 ⟨Nat.le_refl _, Nat.le_refl _⟩ (gP_f h (by unfold gLn; rw [if_pos c5, gB_t (show gKw tr ns nb na σ = (true, s13) from by unfold gKw; rw [hwh, if_neg (nI_nn (by decide) (by decide) (by decide)), if_neg (nI_nn (by decide) (by decide) (by decide)), if_neg (nI_nn (by decide) (by decide) (by decide)), if_neg (nI_nn (by decide) (by decide) (by decide)), if_neg (nI_nn (by decide) (by decide) (by decide)), if_neg (nI_nn (by decide) (by decide) (by decide)), if_pos rfl]; exact e13), if_neg c145]; first | done | rfl))
        · -- wrong
          have h := h.tr hq
          have R13 := rW_Wd hN e13
          refine x_istore_n C dX9_lineRead_124 rfl (gs1_1 rfl) rfl ?_
          refine x_goto (tgt := 134) C dX9_lineRead_125 rfl ?_
          refine x_iload_n C dX9_lineRead_134 rfl rfl ?_
          refine x_if_neF (tgt := 140) C (by decide) dX9_lineRead_135 rfl ?_
          refine x_iconst C dX9_lineRead_138 kc_0 ?_
          exact x_zret C (by decide +kernel) dX9_lineRead_139 ⟨Nat.le_refl _, Nat.le_refl _⟩ (gP_f h (by unfold gLn; rw [if_pos c5, gB_f (show gKw tr ns nb na σ = (false, s13) from by unfold gKw; rw [hwh, if_neg (nI_nn (by decide) (by decide) (by decide)), if_neg (nI_nn (by decide) (by decide) (by decide)), if_neg (nI_nn (by decide) (by decide) (by decide)), if_neg (nI_nn (by decide) (by decide) (by decide)), if_neg (nI_nn (by decide) (by decide) (by decide)), if_neg (nI_nn (by decide) (by decide) (by decide)), if_pos rfl]; exact e13)]; first | done | rfl))
      · -- case 7
        refine x_tableIn (off := 78) (tgt := 96) C dX9_lineRead_18 (by decide +kernel) (by decide +kernel) (by decide +kernel) rfl ?_
        refine x_aload_n C dX9_lineRead_96 rfl rfl ?_
        refine x_V0I C (met_X9_saleLine l C.1 h.1 h12 (by omega) (by omega) h11 hN) mi_X9_saleLine q2565 gcX9 h.1.1 ⟨rfl, rfl⟩ rfl ⟨Nat.le_refl _, Nat.le_refl _⟩ rfl dX9_lineRead_97 (fun r M1 hr => ?_)
        rcases gP_c hr with ⟨s15, e15, hq, rfl⟩ | ⟨s15, e15, hq, rfl⟩
        · -- right
          have h := h.tr hq
          have R15 := rW_Sl hN e15
          refine x_istore_n C dX9_lineRead_100 rfl (gs1_1 rfl) rfl ?_
          refine x_goto (tgt := 134) C dX9_lineRead_101 rfl ?_
          refine x_iload_n C dX9_lineRead_134 rfl rfl ?_
          refine x_if_neT (tgt := 140) C (by decide) dX9_lineRead_135 rfl ?_
          refine x_aload_n C dX9_lineRead_140 rfl rfl ?_
          refine m_get C h 8 rfl q2417 rfl dX9_lineRead_141 ?_
          refine x_iconst C dX9_lineRead_144 kc_4 ?_
          refine x_icmp_eq (tgt := 154) C dX9_lineRead_145 rfl (fun c145 => ?_) (fun c145 => ?_)
          · -- 154
            refine x_aload_n C dX9_lineRead_154 rfl rfl ?_
            refine x_V0V C (met_tok l C.1 h.1 R15.1) mi_X9_token q2509 gcX9 h.1.1 ⟨rfl, rfl⟩ rfl ⟨Nat.le_refl _, Nat.le_refl _⟩ rfl dX9_lineRead_155 (fun M1 hr => ?_)
            obtain ⟨s16, e16, N16, T16, h⟩ : ∃ s', s' = tTok _ ∧ wN s' ∧ sT _ s' ∧ MF G ad M0 s' M1 := ⟨_, rfl, (wN.tok R15.1).1, (wN.tok R15.1).2.1, h.tr hr⟩
            refine x_iconst C dX9_lineRead_158 kc_1 ?_
            exact x_zret C (by decide +kernel) dX9_lineRead_159 ⟨Nat.le_refl _, Nat.le_refl _⟩ (gP_t h (by unfold gLn; rw [if_pos c5, gB_t (show gKw tr ns nb na σ = (true, s15) from by unfold gKw; rw [hwh, if_neg (nI_nn (by decide) (by decide) (by decide)), if_neg (nI_nn (by decide) (by decide) (by decide)), if_neg (nI_nn (by decide) (by decide) (by decide)), if_neg (nI_nn (by decide) (by decide) (by decide)), if_neg (nI_nn (by decide) (by decide) (by decide)), if_neg (nI_nn (by decide) (by decide) (by decide)), if_neg (nI_nn (by decide) (by decide) (by decide)), if_pos rfl]; exact e15), if_pos c145, ← e16]; first | done | rfl))
          · -- 148
            refine x_aload_n C dX9_lineRead_148 rfl rfl ?_
            refine x_iconst C dX9_lineRead_149 kc_1 ?_
            refine x_V1I C (met_X9_wrong l C.1 h.1) mi_X9_wrong q2534 gcX9 h.1.1 ⟨rfl, rfl⟩ rfl ⟨Nat.le_refl _, Nat.le_refl _⟩ rfl dX9_lineRead_150 (fun r M1 hr => ?_)
            obtain ⟨hr, rfl⟩ := hr
            have h := h.tr hr
            exact x_zret C (by decide +kernel) dX9_lineRead_153 ⟨Nat.le_refl _, Nat.le_refl _⟩ (gP_f h (by unfold gLn; rw [if_pos c5, gB_t (show gKw tr ns nb na σ = (true, s15) from by unfold gKw; rw [hwh, if_neg (nI_nn (by decide) (by decide) (by decide)), if_neg (nI_nn (by decide) (by decide) (by decide)), if_neg (nI_nn (by decide) (by decide) (by decide)), if_neg (nI_nn (by decide) (by decide) (by decide)), if_neg (nI_nn (by decide) (by decide) (by decide)), if_neg (nI_nn (by decide) (by decide) (by decide)), if_neg (nI_nn (by decide) (by decide) (by decide)), if_pos rfl]; exact e15), if_neg c145]; first | done | rfl))
        · -- wrong
          have h := h.tr hq
          have R15 := rW_Sl hN e15
          refine x_istore_n C dX9_lineRead_100 rfl (gs1_1 rfl) rfl ?_
          refine x_goto (tgt := 134) C dX9_lineRead_101 rfl ?_
          refine x_iload_n C dX9_lineRead_134 rfl rfl ?_
          refine x_if_neF (tgt := 140) C (by decide) dX9_lineRead_135 rfl ?_
          refine x_iconst C dX9_lineRead_138 kc_0 ?_
          exact x_zret C (by decide +kernel) dX9_lineRead_139 ⟨Nat.le_refl _, Nat.le_refl _⟩ (gP_f h (by unfold gLn; rw [if_pos c5, gB_f (show gKw tr ns nb na σ = (false, s15) from by unfold gKw; rw [hwh, if_neg (nI_nn (by decide) (by decide) (by decide)), if_neg (nI_nn (by decide) (by decide) (by decide)), if_neg (nI_nn (by decide) (by decide) (by decide)), if_neg (nI_nn (by decide) (by decide) (by decide)), if_neg (nI_nn (by decide) (by decide) (by decide)), if_neg (nI_nn (by decide) (by decide) (by decide)), if_neg (nI_nn (by decide) (by decide) (by decide)), if_pos rfl]; exact e15)]; first | done | rfl))
      · -- case 8
        refine x_tableIn (off := 86) (tgt := 104) C dX9_lineRead_18 (by decide +kernel) (by decide +kernel) (by decide +kernel) rfl ?_
        refine x_aload_n C dX9_lineRead_104 rfl rfl ?_
        refine x_V0I C (met_X9_buyLine l C.1 h.1 h12 (by omega) (by omega) hb12 hN) mi_X9_buyLine q2573 gcX9 h.1.1 ⟨rfl, rfl⟩ rfl ⟨Nat.le_refl _, Nat.le_refl _⟩ rfl dX9_lineRead_105 (fun r M1 hr => ?_)
        rcases gP_c hr with ⟨s17, e17, hq, rfl⟩ | ⟨s17, e17, hq, rfl⟩
        · -- right
          have h := h.tr hq
          have R17 := rW_By hN e17
          refine x_istore_n C dX9_lineRead_108 rfl (gs1_1 rfl) rfl ?_
          refine x_goto (tgt := 134) C dX9_lineRead_109 rfl ?_
          refine x_iload_n C dX9_lineRead_134 rfl rfl ?_
          refine x_if_neT (tgt := 140) C (by decide) dX9_lineRead_135 rfl ?_
          refine x_aload_n C dX9_lineRead_140 rfl rfl ?_
          refine m_get C h 8 rfl q2417 rfl dX9_lineRead_141 ?_
          refine x_iconst C dX9_lineRead_144 kc_4 ?_
          refine x_icmp_eq (tgt := 154) C dX9_lineRead_145 rfl (fun c145 => ?_) (fun c145 => ?_)
          · -- 154
            refine x_aload_n C dX9_lineRead_154 rfl rfl ?_
            refine x_V0V C (met_tok l C.1 h.1 R17.1) mi_X9_token q2509 gcX9 h.1.1 ⟨rfl, rfl⟩ rfl ⟨Nat.le_refl _, Nat.le_refl _⟩ rfl dX9_lineRead_155 (fun M1 hr => ?_)
            obtain ⟨s18, e18, N18, T18, h⟩ : ∃ s', s' = tTok _ ∧ wN s' ∧ sT _ s' ∧ MF G ad M0 s' M1 := ⟨_, rfl, (wN.tok R17.1).1, (wN.tok R17.1).2.1, h.tr hr⟩
            refine x_iconst C dX9_lineRead_158 kc_1 ?_
            exact x_zret C (by decide +kernel) dX9_lineRead_159 ⟨Nat.le_refl _, Nat.le_refl _⟩ (gP_t h (by unfold gLn; rw [if_pos c5, gB_t (show gKw tr ns nb na σ = (true, s17) from by unfold gKw; rw [hwh, if_neg (nI_nn (by decide) (by decide) (by decide)), if_neg (nI_nn (by decide) (by decide) (by decide)), if_neg (nI_nn (by decide) (by decide) (by decide)), if_neg (nI_nn (by decide) (by decide) (by decide)), if_neg (nI_nn (by decide) (by decide) (by decide)), if_neg (nI_nn (by decide) (by decide) (by decide)), if_neg (nI_nn (by decide) (by decide) (by decide)), if_neg (nI_nn (by decide) (by decide) (by decide)), if_pos rfl]; exact e17), if_pos c145, ← e18]; first | done | rfl))
          · -- 148
            refine x_aload_n C dX9_lineRead_148 rfl rfl ?_
            refine x_iconst C dX9_lineRead_149 kc_1 ?_
            refine x_V1I C (met_X9_wrong l C.1 h.1) mi_X9_wrong q2534 gcX9 h.1.1 ⟨rfl, rfl⟩ rfl ⟨Nat.le_refl _, Nat.le_refl _⟩ rfl dX9_lineRead_150 (fun r M1 hr => ?_)
            obtain ⟨hr, rfl⟩ := hr
            have h := h.tr hr
            exact x_zret C (by decide +kernel) dX9_lineRead_153 ⟨Nat.le_refl _, Nat.le_refl _⟩ (gP_f h (by unfold gLn; rw [if_pos c5, gB_t (show gKw tr ns nb na σ = (true, s17) from by unfold gKw; rw [hwh, if_neg (nI_nn (by decide) (by decide) (by decide)), if_neg (nI_nn (by decide) (by decide) (by decide)), if_neg (nI_nn (by decide) (by decide) (by decide)), if_neg (nI_nn (by decide) (by decide) (by decide)), if_neg (nI_nn (by decide) (by decide) (by decide)), if_neg (nI_nn (by decide) (by decide) (by decide)), if_neg (nI_nn (by decide) (by decide) (by decide)), if_neg (nI_nn (by decide) (by decide) (by decide)), if_pos rfl]; exact e17), if_neg c145]; first | done | rfl))
        · -- wrong
          have h := h.tr hq
          have R17 := rW_By hN e17
          refine x_istore_n C dX9_lineRead_108 rfl (gs1_1 rfl) rfl ?_
          refine x_goto (tgt := 134) C dX9_lineRead_109 rfl ?_
          refine x_iload_n C dX9_lineRead_134 rfl rfl ?_
          refine x_if_neF (tgt := 140) C (by decide) dX9_lineRead_135 rfl ?_
          refine x_iconst C dX9_lineRead_138 kc_0 ?_
          exact x_zret C (by decide +kernel) dX9_lineRead_139 ⟨Nat.le_refl _, Nat.le_refl _⟩ (gP_f h (by unfold gLn; rw [if_pos c5, gB_f (show gKw tr ns nb na σ = (false, s17) from by unfold gKw; rw [hwh, if_neg (nI_nn (by decide) (by decide) (by decide)), if_neg (nI_nn (by decide) (by decide) (by decide)), if_neg (nI_nn (by decide) (by decide) (by decide)), if_neg (nI_nn (by decide) (by decide) (by decide)), if_neg (nI_nn (by decide) (by decide) (by decide)), if_neg (nI_nn (by decide) (by decide) (by decide)), if_neg (nI_nn (by decide) (by decide) (by decide)), if_neg (nI_nn (by decide) (by decide) (by decide)), if_pos rfl]; exact e17)]; first | done | rfl))
      · -- case 9
        refine x_tableIn (off := 94) (tgt := 112) C dX9_lineRead_18 (by decide +kernel) (by decide +kernel) (by decide +kernel) rfl ?_
        refine x_aload_n C dX9_lineRead_112 rfl rfl ?_
        refine x_V0I C (met_X9_assetLine l C.1 h.1 h12 (by omega) (by omega) ha13 hN) mi_X9_assetLine q2577 gcX9 h.1.1 ⟨rfl, rfl⟩ rfl ⟨Nat.le_refl _, Nat.le_refl _⟩ rfl dX9_lineRead_113 (fun r M1 hr => ?_)
        rcases gP_c hr with ⟨s19, e19, hq, rfl⟩ | ⟨s19, e19, hq, rfl⟩
        · -- right
          have h := h.tr hq
          have R19 := rW_As hN e19
          refine x_istore_n C dX9_lineRead_116 rfl (gs1_1 rfl) rfl ?_
          refine x_goto (tgt := 134) C dX9_lineRead_117 rfl ?_
          refine x_iload_n C dX9_lineRead_134 rfl rfl ?_
          refine x_if_neT (tgt := 140) C (by decide) dX9_lineRead_135 rfl ?_
          refine x_aload_n C dX9_lineRead_140 rfl rfl ?_
          refine m_get C h 8 rfl q2417 rfl dX9_lineRead_141 ?_
          refine x_iconst C dX9_lineRead_144 kc_4 ?_
          refine x_icmp_eq (tgt := 154) C dX9_lineRead_145 rfl (fun c145 => ?_) (fun c145 => ?_)
          · -- 154
            refine x_aload_n C dX9_lineRead_154 rfl rfl ?_
            refine x_V0V C (met_tok l C.1 h.1 R19.1) mi_X9_token q2509 gcX9 h.1.1 ⟨rfl, rfl⟩ rfl ⟨Nat.le_refl _, Nat.le_refl _⟩ rfl dX9_lineRead_155 (fun M1 hr => ?_)
            obtain ⟨s20, e20, N20, T20, h⟩ : ∃ s', s' = tTok _ ∧ wN s' ∧ sT _ s' ∧ MF G ad M0 s' M1 := ⟨_, rfl, (wN.tok R19.1).1, (wN.tok R19.1).2.1, h.tr hr⟩
            refine x_iconst C dX9_lineRead_158 kc_1 ?_
            exact x_zret C (by decide +kernel) dX9_lineRead_159 ⟨Nat.le_refl _, Nat.le_refl _⟩ (gP_t h (by unfold gLn; rw [if_pos c5, gB_t (show gKw tr ns nb na σ = (true, s19) from by unfold gKw; rw [hwh, if_neg (nI_nn (by decide) (by decide) (by decide)), if_neg (nI_nn (by decide) (by decide) (by decide)), if_neg (nI_nn (by decide) (by decide) (by decide)), if_neg (nI_nn (by decide) (by decide) (by decide)), if_neg (nI_nn (by decide) (by decide) (by decide)), if_neg (nI_nn (by decide) (by decide) (by decide)), if_neg (nI_nn (by decide) (by decide) (by decide)), if_neg (nI_nn (by decide) (by decide) (by decide)), if_neg (nI_nn (by decide) (by decide) (by decide)), if_pos rfl]; exact e19), if_pos c145, ← e20]; first | done | rfl))
          · -- 148
            refine x_aload_n C dX9_lineRead_148 rfl rfl ?_
            refine x_iconst C dX9_lineRead_149 kc_1 ?_
            refine x_V1I C (met_X9_wrong l C.1 h.1) mi_X9_wrong q2534 gcX9 h.1.1 ⟨rfl, rfl⟩ rfl ⟨Nat.le_refl _, Nat.le_refl _⟩ rfl dX9_lineRead_150 (fun r M1 hr => ?_)
            obtain ⟨hr, rfl⟩ := hr
            have h := h.tr hr
            exact x_zret C (by decide +kernel) dX9_lineRead_153 ⟨Nat.le_refl _, Nat.le_refl _⟩ (gP_f h (by unfold gLn; rw [if_pos c5, gB_t (show gKw tr ns nb na σ = (true, s19) from by unfold gKw; rw [hwh, if_neg (nI_nn (by decide) (by decide) (by decide)), if_neg (nI_nn (by decide) (by decide) (by decide)), if_neg (nI_nn (by decide) (by decide) (by decide)), if_neg (nI_nn (by decide) (by decide) (by decide)), if_neg (nI_nn (by decide) (by decide) (by decide)), if_neg (nI_nn (by decide) (by decide) (by decide)), if_neg (nI_nn (by decide) (by decide) (by decide)), if_neg (nI_nn (by decide) (by decide) (by decide)), if_neg (nI_nn (by decide) (by decide) (by decide)), if_pos rfl]; exact e19), if_neg c145]; first | done | rfl))
        · -- wrong
          have h := h.tr hq
          have R19 := rW_As hN e19
          refine x_istore_n C dX9_lineRead_116 rfl (gs1_1 rfl) rfl ?_
          refine x_goto (tgt := 134) C dX9_lineRead_117 rfl ?_
          refine x_iload_n C dX9_lineRead_134 rfl rfl ?_
          refine x_if_neF (tgt := 140) C (by decide) dX9_lineRead_135 rfl ?_
          refine x_iconst C dX9_lineRead_138 kc_0 ?_
          exact x_zret C (by decide +kernel) dX9_lineRead_139 ⟨Nat.le_refl _, Nat.le_refl _⟩ (gP_f h (by unfold gLn; rw [if_pos c5, gB_f (show gKw tr ns nb na σ = (false, s19) from by unfold gKw; rw [hwh, if_neg (nI_nn (by decide) (by decide) (by decide)), if_neg (nI_nn (by decide) (by decide) (by decide)), if_neg (nI_nn (by decide) (by decide) (by decide)), if_neg (nI_nn (by decide) (by decide) (by decide)), if_neg (nI_nn (by decide) (by decide) (by decide)), if_neg (nI_nn (by decide) (by decide) (by decide)), if_neg (nI_nn (by decide) (by decide) (by decide)), if_neg (nI_nn (by decide) (by decide) (by decide)), if_neg (nI_nn (by decide) (by decide) (by decide)), if_pos rfl]; exact e19)]; first | done | rfl))
    · -- out
      refine x_tableOut (tgt := 128) C dX9_lineRead_18 h18 rfl ?_
      refine x_aload_n C dX9_lineRead_128 rfl rfl ?_
      refine x_iconst C dX9_lineRead_129 kc_1 ?_
      refine x_V1I C (met_X9_wrong l C.1 h.1) mi_X9_wrong q2534 gcX9 h.1.1 ⟨rfl, rfl⟩ rfl ⟨Nat.le_refl _, Nat.le_refl _⟩ rfl dX9_lineRead_130 (fun r M1 hr => ?_)
      obtain ⟨hr, rfl⟩ := hr
      have h := h.tr hr
      exact x_zret C (by decide +kernel) dX9_lineRead_133 ⟨Nat.le_refl _, Nat.le_refl _⟩ (gP_f h (by unfold gLn; rw [if_pos c5, gB_f (show gKw tr ns nb na σ = (false, gWr σ 1) from by unfold gKw; rw [hwh, if_neg (tab_ne h18 0 (by decide) (by decide)), if_neg (tab_ne h18 1 (by decide) (by decide)), if_neg (tab_ne h18 2 (by decide) (by decide)), if_neg (tab_ne h18 3 (by decide) (by decide)), if_neg (tab_ne h18 4 (by decide) (by decide)), if_neg (tab_ne h18 5 (by decide) (by decide)), if_neg (tab_ne h18 6 (by decide) (by decide)), if_neg (tab_ne h18 7 (by decide) (by decide)), if_neg (tab_ne h18 8 (by decide) (by decide)), if_neg (tab_ne h18 9 (by decide) (by decide))])]))
  · -- 8
    refine x_aload_n C dX9_lineRead_8 rfl rfl ?_
    refine x_iconst C dX9_lineRead_9 kc_1 ?_
    refine x_V1I C (met_X9_wrong l C.1 h.1) mi_X9_wrong q2534 gcX9 h.1.1 ⟨rfl, rfl⟩ rfl ⟨Nat.le_refl _, Nat.le_refl _⟩ rfl dX9_lineRead_10 (fun r M1 hr => ?_)
    obtain ⟨hr, rfl⟩ := hr
    have h := h.tr hr
    exact x_zret C (by decide +kernel) dX9_lineRead_13 ⟨Nat.le_refl _, Nat.le_refl _⟩ (gP_f h (by unfold gLn; rw [if_neg c5]; first | done | rfl))
