set_option maxRecDepth 100000
theorem mi_X9_headLine : gMV RX9 yX9_headLine cX9_headLine 3 (some .boolean) 0 := ⟨q2555, qs73, q165, q2556, by decide +kernel⟩
set_option maxHeartbeats 4000000 in
set_option maxRecDepth 100000 in
theorem met_X9_headLine (l : Launch) {G : gG} (hG : gOK G) {ad : Nat → Nat} {σ : mS} {M0 : gM} {tr : Nat} (h : MR G ad σ M0) (h12 : mI σ 12 = nI tr) (hb0_ : tr ≤ 4) (hN : wN σ) : Met l yX9_headLine (ws_ yX9_headLine cX9_headLine 3 (some .boolean)) ({ frames := 3, cells := 0, slots := 0, locals := 69 }) (gPre G M0 [.ref (ad 0)]) (gQ G (gI (gP G ad M0 (gHd tr σ)))) 0 0 (gA G) := by
  refine gMet (L0 := [some (.ref (ad 0)), none, none]) RX9 hG (by decide +kernel) rfl (Nat.le_of_ble_eq_true rfl) rfl ?_
  intro p e s m args below meth c C hnm
  have h := MF.rf h
  refine x_aload_n C dX9_headLine_0 rfl rfl ?_
  refine x_V0I C (met_X9_traderRead l C.1 h.1 h12 (by omega) hN) mi_X9_traderRead q2557 gcX9 h.1.1 ⟨rfl, rfl⟩ rfl ⟨Nat.le_refl _, Nat.le_refl _⟩ rfl dX9_headLine_1 (fun r M1 hr => ?_)
  rcases gP_c hr with ⟨s1, e1, hq, rfl⟩ | ⟨s1, e1, hq, rfl⟩
  · -- right
    have h := h.tr hq
    obtain ⟨N1, T1, -⟩ := wN.trd hN e1
    obtain ⟨g, hg19, hgd, hgl⟩ := gTR_g (by omega) e1
    refine x_if_neT (tgt := 9) C (by decide) dX9_headLine_4 rfl ?_
    refine x_bipush C dX9_headLine_9 kb_32 ?_
    refine x_bipush C dX9_headLine_11 kb_8 ?_
    refine x_aload_n C dX9_headLine_13 rfl rfl ?_
    refine m_get C h 19 (v := .int (nI g)) rfl q2428 (m_v rfl hg19) dX9_headLine_14 ?_
    refine x_imulN C dX9_headLine_17 ?_
    refine x_iaddN C dX9_headLine_18 ?_
    refine x_istore_n C dX9_headLine_19 rfl (gs1_1 rfl) rfl ?_
    refine x_aload_n C dX9_headLine_20 rfl rfl ?_
    refine m_get C h 13 rfl q2422 rfl dX9_headLine_21 ?_
    refine x_iload_n C dX9_headLine_24 rfl rfl ?_
    refine x_iconst C dX9_headLine_25 kc_3 ?_
    refine x_iaddN C dX9_headLine_26 ?_
    refine m_ald C h 2 (N := 64) (by decide) rfl rfl (by omega) rfl dX9_headLine_27 ?_
    refine x_iconst C dX9_headLine_28 kc_1 ?_
    refine x_icmp_ne (tgt := 38) C dX9_headLine_29 rfl (fun c29 => ?_) (fun c29 => ?_)
    · -- 38
      refine x_aload_n C dX9_headLine_38 rfl rfl ?_
      refine m_get C h 13 rfl q2422 rfl dX9_headLine_39 ?_
      refine x_iload_n C dX9_headLine_42 rfl rfl ?_
      refine x_iconst C dX9_headLine_43 kc_3 ?_
      refine x_iaddN C dX9_headLine_44 ?_
      refine x_iconst C dX9_headLine_45 kc_1 ?_
      refine m_ast C h 2 (N := 64) (by decide) rfl rfl (by omega) dX9_headLine_46 (fun M h => ?_)
      refine x_aload_n C dX9_headLine_47 rfl rfl ?_
      refine x_V0V C (met_tok l C.1 h.1 (wN.sa N1 (a := 2) (by decide))) mi_X9_token q2509 gcX9 h.1.1 ⟨rfl, rfl⟩ rfl ⟨Nat.le_refl _, Nat.le_refl _⟩ rfl dX9_headLine_48 (fun M1 hr => ?_)
      obtain ⟨s2, e2, N2, T2, h⟩ : ∃ s', s' = tTok _ ∧ wN s' ∧ sT _ s' ∧ MF G ad M0 s' M1 := ⟨_, rfl, (wN.tok (wN.sa N1 (a := 2) (by decide))).1, (wN.tok (wN.sa N1 (a := 2) (by decide))).2.1, h.tr hr⟩
      refine x_aload_n C dX9_headLine_51 rfl rfl ?_
      refine m_get C h 8 rfl q2417 rfl dX9_headLine_52 ?_
      refine x_iconst C dX9_headLine_55 kc_3 ?_
      refine x_icmp_eq (tgt := 65) C dX9_headLine_56 rfl (fun c56 => ?_) (fun c56 => ?_)
      · -- 65
        refine x_aload_n C dX9_headLine_65 rfl rfl ?_
        refine m_get C h 9 rfl q2418 rfl dX9_headLine_66 ?_
        refine x_sipush C dX9_headLine_69 ks_999 ?_
        refine x_icmp_le (tgt := 81) C dX9_headLine_72 rfl (fun c72 => ?_) (fun c72 => ?_)
        · -- 81
          refine x_aload_n C dX9_headLine_81 rfl rfl ?_
          refine m_get C h 9 rfl q2418 rfl dX9_headLine_82 ?_
          refine x_istore_n C dX9_headLine_85 rfl (gs1_2 rfl) rfl ?_
          refine x_aload_n C dX9_headLine_86 rfl rfl ?_
          refine x_V0V C (met_tok l C.1 h.1 N2) mi_X9_token q2509 gcX9 h.1.1 ⟨rfl, rfl⟩ rfl ⟨Nat.le_refl _, Nat.le_refl _⟩ rfl dX9_headLine_87 (fun M1 hr => ?_)
          obtain ⟨s3, e3, N3, T3, h⟩ : ∃ s', s' = tTok _ ∧ wN s' ∧ sT _ s' ∧ MF G ad M0 s' M1 := ⟨_, rfl, (wN.tok N2).1, (wN.tok N2).2.1, h.tr hr⟩
          refine x_aload_n C dX9_headLine_90 rfl rfl ?_
          refine x_iload_n C dX9_headLine_91 rfl rfl ?_
          refine x_sipush C dX9_headLine_92 ks_999 ?_
          refine x_V2I C (met_X9_number l C.1 h.1 N3) mi_X9_number q2546 gcX9 h.1.1 ⟨rfl, rfl⟩ rfl ⟨Nat.le_refl _, Nat.le_refl _⟩ rfl dX9_headLine_95 (fun r M1 hr => ?_)
          rcases gP_c hr with ⟨s4, e4, hq, rfl⟩ | ⟨s4, e4, hq, rfl⟩
          · -- right
            have h := h.tr hq
            obtain ⟨N4, T4, -⟩ := wN.num N3 e4
            refine x_if_neT (tgt := 103) C (by decide) dX9_headLine_98 rfl ?_
            refine x_aload_n C dX9_headLine_103 rfl rfl ?_
            refine m_get C h 13 rfl q2422 rfl dX9_headLine_104 ?_
            refine x_iload_n C dX9_headLine_107 rfl rfl ?_
            refine x_iconst C dX9_headLine_108 kc_4 ?_
            refine x_iaddN C dX9_headLine_109 ?_
            refine x_iload_n C dX9_headLine_110 rfl rfl ?_
            refine m_ast C h 2 (N := 64) (by decide) rfl rfl (by omega) dX9_headLine_111 (fun M h => ?_)
            refine x_aload_n C dX9_headLine_112 rfl rfl ?_
            refine m_get C h 13 rfl q2422 rfl dX9_headLine_113 ?_
            refine x_iload_n C dX9_headLine_116 rfl rfl ?_
            refine x_iconst C dX9_headLine_117 kc_4 ?_
            refine x_iaddN C dX9_headLine_118 ?_
            refine x_iconst C dX9_headLine_119 kc_1 ?_
            refine x_iaddN C dX9_headLine_120 ?_
            refine x_aload_n C dX9_headLine_121 rfl rfl ?_
            refine m_get C h 19 rfl q2428 rfl dX9_headLine_122 ?_
            refine m_ast C h 2 (N := 64) (by decide) rfl rfl (by omega) dX9_headLine_125 (fun M h => ?_)
            refine x_iconst C dX9_headLine_126 kc_1 ?_
            exact x_zret C (by decide +kernel) dX9_headLine_127 ⟨Nat.le_refl _, Nat.le_refl _⟩ (gP_t h (by unfold gHd gHd1 gHd2 gHd3; rw [gB_t e1, hgd, if_neg c29, ← e2, if_pos c56, if_neg (Int32.not_lt.mpr c72), ← e3, gB_t e4]; first | done | rfl))
          · -- wrong
            have h := h.tr hq
            obtain ⟨N4, T4, -⟩ := wN.num N3 e4
            refine x_if_neF (tgt := 103) C (by decide) dX9_headLine_98 rfl ?_
            refine x_iconst C dX9_headLine_101 kc_0 ?_
            exact x_zret C (by decide +kernel) dX9_headLine_102 ⟨Nat.le_refl _, Nat.le_refl _⟩ (gP_f h (by unfold gHd gHd1 gHd2 gHd3; rw [gB_t e1, hgd, if_neg c29, ← e2, if_pos c56, if_neg (Int32.not_lt.mpr c72), ← e3, gB_f e4]; first | done | rfl))
        · -- 75
          refine x_aload_n C dX9_headLine_75 rfl rfl ?_
          refine x_iconst C dX9_headLine_76 kc_2 ?_
          refine x_V1I C (met_X9_wrong l C.1 h.1) mi_X9_wrong q2534 gcX9 h.1.1 ⟨rfl, rfl⟩ rfl ⟨Nat.le_refl _, Nat.le_refl _⟩ rfl dX9_headLine_77 (fun r M1 hr => ?_)
          obtain ⟨hr, rfl⟩ := hr
          have h := h.tr hr
          exact x_zret C (by decide +kernel) dX9_headLine_80 ⟨Nat.le_refl _, Nat.le_refl _⟩ (gP_f h (by unfold gHd gHd1 gHd2 gHd3; rw [gB_t e1, hgd, if_neg c29, ← e2, if_pos c56, if_pos (Int32.not_le.mp c72)]; first | done | rfl))
      · -- 59
        refine x_aload_n C dX9_headLine_59 rfl rfl ?_
        refine x_iconst C dX9_headLine_60 kc_1 ?_
        refine x_V1I C (met_X9_wrong l C.1 h.1) mi_X9_wrong q2534 gcX9 h.1.1 ⟨rfl, rfl⟩ rfl ⟨Nat.le_refl _, Nat.le_refl _⟩ rfl dX9_headLine_61 (fun r M1 hr => ?_)
        obtain ⟨hr, rfl⟩ := hr
        have h := h.tr hr
        exact x_zret C (by decide +kernel) dX9_headLine_64 ⟨Nat.le_refl _, Nat.le_refl _⟩ (gP_f h (by unfold gHd gHd1 gHd2 gHd3; rw [gB_t e1, hgd, if_neg c29, ← e2, if_neg c56]; first | done | rfl))
    · -- 32
      refine x_aload_n C dX9_headLine_32 rfl rfl ?_
      refine x_iconst C dX9_headLine_33 kc_3 ?_
      refine x_V1I C (met_X9_wrong l C.1 h.1) mi_X9_wrong q2534 gcX9 h.1.1 ⟨rfl, rfl⟩ rfl ⟨Nat.le_refl _, Nat.le_refl _⟩ rfl dX9_headLine_34 (fun r M1 hr => ?_)
      obtain ⟨hr, rfl⟩ := hr
      have h := h.tr hr
      exact x_zret C (by decide +kernel) dX9_headLine_37 ⟨Nat.le_refl _, Nat.le_refl _⟩ (gP_f h (by unfold gHd gHd1 gHd2 gHd3; rw [gB_t e1, hgd, if_pos c29]; first | done | rfl))
  · -- wrong
    have h := h.tr hq
    obtain ⟨N1, T1, -⟩ := wN.trd hN e1
    refine x_if_neF (tgt := 9) C (by decide) dX9_headLine_4 rfl ?_
    refine x_iconst C dX9_headLine_7 kc_0 ?_
    exact x_zret C (by decide +kernel) dX9_headLine_8 ⟨Nat.le_refl _, Nat.le_refl _⟩ (gP_f h (by unfold gHd gHd1 gHd2 gHd3; rw [gB_f e1]; first | done | rfl))
theorem mi_X9_startLine : gMV RX9 yX9_startLine cX9_startLine 2 (some .boolean) 0 := ⟨q2563, qs75, q165, q2564, by decide +kernel⟩
set_option maxHeartbeats 4000000 in
set_option maxRecDepth 100000 in
theorem met_X9_startLine (l : Launch) {G : gG} (hG : gOK G) {ad : Nat → Nat} {σ : mS} {M0 : gM} {tr : Nat} (h : MR G ad σ M0) (h12 : mI σ 12 = nI tr) (hb0_ : tr ≤ 4) (hN : wN σ) : Met l yX9_startLine (ws_ yX9_startLine cX9_startLine 2 (some .boolean)) ({ frames := 3, cells := 0, slots := 0, locals := 69 }) (gPre G M0 [.ref (ad 0)]) (gQ G (gI (gP G ad M0 (gSt tr σ)))) 0 0 (gA G) := by
  refine gMet (L0 := [some (.ref (ad 0)), none]) RX9 hG (by decide +kernel) rfl (Nat.le_of_ble_eq_true rfl) rfl ?_
  intro p e s m args below meth c C hnm
  have h := MF.rf h
  refine x_aload_n C dX9_startLine_0 rfl rfl ?_
  refine x_V0I C (met_X9_traderRead l C.1 h.1 h12 (by omega) hN) mi_X9_traderRead q2557 gcX9 h.1.1 ⟨rfl, rfl⟩ rfl ⟨Nat.le_refl _, Nat.le_refl _⟩ rfl dX9_startLine_1 (fun r M1 hr => ?_)
  rcases gP_c hr with ⟨s1, e1, hq, rfl⟩ | ⟨s1, e1, hq, rfl⟩
  · -- right
    have h := h.tr hq
    obtain ⟨N1, T1, -⟩ := wN.trd hN e1
    obtain ⟨g, hg19, hgd, hgl⟩ := gTR_g (by omega) e1
    refine x_if_neT (tgt := 9) C (by decide) dX9_startLine_4 rfl ?_
    refine x_bipush C dX9_startLine_9 kb_32 ?_
    refine x_bipush C dX9_startLine_11 kb_8 ?_
    refine x_aload_n C dX9_startLine_13 rfl rfl ?_
    refine m_get C h 19 (v := .int (nI g)) rfl q2428 (m_v rfl hg19) dX9_startLine_14 ?_
    refine x_imulN C dX9_startLine_17 ?_
    refine x_iaddN C dX9_startLine_18 ?_
    refine x_istore_n C dX9_startLine_19 rfl (gs1_1 rfl) rfl ?_
    refine x_aload_n C dX9_startLine_20 rfl rfl ?_
    refine m_get C h 13 rfl q2422 rfl dX9_startLine_21 ?_
    refine x_iload_n C dX9_startLine_24 rfl rfl ?_
    refine x_bipush C dX9_startLine_25 kb_6 ?_
    refine x_iaddN C dX9_startLine_27 ?_
    refine m_ald C h 2 (N := 64) (by decide) rfl rfl (by omega) rfl dX9_startLine_28 ?_
    refine x_iconst C dX9_startLine_29 kc_1 ?_
    refine x_icmp_ne (tgt := 39) C dX9_startLine_30 rfl (fun c30 => ?_) (fun c30 => ?_)
    · -- 39
      refine x_aload_n C dX9_startLine_39 rfl rfl ?_
      refine m_get C h 13 rfl q2422 rfl dX9_startLine_40 ?_
      refine x_iload_n C dX9_startLine_43 rfl rfl ?_
      refine x_bipush C dX9_startLine_44 kb_6 ?_
      refine x_iaddN C dX9_startLine_46 ?_
      refine x_iconst C dX9_startLine_47 kc_1 ?_
      refine m_ast C h 2 (N := 64) (by decide) rfl rfl (by omega) dX9_startLine_48 (fun M h => ?_)
      refine x_aload_n C dX9_startLine_49 rfl rfl ?_
      refine x_V0V C (met_tok l C.1 h.1 (wN.sa N1 (a := 2) (by decide))) mi_X9_token q2509 gcX9 h.1.1 ⟨rfl, rfl⟩ rfl ⟨Nat.le_refl _, Nat.le_refl _⟩ rfl dX9_startLine_50 (fun M1 hr => ?_)
      obtain ⟨s2, e2, N2, T2, h⟩ : ∃ s', s' = tTok _ ∧ wN s' ∧ sT _ s' ∧ MF G ad M0 s' M1 := ⟨_, rfl, (wN.tok (wN.sa N1 (a := 2) (by decide))).1, (wN.tok (wN.sa N1 (a := 2) (by decide))).2.1, h.tr hr⟩
      refine x_aload_n C dX9_startLine_53 rfl rfl ?_
      refine x_iconst C dX9_startLine_54 kc_0 ?_
      refine x_sipush C dX9_startLine_55 ks_1000 ?_
      refine x_V2I C (met_X9_number l C.1 h.1 N2) mi_X9_number q2546 gcX9 h.1.1 ⟨rfl, rfl⟩ rfl ⟨Nat.le_refl _, Nat.le_refl _⟩ rfl dX9_startLine_58 (fun r M1 hr => ?_)
      rcases gP_c hr with ⟨s3, e3, hq, rfl⟩ | ⟨s3, e3, hq, rfl⟩
      · -- right
        have h := h.tr hq
        obtain ⟨N3, T3, -⟩ := wN.num N2 e3
        refine x_if_neT (tgt := 66) C (by decide) dX9_startLine_61 rfl ?_
        refine x_aload_n C dX9_startLine_66 rfl rfl ?_
        refine m_get C h 13 rfl q2422 rfl dX9_startLine_67 ?_
        refine x_iload_n C dX9_startLine_70 rfl rfl ?_
        refine x_bipush C dX9_startLine_71 kb_7 ?_
        refine x_iaddN C dX9_startLine_73 ?_
        refine x_aload_n C dX9_startLine_74 rfl rfl ?_
        refine m_get C h 19 rfl q2428 rfl dX9_startLine_75 ?_
        refine m_ast C h 2 (N := 64) (by decide) rfl rfl (by omega) dX9_startLine_78 (fun M h => ?_)
        refine x_iconst C dX9_startLine_79 kc_1 ?_
        exact x_zret C (by decide +kernel) dX9_startLine_80 ⟨Nat.le_refl _, Nat.le_refl _⟩ (gP_t h (by unfold gSt gSt1; rw [gB_t e1, hgd, if_neg c30, ← e2, gB_t e3]; first | done | rfl))
      · -- wrong
        have h := h.tr hq
        obtain ⟨N3, T3, -⟩ := wN.num N2 e3
        refine x_if_neF (tgt := 66) C (by decide) dX9_startLine_61 rfl ?_
        refine x_iconst C dX9_startLine_64 kc_0 ?_
        exact x_zret C (by decide +kernel) dX9_startLine_65 ⟨Nat.le_refl _, Nat.le_refl _⟩ (gP_f h (by unfold gSt gSt1; rw [gB_t e1, hgd, if_neg c30, ← e2, gB_f e3]; first | done | rfl))
    · -- 33
      refine x_aload_n C dX9_startLine_33 rfl rfl ?_
      refine x_iconst C dX9_startLine_34 kc_3 ?_
      refine x_V1I C (met_X9_wrong l C.1 h.1) mi_X9_wrong q2534 gcX9 h.1.1 ⟨rfl, rfl⟩ rfl ⟨Nat.le_refl _, Nat.le_refl _⟩ rfl dX9_startLine_35 (fun r M1 hr => ?_)
      obtain ⟨hr, rfl⟩ := hr
      have h := h.tr hr
      exact x_zret C (by decide +kernel) dX9_startLine_38 ⟨Nat.le_refl _, Nat.le_refl _⟩ (gP_f h (by unfold gSt gSt1; rw [gB_t e1, hgd, if_pos c30]; first | done | rfl))
  · -- wrong
    have h := h.tr hq
    obtain ⟨N1, T1, -⟩ := wN.trd hN e1
    refine x_if_neF (tgt := 9) C (by decide) dX9_startLine_4 rfl ?_
    refine x_iconst C dX9_startLine_7 kc_0 ?_
    exact x_zret C (by decide +kernel) dX9_startLine_8 ⟨Nat.le_refl _, Nat.le_refl _⟩ (gP_f h (by unfold gSt gSt1; rw [gB_f e1]; first | done | rfl))
theorem mi_X9_rowLine : gMV RX9 yX9_rowLine cX9_rowLine 7 (some .boolean) 6 := ⟨q2571, qs77, q165, q2572, by decide +kernel⟩
set_option maxHeartbeats 4000000 in
set_option maxRecDepth 100000 in
theorem met_X9_rowLine3 (l : Launch) {G : gG} (hG : gOK G) {ad : Nat → Nat} {σ : mS} {M0 : gM} {tr f many : Nat} {sec thr low : Int32} (h : MR G ad σ M0) (h12 : mI σ 12 = nI tr) (hb0_ : tr ≤ 4) (hb1_ : f + 4 ≤ 96) (hb2_ : many < 10) (hm : many < 5 ∨ f + 4 < 96) (hN : wN σ) : Met l yX9_rowLine (ws_ yX9_rowLine cX9_rowLine 7 (some .boolean)) ({ frames := 3, cells := 0, slots := 0, locals := 69 }) (gPre G M0 [.ref (ad 0), .ref (ad 4), .int (nI f), .int (nI many), .int (sec), .int (thr), .int (low)]) (gQ G (gI (gP G ad M0 (gRow tr 3 f many sec thr low σ)))) 0 0 (gA G) := by
  refine gMet (L0 := [some (.ref (ad 0)), some (.ref (ad 4)), some (.int (nI f)), some (.int (nI many)), some (.int (sec)), some (.int (thr)), some (.int (low))]) RX9 hG (by decide +kernel) rfl (Nat.le_of_ble_eq_true rfl) rfl ?_
  intro p e s m args below meth c C hnm
  have h := MF.rf h
  refine x_aload_n C dX9_rowLine_0 rfl rfl ?_
  refine x_V0I C (met_X9_traderRead l C.1 h.1 h12 (by omega) hN) mi_X9_traderRead q2557 gcX9 h.1.1 ⟨rfl, rfl⟩ rfl ⟨Nat.le_refl _, Nat.le_refl _⟩ rfl dX9_rowLine_1 (fun r M1 hr => ?_)
  rcases gP_c hr with ⟨s1, e1, hq, rfl⟩ | ⟨s1, e1, hq, rfl⟩
  · -- right
    have h := h.tr hq
    obtain ⟨N1, T1, -⟩ := wN.trd hN e1
    obtain ⟨g, hg19, hgd, hgl⟩ := gTR_g (by omega) e1
    refine x_if_neT (tgt := 9) C (by decide) dX9_rowLine_4 rfl ?_
    refine x_aload_n C dX9_rowLine_9 rfl rfl ?_
    refine x_iload_n C dX9_rowLine_10 rfl rfl ?_
    refine x_aload_n C dX9_rowLine_11 rfl rfl ?_
    refine m_get C h 19 rfl q2428 rfl dX9_rowLine_12 ?_
    refine m_ast C h 3 (N := 96) (by decide) rfl rfl (by omega) dX9_rowLine_15 (fun M h => ?_)
    refine x_aload_n C dX9_rowLine_16 rfl rfl ?_
    refine x_V0V C (met_tok l C.1 h.1 (wN.sa N1 (a := 3) (by decide))) mi_X9_token q2509 gcX9 h.1.1 ⟨rfl, rfl⟩ rfl ⟨Nat.le_refl _, Nat.le_refl _⟩ rfl dX9_rowLine_17 (fun M1 hr => ?_)
    obtain ⟨s2, e2, N2, T2, h⟩ : ∃ s', s' = tTok _ ∧ wN s' ∧ sT _ s' ∧ MF G ad M0 s' M1 := ⟨_, rfl, (wN.tok (wN.sa N1 (a := 3) (by decide))).1, (wN.tok (wN.sa N1 (a := 3) (by decide))).2.1, h.tr hr⟩
    refine x_aload_n C dX9_rowLine_20 rfl rfl ?_
    refine x_iconst C dX9_rowLine_21 kc_0 ?_
    refine x_bipush C dX9_rowLine_22 kb_63 ?_
    refine x_V2I C (met_X9_number l C.1 h.1 N2) mi_X9_number q2546 gcX9 h.1.1 ⟨rfl, rfl⟩ rfl ⟨Nat.le_refl _, Nat.le_refl _⟩ rfl dX9_rowLine_24 (fun r M1 hr => ?_)
    rcases gP_c hr with ⟨s3, e3, hq, rfl⟩ | ⟨s3, e3, hq, rfl⟩
    · -- right
      have h := h.tr hq
      obtain ⟨N3, T3, -⟩ := wN.num N2 e3
      refine x_if_neT (tgt := 32) C (by decide) dX9_rowLine_27 rfl ?_
      refine x_aload_n C dX9_rowLine_32 rfl rfl ?_
      refine x_iload_n C dX9_rowLine_33 rfl rfl ?_
      refine x_iconst C dX9_rowLine_34 kc_1 ?_
      refine x_iaddN C dX9_rowLine_35 ?_
      refine x_aload_n C dX9_rowLine_36 rfl rfl ?_
      refine m_get C h 19 rfl q2428 rfl dX9_rowLine_37 ?_
      refine m_ast C h 3 (N := 96) (by decide) rfl rfl (by omega) dX9_rowLine_40 (fun M h => ?_)
      refine x_aload_n C dX9_rowLine_41 rfl rfl ?_
      refine x_iconst C dX9_rowLine_42 kc_0 ?_
      refine x_iload C dX9_rowLine_43 rfl ?_
      refine x_V2I C (met_X9_number l C.1 h.1 (wN.sa N3 (a := 3) (by decide))) mi_X9_number q2546 gcX9 h.1.1 ⟨rfl, rfl⟩ rfl ⟨Nat.le_refl _, Nat.le_refl _⟩ rfl dX9_rowLine_45 (fun r M1 hr => ?_)
      rcases gP_c hr with ⟨s4, e4, hq, rfl⟩ | ⟨s4, e4, hq, rfl⟩
      · -- right
        have h := h.tr hq
        obtain ⟨N4, T4, -⟩ := wN.num (wN.sa N3 (a := 3) (by decide)) e4
        refine x_if_neT (tgt := 53) C (by decide) dX9_rowLine_48 rfl ?_
        refine x_aload_n C dX9_rowLine_53 rfl rfl ?_
        refine x_iload_n C dX9_rowLine_54 rfl rfl ?_
        refine x_iconst C dX9_rowLine_55 kc_2 ?_
        refine x_iaddN C dX9_rowLine_56 ?_
        refine x_aload_n C dX9_rowLine_57 rfl rfl ?_
        refine m_get C h 19 rfl q2428 rfl dX9_rowLine_58 ?_
        refine m_ast C h 3 (N := 96) (by decide) rfl rfl (by omega) dX9_rowLine_61 (fun M h => ?_)
        refine x_aload_n C dX9_rowLine_62 rfl rfl ?_
        refine x_iload C dX9_rowLine_63 rfl ?_
        refine x_iload C dX9_rowLine_65 rfl ?_
        refine x_V2I C (met_X9_number l C.1 h.1 (wN.sa N4 (a := 3) (by decide))) mi_X9_number q2546 gcX9 h.1.1 ⟨rfl, rfl⟩ rfl ⟨Nat.le_refl _, Nat.le_refl _⟩ rfl dX9_rowLine_67 (fun r M1 hr => ?_)
        rcases gP_c hr with ⟨s5, e5, hq, rfl⟩ | ⟨s5, e5, hq, rfl⟩
        · -- right
          have h := h.tr hq
          obtain ⟨N5, T5, -⟩ := wN.num (wN.sa N4 (a := 3) (by decide)) e5
          refine x_if_neT (tgt := 75) C (by decide) dX9_rowLine_70 rfl ?_
          refine x_aload_n C dX9_rowLine_75 rfl rfl ?_
          refine x_iload_n C dX9_rowLine_76 rfl rfl ?_
          refine x_iconst C dX9_rowLine_77 kc_3 ?_
          refine x_iaddN C dX9_rowLine_78 ?_
          refine x_aload_n C dX9_rowLine_79 rfl rfl ?_
          refine m_get C h 19 rfl q2428 rfl dX9_rowLine_80 ?_
          refine m_ast C h 3 (N := 96) (by decide) rfl rfl (by omega) dX9_rowLine_83 (fun M h => ?_)
          refine x_iload_n C dX9_rowLine_84 rfl rfl ?_
          refine x_iconst C dX9_rowLine_85 kc_5 ?_
          refine x_icmp_geN (tgt := 91) C (by omega) (by omega) dX9_rowLine_86 rfl (fun c86 => ?_) (fun c86 => ?_)
          · -- 91
            refine x_aload_n C dX9_rowLine_91 rfl rfl ?_
            refine m_get C h 8 rfl q2417 rfl dX9_rowLine_92 ?_
            refine x_iconst C dX9_rowLine_95 kc_3 ?_
            refine x_icmp_eq (tgt := 105) C dX9_rowLine_96 rfl (fun c96 => ?_) (fun c96 => ?_)
            · -- 105
              refine x_aload_n C dX9_rowLine_105 rfl rfl ?_
              refine m_get C h 9 rfl q2418 rfl dX9_rowLine_106 ?_
              refine x_iconst C dX9_rowLine_109 kc_5 ?_
              refine x_icmp_eq (tgt := 128) C dX9_rowLine_110 rfl (fun c110 => ?_) (fun c110 => ?_)
              · -- 128
                refine x_aload_n C dX9_rowLine_128 rfl rfl ?_
                refine x_iload_n C dX9_rowLine_129 rfl rfl ?_
                refine x_iconst C dX9_rowLine_130 kc_4 ?_
                refine x_iaddN C dX9_rowLine_131 ?_
                refine x_aload_n C dX9_rowLine_132 rfl rfl ?_
                refine m_get C h 9 rfl q2418 rfl dX9_rowLine_133 ?_
                refine m_ast C h 3 (N := 96) (by decide) rfl rfl (by omega) dX9_rowLine_136 (fun M h => ?_)
                refine x_aload_n C dX9_rowLine_137 rfl rfl ?_
                refine x_V0V C (met_tok l C.1 h.1 (wN.sa (wN.sa N5 (a := 3) (by decide)) (a := 3) (by decide))) mi_X9_token q2509 gcX9 h.1.1 ⟨rfl, rfl⟩ rfl ⟨Nat.le_refl _, Nat.le_refl _⟩ rfl dX9_rowLine_138 (fun M1 hr => ?_)
                obtain ⟨s6, e6, N6, T6, h⟩ : ∃ s', s' = tTok _ ∧ wN s' ∧ sT _ s' ∧ MF G ad M0 s' M1 := ⟨_, rfl, (wN.tok (wN.sa (wN.sa N5 (a := 3) (by decide)) (a := 3) (by decide))).1, (wN.tok (wN.sa (wN.sa N5 (a := 3) (by decide)) (a := 3) (by decide))).2.1, h.tr hr⟩
                refine x_iconst C dX9_rowLine_141 kc_1 ?_
                exact x_zret C (by decide +kernel) dX9_rowLine_142 ⟨Nat.le_refl _, Nat.le_refl _⟩ (gP_t h (by unfold gRow gRow1 gRow2 gRow3; rw [gB_t e1, ← e2, gB_t e3, gB_t e4, gB_t e5, if_neg (by omega), if_pos c96, if_pos c110, ← e6]; first | done | rfl))
              · -- 113
                refine x_aload_n C dX9_rowLine_113 rfl rfl ?_
                refine m_get C h 9 rfl q2418 rfl dX9_rowLine_114 ?_
                refine x_bipush C dX9_rowLine_117 kb_10 ?_
                refine x_icmp_eq (tgt := 128) C dX9_rowLine_119 rfl (fun c119 => ?_) (fun c119 => ?_)
                · -- 128
                  refine x_aload_n C dX9_rowLine_128 rfl rfl ?_
                  refine x_iload_n C dX9_rowLine_129 rfl rfl ?_
                  refine x_iconst C dX9_rowLine_130 kc_4 ?_
                  refine x_iaddN C dX9_rowLine_131 ?_
                  refine x_aload_n C dX9_rowLine_132 rfl rfl ?_
                  refine m_get C h 9 rfl q2418 rfl dX9_rowLine_133 ?_
                  refine m_ast C h 3 (N := 96) (by decide) rfl rfl (by omega) dX9_rowLine_136 (fun M h => ?_)
                  refine x_aload_n C dX9_rowLine_137 rfl rfl ?_
                  refine x_V0V C (met_tok l C.1 h.1 (wN.sa (wN.sa N5 (a := 3) (by decide)) (a := 3) (by decide))) mi_X9_token q2509 gcX9 h.1.1 ⟨rfl, rfl⟩ rfl ⟨Nat.le_refl _, Nat.le_refl _⟩ rfl dX9_rowLine_138 (fun M1 hr => ?_)
                  obtain ⟨s7, e7, N7, T7, h⟩ : ∃ s', s' = tTok _ ∧ wN s' ∧ sT _ s' ∧ MF G ad M0 s' M1 := ⟨_, rfl, (wN.tok (wN.sa (wN.sa N5 (a := 3) (by decide)) (a := 3) (by decide))).1, (wN.tok (wN.sa (wN.sa N5 (a := 3) (by decide)) (a := 3) (by decide))).2.1, h.tr hr⟩
                  refine x_iconst C dX9_rowLine_141 kc_1 ?_
                  exact x_zret C (by decide +kernel) dX9_rowLine_142 ⟨Nat.le_refl _, Nat.le_refl _⟩ (gP_t h (by unfold gRow gRow1 gRow2 gRow3; rw [gB_t e1, ← e2, gB_t e3, gB_t e4, gB_t e5, if_neg (by omega), if_pos c96, if_neg c110, if_pos c119, ← e7]; first | done | rfl))
                · -- 122
                  refine x_aload_n C dX9_rowLine_122 rfl rfl ?_
                  refine x_iconst C dX9_rowLine_123 kc_2 ?_
                  refine x_V1I C (met_X9_wrong l C.1 h.1) mi_X9_wrong q2534 gcX9 h.1.1 ⟨rfl, rfl⟩ rfl ⟨Nat.le_refl _, Nat.le_refl _⟩ rfl dX9_rowLine_124 (fun r M1 hr => ?_)
                  obtain ⟨hr, rfl⟩ := hr
                  have h := h.tr hr
                  exact x_zret C (by decide +kernel) dX9_rowLine_127 ⟨Nat.le_refl _, Nat.le_refl _⟩ (gP_f h (by unfold gRow gRow1 gRow2 gRow3; rw [gB_t e1, ← e2, gB_t e3, gB_t e4, gB_t e5, if_neg (by omega), if_pos c96, if_neg c110, if_neg c119]; first | done | rfl))
            · -- 99
              refine x_aload_n C dX9_rowLine_99 rfl rfl ?_
              refine x_iconst C dX9_rowLine_100 kc_1 ?_
              refine x_V1I C (met_X9_wrong l C.1 h.1) mi_X9_wrong q2534 gcX9 h.1.1 ⟨rfl, rfl⟩ rfl ⟨Nat.le_refl _, Nat.le_refl _⟩ rfl dX9_rowLine_101 (fun r M1 hr => ?_)
              obtain ⟨hr, rfl⟩ := hr
              have h := h.tr hr
              exact x_zret C (by decide +kernel) dX9_rowLine_104 ⟨Nat.le_refl _, Nat.le_refl _⟩ (gP_f h (by unfold gRow gRow1 gRow2 gRow3; rw [gB_t e1, ← e2, gB_t e3, gB_t e4, gB_t e5, if_neg (by omega), if_neg c96]; first | done | rfl))
          · -- 89
            refine x_iconst C dX9_rowLine_89 kc_1 ?_
            exact x_zret C (by decide +kernel) dX9_rowLine_90 ⟨Nat.le_refl _, Nat.le_refl _⟩ (gP_t h (by unfold gRow gRow1 gRow2 gRow3; rw [gB_t e1, ← e2, gB_t e3, gB_t e4, gB_t e5, if_pos c86]; first | done | rfl))
        · -- wrong
          have h := h.tr hq
          obtain ⟨N5, T5, -⟩ := wN.num (wN.sa N4 (a := 3) (by decide)) e5
          refine x_if_neF (tgt := 75) C (by decide) dX9_rowLine_70 rfl ?_
          refine x_iconst C dX9_rowLine_73 kc_0 ?_
          exact x_zret C (by decide +kernel) dX9_rowLine_74 ⟨Nat.le_refl _, Nat.le_refl _⟩ (gP_f h (by unfold gRow gRow1 gRow2 gRow3; rw [gB_t e1, ← e2, gB_t e3, gB_t e4, gB_f e5]; first | done | rfl))
      · -- wrong
        have h := h.tr hq
        obtain ⟨N4, T4, -⟩ := wN.num (wN.sa N3 (a := 3) (by decide)) e4
        refine x_if_neF (tgt := 53) C (by decide) dX9_rowLine_48 rfl ?_
        refine x_iconst C dX9_rowLine_51 kc_0 ?_
        exact x_zret C (by decide +kernel) dX9_rowLine_52 ⟨Nat.le_refl _, Nat.le_refl _⟩ (gP_f h (by unfold gRow gRow1 gRow2 gRow3; rw [gB_t e1, ← e2, gB_t e3, gB_f e4]; first | done | rfl))
    · -- wrong
      have h := h.tr hq
      obtain ⟨N3, T3, -⟩ := wN.num N2 e3
      refine x_if_neF (tgt := 32) C (by decide) dX9_rowLine_27 rfl ?_
      refine x_iconst C dX9_rowLine_30 kc_0 ?_
      exact x_zret C (by decide +kernel) dX9_rowLine_31 ⟨Nat.le_refl _, Nat.le_refl _⟩ (gP_f h (by unfold gRow gRow1 gRow2 gRow3; rw [gB_t e1, ← e2, gB_f e3]; first | done | rfl))
  · -- wrong
    have h := h.tr hq
    obtain ⟨N1, T1, -⟩ := wN.trd hN e1
    refine x_if_neF (tgt := 9) C (by decide) dX9_rowLine_4 rfl ?_
    refine x_iconst C dX9_rowLine_7 kc_0 ?_
    exact x_zret C (by decide +kernel) dX9_rowLine_8 ⟨Nat.le_refl _, Nat.le_refl _⟩ (gP_f h (by unfold gRow gRow1 gRow2 gRow3; rw [gB_f e1]; first | done | rfl))
set_option maxHeartbeats 4000000 in
set_option maxRecDepth 100000 in
theorem met_X9_rowLine4 (l : Launch) {G : gG} (hG : gOK G) {ad : Nat → Nat} {σ : mS} {M0 : gM} {tr f many : Nat} {sec thr low : Int32} (h : MR G ad σ M0) (h12 : mI σ 12 = nI tr) (hb0_ : tr ≤ 4) (hb1_ : f + 4 ≤ 96) (hb2_ : many < 10) (hm : many < 5 ∨ f + 4 < 96) (hN : wN σ) : Met l yX9_rowLine (ws_ yX9_rowLine cX9_rowLine 7 (some .boolean)) ({ frames := 3, cells := 0, slots := 0, locals := 69 }) (gPre G M0 [.ref (ad 0), .ref (ad 5), .int (nI f), .int (nI many), .int (sec), .int (thr), .int (low)]) (gQ G (gI (gP G ad M0 (gRow tr 4 f many sec thr low σ)))) 0 0 (gA G) := by
  refine gMet (L0 := [some (.ref (ad 0)), some (.ref (ad 5)), some (.int (nI f)), some (.int (nI many)), some (.int (sec)), some (.int (thr)), some (.int (low))]) RX9 hG (by decide +kernel) rfl (Nat.le_of_ble_eq_true rfl) rfl ?_
  intro p e s m args below meth c C hnm
  have h := MF.rf h
  refine x_aload_n C dX9_rowLine_0 rfl rfl ?_
  refine x_V0I C (met_X9_traderRead l C.1 h.1 h12 (by omega) hN) mi_X9_traderRead q2557 gcX9 h.1.1 ⟨rfl, rfl⟩ rfl ⟨Nat.le_refl _, Nat.le_refl _⟩ rfl dX9_rowLine_1 (fun r M1 hr => ?_)
  rcases gP_c hr with ⟨s1, e1, hq, rfl⟩ | ⟨s1, e1, hq, rfl⟩
  · -- right
    have h := h.tr hq
    obtain ⟨N1, T1, -⟩ := wN.trd hN e1
    obtain ⟨g, hg19, hgd, hgl⟩ := gTR_g (by omega) e1
    refine x_if_neT (tgt := 9) C (by decide) dX9_rowLine_4 rfl ?_
    refine x_aload_n C dX9_rowLine_9 rfl rfl ?_
    refine x_iload_n C dX9_rowLine_10 rfl rfl ?_
    refine x_aload_n C dX9_rowLine_11 rfl rfl ?_
    refine m_get C h 19 rfl q2428 rfl dX9_rowLine_12 ?_
    refine m_ast C h 4 (N := 96) (by decide) rfl rfl (by omega) dX9_rowLine_15 (fun M h => ?_)
    refine x_aload_n C dX9_rowLine_16 rfl rfl ?_
    refine x_V0V C (met_tok l C.1 h.1 (wN.sa N1 (a := 4) (by decide))) mi_X9_token q2509 gcX9 h.1.1 ⟨rfl, rfl⟩ rfl ⟨Nat.le_refl _, Nat.le_refl _⟩ rfl dX9_rowLine_17 (fun M1 hr => ?_)
    obtain ⟨s2, e2, N2, T2, h⟩ : ∃ s', s' = tTok _ ∧ wN s' ∧ sT _ s' ∧ MF G ad M0 s' M1 := ⟨_, rfl, (wN.tok (wN.sa N1 (a := 4) (by decide))).1, (wN.tok (wN.sa N1 (a := 4) (by decide))).2.1, h.tr hr⟩
    refine x_aload_n C dX9_rowLine_20 rfl rfl ?_
    refine x_iconst C dX9_rowLine_21 kc_0 ?_
    refine x_bipush C dX9_rowLine_22 kb_63 ?_
    refine x_V2I C (met_X9_number l C.1 h.1 N2) mi_X9_number q2546 gcX9 h.1.1 ⟨rfl, rfl⟩ rfl ⟨Nat.le_refl _, Nat.le_refl _⟩ rfl dX9_rowLine_24 (fun r M1 hr => ?_)
    rcases gP_c hr with ⟨s3, e3, hq, rfl⟩ | ⟨s3, e3, hq, rfl⟩
    · -- right
      have h := h.tr hq
      obtain ⟨N3, T3, -⟩ := wN.num N2 e3
      refine x_if_neT (tgt := 32) C (by decide) dX9_rowLine_27 rfl ?_
      refine x_aload_n C dX9_rowLine_32 rfl rfl ?_
      refine x_iload_n C dX9_rowLine_33 rfl rfl ?_
      refine x_iconst C dX9_rowLine_34 kc_1 ?_
      refine x_iaddN C dX9_rowLine_35 ?_
      refine x_aload_n C dX9_rowLine_36 rfl rfl ?_
      refine m_get C h 19 rfl q2428 rfl dX9_rowLine_37 ?_
      refine m_ast C h 4 (N := 96) (by decide) rfl rfl (by omega) dX9_rowLine_40 (fun M h => ?_)
      refine x_aload_n C dX9_rowLine_41 rfl rfl ?_
      refine x_iconst C dX9_rowLine_42 kc_0 ?_
      refine x_iload C dX9_rowLine_43 rfl ?_
      refine x_V2I C (met_X9_number l C.1 h.1 (wN.sa N3 (a := 4) (by decide))) mi_X9_number q2546 gcX9 h.1.1 ⟨rfl, rfl⟩ rfl ⟨Nat.le_refl _, Nat.le_refl _⟩ rfl dX9_rowLine_45 (fun r M1 hr => ?_)
      rcases gP_c hr with ⟨s4, e4, hq, rfl⟩ | ⟨s4, e4, hq, rfl⟩
      · -- right
        have h := h.tr hq
        obtain ⟨N4, T4, -⟩ := wN.num (wN.sa N3 (a := 4) (by decide)) e4
        refine x_if_neT (tgt := 53) C (by decide) dX9_rowLine_48 rfl ?_
        refine x_aload_n C dX9_rowLine_53 rfl rfl ?_
        refine x_iload_n C dX9_rowLine_54 rfl rfl ?_
        refine x_iconst C dX9_rowLine_55 kc_2 ?_
        refine x_iaddN C dX9_rowLine_56 ?_
        refine x_aload_n C dX9_rowLine_57 rfl rfl ?_
        refine m_get C h 19 rfl q2428 rfl dX9_rowLine_58 ?_
        refine m_ast C h 4 (N := 96) (by decide) rfl rfl (by omega) dX9_rowLine_61 (fun M h => ?_)
        refine x_aload_n C dX9_rowLine_62 rfl rfl ?_
        refine x_iload C dX9_rowLine_63 rfl ?_
        refine x_iload C dX9_rowLine_65 rfl ?_
        refine x_V2I C (met_X9_number l C.1 h.1 (wN.sa N4 (a := 4) (by decide))) mi_X9_number q2546 gcX9 h.1.1 ⟨rfl, rfl⟩ rfl ⟨Nat.le_refl _, Nat.le_refl _⟩ rfl dX9_rowLine_67 (fun r M1 hr => ?_)
        rcases gP_c hr with ⟨s5, e5, hq, rfl⟩ | ⟨s5, e5, hq, rfl⟩
        · -- right
          have h := h.tr hq
          obtain ⟨N5, T5, -⟩ := wN.num (wN.sa N4 (a := 4) (by decide)) e5
          refine x_if_neT (tgt := 75) C (by decide) dX9_rowLine_70 rfl ?_
          refine x_aload_n C dX9_rowLine_75 rfl rfl ?_
          refine x_iload_n C dX9_rowLine_76 rfl rfl ?_
          refine x_iconst C dX9_rowLine_77 kc_3 ?_
          refine x_iaddN C dX9_rowLine_78 ?_
          refine x_aload_n C dX9_rowLine_79 rfl rfl ?_
          refine m_get C h 19 rfl q2428 rfl dX9_rowLine_80 ?_
          refine m_ast C h 4 (N := 96) (by decide) rfl rfl (by omega) dX9_rowLine_83 (fun M h => ?_)
          refine x_iload_n C dX9_rowLine_84 rfl rfl ?_
          refine x_iconst C dX9_rowLine_85 kc_5 ?_
          refine x_icmp_geN (tgt := 91) C (by omega) (by omega) dX9_rowLine_86 rfl (fun c86 => ?_) (fun c86 => ?_)
          · -- 91
            refine x_aload_n C dX9_rowLine_91 rfl rfl ?_
            refine m_get C h 8 rfl q2417 rfl dX9_rowLine_92 ?_
            refine x_iconst C dX9_rowLine_95 kc_3 ?_
            refine x_icmp_eq (tgt := 105) C dX9_rowLine_96 rfl (fun c96 => ?_) (fun c96 => ?_)
            · -- 105
              refine x_aload_n C dX9_rowLine_105 rfl rfl ?_
              refine m_get C h 9 rfl q2418 rfl dX9_rowLine_106 ?_
              refine x_iconst C dX9_rowLine_109 kc_5 ?_
              refine x_icmp_eq (tgt := 128) C dX9_rowLine_110 rfl (fun c110 => ?_) (fun c110 => ?_)
              · -- 128
                refine x_aload_n C dX9_rowLine_128 rfl rfl ?_
                refine x_iload_n C dX9_rowLine_129 rfl rfl ?_
                refine x_iconst C dX9_rowLine_130 kc_4 ?_
                refine x_iaddN C dX9_rowLine_131 ?_
                refine x_aload_n C dX9_rowLine_132 rfl rfl ?_
                refine m_get C h 9 rfl q2418 rfl dX9_rowLine_133 ?_
                refine m_ast C h 4 (N := 96) (by decide) rfl rfl (by omega) dX9_rowLine_136 (fun M h => ?_)
                refine x_aload_n C dX9_rowLine_137 rfl rfl ?_
                refine x_V0V C (met_tok l C.1 h.1 (wN.sa (wN.sa N5 (a := 4) (by decide)) (a := 4) (by decide))) mi_X9_token q2509 gcX9 h.1.1 ⟨rfl, rfl⟩ rfl ⟨Nat.le_refl _, Nat.le_refl _⟩ rfl dX9_rowLine_138 (fun M1 hr => ?_)
                obtain ⟨s6, e6, N6, T6, h⟩ : ∃ s', s' = tTok _ ∧ wN s' ∧ sT _ s' ∧ MF G ad M0 s' M1 := ⟨_, rfl, (wN.tok (wN.sa (wN.sa N5 (a := 4) (by decide)) (a := 4) (by decide))).1, (wN.tok (wN.sa (wN.sa N5 (a := 4) (by decide)) (a := 4) (by decide))).2.1, h.tr hr⟩
                refine x_iconst C dX9_rowLine_141 kc_1 ?_
                exact x_zret C (by decide +kernel) dX9_rowLine_142 ⟨Nat.le_refl _, Nat.le_refl _⟩ (gP_t h (by unfold gRow gRow1 gRow2 gRow3; rw [gB_t e1, ← e2, gB_t e3, gB_t e4, gB_t e5, if_neg (by omega), if_pos c96, if_pos c110, ← e6]; first | done | rfl))
              · -- 113
                refine x_aload_n C dX9_rowLine_113 rfl rfl ?_
                refine m_get C h 9 rfl q2418 rfl dX9_rowLine_114 ?_
                refine x_bipush C dX9_rowLine_117 kb_10 ?_
                refine x_icmp_eq (tgt := 128) C dX9_rowLine_119 rfl (fun c119 => ?_) (fun c119 => ?_)
                · -- 128
                  refine x_aload_n C dX9_rowLine_128 rfl rfl ?_
                  refine x_iload_n C dX9_rowLine_129 rfl rfl ?_
                  refine x_iconst C dX9_rowLine_130 kc_4 ?_
                  refine x_iaddN C dX9_rowLine_131 ?_
                  refine x_aload_n C dX9_rowLine_132 rfl rfl ?_
                  refine m_get C h 9 rfl q2418 rfl dX9_rowLine_133 ?_
                  refine m_ast C h 4 (N := 96) (by decide) rfl rfl (by omega) dX9_rowLine_136 (fun M h => ?_)
                  refine x_aload_n C dX9_rowLine_137 rfl rfl ?_
                  refine x_V0V C (met_tok l C.1 h.1 (wN.sa (wN.sa N5 (a := 4) (by decide)) (a := 4) (by decide))) mi_X9_token q2509 gcX9 h.1.1 ⟨rfl, rfl⟩ rfl ⟨Nat.le_refl _, Nat.le_refl _⟩ rfl dX9_rowLine_138 (fun M1 hr => ?_)
                  obtain ⟨s7, e7, N7, T7, h⟩ : ∃ s', s' = tTok _ ∧ wN s' ∧ sT _ s' ∧ MF G ad M0 s' M1 := ⟨_, rfl, (wN.tok (wN.sa (wN.sa N5 (a := 4) (by decide)) (a := 4) (by decide))).1, (wN.tok (wN.sa (wN.sa N5 (a := 4) (by decide)) (a := 4) (by decide))).2.1, h.tr hr⟩
                  refine x_iconst C dX9_rowLine_141 kc_1 ?_
                  exact x_zret C (by decide +kernel) dX9_rowLine_142 ⟨Nat.le_refl _, Nat.le_refl _⟩ (gP_t h (by unfold gRow gRow1 gRow2 gRow3; rw [gB_t e1, ← e2, gB_t e3, gB_t e4, gB_t e5, if_neg (by omega), if_pos c96, if_neg c110, if_pos c119, ← e7]; first | done | rfl))
                · -- 122
                  refine x_aload_n C dX9_rowLine_122 rfl rfl ?_
                  refine x_iconst C dX9_rowLine_123 kc_2 ?_
                  refine x_V1I C (met_X9_wrong l C.1 h.1) mi_X9_wrong q2534 gcX9 h.1.1 ⟨rfl, rfl⟩ rfl ⟨Nat.le_refl _, Nat.le_refl _⟩ rfl dX9_rowLine_124 (fun r M1 hr => ?_)
                  obtain ⟨hr, rfl⟩ := hr
                  have h := h.tr hr
                  exact x_zret C (by decide +kernel) dX9_rowLine_127 ⟨Nat.le_refl _, Nat.le_refl _⟩ (gP_f h (by unfold gRow gRow1 gRow2 gRow3; rw [gB_t e1, ← e2, gB_t e3, gB_t e4, gB_t e5, if_neg (by omega), if_pos c96, if_neg c110, if_neg c119]; first | done | rfl))
            · -- 99
              refine x_aload_n C dX9_rowLine_99 rfl rfl ?_
              refine x_iconst C dX9_rowLine_100 kc_1 ?_
              refine x_V1I C (met_X9_wrong l C.1 h.1) mi_X9_wrong q2534 gcX9 h.1.1 ⟨rfl, rfl⟩ rfl ⟨Nat.le_refl _, Nat.le_refl _⟩ rfl dX9_rowLine_101 (fun r M1 hr => ?_)
              obtain ⟨hr, rfl⟩ := hr
              have h := h.tr hr
              exact x_zret C (by decide +kernel) dX9_rowLine_104 ⟨Nat.le_refl _, Nat.le_refl _⟩ (gP_f h (by unfold gRow gRow1 gRow2 gRow3; rw [gB_t e1, ← e2, gB_t e3, gB_t e4, gB_t e5, if_neg (by omega), if_neg c96]; first | done | rfl))
          · -- 89
            refine x_iconst C dX9_rowLine_89 kc_1 ?_
            exact x_zret C (by decide +kernel) dX9_rowLine_90 ⟨Nat.le_refl _, Nat.le_refl _⟩ (gP_t h (by unfold gRow gRow1 gRow2 gRow3; rw [gB_t e1, ← e2, gB_t e3, gB_t e4, gB_t e5, if_pos c86]; first | done | rfl))
        · -- wrong
          have h := h.tr hq
          obtain ⟨N5, T5, -⟩ := wN.num (wN.sa N4 (a := 4) (by decide)) e5
          refine x_if_neF (tgt := 75) C (by decide) dX9_rowLine_70 rfl ?_
          refine x_iconst C dX9_rowLine_73 kc_0 ?_
          exact x_zret C (by decide +kernel) dX9_rowLine_74 ⟨Nat.le_refl _, Nat.le_refl _⟩ (gP_f h (by unfold gRow gRow1 gRow2 gRow3; rw [gB_t e1, ← e2, gB_t e3, gB_t e4, gB_f e5]; first | done | rfl))
      · -- wrong
        have h := h.tr hq
        obtain ⟨N4, T4, -⟩ := wN.num (wN.sa N3 (a := 4) (by decide)) e4
        refine x_if_neF (tgt := 53) C (by decide) dX9_rowLine_48 rfl ?_
        refine x_iconst C dX9_rowLine_51 kc_0 ?_
        exact x_zret C (by decide +kernel) dX9_rowLine_52 ⟨Nat.le_refl _, Nat.le_refl _⟩ (gP_f h (by unfold gRow gRow1 gRow2 gRow3; rw [gB_t e1, ← e2, gB_t e3, gB_f e4]; first | done | rfl))
    · -- wrong
      have h := h.tr hq
      obtain ⟨N3, T3, -⟩ := wN.num N2 e3
      refine x_if_neF (tgt := 32) C (by decide) dX9_rowLine_27 rfl ?_
      refine x_iconst C dX9_rowLine_30 kc_0 ?_
      exact x_zret C (by decide +kernel) dX9_rowLine_31 ⟨Nat.le_refl _, Nat.le_refl _⟩ (gP_f h (by unfold gRow gRow1 gRow2 gRow3; rw [gB_t e1, ← e2, gB_f e3]; first | done | rfl))
  · -- wrong
    have h := h.tr hq
    obtain ⟨N1, T1, -⟩ := wN.trd hN e1
    refine x_if_neF (tgt := 9) C (by decide) dX9_rowLine_4 rfl ?_
    refine x_iconst C dX9_rowLine_7 kc_0 ?_
    exact x_zret C (by decide +kernel) dX9_rowLine_8 ⟨Nat.le_refl _, Nat.le_refl _⟩ (gP_f h (by unfold gRow gRow1 gRow2 gRow3; rw [gB_f e1]; first | done | rfl))
set_option maxHeartbeats 4000000 in
set_option maxRecDepth 100000 in
theorem met_X9_rowLine5 (l : Launch) {G : gG} (hG : gOK G) {ad : Nat → Nat} {σ : mS} {M0 : gM} {tr f many : Nat} {sec thr low : Int32} (h : MR G ad σ M0) (h12 : mI σ 12 = nI tr) (hb0_ : tr ≤ 4) (hb1_ : f + 4 < 40) (hb2_ : many < 10) (hm : many < 5 ∨ f + 4 < 40) (hN : wN σ) : Met l yX9_rowLine (ws_ yX9_rowLine cX9_rowLine 7 (some .boolean)) ({ frames := 3, cells := 0, slots := 0, locals := 69 }) (gPre G M0 [.ref (ad 0), .ref (ad 6), .int (nI f), .int (nI many), .int (sec), .int (thr), .int (low)]) (gQ G (gI (gP G ad M0 (gRow tr 5 f many sec thr low σ)))) 0 0 (gA G) := by
  refine gMet (L0 := [some (.ref (ad 0)), some (.ref (ad 6)), some (.int (nI f)), some (.int (nI many)), some (.int (sec)), some (.int (thr)), some (.int (low))]) RX9 hG (by decide +kernel) rfl (Nat.le_of_ble_eq_true rfl) rfl ?_
  intro p e s m args below meth c C hnm
  have h := MF.rf h
  refine x_aload_n C dX9_rowLine_0 rfl rfl ?_
  refine x_V0I C (met_X9_traderRead l C.1 h.1 h12 (by omega) hN) mi_X9_traderRead q2557 gcX9 h.1.1 ⟨rfl, rfl⟩ rfl ⟨Nat.le_refl _, Nat.le_refl _⟩ rfl dX9_rowLine_1 (fun r M1 hr => ?_)
  rcases gP_c hr with ⟨s1, e1, hq, rfl⟩ | ⟨s1, e1, hq, rfl⟩
  · -- right
    have h := h.tr hq
    obtain ⟨N1, T1, -⟩ := wN.trd hN e1
    obtain ⟨g, hg19, hgd, hgl⟩ := gTR_g (by omega) e1
    refine x_if_neT (tgt := 9) C (by decide) dX9_rowLine_4 rfl ?_
    refine x_aload_n C dX9_rowLine_9 rfl rfl ?_
    refine x_iload_n C dX9_rowLine_10 rfl rfl ?_
    refine x_aload_n C dX9_rowLine_11 rfl rfl ?_
    refine m_get C h 19 rfl q2428 rfl dX9_rowLine_12 ?_
    refine m_ast C h 5 (N := 40) (by decide) rfl rfl (by omega) dX9_rowLine_15 (fun M h => ?_)
    refine x_aload_n C dX9_rowLine_16 rfl rfl ?_
    refine x_V0V C (met_tok l C.1 h.1 (wN.sa N1 (a := 5) (by decide))) mi_X9_token q2509 gcX9 h.1.1 ⟨rfl, rfl⟩ rfl ⟨Nat.le_refl _, Nat.le_refl _⟩ rfl dX9_rowLine_17 (fun M1 hr => ?_)
    obtain ⟨s2, e2, N2, T2, h⟩ : ∃ s', s' = tTok _ ∧ wN s' ∧ sT _ s' ∧ MF G ad M0 s' M1 := ⟨_, rfl, (wN.tok (wN.sa N1 (a := 5) (by decide))).1, (wN.tok (wN.sa N1 (a := 5) (by decide))).2.1, h.tr hr⟩
    refine x_aload_n C dX9_rowLine_20 rfl rfl ?_
    refine x_iconst C dX9_rowLine_21 kc_0 ?_
    refine x_bipush C dX9_rowLine_22 kb_63 ?_
    refine x_V2I C (met_X9_number l C.1 h.1 N2) mi_X9_number q2546 gcX9 h.1.1 ⟨rfl, rfl⟩ rfl ⟨Nat.le_refl _, Nat.le_refl _⟩ rfl dX9_rowLine_24 (fun r M1 hr => ?_)
    rcases gP_c hr with ⟨s3, e3, hq, rfl⟩ | ⟨s3, e3, hq, rfl⟩
    · -- right
      have h := h.tr hq
      obtain ⟨N3, T3, -⟩ := wN.num N2 e3
      refine x_if_neT (tgt := 32) C (by decide) dX9_rowLine_27 rfl ?_
      refine x_aload_n C dX9_rowLine_32 rfl rfl ?_
      refine x_iload_n C dX9_rowLine_33 rfl rfl ?_
      refine x_iconst C dX9_rowLine_34 kc_1 ?_
      refine x_iaddN C dX9_rowLine_35 ?_
      refine x_aload_n C dX9_rowLine_36 rfl rfl ?_
      refine m_get C h 19 rfl q2428 rfl dX9_rowLine_37 ?_
      refine m_ast C h 5 (N := 40) (by decide) rfl rfl (by omega) dX9_rowLine_40 (fun M h => ?_)
      refine x_aload_n C dX9_rowLine_41 rfl rfl ?_
      refine x_iconst C dX9_rowLine_42 kc_0 ?_
      refine x_iload C dX9_rowLine_43 rfl ?_
      refine x_V2I C (met_X9_number l C.1 h.1 (wN.sa N3 (a := 5) (by decide))) mi_X9_number q2546 gcX9 h.1.1 ⟨rfl, rfl⟩ rfl ⟨Nat.le_refl _, Nat.le_refl _⟩ rfl dX9_rowLine_45 (fun r M1 hr => ?_)
      rcases gP_c hr with ⟨s4, e4, hq, rfl⟩ | ⟨s4, e4, hq, rfl⟩
      · -- right
        have h := h.tr hq
        obtain ⟨N4, T4, -⟩ := wN.num (wN.sa N3 (a := 5) (by decide)) e4
        refine x_if_neT (tgt := 53) C (by decide) dX9_rowLine_48 rfl ?_
        refine x_aload_n C dX9_rowLine_53 rfl rfl ?_
        refine x_iload_n C dX9_rowLine_54 rfl rfl ?_
        refine x_iconst C dX9_rowLine_55 kc_2 ?_
        refine x_iaddN C dX9_rowLine_56 ?_
        refine x_aload_n C dX9_rowLine_57 rfl rfl ?_
        refine m_get C h 19 rfl q2428 rfl dX9_rowLine_58 ?_
        refine m_ast C h 5 (N := 40) (by decide) rfl rfl (by omega) dX9_rowLine_61 (fun M h => ?_)
        refine x_aload_n C dX9_rowLine_62 rfl rfl ?_
        refine x_iload C dX9_rowLine_63 rfl ?_
        refine x_iload C dX9_rowLine_65 rfl ?_
        refine x_V2I C (met_X9_number l C.1 h.1 (wN.sa N4 (a := 5) (by decide))) mi_X9_number q2546 gcX9 h.1.1 ⟨rfl, rfl⟩ rfl ⟨Nat.le_refl _, Nat.le_refl _⟩ rfl dX9_rowLine_67 (fun r M1 hr => ?_)
        rcases gP_c hr with ⟨s5, e5, hq, rfl⟩ | ⟨s5, e5, hq, rfl⟩
        · -- right
          have h := h.tr hq
          obtain ⟨N5, T5, -⟩ := wN.num (wN.sa N4 (a := 5) (by decide)) e5
          refine x_if_neT (tgt := 75) C (by decide) dX9_rowLine_70 rfl ?_
          refine x_aload_n C dX9_rowLine_75 rfl rfl ?_
          refine x_iload_n C dX9_rowLine_76 rfl rfl ?_
          refine x_iconst C dX9_rowLine_77 kc_3 ?_
          refine x_iaddN C dX9_rowLine_78 ?_
          refine x_aload_n C dX9_rowLine_79 rfl rfl ?_
          refine m_get C h 19 rfl q2428 rfl dX9_rowLine_80 ?_
          refine m_ast C h 5 (N := 40) (by decide) rfl rfl (by omega) dX9_rowLine_83 (fun M h => ?_)
          refine x_iload_n C dX9_rowLine_84 rfl rfl ?_
          refine x_iconst C dX9_rowLine_85 kc_5 ?_
          refine x_icmp_geN (tgt := 91) C (by omega) (by omega) dX9_rowLine_86 rfl (fun c86 => ?_) (fun c86 => ?_)
          · -- 91
            refine x_aload_n C dX9_rowLine_91 rfl rfl ?_
            refine m_get C h 8 rfl q2417 rfl dX9_rowLine_92 ?_
            refine x_iconst C dX9_rowLine_95 kc_3 ?_
            refine x_icmp_eq (tgt := 105) C dX9_rowLine_96 rfl (fun c96 => ?_) (fun c96 => ?_)
            · -- 105
              refine x_aload_n C dX9_rowLine_105 rfl rfl ?_
              refine m_get C h 9 rfl q2418 rfl dX9_rowLine_106 ?_
              refine x_iconst C dX9_rowLine_109 kc_5 ?_
              refine x_icmp_eq (tgt := 128) C dX9_rowLine_110 rfl (fun c110 => ?_) (fun c110 => ?_)
              · -- 128
                refine x_aload_n C dX9_rowLine_128 rfl rfl ?_
                refine x_iload_n C dX9_rowLine_129 rfl rfl ?_
                refine x_iconst C dX9_rowLine_130 kc_4 ?_
                refine x_iaddN C dX9_rowLine_131 ?_
                refine x_aload_n C dX9_rowLine_132 rfl rfl ?_
                refine m_get C h 9 rfl q2418 rfl dX9_rowLine_133 ?_
                refine m_ast C h 5 (N := 40) (by decide) rfl rfl (by omega) dX9_rowLine_136 (fun M h => ?_)
                refine x_aload_n C dX9_rowLine_137 rfl rfl ?_
                refine x_V0V C (met_tok l C.1 h.1 (wN.sa (wN.sa N5 (a := 5) (by decide)) (a := 5) (by decide))) mi_X9_token q2509 gcX9 h.1.1 ⟨rfl, rfl⟩ rfl ⟨Nat.le_refl _, Nat.le_refl _⟩ rfl dX9_rowLine_138 (fun M1 hr => ?_)
                obtain ⟨s6, e6, N6, T6, h⟩ : ∃ s', s' = tTok _ ∧ wN s' ∧ sT _ s' ∧ MF G ad M0 s' M1 := ⟨_, rfl, (wN.tok (wN.sa (wN.sa N5 (a := 5) (by decide)) (a := 5) (by decide))).1, (wN.tok (wN.sa (wN.sa N5 (a := 5) (by decide)) (a := 5) (by decide))).2.1, h.tr hr⟩
                refine x_iconst C dX9_rowLine_141 kc_1 ?_
                exact x_zret C (by decide +kernel) dX9_rowLine_142 ⟨Nat.le_refl _, Nat.le_refl _⟩ (gP_t h (by unfold gRow gRow1 gRow2 gRow3; rw [gB_t e1, ← e2, gB_t e3, gB_t e4, gB_t e5, if_neg (by omega), if_pos c96, if_pos c110, ← e6]; first | done | rfl))
              · -- 113
                refine x_aload_n C dX9_rowLine_113 rfl rfl ?_
                refine m_get C h 9 rfl q2418 rfl dX9_rowLine_114 ?_
                refine x_bipush C dX9_rowLine_117 kb_10 ?_
                refine x_icmp_eq (tgt := 128) C dX9_rowLine_119 rfl (fun c119 => ?_) (fun c119 => ?_)
                · -- 128
                  refine x_aload_n C dX9_rowLine_128 rfl rfl ?_
                  refine x_iload_n C dX9_rowLine_129 rfl rfl ?_
                  refine x_iconst C dX9_rowLine_130 kc_4 ?_
                  refine x_iaddN C dX9_rowLine_131 ?_
                  refine x_aload_n C dX9_rowLine_132 rfl rfl ?_
                  refine m_get C h 9 rfl q2418 rfl dX9_rowLine_133 ?_
                  refine m_ast C h 5 (N := 40) (by decide) rfl rfl (by omega) dX9_rowLine_136 (fun M h => ?_)
                  refine x_aload_n C dX9_rowLine_137 rfl rfl ?_
                  refine x_V0V C (met_tok l C.1 h.1 (wN.sa (wN.sa N5 (a := 5) (by decide)) (a := 5) (by decide))) mi_X9_token q2509 gcX9 h.1.1 ⟨rfl, rfl⟩ rfl ⟨Nat.le_refl _, Nat.le_refl _⟩ rfl dX9_rowLine_138 (fun M1 hr => ?_)
                  obtain ⟨s7, e7, N7, T7, h⟩ : ∃ s', s' = tTok _ ∧ wN s' ∧ sT _ s' ∧ MF G ad M0 s' M1 := ⟨_, rfl, (wN.tok (wN.sa (wN.sa N5 (a := 5) (by decide)) (a := 5) (by decide))).1, (wN.tok (wN.sa (wN.sa N5 (a := 5) (by decide)) (a := 5) (by decide))).2.1, h.tr hr⟩
                  refine x_iconst C dX9_rowLine_141 kc_1 ?_
                  exact x_zret C (by decide +kernel) dX9_rowLine_142 ⟨Nat.le_refl _, Nat.le_refl _⟩ (gP_t h (by unfold gRow gRow1 gRow2 gRow3; rw [gB_t e1, ← e2, gB_t e3, gB_t e4, gB_t e5, if_neg (by omega), if_pos c96, if_neg c110, if_pos c119, ← e7]; first | done | rfl))
                · -- 122
                  refine x_aload_n C dX9_rowLine_122 rfl rfl ?_
                  refine x_iconst C dX9_rowLine_123 kc_2 ?_
                  refine x_V1I C (met_X9_wrong l C.1 h.1) mi_X9_wrong q2534 gcX9 h.1.1 ⟨rfl, rfl⟩ rfl ⟨Nat.le_refl _, Nat.le_refl _⟩ rfl dX9_rowLine_124 (fun r M1 hr => ?_)
                  obtain ⟨hr, rfl⟩ := hr
                  have h := h.tr hr
                  exact x_zret C (by decide +kernel) dX9_rowLine_127 ⟨Nat.le_refl _, Nat.le_refl _⟩ (gP_f h (by unfold gRow gRow1 gRow2 gRow3; rw [gB_t e1, ← e2, gB_t e3, gB_t e4, gB_t e5, if_neg (by omega), if_pos c96, if_neg c110, if_neg c119]; first | done | rfl))
            · -- 99
              refine x_aload_n C dX9_rowLine_99 rfl rfl ?_
              refine x_iconst C dX9_rowLine_100 kc_1 ?_
              refine x_V1I C (met_X9_wrong l C.1 h.1) mi_X9_wrong q2534 gcX9 h.1.1 ⟨rfl, rfl⟩ rfl ⟨Nat.le_refl _, Nat.le_refl _⟩ rfl dX9_rowLine_101 (fun r M1 hr => ?_)
              obtain ⟨hr, rfl⟩ := hr
              have h := h.tr hr
              exact x_zret C (by decide +kernel) dX9_rowLine_104 ⟨Nat.le_refl _, Nat.le_refl _⟩ (gP_f h (by unfold gRow gRow1 gRow2 gRow3; rw [gB_t e1, ← e2, gB_t e3, gB_t e4, gB_t e5, if_neg (by omega), if_neg c96]; first | done | rfl))
          · -- 89
            refine x_iconst C dX9_rowLine_89 kc_1 ?_
            exact x_zret C (by decide +kernel) dX9_rowLine_90 ⟨Nat.le_refl _, Nat.le_refl _⟩ (gP_t h (by unfold gRow gRow1 gRow2 gRow3; rw [gB_t e1, ← e2, gB_t e3, gB_t e4, gB_t e5, if_pos c86]; first | done | rfl))
        · -- wrong
          have h := h.tr hq
          obtain ⟨N5, T5, -⟩ := wN.num (wN.sa N4 (a := 5) (by decide)) e5
          refine x_if_neF (tgt := 75) C (by decide) dX9_rowLine_70 rfl ?_
          refine x_iconst C dX9_rowLine_73 kc_0 ?_
          exact x_zret C (by decide +kernel) dX9_rowLine_74 ⟨Nat.le_refl _, Nat.le_refl _⟩ (gP_f h (by unfold gRow gRow1 gRow2 gRow3; rw [gB_t e1, ← e2, gB_t e3, gB_t e4, gB_f e5]; first | done | rfl))
      · -- wrong
        have h := h.tr hq
        obtain ⟨N4, T4, -⟩ := wN.num (wN.sa N3 (a := 5) (by decide)) e4
        refine x_if_neF (tgt := 53) C (by decide) dX9_rowLine_48 rfl ?_
        refine x_iconst C dX9_rowLine_51 kc_0 ?_
        exact x_zret C (by decide +kernel) dX9_rowLine_52 ⟨Nat.le_refl _, Nat.le_refl _⟩ (gP_f h (by unfold gRow gRow1 gRow2 gRow3; rw [gB_t e1, ← e2, gB_t e3, gB_f e4]; first | done | rfl))
    · -- wrong
      have h := h.tr hq
      obtain ⟨N3, T3, -⟩ := wN.num N2 e3
      refine x_if_neF (tgt := 32) C (by decide) dX9_rowLine_27 rfl ?_
      refine x_iconst C dX9_rowLine_30 kc_0 ?_
      exact x_zret C (by decide +kernel) dX9_rowLine_31 ⟨Nat.le_refl _, Nat.le_refl _⟩ (gP_f h (by unfold gRow gRow1 gRow2 gRow3; rw [gB_t e1, ← e2, gB_f e3]; first | done | rfl))
  · -- wrong
    have h := h.tr hq
    obtain ⟨N1, T1, -⟩ := wN.trd hN e1
    refine x_if_neF (tgt := 9) C (by decide) dX9_rowLine_4 rfl ?_
    refine x_iconst C dX9_rowLine_7 kc_0 ?_
    exact x_zret C (by decide +kernel) dX9_rowLine_8 ⟨Nat.le_refl _, Nat.le_refl _⟩ (gP_f h (by unfold gRow gRow1 gRow2 gRow3; rw [gB_f e1]; first | done | rfl))
