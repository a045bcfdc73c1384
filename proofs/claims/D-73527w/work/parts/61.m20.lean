set_option maxRecDepth 100000
theorem mi_X9_traderRead : gMV RX9 yX9_traderRead cX9_traderRead 1 (some .boolean) 0 := ⟨q2559, qs74, q165, q2560, by decide +kernel⟩
set_option maxHeartbeats 4000000 in
set_option maxRecDepth 100000 in
theorem met_X9_traderRead (l : Launch) {G : gG} (hG : gOK G) {ad : Nat → Nat} {σ : mS} {M0 : gM} {tr : Nat} (h : MR G ad σ M0) (h12 : mI σ 12 = nI tr) (hb0_ : tr ≤ 4) (hN : wN σ) : Met l yX9_traderRead (ws_ yX9_traderRead cX9_traderRead 1 (some .boolean)) ({ frames := 2, cells := 0, slots := 0, locals := 47 }) (gPre G M0 [.ref (ad 0)]) (gQ G (gI (gP G ad M0 (gTR tr σ)))) 0 0 (gA G) := by
  refine gMet (L0 := [some (.ref (ad 0))]) RX9 hG (by decide +kernel) rfl (Nat.le_of_ble_eq_true rfl) rfl ?_
  intro p e s m args below meth c C hnm
  have h := MF.rf h
  refine x_aload_n C dX9_traderRead_0 rfl rfl ?_
  refine x_V0V C (met_tok l C.1 h.1 hN) mi_X9_token q2509 gcX9 h.1.1 ⟨rfl, rfl⟩ rfl ⟨Nat.le_refl _, Nat.le_refl _⟩ rfl dX9_traderRead_1 (fun M1 hr => ?_)
  obtain ⟨s1, e1, N1, T1, h⟩ : ∃ s', s' = tTok _ ∧ wN s' ∧ sT _ s' ∧ MF G ad M0 s' M1 := ⟨_, rfl, (wN.tok hN).1, (wN.tok hN).2.1, h.tr hr⟩
  refine x_aload_n C dX9_traderRead_4 rfl rfl ?_
  refine m_get C h 8 rfl q2417 rfl dX9_traderRead_5 ?_
  refine x_iconst C dX9_traderRead_8 kc_2 ?_
  refine x_icmp_eq (tgt := 18) C dX9_traderRead_9 rfl (fun c9 => ?_) (fun c9 => ?_)
  · -- 18
    refine x_aload_n C dX9_traderRead_18 rfl rfl ?_
    refine x_aload_n C dX9_traderRead_19 rfl rfl ?_
    refine x_aload_n C dX9_traderRead_20 rfl rfl ?_
    refine m_get C h 9 rfl q2418 rfl dX9_traderRead_21 ?_
    refine x_bipush C dX9_traderRead_24 kb_32 ?_
    refine x_aload_n C dX9_traderRead_26 rfl rfl ?_
    refine m_get C h 12 (v := .int (nI tr)) rfl q2421 (m_v rfl ((T1.k 12 (by decide)).trans h12)) dX9_traderRead_27 ?_
    refine x_V3I C (met_X9_nameAt l C.1 h.1 rfl (by omega)) mi_X9_nameAt q2542 gcX9 h.1.1 ⟨rfl, rfl⟩ rfl ⟨Nat.le_refl _, Nat.le_refl _⟩ rfl dX9_traderRead_30 (fun r M1 hr => ?_)
    obtain ⟨rfl, hggv2⟩ := hr
    revert r
    intro gv2 hggv2
    refine m_put C h 19 rfl q2428 rfl rfl rfl rfl dX9_traderRead_33 (fun M h => ?_)
    refine x_aload_n C dX9_traderRead_36 rfl rfl ?_
    refine m_get C h 19 (v := .int (gv2)) rfl q2428 (m_v rfl rfl) dX9_traderRead_37 ?_
    refine x_if_ge (tgt := 51) C dX9_traderRead_40 rfl (fun c40 => ?_) (fun c40 => ?_)
    · -- 51
      refine x_iconst C dX9_traderRead_51 kc_1 ?_
      refine x_goto (tgt := 56) C dX9_traderRead_52 rfl ?_
      exact x_zret C (by decide +kernel) dX9_traderRead_56 ⟨Nat.le_refl _, Nat.le_refl _⟩ (gP_t h (by unfold gTR gTR1; rw [← e1, if_pos c9, show gNm tr _ = gv2 from hggv2, if_neg (Int32.not_lt.mpr c40)]; first | done | rfl))
    · -- 43
      refine x_aload_n C dX9_traderRead_43 rfl rfl ?_
      refine x_iconst C dX9_traderRead_44 kc_4 ?_
      refine x_V1I C (met_X9_wrong l C.1 h.1) mi_X9_wrong q2534 gcX9 h.1.1 ⟨rfl, rfl⟩ rfl ⟨Nat.le_refl _, Nat.le_refl _⟩ rfl dX9_traderRead_45 (fun r M1 hr => ?_)
      obtain ⟨hr, rfl⟩ := hr
      have h := h.tr hr
      refine x_if_eqT (tgt := 55) C (by decide) dX9_traderRead_48 rfl ?_
      refine x_iconst C dX9_traderRead_55 kc_0 ?_
      exact x_zret C (by decide +kernel) dX9_traderRead_56 ⟨Nat.le_refl _, Nat.le_refl _⟩ (gP_f h (by unfold gTR gTR1; rw [← e1, if_pos c9, show gNm tr _ = gv2 from hggv2, if_pos (Int32.not_le.mp c40)]; first | done | rfl))
  · -- 12
    refine x_aload_n C dX9_traderRead_12 rfl rfl ?_
    refine x_iconst C dX9_traderRead_13 kc_1 ?_
    refine x_V1I C (met_X9_wrong l C.1 h.1) mi_X9_wrong q2534 gcX9 h.1.1 ⟨rfl, rfl⟩ rfl ⟨Nat.le_refl _, Nat.le_refl _⟩ rfl dX9_traderRead_14 (fun r M1 hr => ?_)
    obtain ⟨hr, rfl⟩ := hr
    have h := h.tr hr
    exact x_zret C (by decide +kernel) dX9_traderRead_17 ⟨Nat.le_refl _, Nat.le_refl _⟩ (gP_f h (by unfold gTR gTR1; rw [← e1, if_neg c9]; first | done | rfl))
theorem mi_X9_traderLine : gMV RX9 yX9_traderLine cX9_traderLine 3 (some .boolean) 0 := ⟨q2540, qs70, q165, q2541, by decide +kernel⟩
set_option maxHeartbeats 4000000 in
set_option maxRecDepth 100000 in
theorem met_X9_traderLine (l : Launch) {G : gG} (hG : gOK G) {ad : Nat → Nat} {σ : mS} {M0 : gM} {tr : Nat} (h : MR G ad σ M0) (h12 : mI σ 12 = nI tr) (hb0_ : tr ≤ 4) (hN : wN σ) : Met l yX9_traderLine (ws_ yX9_traderLine cX9_traderLine 3 (some .boolean)) ({ frames := 3, cells := 0, slots := 0, locals := 69 }) (gPre G M0 [.ref (ad 0)]) (gQ G (gI (gP G ad M0 (gTL tr σ)))) 0 0 (gA G) := by
  refine gMet (L0 := [some (.ref (ad 0)), none, none]) RX9 hG (by decide +kernel) rfl (Nat.le_of_ble_eq_true rfl) rfl ?_
  intro p e s m args below meth c C hnm
  have h := MF.rf h
  refine x_aload_n C dX9_traderLine_0 rfl rfl ?_
  refine m_get C h 12 (v := .int (nI tr)) rfl q2421 (m_v rfl h12) dX9_traderLine_1 ?_
  refine x_iconst C dX9_traderLine_4 kc_4 ?_
  refine x_icmp_neN (tgt := 14) C (by omega) (by omega) dX9_traderLine_5 rfl (fun c5 => ?_) (fun c5 => ?_)
  · -- 14
    refine x_aload_n C dX9_traderLine_14 rfl rfl ?_
    refine x_V0V C (met_tok l C.1 h.1 hN) mi_X9_token q2509 gcX9 h.1.1 ⟨rfl, rfl⟩ rfl ⟨Nat.le_refl _, Nat.le_refl _⟩ rfl dX9_traderLine_15 (fun M1 hr => ?_)
    obtain ⟨s1, e1, N1, T1, h⟩ : ∃ s', s' = tTok _ ∧ wN s' ∧ sT _ s' ∧ MF G ad M0 s' M1 := ⟨_, rfl, (wN.tok hN).1, (wN.tok hN).2.1, h.tr hr⟩
    refine x_aload_n C dX9_traderLine_18 rfl rfl ?_
    refine m_get C h 8 rfl q2417 rfl dX9_traderLine_19 ?_
    refine x_iconst C dX9_traderLine_22 kc_2 ?_
    refine x_icmp_eq (tgt := 32) C dX9_traderLine_23 rfl (fun c23 => ?_) (fun c23 => ?_)
    · -- 32
      refine x_aload_n C dX9_traderLine_32 rfl rfl ?_
      refine x_aload_n C dX9_traderLine_33 rfl rfl ?_
      refine m_get C h 9 rfl q2418 rfl dX9_traderLine_34 ?_
      refine x_bipush C dX9_traderLine_37 kb_32 ?_
      refine x_aload_n C dX9_traderLine_39 rfl rfl ?_
      refine m_get C h 12 (v := .int (nI tr)) rfl q2421 (m_v rfl ((T1.k 12 (by decide)).trans h12)) dX9_traderLine_40 ?_
      refine x_V3I C (met_X9_nameAt l C.1 h.1 rfl (by omega)) mi_X9_nameAt q2542 gcX9 h.1.1 ⟨rfl, rfl⟩ rfl ⟨Nat.le_refl _, Nat.le_refl _⟩ rfl dX9_traderLine_43 (fun r M1 hr => ?_)
      obtain ⟨rfl, hggv2⟩ := hr
      revert r
      intro gv2 hggv2
      refine x_if_lt (tgt := 55) C dX9_traderLine_46 rfl (fun c46 => ?_) (fun c46 => ?_)
      · -- 55
        refine x_bipush C dX9_traderLine_55 kb_32 ?_
        refine x_bipush C dX9_traderLine_57 kb_8 ?_
        refine x_aload_n C dX9_traderLine_59 rfl rfl ?_
        refine m_get C h 12 (v := .int (nI tr)) rfl q2421 (m_v rfl ((T1.k 12 (by decide)).trans h12)) dX9_traderLine_60 ?_
        refine x_imulN C dX9_traderLine_63 ?_
        refine x_iaddN C dX9_traderLine_64 ?_
        refine x_istore_n C dX9_traderLine_65 rfl (gs1_1 rfl) rfl ?_
        refine x_iconst C dX9_traderLine_66 kc_0 ?_
        refine x_istore_n C dX9_traderLine_67 rfl (gs1_2 rfl) rfl ?_
        refine x_loop (head := 68) (E := 8) (fun i M => MF G ad M0 (sClr s1 (32 + 8 * tr) i) M) (fun i => [some (.ref (ad 0)), some (.int (nI (32 + 8 * tr))), some (.int (nI i))]) (by rw [sClr_0]; exact h) (fun i M hi h ih => ?_)
        refine x_iload_n C dX9_traderLine_68 rfl rfl ?_
        refine x_bipush C dX9_traderLine_69 kb_8 ?_
        refine x_icmp_geN (tgt := 89) C (by omega) (by omega) dX9_traderLine_71 rfl (fun c71 => ?_) (fun c71 => ?_)
        · -- 89
          obtain rfl : i = 8 := by omega
          refine x_aload_n C dX9_traderLine_89 rfl rfl ?_
          refine m_get C h 13 rfl q2422 rfl dX9_traderLine_90 ?_
          refine x_iload_n C dX9_traderLine_93 rfl rfl ?_
          refine x_aload_n C dX9_traderLine_94 rfl rfl ?_
          refine m_get C h 9 rfl q2418 rfl dX9_traderLine_95 ?_
          refine m_ast C h 2 (N := 64) (by decide) rfl rfl (by omega) dX9_traderLine_98 (fun M h => ?_)
          refine x_aload_n C dX9_traderLine_99 rfl rfl ?_
          refine x_V0V C (met_tok l C.1 h.1 (wN.sa (wN.clr N1) (a := 2) (by decide))) mi_X9_token q2509 gcX9 h.1.1 ⟨rfl, rfl⟩ rfl ⟨Nat.le_refl _, Nat.le_refl _⟩ rfl dX9_traderLine_100 (fun M1 hr => ?_)
          obtain ⟨s3, e3, N3, T3, h⟩ : ∃ s', s' = tTok _ ∧ wN s' ∧ sT _ s' ∧ MF G ad M0 s' M1 := ⟨_, rfl, (wN.tok (wN.sa (wN.clr N1) (a := 2) (by decide))).1, (wN.tok (wN.sa (wN.clr N1) (a := 2) (by decide))).2.1, h.tr hr⟩
          refine x_aload_n C dX9_traderLine_103 rfl rfl ?_
          refine x_iconst C dX9_traderLine_104 kc_0 ?_
          refine x_iconst C dX9_traderLine_105 kc_2 ?_
          refine x_V2I C (met_X9_number l C.1 h.1 N3) mi_X9_number q2546 gcX9 h.1.1 ⟨rfl, rfl⟩ rfl ⟨Nat.le_refl _, Nat.le_refl _⟩ rfl dX9_traderLine_106 (fun r M1 hr => ?_)
          rcases gP_c hr with ⟨s4, e4, hq, rfl⟩ | ⟨s4, e4, hq, rfl⟩
          · -- right
            have h := h.tr hq
            obtain ⟨N4, T4, -⟩ := wN.num N3 e4
            refine x_if_neT (tgt := 114) C (by decide) dX9_traderLine_109 rfl ?_
            refine x_aload_n C dX9_traderLine_114 rfl rfl ?_
            refine m_get C h 13 rfl q2422 rfl dX9_traderLine_115 ?_
            refine x_iload_n C dX9_traderLine_118 rfl rfl ?_
            refine x_iconst C dX9_traderLine_119 kc_1 ?_
            refine x_iaddN C dX9_traderLine_120 ?_
            refine x_aload_n C dX9_traderLine_121 rfl rfl ?_
            refine m_get C h 19 rfl q2428 rfl dX9_traderLine_122 ?_
            refine m_ast C h 2 (N := 64) (by decide) rfl rfl (by omega) dX9_traderLine_125 (fun M h => ?_)
            refine x_aload_n C dX9_traderLine_126 rfl rfl ?_
            refine x_iconst C dX9_traderLine_127 kc_0 ?_
            refine x_iconst C dX9_traderLine_128 kc_1 ?_
            refine x_V2I C (met_X9_number l C.1 h.1 (wN.sa N4 (a := 2) (by decide))) mi_X9_number q2546 gcX9 h.1.1 ⟨rfl, rfl⟩ rfl ⟨Nat.le_refl _, Nat.le_refl _⟩ rfl dX9_traderLine_129 (fun r M1 hr => ?_)
            rcases gP_c hr with ⟨s5, e5, hq, rfl⟩ | ⟨s5, e5, hq, rfl⟩
            · -- right
              have h := h.tr hq
              obtain ⟨N5, T5, -⟩ := wN.num (wN.sa N4 (a := 2) (by decide)) e5
              refine x_if_neT (tgt := 137) C (by decide) dX9_traderLine_132 rfl ?_
              refine x_aload_n C dX9_traderLine_137 rfl rfl ?_
              refine m_get C h 13 rfl q2422 rfl dX9_traderLine_138 ?_
              refine x_iload_n C dX9_traderLine_141 rfl rfl ?_
              refine x_iconst C dX9_traderLine_142 kc_2 ?_
              refine x_iaddN C dX9_traderLine_143 ?_
              refine x_aload_n C dX9_traderLine_144 rfl rfl ?_
              refine m_get C h 19 rfl q2428 rfl dX9_traderLine_145 ?_
              refine m_ast C h 2 (N := 64) (by decide) rfl rfl (by omega) dX9_traderLine_148 (fun M h => ?_)
              refine x_aload_n C dX9_traderLine_149 rfl rfl ?_
              refine x_dup C dX9_traderLine_150 rfl ?_
              refine m_get C h 12 (v := .int (nI tr)) rfl q2421 (m_v rfl ((T5.k 12 (by decide)).trans ((T4.k 12 (by decide)).trans ((T3.k 12 (by decide)).trans ((T1.k 12 (by decide)).trans h12))))) dX9_traderLine_151 ?_
              refine x_iconst C dX9_traderLine_154 kc_1 ?_
              refine x_iaddN C dX9_traderLine_155 ?_
              refine m_put C h 12 rfl q2421 rfl rfl rfl rfl dX9_traderLine_156 (fun M h => ?_)
              refine x_iconst C dX9_traderLine_159 kc_1 ?_
              exact x_zret C (by decide +kernel) dX9_traderLine_160 ⟨Nat.le_refl _, Nat.le_refl _⟩ (gP_t h (by unfold gTL gTL1 gTL2; rw [if_neg (by omega), ← e1, if_pos c23, show gNm tr _ = gv2 from hggv2, if_pos c46, ← e3, gB_t e4, gB_t e5]; first | done | rfl))
            · -- wrong
              have h := h.tr hq
              obtain ⟨N5, T5, -⟩ := wN.num (wN.sa N4 (a := 2) (by decide)) e5
              refine x_if_neF (tgt := 137) C (by decide) dX9_traderLine_132 rfl ?_
              refine x_iconst C dX9_traderLine_135 kc_0 ?_
              exact x_zret C (by decide +kernel) dX9_traderLine_136 ⟨Nat.le_refl _, Nat.le_refl _⟩ (gP_f h (by unfold gTL gTL1 gTL2; rw [if_neg (by omega), ← e1, if_pos c23, show gNm tr _ = gv2 from hggv2, if_pos c46, ← e3, gB_t e4, gB_f e5]; first | done | rfl))
          · -- wrong
            have h := h.tr hq
            obtain ⟨N4, T4, -⟩ := wN.num N3 e4
            refine x_if_neF (tgt := 114) C (by decide) dX9_traderLine_109 rfl ?_
            refine x_iconst C dX9_traderLine_112 kc_0 ?_
            exact x_zret C (by decide +kernel) dX9_traderLine_113 ⟨Nat.le_refl _, Nat.le_refl _⟩ (gP_f h (by unfold gTL gTL1 gTL2; rw [if_neg (by omega), ← e1, if_pos c23, show gNm tr _ = gv2 from hggv2, if_pos c46, ← e3, gB_f e4]; first | done | rfl))
        · -- 74
          refine x_aload_n C dX9_traderLine_74 rfl rfl ?_
          refine m_get C h 13 rfl q2422 rfl dX9_traderLine_75 ?_
          refine x_iload_n C dX9_traderLine_78 rfl rfl ?_
          refine x_iload_n C dX9_traderLine_79 rfl rfl ?_
          refine x_iaddN C dX9_traderLine_80 ?_
          refine x_iconst C dX9_traderLine_81 kc_0 ?_
          refine m_ast C h 2 (N := 64) (by decide) rfl rfl (by omega) dX9_traderLine_82 (fun M h => ?_)
          refine x_iincN C dX9_traderLine_83 rfl (gs1_2 rfl) rfl ?_
          refine x_goto (tgt := 68) C dX9_traderLine_86 rfl ?_
          exact (ih (by omega) _ (by rw [sClr_s] at h; exact h))
      · -- 49
        refine x_aload_n C dX9_traderLine_49 rfl rfl ?_
        refine x_iconst C dX9_traderLine_50 kc_3 ?_
        refine x_V1I C (met_X9_wrong l C.1 h.1) mi_X9_wrong q2534 gcX9 h.1.1 ⟨rfl, rfl⟩ rfl ⟨Nat.le_refl _, Nat.le_refl _⟩ rfl dX9_traderLine_51 (fun r M1 hr => ?_)
        obtain ⟨hr, rfl⟩ := hr
        have h := h.tr hr
        exact x_zret C (by decide +kernel) dX9_traderLine_54 ⟨Nat.le_refl _, Nat.le_refl _⟩ (gP_f h (by unfold gTL gTL1 gTL2; rw [if_neg (by omega), ← e1, if_pos c23, show gNm tr _ = gv2 from hggv2, if_neg c46]; first | done | rfl))
    · -- 26
      refine x_aload_n C dX9_traderLine_26 rfl rfl ?_
      refine x_iconst C dX9_traderLine_27 kc_1 ?_
      refine x_V1I C (met_X9_wrong l C.1 h.1) mi_X9_wrong q2534 gcX9 h.1.1 ⟨rfl, rfl⟩ rfl ⟨Nat.le_refl _, Nat.le_refl _⟩ rfl dX9_traderLine_28 (fun r M1 hr => ?_)
      obtain ⟨hr, rfl⟩ := hr
      have h := h.tr hr
      exact x_zret C (by decide +kernel) dX9_traderLine_31 ⟨Nat.le_refl _, Nat.le_refl _⟩ (gP_f h (by unfold gTL gTL1 gTL2; rw [if_neg (by omega), ← e1, if_neg c23]; first | done | rfl))
  · -- 8
    refine x_aload_n C dX9_traderLine_8 rfl rfl ?_
    refine x_iconst C dX9_traderLine_9 kc_2 ?_
    refine x_V1I C (met_X9_wrong l C.1 h.1) mi_X9_wrong q2534 gcX9 h.1.1 ⟨rfl, rfl⟩ rfl ⟨Nat.le_refl _, Nat.le_refl _⟩ rfl dX9_traderLine_10 (fun r M1 hr => ?_)
    obtain ⟨hr, rfl⟩ := hr
    have h := h.tr hr
    exact x_zret C (by decide +kernel) dX9_traderLine_13 ⟨Nat.le_refl _, Nat.le_refl _⟩ (gP_f h (by unfold gTL gTL1 gTL2; rw [if_pos c5]; first | done | rfl))
