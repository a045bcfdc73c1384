set_option maxRecDepth 100000
theorem mi_X9_wordLine : gMV RX9 yX9_wordLine cX9_wordLine 2 (some .boolean) 0 := ⟨q2583, qs80, q165, q2584, by decide +kernel⟩
set_option maxHeartbeats 4000000 in
set_option maxRecDepth 100000 in
theorem met_X9_wordLine (l : Launch) {G : gG} (hG : gOK G) {ad : Nat → Nat} {σ : mS} {M0 : gM} {k : Nat} (h : MR G ad σ M0) (h9 : mI σ 9 = nI k) (hb0_ : 3 ≤ k) (hb1_ : k ≤ 6) (hN : wN σ) : Met l yX9_wordLine (ws_ yX9_wordLine cX9_wordLine 2 (some .boolean)) ({ frames := 3, cells := 0, slots := 0, locals := 69 }) (gPre G M0 [.ref (ad 0)]) (gQ G (gI (gP G ad M0 (gWd k σ)))) 0 0 (gA G) := by
  refine gMet (L0 := [some (.ref (ad 0)), none]) RX9 hG (by decide +kernel) rfl (Nat.le_of_ble_eq_true rfl) rfl ?_
  intro p e s m args below meth c C hnm
  have h := MF.rf h
  refine x_aload_n C dX9_wordLine_0 rfl rfl ?_
  refine m_get C h 9 (v := .int (nI k)) rfl q2418 (m_v rfl h9) dX9_wordLine_1 ?_
  refine x_istore_n C dX9_wordLine_4 rfl (gs1_1 rfl) rfl ?_
  refine x_aload_n C dX9_wordLine_5 rfl rfl ?_
  refine m_get C h 18 rfl q2427 rfl dX9_wordLine_6 ?_
  refine x_iload_n C dX9_wordLine_9 rfl rfl ?_
  refine x_ishr C dX9_wordLine_10 ?_
  refine x_iconst C dX9_wordLine_11 kc_1 ?_
  refine x_iand C dX9_wordLine_12 ?_
  refine x_iconst C dX9_wordLine_13 kc_1 ?_
  refine x_icmp_ne (tgt := 23) C dX9_wordLine_14 rfl (fun c14 => ?_) (fun c14 => ?_)
  · -- 23
    refine x_aload_n C dX9_wordLine_23 rfl rfl ?_
    refine x_dup C dX9_wordLine_24 rfl ?_
    refine m_get C h 18 rfl q2427 rfl dX9_wordLine_25 ?_
    refine x_iconst C dX9_wordLine_28 kc_1 ?_
    refine x_iload_n C dX9_wordLine_29 rfl rfl ?_
    refine x_ishl C dX9_wordLine_30 ?_
    refine x_ior C dX9_wordLine_31 ?_
    refine m_put C h 18 rfl q2427 rfl rfl rfl rfl dX9_wordLine_32 (fun M h => ?_)
    refine x_aload_n C dX9_wordLine_35 rfl rfl ?_
    refine x_V0V C (met_tok l C.1 h.1 (wN.si hN (j := 18) (by decide) (by decide))) mi_X9_token q2509 gcX9 h.1.1 ⟨rfl, rfl⟩ rfl ⟨Nat.le_refl _, Nat.le_refl _⟩ rfl dX9_wordLine_36 (fun M1 hr => ?_)
    obtain ⟨s1, e1, N1, T1, h⟩ : ∃ s', s' = tTok _ ∧ wN s' ∧ sT _ s' ∧ MF G ad M0 s' M1 := ⟨_, rfl, (wN.tok (wN.si hN (j := 18) (by decide) (by decide))).1, (wN.tok (wN.si hN (j := 18) (by decide) (by decide))).2.1, h.tr hr⟩
    refine x_iload_n C dX9_wordLine_39 rfl rfl ?_
    refine x_iconst C dX9_wordLine_40 kc_3 ?_
    refine x_icmp_neN (tgt := 107) C (by omega) (by omega) dX9_wordLine_41 rfl (fun c41 => ?_) (fun c41 => ?_)
    · -- 107
      refine x_iload_n C dX9_wordLine_107 rfl rfl ?_
      refine x_iconst C dX9_wordLine_108 kc_4 ?_
      refine x_icmp_neN (tgt := 127) C (by omega) (by omega) dX9_wordLine_109 rfl (fun c109 => ?_) (fun c109 => ?_)
      · -- 127
        refine x_iload_n C dX9_wordLine_127 rfl rfl ?_
        refine x_iconst C dX9_wordLine_128 kc_5 ?_
        refine x_icmp_neN (tgt := 146) C (by omega) (by omega) dX9_wordLine_129 rfl (fun c129 => ?_) (fun c129 => ?_)
        · -- 146
          refine x_aload_n C dX9_wordLine_146 rfl rfl ?_
          refine x_iconst C dX9_wordLine_147 kc_0 ?_
          refine x_ldc C dX9_wordLine_148 q2529 ?_
          rw [show (99999 : Int32) = nI 99999 from by decide +kernel]
          refine x_V2I C (met_X9_number l C.1 h.1 N1) mi_X9_number q2546 gcX9 h.1.1 ⟨rfl, rfl⟩ rfl ⟨Nat.le_refl _, Nat.le_refl _⟩ rfl dX9_wordLine_150 (fun r M1 hr => ?_)
          rcases gP_c hr with ⟨s2, e2, hq, rfl⟩ | ⟨s2, e2, hq, rfl⟩
          · -- right
            have h := h.tr hq
            obtain ⟨N2, T2, -⟩ := wN.num N1 e2
            refine x_if_neT (tgt := 158) C (by decide) dX9_wordLine_153 rfl ?_
            refine x_aload_n C dX9_wordLine_158 rfl rfl ?_
            refine m_get C h 17 rfl q2426 rfl dX9_wordLine_159 ?_
            refine x_iload_n C dX9_wordLine_162 rfl rfl ?_
            refine x_iconst C dX9_wordLine_163 kc_4 ?_
            refine x_icmp_neN (tgt := 172) C (by omega) (by omega) dX9_wordLine_164 rfl (fun _ => ?_) (fun _ => by exfalso; omega)
            refine x_iload_n C dX9_wordLine_172 rfl rfl ?_
            refine x_iconst C dX9_wordLine_173 kc_5 ?_
            refine x_icmp_neN (tgt := 182) C (by omega) (by omega) dX9_wordLine_174 rfl (fun _ => ?_) (fun _ => by exfalso; omega)
            refine x_bipush C dX9_wordLine_182 kb_10 ?_
            refine x_aload_n C dX9_wordLine_184 rfl rfl ?_
            refine m_get C h 19 rfl q2428 rfl dX9_wordLine_185 ?_
            refine m_ast C h 6 (N := 14) (by decide) rfl rfl (by omega) dX9_wordLine_188 (fun M h => ?_)
            refine x_iconst C dX9_wordLine_189 kc_1 ?_
            exact x_zret C (by decide +kernel) dX9_wordLine_190 ⟨Nat.le_refl _, Nat.le_refl _⟩ (gP_t h (by unfold gWd gWd1; rw [if_neg c14, ← e1, if_neg (by omega), if_neg (by omega), if_neg (by omega), gB_t e2]; first | done | rfl))
          · -- wrong
            have h := h.tr hq
            obtain ⟨N2, T2, -⟩ := wN.num N1 e2
            refine x_if_neF (tgt := 158) C (by decide) dX9_wordLine_153 rfl ?_
            refine x_iconst C dX9_wordLine_156 kc_0 ?_
            exact x_zret C (by decide +kernel) dX9_wordLine_157 ⟨Nat.le_refl _, Nat.le_refl _⟩ (gP_f h (by unfold gWd gWd1; rw [if_neg c14, ← e1, if_neg (by omega), if_neg (by omega), if_neg (by omega), gB_f e2]; first | done | rfl))
        · -- 132
          refine x_aload_n C dX9_wordLine_132 rfl rfl ?_
          refine x_iconst C dX9_wordLine_133 kc_0 ?_
          refine x_sipush C dX9_wordLine_134 ks_9999 ?_
          refine x_V2I C (met_X9_number l C.1 h.1 N1) mi_X9_number q2546 gcX9 h.1.1 ⟨rfl, rfl⟩ rfl ⟨Nat.le_refl _, Nat.le_refl _⟩ rfl dX9_wordLine_137 (fun r M1 hr => ?_)
          rcases gP_c hr with ⟨s3, e3, hq, rfl⟩ | ⟨s3, e3, hq, rfl⟩
          · -- right
            have h := h.tr hq
            obtain ⟨N3, T3, -⟩ := wN.num N1 e3
            refine x_if_eqF (tgt := 156) C (by decide) dX9_wordLine_140 rfl ?_
            refine x_goto (tgt := 158) C dX9_wordLine_143 rfl ?_
            refine x_aload_n C dX9_wordLine_158 rfl rfl ?_
            refine m_get C h 17 rfl q2426 rfl dX9_wordLine_159 ?_
            refine x_iload_n C dX9_wordLine_162 rfl rfl ?_
            refine x_iconst C dX9_wordLine_163 kc_4 ?_
            refine x_icmp_neN (tgt := 172) C (by omega) (by omega) dX9_wordLine_164 rfl (fun _ => ?_) (fun _ => by exfalso; omega)
            refine x_iload_n C dX9_wordLine_172 rfl rfl ?_
            refine x_iconst C dX9_wordLine_173 kc_5 ?_
            refine x_icmp_neN (tgt := 182) C (by omega) (by omega) dX9_wordLine_174 rfl (fun _ => by exfalso; omega) (fun _ => ?_)
            refine x_bipush C dX9_wordLine_177 kb_9 ?_
            refine x_goto (tgt := 184) C dX9_wordLine_179 rfl ?_
            refine x_aload_n C dX9_wordLine_184 rfl rfl ?_
            refine m_get C h 19 rfl q2428 rfl dX9_wordLine_185 ?_
            refine m_ast C h 6 (N := 14) (by decide) rfl rfl (by omega) dX9_wordLine_188 (fun M h => ?_)
            refine x_iconst C dX9_wordLine_189 kc_1 ?_
            exact x_zret C (by decide +kernel) dX9_wordLine_190 ⟨Nat.le_refl _, Nat.le_refl _⟩ (gP_t h (by unfold gWd gWd1; rw [if_neg c14, ← e1, if_neg (by omega), if_neg (by omega), if_pos c129, gB_t e3]; first | done | rfl))
          · -- wrong
            have h := h.tr hq
            obtain ⟨N3, T3, -⟩ := wN.num N1 e3
            refine x_if_eqT (tgt := 156) C (by decide) dX9_wordLine_140 rfl ?_
            refine x_iconst C dX9_wordLine_156 kc_0 ?_
            exact x_zret C (by decide +kernel) dX9_wordLine_157 ⟨Nat.le_refl _, Nat.le_refl _⟩ (gP_f h (by unfold gWd gWd1; rw [if_neg c14, ← e1, if_neg (by omega), if_neg (by omega), if_pos c129, gB_f e3]; first | done | rfl))
      · -- 112
        refine x_aload_n C dX9_wordLine_112 rfl rfl ?_
        refine x_bipush C dX9_wordLine_113 kb_10 ?_
        refine x_sipush C dX9_wordLine_115 ks_1000 ?_
        refine x_V2I C (met_X9_number l C.1 h.1 N1) mi_X9_number q2546 gcX9 h.1.1 ⟨rfl, rfl⟩ rfl ⟨Nat.le_refl _, Nat.le_refl _⟩ rfl dX9_wordLine_118 (fun r M1 hr => ?_)
        rcases gP_c hr with ⟨s4, e4, hq, rfl⟩ | ⟨s4, e4, hq, rfl⟩
        · -- right
          have h := h.tr hq
          obtain ⟨N4, T4, -⟩ := wN.num N1 e4
          refine x_if_eqF (tgt := 156) C (by decide) dX9_wordLine_121 rfl ?_
          refine x_goto (tgt := 158) C dX9_wordLine_124 rfl ?_
          refine x_aload_n C dX9_wordLine_158 rfl rfl ?_
          refine m_get C h 17 rfl q2426 rfl dX9_wordLine_159 ?_
          refine x_iload_n C dX9_wordLine_162 rfl rfl ?_
          refine x_iconst C dX9_wordLine_163 kc_4 ?_
          refine x_icmp_neN (tgt := 172) C (by omega) (by omega) dX9_wordLine_164 rfl (fun _ => by exfalso; omega) (fun _ => ?_)
          refine x_bipush C dX9_wordLine_167 kb_8 ?_
          refine x_goto (tgt := 184) C dX9_wordLine_169 rfl ?_
          refine x_aload_n C dX9_wordLine_184 rfl rfl ?_
          refine m_get C h 19 rfl q2428 rfl dX9_wordLine_185 ?_
          refine m_ast C h 6 (N := 14) (by decide) rfl rfl (by omega) dX9_wordLine_188 (fun M h => ?_)
          refine x_iconst C dX9_wordLine_189 kc_1 ?_
          exact x_zret C (by decide +kernel) dX9_wordLine_190 ⟨Nat.le_refl _, Nat.le_refl _⟩ (gP_t h (by unfold gWd gWd1; rw [if_neg c14, ← e1, if_neg (by omega), if_pos c109, gB_t e4]; first | done | rfl))
        · -- wrong
          have h := h.tr hq
          obtain ⟨N4, T4, -⟩ := wN.num N1 e4
          refine x_if_eqT (tgt := 156) C (by decide) dX9_wordLine_121 rfl ?_
          refine x_iconst C dX9_wordLine_156 kc_0 ?_
          exact x_zret C (by decide +kernel) dX9_wordLine_157 ⟨Nat.le_refl _, Nat.le_refl _⟩ (gP_f h (by unfold gWd gWd1; rw [if_neg c14, ← e1, if_neg (by omega), if_pos c109, gB_f e4]; first | done | rfl))
    · -- 44
      refine x_aload_n C dX9_wordLine_44 rfl rfl ?_
      refine m_get C h 8 rfl q2417 rfl dX9_wordLine_45 ?_
      refine x_iconst C dX9_wordLine_48 kc_1 ?_
      refine x_icmp_ne (tgt := 61) C dX9_wordLine_49 rfl (fun c49 => ?_) (fun c49 => ?_)
      · -- 61
        refine x_aload_n C dX9_wordLine_61 rfl rfl ?_
        refine x_iconst C dX9_wordLine_62 kc_1 ?_
        refine x_V1I C (met_X9_wrong l C.1 h.1) mi_X9_wrong q2534 gcX9 h.1.1 ⟨rfl, rfl⟩ rfl ⟨Nat.le_refl _, Nat.le_refl _⟩ rfl dX9_wordLine_63 (fun r M1 hr => ?_)
        obtain ⟨hr, rfl⟩ := hr
        have h := h.tr hr
        exact x_zret C (by decide +kernel) dX9_wordLine_66 ⟨Nat.le_refl _, Nat.le_refl _⟩ (gP_f h (by unfold gWd gWd1; rw [if_neg c14, ← e1, if_pos c41, if_neg c49]; first | done | rfl))
      · -- 52
        refine x_aload_n C dX9_wordLine_52 rfl rfl ?_
        refine m_get C h 9 rfl q2418 rfl dX9_wordLine_53 ?_
        refine x_bipush C dX9_wordLine_56 kb_10 ?_
        refine x_icmp_ge (tgt := 67) C dX9_wordLine_58 rfl (fun c58 => ?_) (fun c58 => ?_)
        · -- 67
          refine x_aload_n C dX9_wordLine_67 rfl rfl ?_
          refine m_get C h 17 rfl q2426 rfl dX9_wordLine_68 ?_
          refine x_bipush C dX9_wordLine_71 kb_7 ?_
          refine x_aload_n C dX9_wordLine_73 rfl rfl ?_
          refine m_get C h 9 rfl q2418 rfl dX9_wordLine_74 ?_
          refine x_bipush C dX9_wordLine_77 kb_11 ?_
          refine x_icmp_ne (tgt := 86) C dX9_wordLine_79 rfl (fun c79 => ?_) (fun c79 => ?_)
          · -- 86
            refine x_aload_n C dX9_wordLine_86 rfl rfl ?_
            refine m_get C h 9 rfl q2418 rfl dX9_wordLine_87 ?_
            refine x_bipush C dX9_wordLine_90 kb_10 ?_
            refine x_icmp_ne (tgt := 99) C dX9_wordLine_92 rfl (fun c92 => ?_) (fun c92 => ?_)
            · -- 99
              refine x_iconst C dX9_wordLine_99 kc_2 ?_
              refine m_ast C h 6 (N := 14) (by decide) rfl rfl (by omega) dX9_wordLine_100 (fun M h => ?_)
              refine x_aload_n C dX9_wordLine_101 rfl rfl ?_
              refine x_V0V C (met_tok l C.1 h.1 (wN.sa N1 (a := 6) (by decide))) mi_X9_token q2509 gcX9 h.1.1 ⟨rfl, rfl⟩ rfl ⟨Nat.le_refl _, Nat.le_refl _⟩ rfl dX9_wordLine_102 (fun M1 hr => ?_)
              obtain ⟨s5, e5, N5, T5, h⟩ : ∃ s', s' = tTok _ ∧ wN s' ∧ sT _ s' ∧ MF G ad M0 s' M1 := ⟨_, rfl, (wN.tok (wN.sa N1 (a := 6) (by decide))).1, (wN.tok (wN.sa N1 (a := 6) (by decide))).2.1, h.tr hr⟩
              refine x_iconst C dX9_wordLine_105 kc_1 ?_
              exact x_zret C (by decide +kernel) dX9_wordLine_106 ⟨Nat.le_refl _, Nat.le_refl _⟩ (gP_t h (by unfold gWd gWd1; rw [if_neg c14, ← e1, if_pos c41, if_pos c49, if_neg (Int32.not_lt.mpr c58), if_neg c79, if_neg c92, ← e5]; first | done | rfl))
            · -- 95
              refine x_iconst C dX9_wordLine_95 kc_1 ?_
              refine x_goto (tgt := 100) C dX9_wordLine_96 rfl ?_
              refine m_ast C h 6 (N := 14) (by decide) rfl rfl (by omega) dX9_wordLine_100 (fun M h => ?_)
              refine x_aload_n C dX9_wordLine_101 rfl rfl ?_
              refine x_V0V C (met_tok l C.1 h.1 (wN.sa N1 (a := 6) (by decide))) mi_X9_token q2509 gcX9 h.1.1 ⟨rfl, rfl⟩ rfl ⟨Nat.le_refl _, Nat.le_refl _⟩ rfl dX9_wordLine_102 (fun M1 hr => ?_)
              obtain ⟨s6, e6, N6, T6, h⟩ : ∃ s', s' = tTok _ ∧ wN s' ∧ sT _ s' ∧ MF G ad M0 s' M1 := ⟨_, rfl, (wN.tok (wN.sa N1 (a := 6) (by decide))).1, (wN.tok (wN.sa N1 (a := 6) (by decide))).2.1, h.tr hr⟩
              refine x_iconst C dX9_wordLine_105 kc_1 ?_
              exact x_zret C (by decide +kernel) dX9_wordLine_106 ⟨Nat.le_refl _, Nat.le_refl _⟩ (gP_t h (by unfold gWd gWd1; rw [if_neg c14, ← e1, if_pos c41, if_pos c49, if_neg (Int32.not_lt.mpr c58), if_neg c79, if_pos c92, ← e6]; first | done | rfl))
          · -- 82
            refine x_iconst C dX9_wordLine_82 kc_0 ?_
            refine x_goto (tgt := 100) C dX9_wordLine_83 rfl ?_
            refine m_ast C h 6 (N := 14) (by decide) rfl rfl (by omega) dX9_wordLine_100 (fun M h => ?_)
            refine x_aload_n C dX9_wordLine_101 rfl rfl ?_
            refine x_V0V C (met_tok l C.1 h.1 (wN.sa N1 (a := 6) (by decide))) mi_X9_token q2509 gcX9 h.1.1 ⟨rfl, rfl⟩ rfl ⟨Nat.le_refl _, Nat.le_refl _⟩ rfl dX9_wordLine_102 (fun M1 hr => ?_)
            obtain ⟨s7, e7, N7, T7, h⟩ : ∃ s', s' = tTok _ ∧ wN s' ∧ sT _ s' ∧ MF G ad M0 s' M1 := ⟨_, rfl, (wN.tok (wN.sa N1 (a := 6) (by decide))).1, (wN.tok (wN.sa N1 (a := 6) (by decide))).2.1, h.tr hr⟩
            refine x_iconst C dX9_wordLine_105 kc_1 ?_
            exact x_zret C (by decide +kernel) dX9_wordLine_106 ⟨Nat.le_refl _, Nat.le_refl _⟩ (gP_t h (by unfold gWd gWd1; rw [if_neg c14, ← e1, if_pos c41, if_pos c49, if_neg (Int32.not_lt.mpr c58), if_pos c79, ← e7]; first | done | rfl))
        · -- 61
          refine x_aload_n C dX9_wordLine_61 rfl rfl ?_
          refine x_iconst C dX9_wordLine_62 kc_1 ?_
          refine x_V1I C (met_X9_wrong l C.1 h.1) mi_X9_wrong q2534 gcX9 h.1.1 ⟨rfl, rfl⟩ rfl ⟨Nat.le_refl _, Nat.le_refl _⟩ rfl dX9_wordLine_63 (fun r M1 hr => ?_)
          obtain ⟨hr, rfl⟩ := hr
          have h := h.tr hr
          exact x_zret C (by decide +kernel) dX9_wordLine_66 ⟨Nat.le_refl _, Nat.le_refl _⟩ (gP_f h (by unfold gWd gWd1; rw [if_neg c14, ← e1, if_pos c41, if_pos c49, if_pos (Int32.not_le.mp c58)]; first | done | rfl))
  · -- 17
    refine x_aload_n C dX9_wordLine_17 rfl rfl ?_
    refine x_iconst C dX9_wordLine_18 kc_3 ?_
    refine x_V1I C (met_X9_wrong l C.1 h.1) mi_X9_wrong q2534 gcX9 h.1.1 ⟨rfl, rfl⟩ rfl ⟨Nat.le_refl _, Nat.le_refl _⟩ rfl dX9_wordLine_19 (fun r M1 hr => ?_)
    obtain ⟨hr, rfl⟩ := hr
    have h := h.tr hr
    exact x_zret C (by decide +kernel) dX9_wordLine_22 ⟨Nat.le_refl _, Nat.le_refl _⟩ (gP_f h (by unfold gWd gWd1; rw [if_pos c14]; first | done | rfl))
