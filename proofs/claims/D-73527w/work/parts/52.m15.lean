set_option maxRecDepth 100000
theorem mi_X9_need : gMV RX9 yX9_need cX9_need 11 (some .int) 2 := ⟨q2875, q2876, q165, q2877, by decide +kernel⟩
set_option maxHeartbeats 4000000 in
set_option maxRecDepth 100000 in
theorem met_X9_need (l : Launch) {G : gG} (hG : gOK G) {ad : Nat → Nat} {σ : mS} {M0 : gM} {b : Nat} {B : Nat → Int32} {t f : Int32} {A : Nat → Nat → Int32} {T : Nat} (h : MR G ad (sb σ b B) M0) (hb : mI σ 21 = nI b) (hA : mA σ = A) (hT : mI σ 11 = nI T) (hb0_ : b < 23) (hw : wT T A) (hB : wB T B) : Met l yX9_need (ws_ yX9_need cX9_need 11 (some .int)) ({ frames := 4, cells := 0, slots := 0, locals := 97 }) (gPre G M0 [.ref (ad 0), .int (t), .int (f)]) (gQ G (gI (fun r M1 => ∃ σ', sQ σ σ' ∧ MF G ad M0 (sb σ' b B) M1 ∧ qNeed A T B t f r))) 0 0 (gA G) := by
  refine gMet (L0 := [some (.ref (ad 0)), some (.int (t)), some (.int (f)), none, none, none, none, none, none, none, none]) RX9 hG (by decide +kernel) rfl (Nat.le_of_ble_eq_true rfl) rfl ?_
  intro p e s m args below meth c C hnm
  have h := MF.rf h
  have hT4 := hw.T4
  have hnw : B 0 = nI (pNow B) := hB.now.1
  have hnow : pNow B ≤ 63 := hB.now.2
  have hna : B 1865 = nI (dN (B 1865)) := hB.na.1
  have hna8 : dN (B 1865) ≤ 8 := hB.na.2
  have hkp : B 1867 = nI (dN (B 1867)) := hB.kept.1
  have hkp40 : dN (B 1867) ≤ 40 := hB.kept.2
  refine x_aload_n C dX9_need_0 rfl rfl ?_
  refine x_iconst C dX9_need_1 kc_0 ?_
  refine m_put C h 2 rfl q2411 rfl rfl rfl rfl dX9_need_2 (fun M h => ?_)
  obtain ⟨σ1, hs1, h⟩ : ∃ σ', sQ σ σ' ∧ MF G ad M0 (sb σ' b B) M := ⟨_, sQ.p2, h⟩
  refine x_aload_n C dX9_need_5 rfl rfl ?_
  refine x_iload_n C dX9_need_6 rfl rfl ?_
  refine x_V1I C (met_X9_isTrader l C.1 h.1 ((hs1.2.2 11 (by decide) (by decide)).trans hT)) mi_X9_isTrader q2613 gcX9 h.1.1 ⟨rfl, rfl⟩ rfl ⟨Nat.le_refl _, Nat.le_refl _⟩ rfl dX9_need_7 (fun r M1 hr => ?_)
  rcases hr with ⟨rfl, rfl, b7⟩ | ⟨rfl, rfl, b7⟩
  · -- true
    obtain ⟨tn, rfl, hltn⟩ := iT.ex b7 (by omega)
    have etn : dN (nI tn) = tn := dN_nI (by omega)
    refine x_if_eqF (tgt := 27) C (by decide) dX9_need_10 rfl ?_
    refine x_iload_n C dX9_need_13 rfl rfl ?_
    refine x_iconst C dX9_need_14 kc_0 ?_
    refine x_aload_n C dX9_need_15 rfl rfl ?_
    refine m_get C h 17 rfl q2426 rfl dX9_need_16 ?_
    refine x_iconst C dX9_need_19 kc_1 ?_
    refine m_ald C h 6 (N := 14) (by decide) rfl rfl (by omega) (congrFun (congrFun (hs1.1.trans hA) 6) _) dX9_need_20 ?_
    refine x_S3I C (met_X9_isIn l C.1) mi_X9_isIn q2550 ⟨rfl, rfl⟩ rfl ⟨Nat.le_refl _, Nat.le_refl _⟩ rfl dX9_need_21 (fun r M1 hr => ?_)
    rcases hr with ⟨rfl, rfl, b21⟩ | ⟨rfl, rfl, b21⟩
    · -- true
      refine x_if_neT (tgt := 29) C (by decide) dX9_need_24 rfl ?_
      refine x_aload_n C dX9_need_29 rfl rfl ?_
      refine x_iload_n C dX9_need_30 rfl rfl ?_
      refine x_iconst C dX9_need_31 kc_1 ?_
      refine x_V2I C (met_X9_told1 l C.1 h.1 (hs1.1.trans hA) (by omega)) mi_X9_told1 q2381 gcX9 h.1.1 ⟨rfl, rfl⟩ rfl ⟨Nat.le_refl _, Nat.le_refl _⟩ rfl dX9_need_32 (fun r M1 hr => ?_)
      obtain ⟨rfl, rfl⟩ := hr
      refine x_if_eq (tgt := 41) C dX9_need_35 rfl (fun c35 => ?_) (fun c35 => ?_)
      · -- 41
        refine x_aload_n C dX9_need_41 rfl rfl ?_
        refine x_iload_n C dX9_need_42 rfl rfl ?_
        refine x_aload_n C dX9_need_43 rfl rfl ?_
        refine x_V0I C (met_X9_year l C.1 h.1 ((hs1.2.2 21 (by decide) (by decide)).trans hb) hnw (by omega) (by omega)) mi_X9_year q2629 gcX9 h.1.1 ⟨rfl, rfl⟩ rfl ⟨Nat.le_refl _, Nat.le_refl _⟩ rfl dX9_need_44 (fun r M1 hr => ?_)
        obtain ⟨rfl, rfl⟩ := hr
        refine x_V2V C (met_X9_layYear l C.1 h.1 ((hs1.2.2 21 (by decide) (by decide)).trans hb) (by omega) (by omega) (by omega)) mi_X9_layYear q2736 gcX9 h.1.1 ⟨rfl, rfl⟩ rfl ⟨Nat.le_refl _, Nat.le_refl _⟩ rfl dX9_need_47 (fun M1 hr => ?_)
        have h := h.tr hr
        refine x_aload_n C dX9_need_50 rfl rfl ?_
        refine m_get C h 24 rfl q2433 rfl dX9_need_51 ?_
        refine x_iconst C dX9_need_54 kc_0 ?_
        refine m_lald C h rfl (by omega) dX9_need_55 ?_
        refine x_lstore_n C dX9_need_56 rfl (gs2_3 rfl) rfl ?_
        refine x_aload_n C dX9_need_57 rfl rfl ?_
        refine x_iload_n C dX9_need_58 rfl rfl ?_
        refine x_V1I C (met_X9_fraction l C.1 h.1 ((hs1.2.2 21 (by decide) (by decide)).trans hb) (hs1.1.trans hA) (by omega) (by omega) (sZ_y _ _ _)) mi_X9_fraction q2701 gcX9 h.1.1 ⟨rfl, rfl⟩ rfl ⟨Nat.le_refl _, Nat.le_refl _⟩ rfl dX9_need_59 (fun r M1 hr => ?_)
        obtain ⟨rfl, rfl⟩ := hr
        refine x_iload_n C dX9_need_62 rfl rfl ?_
        refine x_icmp_lt (tgt := 68) C dX9_need_63 rfl (fun c63 => ?_) (fun c63 => ?_)
        · -- 68
          refine x_lconst (v := 0) C dX9_need_68 rfl ?_
          refine x_lstore C dX9_need_69 (gs2_5 rfl) rfl ?_
          refine x_ldc2 C dX9_need_71 q2878 ?_
          refine x_lstore C dX9_need_74 (gs2_7 rfl) rfl ?_
          have hn0 : ¬ pNd A B tn (pNow B / 4) f 0 := by unfold pNd; rw [pNZ_0]; exact fun q => q c63
          refine x_loopM (head := 76) (S := Nat × Nat) (fun x M => x.1 < x.2 ∧ x.2 ≤ 100000000 ∧ (x.2 = 100000000 ∨ pNd A B tn (pNow B / 4) f x.2) ∧ ¬ pNd A B tn (pNow B / 4) f x.1 ∧ ∃ Z : Nat → Int64, (∀ k, k ≠ 0 → Z k = pYS B tn (pNow B / 4) k) ∧ ∃ σ3, sQ σ σ3 ∧ MF G ad M0 (sb (sy σ3 Z (pHO B tn) (pHA B tn)) b B) M) (fun x => [some (.ref (ad 0)), some (.int (nI tn)), some (.int f), some (.long (pYS B tn (pNow B / 4) 0)), none, some (.long (nL x.1)), none, some (.long (nL x.2)), none, none, none]) (fun x => x.2 - x.1) (0, 100000000) ⟨by decide, by decide, Or.inl rfl, hn0, _, fun _ _ => rfl, _, hs1, h⟩ (fun x M hx ih => ?_)
          obtain ⟨hx1, hx2, hx3, hx4, Z, hZ, σ3, hs3, h⟩ := hx
          refine x_lload C dX9_need_76 rfl ?_
          refine x_lload C dX9_need_78 rfl ?_
          refine x_lsub C dX9_need_80 ?_
          refine x_lconst (v := 1) C dX9_need_81 rfl ?_
          refine x_lcmp C dX9_need_82 ?_
          refine x_if_leL (tgt := 130) C dX9_need_83 rfl (fun c83 => ?_) (fun c83 => ?_)
          · -- 130
            have hle := (nL_le1 (by omega) (by omega)).mp c83
            have hx4' : ¬ pNd A B tn (pNow B / 4) f (x.2 - 1) := by rw [show x.2 - 1 = x.1 from by omega]; exact hx4
            refine x_lload C dX9_need_130 rfl ?_
            refine x_ldc2 C dX9_need_132 q2878 ?_
            refine x_lcmp C dX9_need_135 ?_
            refine x_if_neL (tgt := 144) C dX9_need_136 rfl (fun c136 => ?_) (fun c136 => ?_)
            · -- 144
              refine x_lload C dX9_need_144 rfl ?_
              refine x_l2i C dX9_need_146 ?_
              exact x_iret C dX9_need_147 ⟨Nat.le_refl _, Nat.le_refl _⟩ (gqp h hs3.y (by unfold qNeed; simp only [etn]; rw [if_pos b7, if_pos b21, if_pos c35]; exact Or.inr ⟨hn0, x.2, by omega, hx2, hx3, hx4', (by rw [if_neg (fun q => c136 ((nL_eq (by omega) (by omega)).mpr q)), nL_32 (by omega)])⟩))
            · -- 139
              refine x_bipush C dX9_need_139 kb_m2 ?_
              refine x_goto (tgt := 147) C dX9_need_141 rfl ?_
              exact x_iret C dX9_need_147 ⟨Nat.le_refl _, Nat.le_refl _⟩ (gqp h hs3.y (by unfold qNeed; simp only [etn]; rw [if_pos b7, if_pos b21, if_pos c35]; exact Or.inr ⟨hn0, x.2, by omega, hx2, hx3, hx4', (by rw [if_pos ((nL_eq (by omega) (by omega)).mp (c136.trans (show (100000000 : Int64) = nL 100000000 from rfl)))])⟩))
          · -- 86
            have hlt : 1 < x.2 - x.1 := by
              rcases Nat.lt_or_ge 1 (x.2 - x.1) with q | q
              · exact q
              · exact absurd ((nL_le1 (by omega) (by omega)).mpr q) c83
            refine x_lload C dX9_need_86 rfl ?_
            refine x_lload C dX9_need_88 rfl ?_
            refine x_ladd C dX9_need_90 ?_
            refine x_ldc2 C dX9_need_91 q2715 ?_
            refine x_ldiv C dX9_need_94 (by decide) ?_
            rw [nL_mid (by omega) (by omega)]
            refine x_lstore C dX9_need_95 (gs2_9 rfl) rfl ?_
            refine x_aload_n C dX9_need_97 rfl rfl ?_
            refine m_get C h 24 rfl q2433 rfl dX9_need_98 ?_
            refine x_iconst C dX9_need_101 kc_0 ?_
            refine x_lload_n C dX9_need_102 rfl rfl ?_
            refine x_lload C dX9_need_103 rfl ?_
            refine x_ladd C dX9_need_105 ?_
            refine m_last C h rfl (by omega) dX9_need_106 (fun M h => ?_)
            have h := MF.zs h
            rw [pNZ_u hZ] at h
            refine x_aload_n C dX9_need_107 rfl rfl ?_
            refine x_iload_n C dX9_need_108 rfl rfl ?_
            refine x_V1I C (met_X9_fraction l C.1 h.1 ((hs3.2.2 21 (by decide) (by decide)).trans hb) (hs3.1.trans hA) (by omega) (by omega) (sZ_nz B tn (pNow B / 4) _ (by omega))) mi_X9_fraction q2701 gcX9 h.1.1 ⟨rfl, rfl⟩ rfl ⟨Nat.le_refl _, Nat.le_refl _⟩ rfl dX9_need_109 (fun r M1 hr => ?_)
            obtain ⟨rfl, rfl⟩ := hr
            refine x_iload_n C dX9_need_112 rfl rfl ?_
            refine x_icmp_lt (tgt := 123) C dX9_need_113 rfl (fun c113 => ?_) (fun c113 => ?_)
            · -- 123
              refine x_lload C dX9_need_123 rfl ?_
              refine x_lstore C dX9_need_125 (gs2_5 rfl) rfl ?_
              refine x_goto (tgt := 76) C dX9_need_127 rfl ?_
              exact x_wk [true, true, true, true, true, true, true, true, true, false, true] rfl (ih (((x.1 + x.2) / 2), x.2) _ (by show x.2 - (x.1 + x.2) / 2 < x.2 - x.1; omega) ⟨by show (x.1 + x.2) / 2 < x.2; omega, hx2, hx3, (by intro q; exact q c113), _, (fun k hk => pNZ_ne hk), _, hs3, h⟩)
            · -- 116
              refine x_lload C dX9_need_116 rfl ?_
              refine x_lstore C dX9_need_118 (gs2_7 rfl) rfl ?_
              refine x_goto (tgt := 127) C dX9_need_120 rfl ?_
              refine x_goto (tgt := 76) C dX9_need_127 rfl ?_
              exact x_wk [true, true, true, true, true, true, true, true, true, false, true] rfl (ih (x.1, ((x.1 + x.2) / 2)) _ (by show (x.1 + x.2) / 2 - x.1 < x.2 - x.1; omega) ⟨by show x.1 < (x.1 + x.2) / 2; omega, by show (x.1 + x.2) / 2 ≤ _; omega, Or.inr (by intro q; exact c113 q), hx4, _, (fun k hk => pNZ_ne hk), _, hs3, h⟩)
        · -- 66
          refine x_iconst C dX9_need_66 kc_0 ?_
          exact x_iret C dX9_need_67 ⟨Nat.le_refl _, Nat.le_refl _⟩ (gqp h (by first | exact hs1 | exact hs1.y | exact hs1.y7 | exact hs1.yy7) (by unfold qNeed; simp only [etn]; rw [if_pos b7, if_pos b21, if_pos c35]; exact Or.inl ⟨(by unfold pNd; rw [pNZ_0]; exact c63), rfl⟩))
      · -- 38
        refine x_bipush C dX9_need_38 kb_m2 ?_
        exact x_iret C dX9_need_40 ⟨Nat.le_refl _, Nat.le_refl _⟩ (gqp h (by first | exact hs1 | exact hs1.y | exact hs1.y7 | exact hs1.yy7) (by unfold qNeed; simp only [etn]; rw [if_pos b7, if_pos b21, if_neg c35]; first | done | trivial))
    · -- false
      refine x_if_neF (tgt := 29) C (by decide) dX9_need_24 rfl ?_
      refine x_iconst C dX9_need_27 kc_m1 ?_
      exact x_iret C dX9_need_28 ⟨Nat.le_refl _, Nat.le_refl _⟩ (gqp h (by first | exact hs1 | exact hs1.y | exact hs1.y7 | exact hs1.yy7) (by unfold qNeed; simp only [etn]; rw [if_pos b7, if_neg b21]; first | done | trivial))
  · -- false
    refine x_if_eqT (tgt := 27) C (by decide) dX9_need_10 rfl ?_
    refine x_iconst C dX9_need_27 kc_m1 ?_
    exact x_iret C dX9_need_28 ⟨Nat.le_refl _, Nat.le_refl _⟩ (gqp h (by first | exact hs1 | exact hs1.y | exact hs1.y7 | exact hs1.yy7) (by unfold qNeed; rw [if_neg b7]; first | done | trivial))
