set_option maxRecDepth 100000
theorem mi_X9_bestMethod : gMV RX9 yX9_bestMethod cX9_bestMethod 7 (some .int) 2 := ⟨q2847, q2848, q165, q2849, by decide +kernel⟩
set_option maxHeartbeats 4000000 in
set_option maxRecDepth 100000 in
theorem met_X9_bestMethod (l : Launch) {G : gG} (hG : gOK G) {ad : Nat → Nat} {σ : mS} {M0 : gM} {b : Nat} {B : Nat → Int32} {t y : Int32} {A : Nat → Nat → Int32} {T : Nat} (h : MR G ad (sb σ b B) M0) (hb : mI σ 21 = nI b) (hA : mA σ = A) (hT : mI σ 11 = nI T) (hb0_ : b < 23) (hw : wT T A) (hB : wB T B) : Met l yX9_bestMethod (ws_ yX9_bestMethod cX9_bestMethod 7 (some .int)) ({ frames := 4, cells := 0, slots := 0, locals := 101 }) (gPre G M0 [.ref (ad 0), .int (t), .int (y)]) (gQ G (gI (fun r M1 => ∃ σ', sQ σ σ' ∧ MF G ad M0 (sb σ' b B) M1 ∧ qBM A T B t y = r))) 0 0 (gA G) := by
  refine gMet (L0 := [some (.ref (ad 0)), some (.int (t)), some (.int (y)), none, none, none, none]) RX9 hG (by decide +kernel) rfl (Nat.le_of_ble_eq_true rfl) rfl ?_
  intro p e s m args below meth c C hnm
  have h := MF.rf h
  have hT4 := hw.T4
  have hnw : B 0 = nI (pNow B) := hB.now.1
  have hnow : pNow B ≤ 63 := hB.now.2
  have hna : B 1865 = nI (dN (B 1865)) := hB.na.1
  have hna8 : dN (B 1865) ≤ 8 := hB.na.2
  have hkp : B 1867 = nI (dN (B 1867)) := hB.kept.1
  have hkp40 : dN (B 1867) ≤ 40 := hB.kept.2
  refine x_aload_n C dX9_bestMethod_0 rfl rfl ?_
  refine x_iconst C dX9_bestMethod_1 kc_0 ?_
  refine m_put C h 2 rfl q2411 rfl rfl rfl rfl dX9_bestMethod_2 (fun M h => ?_)
  obtain ⟨σ1, hs1, h⟩ : ∃ σ', sQ σ σ' ∧ MF G ad M0 (sb σ' b B) M := ⟨_, sQ.p2, h⟩
  refine x_aload_n C dX9_bestMethod_5 rfl rfl ?_
  refine x_iload_n C dX9_bestMethod_6 rfl rfl ?_
  refine x_V1I C (met_X9_isTrader l C.1 h.1 ((hs1.2.2 11 (by decide) (by decide)).trans hT)) mi_X9_isTrader q2613 gcX9 h.1.1 ⟨rfl, rfl⟩ rfl ⟨Nat.le_refl _, Nat.le_refl _⟩ rfl dX9_bestMethod_7 (fun r M1 hr => ?_)
  rcases hr with ⟨rfl, rfl, b7⟩ | ⟨rfl, rfl, b7⟩
  · -- true
    obtain ⟨tn, rfl, hltn⟩ := iT.ex b7 (by omega)
    have etn : dN (nI tn) = tn := dN_nI (by omega)
    refine x_if_eqF (tgt := 23) C (by decide) dX9_bestMethod_10 rfl ?_
    refine x_iload_n C dX9_bestMethod_13 rfl rfl ?_
    refine x_iconst C dX9_bestMethod_14 kc_0 ?_
    refine x_bipush C dX9_bestMethod_15 kb_15 ?_
    refine x_S3I C (met_X9_isIn l C.1) mi_X9_isIn q2550 ⟨rfl, rfl⟩ rfl ⟨Nat.le_refl _, Nat.le_refl _⟩ rfl dX9_bestMethod_17 (fun r M1 hr => ?_)
    rcases hr with ⟨rfl, rfl, b17⟩ | ⟨rfl, rfl, b17⟩
    · -- true
      obtain ⟨yn, rfl, hlyn, hhyn⟩ := iI.ex b17 (by omega) (by omega)
      have eyn : dN (nI yn) = yn := dN_nI (by omega)
      refine x_if_neT (tgt := 25) C (by decide) dX9_bestMethod_20 rfl ?_
      refine x_iload_n C dX9_bestMethod_25 rfl rfl ?_
      refine x_aload_n C dX9_bestMethod_26 rfl rfl ?_
      refine x_V0I C (met_X9_year l C.1 h.1 ((hs1.2.2 21 (by decide) (by decide)).trans hb) hnw (by omega) (by omega)) mi_X9_year q2629 gcX9 h.1.1 ⟨rfl, rfl⟩ rfl ⟨Nat.le_refl _, Nat.le_refl _⟩ rfl dX9_bestMethod_27 (fun r M1 hr => ?_)
      obtain ⟨rfl, rfl⟩ := hr
      refine x_icmp_leN (tgt := 36) C (by omega) (by omega) dX9_bestMethod_30 rfl (fun c30 => ?_) (fun c30 => ?_)
      · -- 36
        refine x_iconst C dX9_bestMethod_36 kc_0 ?_
        refine x_istore_n C dX9_bestMethod_37 rfl (gs1_3 rfl) rfl ?_
        refine x_iconst C dX9_bestMethod_38 kc_0 ?_
        refine x_istore C dX9_bestMethod_39 (gs1_4 rfl) rfl ?_
        refine x_aload_n C dX9_bestMethod_41 rfl rfl ?_
        refine x_iload_n C dX9_bestMethod_42 rfl rfl ?_
        refine x_iload_n C dX9_bestMethod_43 rfl rfl ?_
        refine x_V2V C (met_X9_layYear l C.1 h.1 ((hs1.2.2 21 (by decide) (by decide)).trans hb) (by omega) (by omega) (by omega)) mi_X9_layYear q2736 gcX9 h.1.1 ⟨rfl, rfl⟩ rfl ⟨Nat.le_refl _, Nat.le_refl _⟩ rfl dX9_bestMethod_44 (fun M1 hr => ?_)
        have h := h.tr hr
        refine x_iconst C dX9_bestMethod_47 kc_0 ?_
        refine x_istore C dX9_bestMethod_48 (gs1_5 rfl) rfl ?_
        refine x_loopS (head := 50) (E := 3) (α := Int32) (β := Int32) 0 (by omega) (fun i bs ms M => bs = (pTop (nI 0) nI (fBM A B tn yn) i).1 ∧ ms = (pTop (nI 0) nI (fBM A B tn yn) i).2 ∧ (i = 0 → bs = (nI 0)) ∧ (0 < i → 0 ≤ bs) ∧ ∃ σ2, sQ σ σ2 ∧ MF G ad M0 (sb (sy σ2 (pYS B tn yn) (pHO B tn) (pHA B tn)) b B) M) (fun i bs ms => [some (.ref (ad 0)), some (.int (nI tn)), some (.int (nI yn)), some (.int bs), some (.int ms), some (.int (nI i)), none]) (nI 0) (nI 0) ⟨rfl, rfl, fun _ => rfl, fun q => absurd q (by omega), _, (by first | exact hs1 | exact hs1.y | exact hs1.y7 | exact hs1.yy7), h⟩ (fun i bs ms M ha hi h ih => ?_)
        obtain ⟨eb, em, e0, e1, σ2, hs2, h⟩ := h
        have hs1 := hs2
        refine x_iload C dX9_bestMethod_50 rfl ?_
        refine x_iconst C dX9_bestMethod_52 kc_3 ?_
        refine x_icmp_geN (tgt := 132) C (by omega) (by omega) dX9_bestMethod_53 rfl (fun c53 => ?_) (fun c53 => ?_)
        · -- 132
          obtain rfl : i = 3 := by omega
          refine x_iload_n C dX9_bestMethod_132 rfl rfl ?_
          exact x_iret C dX9_bestMethod_133 ⟨Nat.le_refl _, Nat.le_refl _⟩ (gq h (by first | exact hs2.y | exact hs2.y7 | exact hs2.yy7 | exact hs2.s7 | exact hs2) (by unfold qBM; simp only [etn, eyn]; rw [if_pos b7, if_pos b17, if_pos c30]; exact eb.symm))
        · -- 56
          refine x_aload_n C dX9_bestMethod_56 rfl rfl ?_
          refine x_aload_n C dX9_bestMethod_57 rfl rfl ?_
          refine x_iload C dX9_bestMethod_58 rfl ?_
          refine x_aload_n C dX9_bestMethod_60 rfl rfl ?_
          refine m_get C h 17 rfl q2426 rfl dX9_bestMethod_61 ?_
          refine x_iconst C dX9_bestMethod_64 kc_0 ?_
          refine m_ald C h 6 (N := 14) (by decide) rfl rfl (by omega) (congrFun (congrFun (hs2.1.trans hA) 6) _) dX9_bestMethod_65 ?_
          refine x_aload_n C dX9_bestMethod_66 rfl rfl ?_
          refine m_get C h 17 rfl q2426 rfl dX9_bestMethod_67 ?_
          refine x_iconst C dX9_bestMethod_70 kc_1 ?_
          refine m_ald C h 6 (N := 14) (by decide) rfl rfl (by omega) (congrFun (congrFun (hs2.1.trans hA) 6) _) dX9_bestMethod_71 ?_
          refine x_V3I C (met_X9_fractionBy l C.1 h.1 ((hs2.2.2 21 (by decide) (by decide)).trans hb) (by omega) (sZ_y _ _ _)) mi_X9_fractionBy q2705 gcX9 h.1.1 ⟨rfl, rfl⟩ rfl ⟨Nat.le_refl _, Nat.le_refl _⟩ rfl dX9_bestMethod_72 (fun r M1 hr => ?_)
          obtain ⟨rfl, rfl⟩ := hr
          refine x_aload_n C dX9_bestMethod_75 rfl rfl ?_
          refine m_get C h 17 rfl q2426 rfl dX9_bestMethod_76 ?_
          refine x_iconst C dX9_bestMethod_79 kc_2 ?_
          refine m_ald C h 6 (N := 14) (by decide) rfl rfl (by omega) (congrFun (congrFun (hs2.1.trans hA) 6) _) dX9_bestMethod_80 ?_
          refine x_V2I C (met_X9_back1 l C.1 h.1 ((hs2.2.2 21 (by decide) (by decide)).trans hb) (hs2.1.trans hA) (by omega) hw.step hw.step10) mi_X9_back1 q2720 gcX9 h.1.1 ⟨rfl, rfl⟩ rfl ⟨Nat.le_refl _, Nat.le_refl _⟩ rfl dX9_bestMethod_81 (fun r M1 hr => ?_)
          obtain ⟨rfl, hr⟩ := hr
          have h := h.tr hr
          refine x_istore C dX9_bestMethod_84 (gs1_6 rfl) rfl ?_
          refine x_iload C dX9_bestMethod_86 rfl ?_
          refine x_if_eqN (tgt := 98) C (by omega) dX9_bestMethod_88 rfl (fun c88 => ?_) (fun c88 => ?_)
          · -- 98
            refine x_iload C dX9_bestMethod_98 rfl ?_
            refine x_goto (tgt := 104) C dX9_bestMethod_100 rfl ?_
            refine x_istore_n C dX9_bestMethod_104 rfl (gs1_3 rfl) rfl ?_
            refine x_iload C dX9_bestMethod_105 rfl ?_
            refine x_if_eqN (tgt := 117) C (by omega) dX9_bestMethod_107 rfl (fun _ => ?_) (fun _ => by exfalso; omega)
            refine x_iload C dX9_bestMethod_117 rfl ?_
            refine x_goto (tgt := 124) C dX9_bestMethod_119 rfl ?_
            refine x_istore C dX9_bestMethod_124 (gs1_4 rfl) rfl ?_
            refine x_iincN C dX9_bestMethod_126 rfl (gs1_5 rfl) rfl ?_
            refine x_goto (tgt := 50) C dX9_bestMethod_129 rfl ?_
            exact x_wk [true, true, true, true, true, true, false] rfl (ih (by omega) _ _ _ ⟨by rw [pTop_y em (Or.inl (by omega))] <;> rfl, by rw [pTop_y em (Or.inl (by omega))] <;> rfl, fun q => by omega, fun _ => nI_pos' (by omega), _, (by first | exact hs2.y | exact hs2.y7 | exact hs2.yy7 | exact hs2.s7 | exact hs2), h⟩)
          · -- 91
            refine x_iload C dX9_bestMethod_91 rfl ?_
            refine x_iload C dX9_bestMethod_93 rfl ?_
            refine x_icmp_le (tgt := 103) C dX9_bestMethod_95 rfl (fun c95 => ?_) (fun c95 => ?_)
            · -- 103
              refine x_iload_n C dX9_bestMethod_103 rfl rfl ?_
              refine x_istore_n C dX9_bestMethod_104 rfl (gs1_3 rfl) rfl ?_
              refine x_iload C dX9_bestMethod_105 rfl ?_
              refine x_if_eqN (tgt := 117) C (by omega) dX9_bestMethod_107 rfl (fun _ => by exfalso; omega) (fun _ => ?_)
              refine x_iload C dX9_bestMethod_110 rfl ?_
              refine x_iload C dX9_bestMethod_112 rfl ?_
              refine x_icmp_leT (tgt := 122) C (c95) dX9_bestMethod_114 rfl ?_
              refine x_iload C dX9_bestMethod_122 rfl ?_
              refine x_istore C dX9_bestMethod_124 (gs1_4 rfl) rfl ?_
              refine x_iincN C dX9_bestMethod_126 rfl (gs1_5 rfl) rfl ?_
              refine x_goto (tgt := 50) C dX9_bestMethod_129 rfl ?_
              exact x_wk [true, true, true, true, true, true, false] rfl (ih (by omega) _ _ _ ⟨by rw [pTop_n em (by omega) (Int32.not_lt.mpr c95)]; exact eb, by rw [pTop_n em (by omega) (Int32.not_lt.mpr c95)]; exact em, fun q => by omega, fun _ => e1 (Nat.pos_of_ne_zero (by omega)), _, (by first | exact hs2.y | exact hs2.y7 | exact hs2.yy7 | exact hs2.s7 | exact hs2), h⟩)
            · -- 98
              refine x_iload C dX9_bestMethod_98 rfl ?_
              refine x_goto (tgt := 104) C dX9_bestMethod_100 rfl ?_
              refine x_istore_n C dX9_bestMethod_104 rfl (gs1_3 rfl) rfl ?_
              refine x_iload C dX9_bestMethod_105 rfl ?_
              refine x_if_eqN (tgt := 117) C (by omega) dX9_bestMethod_107 rfl (fun _ => by exfalso; omega) (fun _ => ?_)
              refine x_iload C dX9_bestMethod_110 rfl ?_
              refine x_iload C dX9_bestMethod_112 rfl ?_
              refine x_icmp_leF (tgt := 122) C (c95) dX9_bestMethod_114 rfl ?_
              refine x_iload C dX9_bestMethod_117 rfl ?_
              refine x_goto (tgt := 124) C dX9_bestMethod_119 rfl ?_
              refine x_istore C dX9_bestMethod_124 (gs1_4 rfl) rfl ?_
              refine x_iincN C dX9_bestMethod_126 rfl (gs1_5 rfl) rfl ?_
              refine x_goto (tgt := 50) C dX9_bestMethod_129 rfl ?_
              exact x_wk [true, true, true, true, true, true, false] rfl (ih (by omega) _ _ _ ⟨by rw [pTop_y em (Or.inr (Int32.not_le.mp c95))] <;> rfl, by rw [pTop_y em (Or.inr (Int32.not_le.mp c95))] <;> rfl, fun q => by omega, fun _ => nI_pos' (by omega), _, (by first | exact hs2.y | exact hs2.y7 | exact hs2.yy7 | exact hs2.s7 | exact hs2), h⟩)
      · -- 33
        refine x_bipush C dX9_bestMethod_33 kb_m2 ?_
        exact x_iret C dX9_bestMethod_35 ⟨Nat.le_refl _, Nat.le_refl _⟩ (gq h (by first | exact hs1 | exact hs1.y | exact hs1.y7 | exact hs1.yy7) (by unfold qBM; simp only [etn, eyn]; rw [if_pos b7, if_pos b17, if_neg (by omega)]; first | done | assumption | rfl))
    · -- false
      refine x_if_neF (tgt := 25) C (by decide) dX9_bestMethod_20 rfl ?_
      refine x_iconst C dX9_bestMethod_23 kc_m1 ?_
      exact x_iret C dX9_bestMethod_24 ⟨Nat.le_refl _, Nat.le_refl _⟩ (gq h (by first | exact hs1 | exact hs1.y | exact hs1.y7 | exact hs1.yy7) (by unfold qBM; simp only [etn]; rw [if_pos b7, if_neg b17]; first | done | assumption | rfl))
  · -- false
    refine x_if_eqT (tgt := 23) C (by decide) dX9_bestMethod_10 rfl ?_
    refine x_iconst C dX9_bestMethod_23 kc_m1 ?_
    exact x_iret C dX9_bestMethod_24 ⟨Nat.le_refl _, Nat.le_refl _⟩ (gq h (by first | exact hs1 | exact hs1.y | exact hs1.y7 | exact hs1.yy7) (by unfold qBM; rw [if_neg b7]; first | done | assumption | rfl))
theorem mi_X9_bestStep : gMV RX9 yX9_bestStep cX9_bestStep 7 (some .int) 2 := ⟨q2851, q2852, q165, q2853, by decide +kernel⟩
set_option maxHeartbeats 4000000 in
set_option maxRecDepth 100000 in
theorem met_X9_bestStep (l : Launch) {G : gG} (hG : gOK G) {ad : Nat → Nat} {σ : mS} {M0 : gM} {b : Nat} {B : Nat → Int32} {t y : Int32} {A : Nat → Nat → Int32} {T : Nat} (h : MR G ad (sb σ b B) M0) (hb : mI σ 21 = nI b) (hA : mA σ = A) (hT : mI σ 11 = nI T) (hb0_ : b < 23) (hw : wT T A) (hB : wB T B) : Met l yX9_bestStep (ws_ yX9_bestStep cX9_bestStep 7 (some .int)) ({ frames := 3, cells := 0, slots := 0, locals := 79 }) (gPre G M0 [.ref (ad 0), .int (t), .int (y)]) (gQ G (gI (fun r M1 => ∃ σ', sQ σ σ' ∧ MF G ad M0 (sb σ' b B) M1 ∧ qBS A T B t y = r))) 0 0 (gA G) := by
  refine gMet (L0 := [some (.ref (ad 0)), some (.int (t)), some (.int (y)), none, none, none, none]) RX9 hG (by decide +kernel) rfl (Nat.le_of_ble_eq_true rfl) rfl ?_
  intro p e s m args below meth c C hnm
  have h := MF.rf h
  have hT4 := hw.T4
  have hnw : B 0 = nI (pNow B) := hB.now.1
  have hnow : pNow B ≤ 63 := hB.now.2
  have hna : B 1865 = nI (dN (B 1865)) := hB.na.1
  have hna8 : dN (B 1865) ≤ 8 := hB.na.2
  have hkp : B 1867 = nI (dN (B 1867)) := hB.kept.1
  have hkp40 : dN (B 1867) ≤ 40 := hB.kept.2
  refine x_aload_n C dX9_bestStep_0 rfl rfl ?_
  refine x_iconst C dX9_bestStep_1 kc_0 ?_
  refine m_put C h 2 rfl q2411 rfl rfl rfl rfl dX9_bestStep_2 (fun M h => ?_)
  obtain ⟨σ1, hs1, h⟩ : ∃ σ', sQ σ σ' ∧ MF G ad M0 (sb σ' b B) M := ⟨_, sQ.p2, h⟩
  refine x_aload_n C dX9_bestStep_5 rfl rfl ?_
  refine x_iload_n C dX9_bestStep_6 rfl rfl ?_
  refine x_V1I C (met_X9_isTrader l C.1 h.1 ((hs1.2.2 11 (by decide) (by decide)).trans hT)) mi_X9_isTrader q2613 gcX9 h.1.1 ⟨rfl, rfl⟩ rfl ⟨Nat.le_refl _, Nat.le_refl _⟩ rfl dX9_bestStep_7 (fun r M1 hr => ?_)
  rcases hr with ⟨rfl, rfl, b7⟩ | ⟨rfl, rfl, b7⟩
  · -- true
    obtain ⟨tn, rfl, hltn⟩ := iT.ex b7 (by omega)
    have etn : dN (nI tn) = tn := dN_nI (by omega)
    refine x_if_eqF (tgt := 23) C (by decide) dX9_bestStep_10 rfl ?_
    refine x_iload_n C dX9_bestStep_13 rfl rfl ?_
    refine x_iconst C dX9_bestStep_14 kc_0 ?_
    refine x_bipush C dX9_bestStep_15 kb_15 ?_
    refine x_S3I C (met_X9_isIn l C.1) mi_X9_isIn q2550 ⟨rfl, rfl⟩ rfl ⟨Nat.le_refl _, Nat.le_refl _⟩ rfl dX9_bestStep_17 (fun r M1 hr => ?_)
    rcases hr with ⟨rfl, rfl, b17⟩ | ⟨rfl, rfl, b17⟩
    · -- true
      obtain ⟨yn, rfl, hlyn, hhyn⟩ := iI.ex b17 (by omega) (by omega)
      have eyn : dN (nI yn) = yn := dN_nI (by omega)
      refine x_if_neT (tgt := 25) C (by decide) dX9_bestStep_20 rfl ?_
      refine x_iload_n C dX9_bestStep_25 rfl rfl ?_
      refine x_aload_n C dX9_bestStep_26 rfl rfl ?_
      refine x_V0I C (met_X9_year l C.1 h.1 ((hs1.2.2 21 (by decide) (by decide)).trans hb) hnw (by omega) (by omega)) mi_X9_year q2629 gcX9 h.1.1 ⟨rfl, rfl⟩ rfl ⟨Nat.le_refl _, Nat.le_refl _⟩ rfl dX9_bestStep_27 (fun r M1 hr => ?_)
      obtain ⟨rfl, rfl⟩ := hr
      refine x_icmp_leN (tgt := 36) C (by omega) (by omega) dX9_bestStep_30 rfl (fun c30 => ?_) (fun c30 => ?_)
      · -- 36
        refine x_iconst C dX9_bestStep_36 kc_0 ?_
        refine x_istore_n C dX9_bestStep_37 rfl (gs1_3 rfl) rfl ?_
        refine x_iconst C dX9_bestStep_38 kc_0 ?_
        refine x_istore C dX9_bestStep_39 (gs1_4 rfl) rfl ?_
        refine x_aload_n C dX9_bestStep_41 rfl rfl ?_
        refine x_iload_n C dX9_bestStep_42 rfl rfl ?_
        refine x_iload_n C dX9_bestStep_43 rfl rfl ?_
        refine x_V2V C (met_X9_layYear l C.1 h.1 ((hs1.2.2 21 (by decide) (by decide)).trans hb) (by omega) (by omega) (by omega)) mi_X9_layYear q2736 gcX9 h.1.1 ⟨rfl, rfl⟩ rfl ⟨Nat.le_refl _, Nat.le_refl _⟩ rfl dX9_bestStep_44 (fun M1 hr => ?_)
        have h := h.tr hr
        refine x_bipush C dX9_bestStep_47 kb_10 ?_
        refine x_istore C dX9_bestStep_49 (gs1_5 rfl) rfl ?_
        refine x_loopS (head := 51) (E := 991) (α := Int32) (β := Int32) 0 (by omega) (fun i bs ms M => bs = (pTop (nI 0) (fun k => nI (10 + k)) (fBS A B tn yn) i).1 ∧ ms = (pTop (nI 0) (fun k => nI (10 + k)) (fBS A B tn yn) i).2 ∧ (i = 0 → bs = (nI 0)) ∧ (0 < i → 0 < bs) ∧ ∃ σ2, sQ σ σ2 ∧ MF G ad M0 (sb (sy σ2 (pYS B tn yn) (pHO B tn) (pHA B tn)) b B) M) (fun i bs ms => [some (.ref (ad 0)), some (.int (nI tn)), some (.int (nI yn)), some (.int bs), some (.int ms), some (.int (nI (10 + i))), none]) (nI 0) (nI 0) ⟨rfl, rfl, fun _ => rfl, fun q => absurd q (by omega), _, (by first | exact hs1 | exact hs1.y | exact hs1.y7 | exact hs1.yy7), h⟩ (fun i bs ms M ha hi h ih => ?_)
        obtain ⟨eb, em, e0, e1, σ2, hs2, h⟩ := h
        have hs1 := hs2
        refine x_iload C dX9_bestStep_51 rfl ?_
        refine x_sipush C dX9_bestStep_53 ks_1000 ?_
        refine x_icmp_gtN (tgt := 124) C (by omega) (by omega) dX9_bestStep_56 rfl (fun c56 => ?_) (fun c56 => ?_)
        · -- 124
          obtain rfl : i = 991 := by omega
          refine x_iload_n C dX9_bestStep_124 rfl rfl ?_
          exact x_iret C dX9_bestStep_125 ⟨Nat.le_refl _, Nat.le_refl _⟩ (gq h (by first | exact hs2.y | exact hs2.y7 | exact hs2.yy7 | exact hs2.s7 | exact hs2) (by unfold qBS; simp only [etn, eyn]; rw [if_pos b7, if_pos b17, if_pos c30]; exact eb.symm))
        · -- 59
          refine x_aload_n C dX9_bestStep_59 rfl rfl ?_
          refine x_aload_n C dX9_bestStep_60 rfl rfl ?_
          refine x_aload_n C dX9_bestStep_61 rfl rfl ?_
          refine x_iload_n C dX9_bestStep_62 rfl rfl ?_
          refine x_iconst C dX9_bestStep_63 kc_1 ?_
          refine x_V2I C (met_X9_told1 l C.1 h.1 (hs2.1.trans hA) (by omega)) mi_X9_told1 q2381 gcX9 h.1.1 ⟨rfl, rfl⟩ rfl ⟨Nat.le_refl _, Nat.le_refl _⟩ rfl dX9_bestStep_64 (fun r M1 hr => ?_)
          obtain ⟨rfl, rfl⟩ := hr
          refine x_aload_n C dX9_bestStep_67 rfl rfl ?_
          refine m_get C h 17 rfl q2426 rfl dX9_bestStep_68 ?_
          refine x_iconst C dX9_bestStep_71 kc_0 ?_
          refine m_ald C h 6 (N := 14) (by decide) rfl rfl (by omega) (congrFun (congrFun (hs2.1.trans hA) 6) _) dX9_bestStep_72 ?_
          refine x_iload C dX9_bestStep_73 rfl ?_
          refine x_V3I C (met_X9_fractionBy l C.1 h.1 ((hs2.2.2 21 (by decide) (by decide)).trans hb) (by omega) (sZ_y _ _ _)) mi_X9_fractionBy q2705 gcX9 h.1.1 ⟨rfl, rfl⟩ rfl ⟨Nat.le_refl _, Nat.le_refl _⟩ rfl dX9_bestStep_75 (fun r M1 hr => ?_)
          obtain ⟨rfl, rfl⟩ := hr
          refine x_aload_n C dX9_bestStep_78 rfl rfl ?_
          refine m_get C h 17 rfl q2426 rfl dX9_bestStep_79 ?_
          refine x_iconst C dX9_bestStep_82 kc_0 ?_
          refine m_ald C h 6 (N := 14) (by decide) rfl rfl (by omega) (congrFun (congrFun (hs2.1.trans hA) 6) _) dX9_bestStep_83 ?_
          refine x_iload C dX9_bestStep_84 rfl ?_
          refine x_aload_n C dX9_bestStep_86 rfl rfl ?_
          refine m_get C h 17 rfl q2426 rfl dX9_bestStep_87 ?_
          refine x_iconst C dX9_bestStep_90 kc_2 ?_
          refine m_ald C h 6 (N := 14) (by decide) rfl rfl (by omega) (congrFun (congrFun (hs2.1.trans hA) 6) _) dX9_bestStep_91 ?_
          refine x_V4I C (met_X9_backBy l C.1 h.1 ((hs2.2.2 21 (by decide) (by decide)).trans hb) (by omega) (isN.nI (show 10 + i ≤ 1000 by omega) (by omega)) (by rw [dN_nI (by omega)]; omega)) mi_X9_backBy q2724 gcX9 h.1.1 ⟨rfl, rfl⟩ rfl ⟨Nat.le_refl _, Nat.le_refl _⟩ rfl dX9_bestStep_92 (fun r M1 hr => ?_)
          obtain ⟨rfl, hr⟩ := hr
          have h := h.tr hr
          refine x_istore C dX9_bestStep_95 (gs1_6 rfl) rfl ?_
          refine x_iload_n C dX9_bestStep_97 rfl rfl ?_
          refine x_if_le (tgt := 111) C dX9_bestStep_98 rfl (fun c98 => ?_) (fun c98 => ?_)
          · -- 111
            refine x_iload C dX9_bestStep_111 rfl ?_
            refine x_istore_n C dX9_bestStep_113 rfl (gs1_3 rfl) rfl ?_
            refine x_iload C dX9_bestStep_114 rfl ?_
            refine x_istore C dX9_bestStep_116 (gs1_4 rfl) rfl ?_
            refine x_iincN C dX9_bestStep_118 rfl (gs1_5 rfl) rfl ?_
            refine x_goto (tgt := 51) C dX9_bestStep_121 rfl ?_
            exact x_wk [true, true, true, true, true, true, false] rfl (ih (by omega) _ _ _ ⟨by rw [pTop_y em (Or.inl (Nat.eq_zero_of_not_pos (fun q => Int32.not_le.mpr (e1 q) c98)))] <;> rfl, by rw [pTop_y em (Or.inl (Nat.eq_zero_of_not_pos (fun q => Int32.not_le.mpr (e1 q) c98)))] <;> rfl, fun q => by omega, fun _ => nI_gt0 (by omega) (by omega), _, (by first | exact hs2.y | exact hs2.y7 | exact hs2.yy7 | exact hs2.s7 | exact hs2), h⟩)
          · -- 101
            refine x_iload C dX9_bestStep_101 rfl ?_
            refine x_iload C dX9_bestStep_103 rfl ?_
            refine x_icmp_gt (tgt := 111) C dX9_bestStep_105 rfl (fun c105 => ?_) (fun c105 => ?_)
            · -- 111
              refine x_iload C dX9_bestStep_111 rfl ?_
              refine x_istore_n C dX9_bestStep_113 rfl (gs1_3 rfl) rfl ?_
              refine x_iload C dX9_bestStep_114 rfl ?_
              refine x_istore C dX9_bestStep_116 (gs1_4 rfl) rfl ?_
              refine x_iincN C dX9_bestStep_118 rfl (gs1_5 rfl) rfl ?_
              refine x_goto (tgt := 51) C dX9_bestStep_121 rfl ?_
              exact x_wk [true, true, true, true, true, true, false] rfl (ih (by omega) _ _ _ ⟨by rw [pTop_y em (Or.inr c105)] <;> rfl, by rw [pTop_y em (Or.inr c105)] <;> rfl, fun q => by omega, fun _ => nI_gt0 (by omega) (by omega), _, (by first | exact hs2.y | exact hs2.y7 | exact hs2.yy7 | exact hs2.s7 | exact hs2), h⟩)
            · -- 108
              refine x_goto (tgt := 118) C dX9_bestStep_108 rfl ?_
              refine x_iincN C dX9_bestStep_118 rfl (gs1_5 rfl) rfl ?_
              refine x_goto (tgt := 51) C dX9_bestStep_121 rfl ?_
              exact x_wk [true, true, true, true, true, true, false] rfl (ih (by omega) _ _ _ ⟨by rw [pTop_n em (fun q => c98 (by rw [e0 q]; decide +kernel)) c105]; exact eb, by rw [pTop_n em (fun q => c98 (by rw [e0 q]; decide +kernel)) c105]; exact em, fun q => by omega, fun _ => e1 (Nat.pos_of_ne_zero (fun q => c98 (by rw [e0 q]; decide +kernel))), _, (by first | exact hs2.y | exact hs2.y7 | exact hs2.yy7 | exact hs2.s7 | exact hs2), h⟩)
      · -- 33
        refine x_bipush C dX9_bestStep_33 kb_m2 ?_
        exact x_iret C dX9_bestStep_35 ⟨Nat.le_refl _, Nat.le_refl _⟩ (gq h (by first | exact hs1 | exact hs1.y | exact hs1.y7 | exact hs1.yy7) (by unfold qBS; simp only [etn, eyn]; rw [if_pos b7, if_pos b17, if_neg (by omega)]; first | done | assumption | rfl))
    · -- false
      refine x_if_neF (tgt := 25) C (by decide) dX9_bestStep_20 rfl ?_
      refine x_iconst C dX9_bestStep_23 kc_m1 ?_
      exact x_iret C dX9_bestStep_24 ⟨Nat.le_refl _, Nat.le_refl _⟩ (gq h (by first | exact hs1 | exact hs1.y | exact hs1.y7 | exact hs1.yy7) (by unfold qBS; simp only [etn]; rw [if_pos b7, if_neg b17]; first | done | assumption | rfl))
  · -- false
    refine x_if_eqT (tgt := 23) C (by decide) dX9_bestStep_10 rfl ?_
    refine x_iconst C dX9_bestStep_23 kc_m1 ?_
    exact x_iret C dX9_bestStep_24 ⟨Nat.le_refl _, Nat.le_refl _⟩ (gq h (by first | exact hs1 | exact hs1.y | exact hs1.y7 | exact hs1.yy7) (by unfold qBS; rw [if_neg b7]; first | done | assumption | rfl))
theorem mi_X9_leader : gMV RX9 yX9_leader cX9_leader 6 (some .int) 1 := ⟨q2867, q2868, q165, q2869, by decide +kernel⟩
set_option maxHeartbeats 4000000 in
set_option maxRecDepth 100000 in
theorem met_X9_leader (l : Launch) {G : gG} (hG : gOK G) {ad : Nat → Nat} {σ : mS} {M0 : gM} {b : Nat} {B : Nat → Int32} {y : Int32} {A : Nat → Nat → Int32} {T : Nat} (h : MR G ad (sb σ b B) M0) (hb : mI σ 21 = nI b) (hA : mA σ = A) (hT : mI σ 11 = nI T) (hb0_ : b < 23) (hw : wT T A) (hB : wB T B) : Met l yX9_leader (ws_ yX9_leader cX9_leader 6 (some .int)) ({ frames := 6, cells := 0, slots := 0, locals := 141 }) (gPre G M0 [.ref (ad 0), .int (y)]) (gQ G (gI (fun r M1 => ∃ σ', sQ σ σ' ∧ MF G ad M0 (sb σ' b B) M1 ∧ qLd A T B y = r))) 0 0 (gA G) := by
  refine gMet (L0 := [some (.ref (ad 0)), some (.int (y)), none, none, none, none]) RX9 hG (by decide +kernel) rfl (Nat.le_of_ble_eq_true rfl) rfl ?_
  intro p e s m args below meth c C hnm
  have h := MF.rf h
  have hT4 := hw.T4
  have hnw : B 0 = nI (pNow B) := hB.now.1
  have hnow : pNow B ≤ 63 := hB.now.2
  have hna : B 1865 = nI (dN (B 1865)) := hB.na.1
  have hna8 : dN (B 1865) ≤ 8 := hB.na.2
  have hkp : B 1867 = nI (dN (B 1867)) := hB.kept.1
  have hkp40 : dN (B 1867) ≤ 40 := hB.kept.2
  refine x_aload_n C dX9_leader_0 rfl rfl ?_
  refine x_iconst C dX9_leader_1 kc_0 ?_
  refine m_put C h 2 rfl q2411 rfl rfl rfl rfl dX9_leader_2 (fun M h => ?_)
  obtain ⟨σ1, hs1, h⟩ : ∃ σ', sQ σ σ' ∧ MF G ad M0 (sb σ' b B) M := ⟨_, sQ.p2, h⟩
  refine x_iload_n C dX9_leader_5 rfl rfl ?_
  refine x_iconst C dX9_leader_6 kc_0 ?_
  refine x_bipush C dX9_leader_7 kb_15 ?_
  refine x_S3I C (met_X9_isIn l C.1) mi_X9_isIn q2550 ⟨rfl, rfl⟩ rfl ⟨Nat.le_refl _, Nat.le_refl _⟩ rfl dX9_leader_9 (fun r M1 hr => ?_)
  rcases hr with ⟨rfl, rfl, b9⟩ | ⟨rfl, rfl, b9⟩
  · -- true
    obtain ⟨yn, rfl, hlyn, hhyn⟩ := iI.ex b9 (by omega) (by omega)
    have eyn : dN (nI yn) = yn := dN_nI (by omega)
    refine x_if_neT (tgt := 17) C (by decide) dX9_leader_12 rfl ?_
    refine x_iload_n C dX9_leader_17 rfl rfl ?_
    refine x_aload_n C dX9_leader_18 rfl rfl ?_
    refine x_V0I C (met_X9_year l C.1 h.1 ((hs1.2.2 21 (by decide) (by decide)).trans hb) hnw (by omega) (by omega)) mi_X9_year q2629 gcX9 h.1.1 ⟨rfl, rfl⟩ rfl ⟨Nat.le_refl _, Nat.le_refl _⟩ rfl dX9_leader_19 (fun r M1 hr => ?_)
    obtain ⟨rfl, rfl⟩ := hr
    refine x_icmp_leN (tgt := 28) C (by omega) (by omega) dX9_leader_22 rfl (fun c22 => ?_) (fun c22 => ?_)
    · -- 28
      refine x_bipush C dX9_leader_28 kb_m2 ?_
      refine x_istore_n C dX9_leader_30 rfl (gs1_2 rfl) rfl ?_
      refine x_iconst C dX9_leader_31 kc_0 ?_
      refine x_istore_n C dX9_leader_32 rfl (gs1_3 rfl) rfl ?_
      refine x_iconst C dX9_leader_33 kc_0 ?_
      refine x_istore C dX9_leader_34 (gs1_4 rfl) rfl ?_
      refine x_loopS (head := 36) (E := T) (α := Int32) (β := Int32) 0 (by omega) (fun i bs ms M => bs = (pTop (-2) nI (fun t => pYB A B t yn) i).1 ∧ ms = (pTop (-2) nI (fun t => pYB A B t yn) i).2 ∧ (i = 0 → bs = (-2)) ∧ (0 < i → 0 ≤ bs) ∧ ∃ σ2, sQ σ σ2 ∧ MF G ad M0 (sb σ2 b B) M) (fun i bs ms => [some (.ref (ad 0)), some (.int (nI yn)), some (.int bs), some (.int ms), some (.int (nI i)), none]) (-2) (nI 0) ⟨rfl, rfl, fun _ => rfl, fun q => absurd q (by omega), _, (by first | exact hs1 | exact hs1.y | exact hs1.y7 | exact hs1.yy7), h⟩ (fun i bs ms M ha hi h ih => ?_)
      obtain ⟨eb, em, e0, e1, σ2, hs2, h⟩ := h
      have hs1 := hs2
      refine x_iload C dX9_leader_36 rfl ?_
      refine x_aload_n C dX9_leader_38 rfl rfl ?_
      refine m_get C h 11 (v := .int (nI T)) rfl q2420 (m_v rfl ((hs2.2.2 11 (by decide) (by decide)).trans hT)) dX9_leader_39 ?_
      refine x_icmp_geN (tgt := 79) C (by omega) (by omega) dX9_leader_42 rfl (fun c42 => ?_) (fun c42 => ?_)
      · -- 79
        obtain rfl : i = T := by omega
        refine x_iload_n C dX9_leader_79 rfl rfl ?_
        exact x_iret C dX9_leader_80 ⟨Nat.le_refl _, Nat.le_refl _⟩ (gq h (by first | exact hs2.y | exact hs2.y7 | exact hs2.yy7 | exact hs2.s7 | exact hs2) (by unfold qLd; simp only [eyn]; rw [if_pos b9, if_pos c22]; exact eb.symm))
      · -- 45
        refine x_aload_n C dX9_leader_45 rfl rfl ?_
        refine x_iload C dX9_leader_46 rfl ?_
        refine x_iload_n C dX9_leader_48 rfl rfl ?_
        refine x_V2I C (met_X9_backOf l C.1 h.1 ((hs2.2.2 21 (by decide) (by decide)).trans hb) (hs2.1.trans hA) hnw (by omega) (by omega) (by omega) (by omega) hw) mi_X9_backOf q2818 gcX9 h.1.1 ⟨rfl, rfl⟩ rfl ⟨Nat.le_refl _, Nat.le_refl _⟩ rfl dX9_leader_49 (fun r M1 hr => ?_)
        obtain ⟨rfl, hr⟩ := hr
        have h := h.tr hr
        refine x_istore C dX9_leader_52 (gs1_5 rfl) rfl ?_
        refine x_iload_n C dX9_leader_54 rfl rfl ?_
        refine x_if_lt (tgt := 67) C dX9_leader_55 rfl (fun c55 => ?_) (fun c55 => ?_)
        · -- 67
          refine x_iload C dX9_leader_67 rfl ?_
          refine x_istore_n C dX9_leader_69 rfl (gs1_2 rfl) rfl ?_
          refine x_iload C dX9_leader_70 rfl ?_
          refine x_istore_n C dX9_leader_72 rfl (gs1_3 rfl) rfl ?_
          refine x_iincN C dX9_leader_73 rfl (gs1_4 rfl) rfl ?_
          refine x_goto (tgt := 36) C dX9_leader_76 rfl ?_
          exact x_wk [true, true, true, true, true, false] rfl (ih (by omega) _ _ _ ⟨by rw [pTop_y em (Or.inl (Nat.eq_zero_of_not_pos (fun q => Int32.not_le.mpr c55 (e1 q))))] <;> rfl, by rw [pTop_y em (Or.inl (Nat.eq_zero_of_not_pos (fun q => Int32.not_le.mpr c55 (e1 q))))] <;> rfl, fun q => by omega, fun _ => nI_pos' (by omega), _, (by first | exact hs2.y | exact hs2.y7 | exact hs2.yy7 | exact hs2.s7 | exact hs2), h⟩)
        · -- 58
          refine x_iload C dX9_leader_58 rfl ?_
          refine x_iload_n C dX9_leader_60 rfl rfl ?_
          refine x_icmp_gt (tgt := 67) C dX9_leader_61 rfl (fun c61 => ?_) (fun c61 => ?_)
          · -- 67
            refine x_iload C dX9_leader_67 rfl ?_
            refine x_istore_n C dX9_leader_69 rfl (gs1_2 rfl) rfl ?_
            refine x_iload C dX9_leader_70 rfl ?_
            refine x_istore_n C dX9_leader_72 rfl (gs1_3 rfl) rfl ?_
            refine x_iincN C dX9_leader_73 rfl (gs1_4 rfl) rfl ?_
            refine x_goto (tgt := 36) C dX9_leader_76 rfl ?_
            exact x_wk [true, true, true, true, true, false] rfl (ih (by omega) _ _ _ ⟨by rw [pTop_y em (Or.inr c61)] <;> rfl, by rw [pTop_y em (Or.inr c61)] <;> rfl, fun q => by omega, fun _ => nI_pos' (by omega), _, (by first | exact hs2.y | exact hs2.y7 | exact hs2.yy7 | exact hs2.s7 | exact hs2), h⟩)
          · -- 64
            refine x_goto (tgt := 73) C dX9_leader_64 rfl ?_
            refine x_iincN C dX9_leader_73 rfl (gs1_4 rfl) rfl ?_
            refine x_goto (tgt := 36) C dX9_leader_76 rfl ?_
            exact x_wk [true, true, true, true, true, false] rfl (ih (by omega) _ _ _ ⟨by rw [pTop_n em (fun q => c55 (by rw [e0 q]; decide +kernel)) c61]; exact eb, by rw [pTop_n em (fun q => c55 (by rw [e0 q]; decide +kernel)) c61]; exact em, fun q => by omega, fun _ => e1 (Nat.pos_of_ne_zero (fun q => c55 (by rw [e0 q]; decide +kernel))), _, (by first | exact hs2.y | exact hs2.y7 | exact hs2.yy7 | exact hs2.s7 | exact hs2), h⟩)
    · -- 25
      refine x_bipush C dX9_leader_25 kb_m2 ?_
      exact x_iret C dX9_leader_27 ⟨Nat.le_refl _, Nat.le_refl _⟩ (gq h (by first | exact hs1 | exact hs1.y | exact hs1.y7 | exact hs1.yy7) (by unfold qLd; simp only [eyn]; rw [if_pos b9, if_neg (by omega)]; first | done | assumption | rfl))
  · -- false
    refine x_if_neF (tgt := 17) C (by decide) dX9_leader_12 rfl ?_
    refine x_iconst C dX9_leader_15 kc_m1 ?_
    exact x_iret C dX9_leader_16 ⟨Nat.le_refl _, Nat.le_refl _⟩ (gq h (by first | exact hs1 | exact hs1.y | exact hs1.y7 | exact hs1.yy7) (by unfold qLd; rw [if_neg b9]; first | done | assumption | rfl))
theorem mi_X9_farthest : gMV RX9 yX9_farthest cX9_farthest 6 (some .int) 1 := ⟨q2941, q2942, q165, q2943, by decide +kernel⟩
set_option maxHeartbeats 4000000 in
set_option maxRecDepth 100000 in
theorem met_X9_farthest (l : Launch) {G : gG} (hG : gOK G) {ad : Nat → Nat} {σ : mS} {M0 : gM} {b : Nat} {B : Nat → Int32} {t : Int32} {A : Nat → Nat → Int32} {T : Nat} (h : MR G ad (sb σ b B) M0) (hb : mI σ 21 = nI b) (hA : mA σ = A) (hT : mI σ 11 = nI T) (hb0_ : b < 23) (hw : wT T A) (hB : wB T B) : Met l yX9_farthest (ws_ yX9_farthest cX9_farthest 6 (some .int)) ({ frames := 6, cells := 0, slots := 0, locals := 141 }) (gPre G M0 [.ref (ad 0), .int (t)]) (gQ G (gI (fun r M1 => ∃ σ', sQ σ σ' ∧ MF G ad M0 (sb σ' b B) M1 ∧ qFar A T B t = r))) 0 0 (gA G) := by
  refine gMet (L0 := [some (.ref (ad 0)), some (.int (t)), none, none, none, none]) RX9 hG (by decide +kernel) rfl (Nat.le_of_ble_eq_true rfl) rfl ?_
  intro p e s m args below meth c C hnm
  have h := MF.rf h
  have hT4 := hw.T4
  have hnw : B 0 = nI (pNow B) := hB.now.1
  have hnow : pNow B ≤ 63 := hB.now.2
  have hna : B 1865 = nI (dN (B 1865)) := hB.na.1
  have hna8 : dN (B 1865) ≤ 8 := hB.na.2
  have hkp : B 1867 = nI (dN (B 1867)) := hB.kept.1
  have hkp40 : dN (B 1867) ≤ 40 := hB.kept.2
  refine x_aload_n C dX9_farthest_0 rfl rfl ?_
  refine x_iconst C dX9_farthest_1 kc_0 ?_
  refine m_put C h 2 rfl q2411 rfl rfl rfl rfl dX9_farthest_2 (fun M h => ?_)
  obtain ⟨σ1, hs1, h⟩ : ∃ σ', sQ σ σ' ∧ MF G ad M0 (sb σ' b B) M := ⟨_, sQ.p2, h⟩
  refine x_aload_n C dX9_farthest_5 rfl rfl ?_
  refine x_iload_n C dX9_farthest_6 rfl rfl ?_
  refine x_V1I C (met_X9_isTrader l C.1 h.1 ((hs1.2.2 11 (by decide) (by decide)).trans hT)) mi_X9_isTrader q2613 gcX9 h.1.1 ⟨rfl, rfl⟩ rfl ⟨Nat.le_refl _, Nat.le_refl _⟩ rfl dX9_farthest_7 (fun r M1 hr => ?_)
  rcases hr with ⟨rfl, rfl, b7⟩ | ⟨rfl, rfl, b7⟩
  · -- true
    obtain ⟨tn, rfl, hltn⟩ := iT.ex b7 (by omega)
    have etn : dN (nI tn) = tn := dN_nI (by omega)
    refine x_if_neT (tgt := 15) C (by decide) dX9_farthest_10 rfl ?_
    refine x_bipush C dX9_farthest_15 kb_m2 ?_
    refine x_istore_n C dX9_farthest_17 rfl (gs1_2 rfl) rfl ?_
    refine x_iconst C dX9_farthest_18 kc_0 ?_
    refine x_istore_n C dX9_farthest_19 rfl (gs1_3 rfl) rfl ?_
    refine x_iconst C dX9_farthest_20 kc_0 ?_
    refine x_istore C dX9_farthest_21 (gs1_4 rfl) rfl ?_
    refine x_loopS (head := 23) (E := (pNow B / 4)) (α := Int32) (β := Int32) 0 (by omega) (fun i bs ms M => bs = (pTop (-2) nI (fFar A B tn) i).1 ∧ ms = (pTop (-2) nI (fFar A B tn) i).2 ∧ (i = 0 → bs = (-2)) ∧ (0 < i → 0 ≤ bs) ∧ ∃ σ2, sQ σ σ2 ∧ MF G ad M0 (sb σ2 b B) M) (fun i bs ms => [some (.ref (ad 0)), some (.int (nI tn)), some (.int bs), some (.int ms), some (.int (nI i)), none]) (-2) (nI 0) ⟨rfl, rfl, fun _ => rfl, fun q => absurd q (by omega), _, (by first | exact hs1 | exact hs1.y | exact hs1.y7 | exact hs1.yy7), h⟩ (fun i bs ms M ha hi h ih => ?_)
    obtain ⟨eb, em, e0, e1, σ2, hs2, h⟩ := h
    have hs1 := hs2
    refine x_iload C dX9_farthest_23 rfl ?_
    refine x_aload_n C dX9_farthest_25 rfl rfl ?_
    refine x_V0I C (met_X9_year l C.1 h.1 ((hs2.2.2 21 (by decide) (by decide)).trans hb) hnw (by omega) (by omega)) mi_X9_year q2629 gcX9 h.1.1 ⟨rfl, rfl⟩ rfl ⟨Nat.le_refl _, Nat.le_refl _⟩ rfl dX9_farthest_26 (fun r M1 hr => ?_)
    obtain ⟨rfl, rfl⟩ := hr
    refine x_icmp_geN (tgt := 89) C (by omega) (by omega) dX9_farthest_29 rfl (fun c29 => ?_) (fun c29 => ?_)
    · -- 89
      obtain rfl : i = pNow B / 4 := by omega
      refine x_iload_n C dX9_farthest_89 rfl rfl ?_
      exact x_iret C dX9_farthest_90 ⟨Nat.le_refl _, Nat.le_refl _⟩ (gq h (by first | exact hs2.y | exact hs2.y7 | exact hs2.yy7 | exact hs2.s7 | exact hs2) (by unfold qFar; simp only [etn]; rw [if_pos b7]; exact eb.symm))
    · -- 32
      refine x_aload_n C dX9_farthest_32 rfl rfl ?_
      refine x_iload_n C dX9_farthest_33 rfl rfl ?_
      refine x_iload C dX9_farthest_34 rfl ?_
      refine x_V2I C (met_X9_backOf l C.1 h.1 ((hs2.2.2 21 (by decide) (by decide)).trans hb) (hs2.1.trans hA) hnw (by omega) (by omega) (by omega) (by omega) hw) mi_X9_backOf q2818 gcX9 h.1.1 ⟨rfl, rfl⟩ rfl ⟨Nat.le_refl _, Nat.le_refl _⟩ rfl dX9_farthest_36 (fun r M1 hr => ?_)
      obtain ⟨rfl, hr⟩ := hr
      have h := h.tr hr
      refine x_aload_n C dX9_farthest_39 rfl rfl ?_
      refine x_iload_n C dX9_farthest_40 rfl rfl ?_
      refine x_iload C dX9_farthest_41 rfl ?_
      refine x_V2I C (met_X9_bookedIn l C.1 h.1 ((hs2.2.2 21 (by decide) (by decide)).trans hb) (by omega) (by omega) (by omega)) mi_X9_bookedIn q2740 gcX9 h.1.1 ⟨rfl, rfl⟩ rfl ⟨Nat.le_refl _, Nat.le_refl _⟩ rfl dX9_farthest_43 (fun r M1 hr => ?_)
      obtain ⟨rfl, rfl⟩ := hr
      refine x_isub C dX9_farthest_46 ?_
      refine x_istore C dX9_farthest_47 (gs1_5 rfl) rfl ?_
      refine x_join (α := Int32) (P := fun v => v = fFar A B tn i) (LL := fun v => [some (.ref (ad 0)), some (.int (nI tn)), some (.int bs), some (.int ms), some (.int (nI i)), none]) (ss := fun v => [.int v]) 62 (fun v hv => ?_) (fun J62 => ?_)
      · -- join 62
        subst hv
        refine x_istore C dX9_farthest_62 (gs1_5 rfl) rfl ?_
        refine x_iload_n C dX9_farthest_64 rfl rfl ?_
        refine x_if_lt (tgt := 77) C dX9_farthest_65 rfl (fun c65 => ?_) (fun c65 => ?_)
        · -- 77
          refine x_iload C dX9_farthest_77 rfl ?_
          refine x_istore_n C dX9_farthest_79 rfl (gs1_2 rfl) rfl ?_
          refine x_iload C dX9_farthest_80 rfl ?_
          refine x_istore_n C dX9_farthest_82 rfl (gs1_3 rfl) rfl ?_
          refine x_iincN C dX9_farthest_83 rfl (gs1_4 rfl) rfl ?_
          refine x_goto (tgt := 23) C dX9_farthest_86 rfl ?_
          exact x_wk [true, true, true, true, true, false] rfl (ih (by omega) _ _ _ ⟨by rw [pTop_y em (Or.inl (Nat.eq_zero_of_not_pos (fun q => Int32.not_le.mpr c65 (e1 q))))] <;> rfl, by rw [pTop_y em (Or.inl (Nat.eq_zero_of_not_pos (fun q => Int32.not_le.mpr c65 (e1 q))))] <;> rfl, fun q => by omega, fun _ => nI_pos' (by omega), _, (by first | exact hs2.y | exact hs2.y7 | exact hs2.yy7 | exact hs2.s7 | exact hs2), h⟩)
        · -- 68
          refine x_iload C dX9_farthest_68 rfl ?_
          refine x_iload_n C dX9_farthest_70 rfl rfl ?_
          refine x_icmp_gt (tgt := 77) C dX9_farthest_71 rfl (fun c71 => ?_) (fun c71 => ?_)
          · -- 77
            refine x_iload C dX9_farthest_77 rfl ?_
            refine x_istore_n C dX9_farthest_79 rfl (gs1_2 rfl) rfl ?_
            refine x_iload C dX9_farthest_80 rfl ?_
            refine x_istore_n C dX9_farthest_82 rfl (gs1_3 rfl) rfl ?_
            refine x_iincN C dX9_farthest_83 rfl (gs1_4 rfl) rfl ?_
            refine x_goto (tgt := 23) C dX9_farthest_86 rfl ?_
            exact x_wk [true, true, true, true, true, false] rfl (ih (by omega) _ _ _ ⟨by rw [pTop_y em (Or.inr c71)] <;> rfl, by rw [pTop_y em (Or.inr c71)] <;> rfl, fun q => by omega, fun _ => nI_pos' (by omega), _, (by first | exact hs2.y | exact hs2.y7 | exact hs2.yy7 | exact hs2.s7 | exact hs2), h⟩)
          · -- 74
            refine x_goto (tgt := 83) C dX9_farthest_74 rfl ?_
            refine x_iincN C dX9_farthest_83 rfl (gs1_4 rfl) rfl ?_
            refine x_goto (tgt := 23) C dX9_farthest_86 rfl ?_
            exact x_wk [true, true, true, true, true, false] rfl (ih (by omega) _ _ _ ⟨by rw [pTop_n em (fun q => c65 (by rw [e0 q]; decide +kernel)) c71]; exact eb, by rw [pTop_n em (fun q => c65 (by rw [e0 q]; decide +kernel)) c71]; exact em, fun q => by omega, fun _ => e1 (Nat.pos_of_ne_zero (fun q => c65 (by rw [e0 q]; decide +kernel))), _, (by first | exact hs2.y | exact hs2.y7 | exact hs2.yy7 | exact hs2.s7 | exact hs2), h⟩)
      · -- to the join
        refine x_iload C dX9_farthest_49 rfl ?_
        refine x_if_ge (tgt := 60) C dX9_farthest_51 rfl (fun c51 => ?_) (fun c51 => ?_)
        · -- 60
          refine x_iload C dX9_farthest_60 rfl ?_
          exact x_wk [true, true, true, true, true, false] rfl (J62 _ (by unfold fFar; rw [if_neg (Int32.not_lt.mpr c51)]))
        · -- 54
          refine x_iload C dX9_farthest_54 rfl ?_
          refine x_ineg C dX9_farthest_56 ?_
          refine x_goto (tgt := 62) C dX9_farthest_57 rfl ?_
          exact x_wk [true, true, true, true, true, false] rfl (J62 _ (by unfold fFar; rw [if_pos (Int32.not_le.mp c51)]))
  · -- false
    refine x_if_neF (tgt := 15) C (by decide) dX9_farthest_10 rfl ?_
    refine x_iconst C dX9_farthest_13 kc_m1 ?_
    exact x_iret C dX9_farthest_14 ⟨Nat.le_refl _, Nat.le_refl _⟩ (gq h (by first | exact hs1 | exact hs1.y | exact hs1.y7 | exact hs1.yy7) (by unfold qFar; rw [if_neg b7]; first | done | assumption | rfl))
theorem mi_X9_limitFor : gMV RX9 yX9_limitFor cX9_limitFor 7 (some .int) 2 := ⟨q2859, q2860, q165, q2861, by decide +kernel⟩
set_option maxHeartbeats 4000000 in
set_option maxRecDepth 100000 in
theorem met_X9_limitFor (l : Launch) {G : gG} (hG : gOK G) {ad : Nat → Nat} {σ : mS} {M0 : gM} {b : Nat} {B : Nat → Int32} {t y : Int32} {A : Nat → Nat → Int32} {T : Nat} (h : MR G ad (sb σ b B) M0) (hb : mI σ 21 = nI b) (hA : mA σ = A) (hT : mI σ 11 = nI T) (hb0_ : b < 23) (hw : wT T A) (hB : wB T B) : Met l yX9_limitFor (ws_ yX9_limitFor cX9_limitFor 7 (some .int)) ({ frames := 5, cells := 0, slots := 0, locals := 119 }) (gPre G M0 [.ref (ad 0), .int (t), .int (y)]) (gQ G (gI (fun r M1 => ∃ σ', sQ σ σ' ∧ MF G ad M0 (sb σ' b B) M1 ∧ qLim A T B t y = r))) 0 0 (gA G) := by
  refine gMet (L0 := [some (.ref (ad 0)), some (.int (t)), some (.int (y)), none, none, none, none]) RX9 hG (by decide +kernel) rfl (Nat.le_of_ble_eq_true rfl) rfl ?_
  intro p e s m args below meth c C hnm
  have h := MF.rf h
  have hT4 := hw.T4
  have hnw : B 0 = nI (pNow B) := hB.now.1
  have hnow : pNow B ≤ 63 := hB.now.2
  have hna : B 1865 = nI (dN (B 1865)) := hB.na.1
  have hna8 : dN (B 1865) ≤ 8 := hB.na.2
  have hkp : B 1867 = nI (dN (B 1867)) := hB.kept.1
  have hkp40 : dN (B 1867) ≤ 40 := hB.kept.2
  refine x_aload_n C dX9_limitFor_0 rfl rfl ?_
  refine x_iconst C dX9_limitFor_1 kc_0 ?_
  refine m_put C h 2 rfl q2411 rfl rfl rfl rfl dX9_limitFor_2 (fun M h => ?_)
  obtain ⟨σ1, hs1, h⟩ : ∃ σ', sQ σ σ' ∧ MF G ad M0 (sb σ' b B) M := ⟨_, sQ.p2, h⟩
  refine x_aload_n C dX9_limitFor_5 rfl rfl ?_
  refine x_iload_n C dX9_limitFor_6 rfl rfl ?_
  refine x_V1I C (met_X9_isTrader l C.1 h.1 ((hs1.2.2 11 (by decide) (by decide)).trans hT)) mi_X9_isTrader q2613 gcX9 h.1.1 ⟨rfl, rfl⟩ rfl ⟨Nat.le_refl _, Nat.le_refl _⟩ rfl dX9_limitFor_7 (fun r M1 hr => ?_)
  rcases hr with ⟨rfl, rfl, b7⟩ | ⟨rfl, rfl, b7⟩
  · -- true
    obtain ⟨tn, rfl, hltn⟩ := iT.ex b7 (by omega)
    have etn : dN (nI tn) = tn := dN_nI (by omega)
    refine x_if_eqF (tgt := 23) C (by decide) dX9_limitFor_10 rfl ?_
    refine x_iload_n C dX9_limitFor_13 rfl rfl ?_
    refine x_iconst C dX9_limitFor_14 kc_0 ?_
    refine x_bipush C dX9_limitFor_15 kb_15 ?_
    refine x_S3I C (met_X9_isIn l C.1) mi_X9_isIn q2550 ⟨rfl, rfl⟩ rfl ⟨Nat.le_refl _, Nat.le_refl _⟩ rfl dX9_limitFor_17 (fun r M1 hr => ?_)
    rcases hr with ⟨rfl, rfl, b17⟩ | ⟨rfl, rfl, b17⟩
    · -- true
      obtain ⟨yn, rfl, hlyn, hhyn⟩ := iI.ex b17 (by omega) (by omega)
      have eyn : dN (nI yn) = yn := dN_nI (by omega)
      refine x_if_neT (tgt := 25) C (by decide) dX9_limitFor_20 rfl ?_
      refine x_iload_n C dX9_limitFor_25 rfl rfl ?_
      refine x_aload_n C dX9_limitFor_26 rfl rfl ?_
      refine x_V0I C (met_X9_year l C.1 h.1 ((hs1.2.2 21 (by decide) (by decide)).trans hb) hnw (by omega) (by omega)) mi_X9_year q2629 gcX9 h.1.1 ⟨rfl, rfl⟩ rfl ⟨Nat.le_refl _, Nat.le_refl _⟩ rfl dX9_limitFor_27 (fun r M1 hr => ?_)
      obtain ⟨rfl, rfl⟩ := hr
      refine x_icmp_leN (tgt := 36) C (by omega) (by omega) dX9_limitFor_30 rfl (fun c30 => ?_) (fun c30 => ?_)
      · -- 36
        refine x_aload_n C dX9_limitFor_36 rfl rfl ?_
        refine x_aload_n C dX9_limitFor_37 rfl rfl ?_
        refine x_iload_n C dX9_limitFor_38 rfl rfl ?_
        refine x_iload_n C dX9_limitFor_39 rfl rfl ?_
        refine x_V2I C (met_X9_annualOf l C.1 h.1 ((hs1.2.2 21 (by decide) (by decide)).trans hb) (hs1.1.trans hA) hnw (by omega) (by omega) (by omega) (by omega)) mi_X9_annualOf q2752 gcX9 h.1.1 ⟨rfl, rfl⟩ rfl ⟨Nat.le_refl _, Nat.le_refl _⟩ rfl dX9_limitFor_40 (fun r M1 hr => ?_)
        obtain ⟨rfl, hr⟩ := hr
        have h := h.tr hr
        refine x_iconst C dX9_limitFor_43 kc_m1 ?_
        refine x_V2I C (met_X9_back1 l C.1 h.1 ((hs1.2.2 21 (by decide) (by decide)).trans hb) (hs1.1.trans hA) (by omega) hw.step hw.step10) mi_X9_back1 q2720 gcX9 h.1.1 ⟨rfl, rfl⟩ rfl ⟨Nat.le_refl _, Nat.le_refl _⟩ rfl dX9_limitFor_44 (fun r M1 hr => ?_)
        obtain ⟨rfl, hr⟩ := hr
        have h := h.tr hr
        refine x_i2l C dX9_limitFor_47 ?_
        refine x_lstore_n C dX9_limitFor_48 rfl (gs2_3 rfl) rfl ?_
        refine x_aload_n C dX9_limitFor_49 rfl rfl ?_
        refine m_get C h 24 rfl q2433 rfl dX9_limitFor_50 ?_
        refine x_iconst C dX9_limitFor_53 kc_2 ?_
        refine m_lald C h rfl (by omega) dX9_limitFor_54 ?_
        refine x_aload_n C dX9_limitFor_55 rfl rfl ?_
        refine m_get C h 24 rfl q2433 rfl dX9_limitFor_56 ?_
        refine x_iconst C dX9_limitFor_59 kc_3 ?_
        refine m_lald C h rfl (by omega) dX9_limitFor_60 ?_
        refine x_ladd C dX9_limitFor_61 ?_
        refine x_aload_n C dX9_limitFor_62 rfl rfl ?_
        refine m_get C h 24 rfl q2433 rfl dX9_limitFor_63 ?_
        refine x_iconst C dX9_limitFor_66 kc_4 ?_
        refine m_lald C h rfl (by omega) dX9_limitFor_67 ?_
        refine x_ladd C dX9_limitFor_68 ?_
        refine x_lstore C dX9_limitFor_69 (gs2_5 rfl) rfl ?_
        refine x_ldc2 C dX9_limitFor_71 q2715 ?_
        refine x_lload C dX9_limitFor_74 rfl ?_
        refine x_lload_n C dX9_limitFor_76 rfl rfl ?_
        refine x_lsub C dX9_limitFor_77 ?_
        refine x_lmul C dX9_limitFor_78 ?_
        refine x_lload C dX9_limitFor_79 rfl ?_
        refine x_lcmp C dX9_limitFor_81 ?_
        refine x_if_gtL (tgt := 93) C dX9_limitFor_82 rfl (fun c82 => ?_) (fun c82 => ?_)
        · -- 93
          refine x_bipush C dX9_limitFor_93 kb_m2 ?_
          exact x_iret C dX9_limitFor_95 ⟨Nat.le_refl _, Nat.le_refl _⟩ (gq h (by first | exact hs1 | exact hs1.y | exact hs1.y7 | exact hs1.yy7) (by unfold qLim; simp only [etn, eyn]; rw [if_pos b7, if_pos b17, if_pos c30]; unfold pLim; exact if_neg (Int64.not_le.mpr c82)))
        · -- 85
          refine x_lload C dX9_limitFor_85 rfl ?_
          refine x_lload_n C dX9_limitFor_87 rfl rfl ?_
          refine x_lsub C dX9_limitFor_88 ?_
          refine x_l2i C dX9_limitFor_89 ?_
          refine x_goto (tgt := 95) C dX9_limitFor_90 rfl ?_
          exact x_iret C dX9_limitFor_95 ⟨Nat.le_refl _, Nat.le_refl _⟩ (gq h (by first | exact hs1 | exact hs1.y | exact hs1.y7 | exact hs1.yy7) (by unfold qLim; simp only [etn, eyn]; rw [if_pos b7, if_pos b17, if_pos c30]; unfold pLim; exact if_pos (Int64.not_lt.mp c82)))
      · -- 33
        refine x_bipush C dX9_limitFor_33 kb_m2 ?_
        exact x_iret C dX9_limitFor_35 ⟨Nat.le_refl _, Nat.le_refl _⟩ (gq h (by first | exact hs1 | exact hs1.y | exact hs1.y7 | exact hs1.yy7) (by unfold qLim; simp only [etn, eyn]; rw [if_pos b7, if_pos b17, if_neg (by omega)]; first | done | assumption | rfl))
    · -- false
      refine x_if_neF (tgt := 25) C (by decide) dX9_limitFor_20 rfl ?_
      refine x_iconst C dX9_limitFor_23 kc_m1 ?_
      exact x_iret C dX9_limitFor_24 ⟨Nat.le_refl _, Nat.le_refl _⟩ (gq h (by first | exact hs1 | exact hs1.y | exact hs1.y7 | exact hs1.yy7) (by unfold qLim; simp only [etn]; rw [if_pos b7, if_neg b17]; first | done | assumption | rfl))
  · -- false
    refine x_if_eqT (tgt := 23) C (by decide) dX9_limitFor_10 rfl ?_
    refine x_iconst C dX9_limitFor_23 kc_m1 ?_
    exact x_iret C dX9_limitFor_24 ⟨Nat.le_refl _, Nat.le_refl _⟩ (gq h (by first | exact hs1 | exact hs1.y | exact hs1.y7 | exact hs1.yy7) (by unfold qLim; rw [if_neg b7]; first | done | assumption | rfl))
theorem mi_X9_joint : gMV RX9 yX9_joint cX9_joint 5 (some .int) 3 := ⟨q2855, q2856, q165, q2857, by decide +kernel⟩
set_option maxHeartbeats 4000000 in
set_option maxRecDepth 100000 in
theorem met_X9_joint (l : Launch) {G : gG} (hG : gOK G) {ad : Nat → Nat} {σ : mS} {M0 : gM} {b : Nat} {B : Nat → Int32} {t u y : Int32} {A : Nat → Nat → Int32} {T : Nat} (h : MR G ad (sb σ b B) M0) (hb : mI σ 21 = nI b) (hA : mA σ = A) (hT : mI σ 11 = nI T) (hb0_ : b < 23) (hw : wT T A) (hB : wB T B) : Met l yX9_joint (ws_ yX9_joint cX9_joint 5 (some .int)) ({ frames := 4, cells := 0, slots := 0, locals := 101 }) (gPre G M0 [.ref (ad 0), .int (t), .int (u), .int (y)]) (gQ G (gI (fun r M1 => ∃ σ', sQ σ σ' ∧ MF G ad M0 (sb σ' b B) M1 ∧ qJnt A T B t u y = r))) 0 0 (gA G) := by
  refine gMet (L0 := [some (.ref (ad 0)), some (.int (t)), some (.int (u)), some (.int (y)), none]) RX9 hG (by decide +kernel) rfl (Nat.le_of_ble_eq_true rfl) rfl ?_
  intro p e s m args below meth c C hnm
  have h := MF.rf h
  have hT4 := hw.T4
  have hnw : B 0 = nI (pNow B) := hB.now.1
  have hnow : pNow B ≤ 63 := hB.now.2
  have hna : B 1865 = nI (dN (B 1865)) := hB.na.1
  have hna8 : dN (B 1865) ≤ 8 := hB.na.2
  have hkp : B 1867 = nI (dN (B 1867)) := hB.kept.1
  have hkp40 : dN (B 1867) ≤ 40 := hB.kept.2
  refine x_aload_n C dX9_joint_0 rfl rfl ?_
  refine x_iconst C dX9_joint_1 kc_0 ?_
  refine m_put C h 2 rfl q2411 rfl rfl rfl rfl dX9_joint_2 (fun M h => ?_)
  obtain ⟨σ1, hs1, h⟩ : ∃ σ', sQ σ σ' ∧ MF G ad M0 (sb σ' b B) M := ⟨_, sQ.p2, h⟩
  refine x_aload_n C dX9_joint_5 rfl rfl ?_
  refine x_iload_n C dX9_joint_6 rfl rfl ?_
  refine x_iload_n C dX9_joint_7 rfl rfl ?_
  refine x_V2I C (met_X9_isYear l C.1 h.1 ((hs1.2.2 21 (by decide) (by decide)).trans hb) hnw ((hs1.2.2 11 (by decide) (by decide)).trans hT) (by omega) (by omega) (by omega)) mi_X9_isYear q2813 gcX9 h.1.1 ⟨rfl, rfl⟩ rfl ⟨Nat.le_refl _, Nat.le_refl _⟩ rfl dX9_joint_8 (fun r M1 hr => ?_)
  rcases hr with ⟨rfl, rfl, b8⟩ | ⟨rfl, rfl, b8⟩
  · -- true
    obtain ⟨tn, rfl, hltn⟩ := iT.ex b8.1 (by omega)
    have etn : dN (nI tn) = tn := dN_nI (by omega)
    obtain ⟨yn, rfl, hlyn⟩ := iT.ex b8.2 (by omega)
    have eyn : dN (nI yn) = yn := dN_nI (by omega)
    refine x_if_eqF (tgt := 27) C (by decide) dX9_joint_11 rfl ?_
    refine x_aload_n C dX9_joint_14 rfl rfl ?_
    refine x_iload_n C dX9_joint_15 rfl rfl ?_
    refine x_V1I C (met_X9_isTrader l C.1 h.1 ((hs1.2.2 11 (by decide) (by decide)).trans hT)) mi_X9_isTrader q2613 gcX9 h.1.1 ⟨rfl, rfl⟩ rfl ⟨Nat.le_refl _, Nat.le_refl _⟩ rfl dX9_joint_16 (fun r M1 hr => ?_)
    rcases hr with ⟨rfl, rfl, b16⟩ | ⟨rfl, rfl, b16⟩
    · -- true
      obtain ⟨un, rfl, hlun⟩ := iT.ex b16 (by omega)
      have eun : dN (nI un) = un := dN_nI (by omega)
      refine x_if_eqF (tgt := 27) C (by decide) dX9_joint_19 rfl ?_
      refine x_iload_n C dX9_joint_22 rfl rfl ?_
      refine x_iload_n C dX9_joint_23 rfl rfl ?_
      refine x_icmp_neN (tgt := 31) C (by omega) (by omega) dX9_joint_24 rfl (fun c24 => ?_) (fun c24 => ?_)
      · -- 31
        refine x_aload_n C dX9_joint_31 rfl rfl ?_
        refine x_iload_n C dX9_joint_32 rfl rfl ?_
        refine x_iload_n C dX9_joint_33 rfl rfl ?_
        refine x_V2V C (met_X9_layYear l C.1 h.1 ((hs1.2.2 21 (by decide) (by decide)).trans hb) (by omega) (by omega) (by omega)) mi_X9_layYear q2736 gcX9 h.1.1 ⟨rfl, rfl⟩ rfl ⟨Nat.le_refl _, Nat.le_refl _⟩ rfl dX9_joint_34 (fun M1 hr => ?_)
        have h := h.tr hr
        refine x_iconst C dX9_joint_37 kc_4 ?_
        refine x_iload_n C dX9_joint_38 rfl rfl ?_
        refine x_imulN C dX9_joint_39 ?_
        refine x_istore C dX9_joint_40 (gs1_4 rfl) rfl ?_
        refine x_loop (head := 42) (E := 4) (fun i M => MF G ad M0 (sb (sy σ1 (pAddQ (pYS B tn yn) B un yn i) (pHO B tn) (pHA B tn)) b B) M) (fun i => [some (.ref (ad 0)), some (.int (nI tn)), some (.int (nI un)), some (.int (nI yn)), some (.int (nI (4 * yn + i)))]) h (fun i M hi h ih => ?_)
        refine x_iload C dX9_joint_42 rfl ?_
        refine x_iconst C dX9_joint_44 kc_4 ?_
        refine x_iload_n C dX9_joint_45 rfl rfl ?_
        refine x_imulN C dX9_joint_46 ?_
        refine x_iconst C dX9_joint_47 kc_4 ?_
        refine x_iaddN C dX9_joint_48 ?_
        refine x_icmp_geN (tgt := 65) C (by omega) (by omega) dX9_joint_49 rfl (fun c49 => ?_) (fun c49 => ?_)
        · -- 65
          obtain rfl : i = 4 := by omega
          refine x_aload_n C dX9_joint_65 rfl rfl ?_
          refine x_iload_n C dX9_joint_66 rfl rfl ?_
          refine x_V1V C (met_X9_addHeads l C.1 h.1 ((hs1.2.2 21 (by decide) (by decide)).trans hb) (by omega) (by omega)) mi_X9_addHeads q2697 gcX9 h.1.1 ⟨rfl, rfl⟩ rfl ⟨Nat.le_refl _, Nat.le_refl _⟩ rfl dX9_joint_67 (fun M1 hr => ?_)
          have h := h.tr hr
          refine x_aload_n C dX9_joint_70 rfl rfl ?_
          refine x_aload_n C dX9_joint_71 rfl rfl ?_
          refine x_iload_n C dX9_joint_72 rfl rfl ?_
          refine x_V1I C (met_X9_fraction l C.1 h.1 ((hs1.2.2 21 (by decide) (by decide)).trans hb) (hs1.1.trans hA) (by omega) (by omega) (sZ_j _ _ _ _)) mi_X9_fraction q2701 gcX9 h.1.1 ⟨rfl, rfl⟩ rfl ⟨Nat.le_refl _, Nat.le_refl _⟩ rfl dX9_joint_73 (fun r M1 hr => ?_)
          obtain ⟨rfl, rfl⟩ := hr
          refine x_aload_n C dX9_joint_76 rfl rfl ?_
          refine m_get C h 17 rfl q2426 rfl dX9_joint_77 ?_
          refine x_iconst C dX9_joint_80 kc_2 ?_
          refine m_ald C h 6 (N := 14) (by decide) rfl rfl (by omega) (congrFun (congrFun (hs1.1.trans hA) 6) _) dX9_joint_81 ?_
          refine x_V2I C (met_X9_back1 l C.1 h.1 ((hs1.2.2 21 (by decide) (by decide)).trans hb) (hs1.1.trans hA) (by omega) hw.step hw.step10) mi_X9_back1 q2720 gcX9 h.1.1 ⟨rfl, rfl⟩ rfl ⟨Nat.le_refl _, Nat.le_refl _⟩ rfl dX9_joint_82 (fun r M1 hr => ?_)
          obtain ⟨rfl, hr⟩ := hr
          have h := h.tr hr
          exact x_iret C dX9_joint_85 ⟨Nat.le_refl _, Nat.le_refl _⟩ (gq h (by first | exact hs1 | exact hs1.y | exact hs1.y7 | exact hs1.yy7) (by unfold qJnt; simp only [etn, eyn, eun]; rw [if_pos b8, if_pos b16, if_neg (by omega)]; first | done | assumption | rfl))
        · -- 52
          refine x_aload_n C dX9_joint_52 rfl rfl ?_
          refine x_iload_n C dX9_joint_53 rfl rfl ?_
          refine x_iload C dX9_joint_54 rfl ?_
          refine x_V2V C (met_X9_addQuarter l C.1 h.1 ((hs1.2.2 21 (by decide) (by decide)).trans hb) (by omega) (by omega) (by omega)) mi_X9_addQuarter q2693 gcX9 h.1.1 ⟨rfl, rfl⟩ rfl ⟨Nat.le_refl _, Nat.le_refl _⟩ rfl dX9_joint_56 (fun M1 hr => ?_)
          have h := h.tr hr
          refine x_iincN C dX9_joint_59 rfl (gs1_4 rfl) rfl ?_
          refine x_goto (tgt := 42) C dX9_joint_62 rfl ?_
          exact (ih (by omega) _ h)
      · -- 27
        refine x_ldcw C dX9_joint_27 q2817 ?_
        exact x_iret C dX9_joint_30 ⟨Nat.le_refl _, Nat.le_refl _⟩ (gq h (by first | exact hs1 | exact hs1.y | exact hs1.y7 | exact hs1.yy7) (by unfold qJnt; simp only [etn, eyn, eun]; rw [if_pos b8, if_pos b16, if_pos c24]; first | done | assumption | rfl))
    · -- false
      refine x_if_eqT (tgt := 27) C (by decide) dX9_joint_19 rfl ?_
      refine x_ldcw C dX9_joint_27 q2817 ?_
      exact x_iret C dX9_joint_30 ⟨Nat.le_refl _, Nat.le_refl _⟩ (gq h (by first | exact hs1 | exact hs1.y | exact hs1.y7 | exact hs1.yy7) (by unfold qJnt; simp only [etn, eyn]; rw [if_pos b8, if_neg b16]; first | done | assumption | rfl))
  · -- false
    refine x_if_eqT (tgt := 27) C (by decide) dX9_joint_11 rfl ?_
    refine x_ldcw C dX9_joint_27 q2817 ?_
    exact x_iret C dX9_joint_30 ⟨Nat.le_refl _, Nat.le_refl _⟩ (gq h (by first | exact hs1 | exact hs1.y | exact hs1.y7 | exact hs1.yy7) (by unfold qJnt; rw [if_neg b8]; first | done | assumption | rfl))
theorem mi_X9_rise : gMV RX9 yX9_rise cX9_rise 5 (some .int) 1 := ⟨q2871, q2872, q165, q2873, by decide +kernel⟩
set_option maxHeartbeats 4000000 in
set_option maxRecDepth 100000 in
theorem met_X9_rise (l : Launch) {G : gG} (hG : gOK G) {ad : Nat → Nat} {σ : mS} {M0 : gM} {b : Nat} {B : Nat → Int32} {t : Int32} {A : Nat → Nat → Int32} {T : Nat} (h : MR G ad (sb σ b B) M0) (hb : mI σ 21 = nI b) (hA : mA σ = A) (hT : mI σ 11 = nI T) (hb0_ : b < 23) (hw : wT T A) (hB : wB T B) : Met l yX9_rise (ws_ yX9_rise cX9_rise 5 (some .int)) ({ frames := 1, cells := 0, slots := 0, locals := 21 }) (gPre G M0 [.ref (ad 0), .int (t)]) (gQ G (gI (fun r M1 => ∃ σ', sQ σ σ' ∧ MF G ad M0 (sb σ' b B) M1 ∧ qRise T B t = r))) 0 0 (gA G) := by
  refine gMet (L0 := [some (.ref (ad 0)), some (.int (t)), none, none, none]) RX9 hG (by decide +kernel) rfl (Nat.le_of_ble_eq_true rfl) rfl ?_
  intro p e s m args below meth c C hnm
  have h := MF.rf h
  have hT4 := hw.T4
  have hnw : B 0 = nI (pNow B) := hB.now.1
  have hnow : pNow B ≤ 63 := hB.now.2
  have hna : B 1865 = nI (dN (B 1865)) := hB.na.1
  have hna8 : dN (B 1865) ≤ 8 := hB.na.2
  have hkp : B 1867 = nI (dN (B 1867)) := hB.kept.1
  have hkp40 : dN (B 1867) ≤ 40 := hB.kept.2
  refine x_aload_n C dX9_rise_0 rfl rfl ?_
  refine x_iconst C dX9_rise_1 kc_0 ?_
  refine m_put C h 2 rfl q2411 rfl rfl rfl rfl dX9_rise_2 (fun M h => ?_)
  obtain ⟨σ1, hs1, h⟩ : ∃ σ', sQ σ σ' ∧ MF G ad M0 (sb σ' b B) M := ⟨_, sQ.p2, h⟩
  refine x_aload_n C dX9_rise_5 rfl rfl ?_
  refine x_iload_n C dX9_rise_6 rfl rfl ?_
  refine x_V1I C (met_X9_isTrader l C.1 h.1 ((hs1.2.2 11 (by decide) (by decide)).trans hT)) mi_X9_isTrader q2613 gcX9 h.1.1 ⟨rfl, rfl⟩ rfl ⟨Nat.le_refl _, Nat.le_refl _⟩ rfl dX9_rise_7 (fun r M1 hr => ?_)
  rcases hr with ⟨rfl, rfl, b7⟩ | ⟨rfl, rfl, b7⟩
  · -- true
    obtain ⟨tn, rfl, hltn⟩ := iT.ex b7 (by omega)
    have etn : dN (nI tn) = tn := dN_nI (by omega)
    refine x_if_neT (tgt := 15) C (by decide) dX9_rise_10 rfl ?_
    refine x_iconst C dX9_rise_15 kc_0 ?_
    refine x_istore_n C dX9_rise_16 rfl (gs1_2 rfl) rfl ?_
    refine x_iconst C dX9_rise_17 kc_0 ?_
    refine x_istore_n C dX9_rise_18 rfl (gs1_3 rfl) rfl ?_
    refine x_iconst C dX9_rise_19 kc_0 ?_
    refine x_istore C dX9_rise_20 (gs1_4 rfl) rfl ?_
    refine x_loopS (head := 22) (E := (pNow B)) (α := Nat) (β := Nat) 0 (by omega) (fun i ri ru M => ri = pRis (fun q => B (1545 + 64 * tn + q)) i ∧ ru = pRun (fun q => B (1545 + 64 * tn + q)) i ∧ MF G ad M0 (sb σ1 b B) M) (fun i ri ru => [some (.ref (ad 0)), some (.int (nI tn)), some (.int (nI ri)), some (.int (nI ru)), some (.int (nI i))]) 0 0 ⟨rfl, rfl, h⟩ (fun i ri ru M ha hi h ih => ?_)
    obtain ⟨e1, e2, h⟩ := h
    have e1le := pRis_le (fun q => B (1545 + 64 * tn + q)) i
    have e2le := pRun_le (fun q => B (1545 + 64 * tn + q)) i
    rw [← e1] at e1le
    rw [← e2] at e2le
    refine x_iload C dX9_rise_22 rfl ?_
    refine x_aload_n C dX9_rise_24 rfl rfl ?_
    refine x_iconst C dX9_rise_25 kc_0 ?_
    refine x_V1I C (met_X9_of l C.1 h.1 ((hs1.2.2 21 (by decide) (by decide)).trans hb) (by omega) (by omega)) mi_X9_of q2389 gcX9 h.1.1 ⟨rfl, rfl⟩ rfl ⟨Nat.le_refl _, Nat.le_refl _⟩ rfl dX9_rise_26 (fun r M1 hr => ?_)
    obtain ⟨rfl, hr⟩ := hr
    have hr := hr.symm.trans (show _ = nI (pNow B) from hnw)
    subst hr
    refine x_icmp_geN (tgt := 96) C (by omega) (by omega) dX9_rise_29 rfl (fun c29 => ?_) (fun c29 => ?_)
    · -- 96
      obtain rfl : i = pNow B := by omega
      refine x_iload_n C dX9_rise_96 rfl rfl ?_
      exact x_iret C dX9_rise_97 ⟨Nat.le_refl _, Nat.le_refl _⟩ (gq h hs1 (by unfold qRise; simp only [etn]; rw [if_pos b7, e1]))
    · -- 32
      refine x_iload_n C dX9_rise_32 rfl rfl ?_
      refine x_if_leN (tgt := 77) C (by omega) dX9_rise_33 rfl (fun c33 => ?_) (fun c33 => ?_)
      · -- 77
        refine x_iconst C dX9_rise_77 kc_1 ?_
        refine x_istore_n C dX9_rise_78 rfl (gs1_3 rfl) rfl ?_
        refine x_iload_n C dX9_rise_79 rfl rfl ?_
        refine x_iload_n C dX9_rise_80 rfl rfl ?_
        refine x_icmp_leN (tgt := 88) C (by omega) (by omega) dX9_rise_81 rfl (fun c81 => ?_) (fun c81 => ?_)
        · -- 88
          refine x_iload_n C dX9_rise_88 rfl rfl ?_
          refine x_istore_n C dX9_rise_89 rfl (gs1_2 rfl) rfl ?_
          refine x_iincN C dX9_rise_90 rfl (gs1_4 rfl) rfl ?_
          refine x_goto (tgt := 22) C dX9_rise_93 rfl ?_
          have e2' : 1 = pRun (fun q => B (1545 + 64 * tn + q)) (i + 1) := (by show _ = pRun (fun q => B (1545 + 64 * tn + q)) (i + 1); unfold pRun; rw [← e2, if_neg (fun q => by omega)])
          have e1' : ri = pRis (fun q => B (1545 + 64 * tn + q)) (i + 1) := (by unfold pRis; rw [← e1, ← e2', if_neg (by omega)])
          exact (ih (by omega) _ _ _ ⟨e1', e2', h⟩)
        · -- 84
          refine x_iload_n C dX9_rise_84 rfl rfl ?_
          refine x_goto (tgt := 89) C dX9_rise_85 rfl ?_
          refine x_istore_n C dX9_rise_89 rfl (gs1_2 rfl) rfl ?_
          refine x_iincN C dX9_rise_90 rfl (gs1_4 rfl) rfl ?_
          refine x_goto (tgt := 22) C dX9_rise_93 rfl ?_
          have e2' : 1 = pRun (fun q => B (1545 + 64 * tn + q)) (i + 1) := (by show _ = pRun (fun q => B (1545 + 64 * tn + q)) (i + 1); unfold pRun; rw [← e2, if_neg (fun q => by omega)])
          have e1' : 1 = pRis (fun q => B (1545 + 64 * tn + q)) (i + 1) := (by unfold pRis; rw [← e1, ← e2', if_pos (by omega)])
          exact (ih (by omega) _ _ _ ⟨e1', e2', h⟩)
      · -- 36
        refine x_aload_n C dX9_rise_36 rfl rfl ?_
        refine x_sipush C dX9_rise_37 ks_1545 ?_
        refine x_bipush C dX9_rise_40 kb_64 ?_
        refine x_iload_n C dX9_rise_42 rfl rfl ?_
        refine x_imulN C dX9_rise_43 ?_
        refine x_iaddN C dX9_rise_44 ?_
        refine x_iload C dX9_rise_45 rfl ?_
        refine x_iaddN C dX9_rise_47 ?_
        refine x_V1I C (met_X9_of l C.1 h.1 ((hs1.2.2 21 (by decide) (by decide)).trans hb) (by omega) (by omega)) mi_X9_of q2389 gcX9 h.1.1 ⟨rfl, rfl⟩ rfl ⟨Nat.le_refl _, Nat.le_refl _⟩ rfl dX9_rise_48 (fun r M1 hr => ?_)
        obtain ⟨rfl, rfl⟩ := hr
        refine x_aload_n C dX9_rise_51 rfl rfl ?_
        refine x_sipush C dX9_rise_52 ks_1545 ?_
        refine x_bipush C dX9_rise_55 kb_64 ?_
        refine x_iload_n C dX9_rise_57 rfl rfl ?_
        refine x_imulN C dX9_rise_58 ?_
        refine x_iaddN C dX9_rise_59 ?_
        refine x_iload C dX9_rise_60 rfl ?_
        refine x_iaddN C dX9_rise_62 ?_
        refine x_iconst C dX9_rise_63 kc_1 ?_
        refine x_isubN C (by omega) dX9_rise_64 ?_
        refine x_V1I C (met_X9_of l C.1 h.1 ((hs1.2.2 21 (by decide) (by decide)).trans hb) (by omega) (by omega)) mi_X9_of q2389 gcX9 h.1.1 ⟨rfl, rfl⟩ rfl ⟨Nat.le_refl _, Nat.le_refl _⟩ rfl dX9_rise_65 (fun r M1 hr => ?_)
        obtain ⟨rfl, rfl⟩ := hr
        refine x_icmp_le (tgt := 77) C dX9_rise_68 rfl (fun c68 => ?_) (fun c68 => ?_)
        · -- 77
          refine x_iconst C dX9_rise_77 kc_1 ?_
          refine x_istore_n C dX9_rise_78 rfl (gs1_3 rfl) rfl ?_
          refine x_iload_n C dX9_rise_79 rfl rfl ?_
          refine x_iload_n C dX9_rise_80 rfl rfl ?_
          refine x_icmp_leN (tgt := 88) C (by omega) (by omega) dX9_rise_81 rfl (fun c81 => ?_) (fun c81 => ?_)
          · -- 88
            refine x_iload_n C dX9_rise_88 rfl rfl ?_
            refine x_istore_n C dX9_rise_89 rfl (gs1_2 rfl) rfl ?_
            refine x_iincN C dX9_rise_90 rfl (gs1_4 rfl) rfl ?_
            refine x_goto (tgt := 22) C dX9_rise_93 rfl ?_
            have e2' : 1 = pRun (fun q => B (1545 + 64 * tn + q)) (i + 1) := (by show _ = pRun (fun q => B (1545 + 64 * tn + q)) (i + 1); unfold pRun; rw [← e2, if_neg (fun q => by have q2 : B (1545 + 64 * tn + (i - 1)) < _ := q.2; rw [show 1545 + 64 * tn + (i - 1) = 1545 + 64 * tn + i - 1 from by omega] at q2; exact Int32.not_lt.mpr c68 q2)])
            have e1' : ri = pRis (fun q => B (1545 + 64 * tn + q)) (i + 1) := (by unfold pRis; rw [← e1, ← e2', if_neg (by omega)])
            exact (ih (by omega) _ _ _ ⟨e1', e2', h⟩)
          · -- 84
            refine x_iload_n C dX9_rise_84 rfl rfl ?_
            refine x_goto (tgt := 89) C dX9_rise_85 rfl ?_
            refine x_istore_n C dX9_rise_89 rfl (gs1_2 rfl) rfl ?_
            refine x_iincN C dX9_rise_90 rfl (gs1_4 rfl) rfl ?_
            refine x_goto (tgt := 22) C dX9_rise_93 rfl ?_
            have e2' : 1 = pRun (fun q => B (1545 + 64 * tn + q)) (i + 1) := (by show _ = pRun (fun q => B (1545 + 64 * tn + q)) (i + 1); unfold pRun; rw [← e2, if_neg (fun q => by have q2 : B (1545 + 64 * tn + (i - 1)) < _ := q.2; rw [show 1545 + 64 * tn + (i - 1) = 1545 + 64 * tn + i - 1 from by omega] at q2; exact Int32.not_lt.mpr c68 q2)])
            have e1' : 1 = pRis (fun q => B (1545 + 64 * tn + q)) (i + 1) := (by unfold pRis; rw [← e1, ← e2', if_pos (by omega)])
            exact (ih (by omega) _ _ _ ⟨e1', e2', h⟩)
        · -- 71
          refine x_iload_n C dX9_rise_71 rfl rfl ?_
          refine x_iconst C dX9_rise_72 kc_1 ?_
          refine x_iaddN C dX9_rise_73 ?_
          refine x_goto (tgt := 78) C dX9_rise_74 rfl ?_
          refine x_istore_n C dX9_rise_78 rfl (gs1_3 rfl) rfl ?_
          refine x_iload_n C dX9_rise_79 rfl rfl ?_
          refine x_iload_n C dX9_rise_80 rfl rfl ?_
          refine x_icmp_leN (tgt := 88) C (by omega) (by omega) dX9_rise_81 rfl (fun c81 => ?_) (fun c81 => ?_)
          · -- 88
            refine x_iload_n C dX9_rise_88 rfl rfl ?_
            refine x_istore_n C dX9_rise_89 rfl (gs1_2 rfl) rfl ?_
            refine x_iincN C dX9_rise_90 rfl (gs1_4 rfl) rfl ?_
            refine x_goto (tgt := 22) C dX9_rise_93 rfl ?_
            have e2' : ru + 1 = pRun (fun q => B (1545 + 64 * tn + q)) (i + 1) := (by show _ = pRun (fun q => B (1545 + 64 * tn + q)) (i + 1); unfold pRun; rw [← e2, if_pos ⟨by omega, by show B (1545 + 64 * tn + (i - 1)) < _; rw [show 1545 + 64 * tn + (i - 1) = 1545 + 64 * tn + i - 1 from by omega]; exact Int32.not_le.mp c68⟩])
            have e1' : ri = pRis (fun q => B (1545 + 64 * tn + q)) (i + 1) := (by unfold pRis; rw [← e1, ← e2', if_neg (by omega)])
            exact (ih (by omega) _ _ _ ⟨e1', e2', h⟩)
          · -- 84
            refine x_iload_n C dX9_rise_84 rfl rfl ?_
            refine x_goto (tgt := 89) C dX9_rise_85 rfl ?_
            refine x_istore_n C dX9_rise_89 rfl (gs1_2 rfl) rfl ?_
            refine x_iincN C dX9_rise_90 rfl (gs1_4 rfl) rfl ?_
            refine x_goto (tgt := 22) C dX9_rise_93 rfl ?_
            have e2' : ru + 1 = pRun (fun q => B (1545 + 64 * tn + q)) (i + 1) := (by show _ = pRun (fun q => B (1545 + 64 * tn + q)) (i + 1); unfold pRun; rw [← e2, if_pos ⟨by omega, by show B (1545 + 64 * tn + (i - 1)) < _; rw [show 1545 + 64 * tn + (i - 1) = 1545 + 64 * tn + i - 1 from by omega]; exact Int32.not_le.mp c68⟩])
            have e1' : ru + 1 = pRis (fun q => B (1545 + 64 * tn + q)) (i + 1) := (by unfold pRis; rw [← e1, ← e2', if_pos (by omega)])
            exact (ih (by omega) _ _ _ ⟨e1', e2', h⟩)
  · -- false
    refine x_if_neF (tgt := 15) C (by decide) dX9_rise_10 rfl ?_
    refine x_iconst C dX9_rise_13 kc_m1 ?_
    exact x_iret C dX9_rise_14 ⟨Nat.le_refl _, Nat.le_refl _⟩ (gq h (by first | exact hs1 | exact hs1.y | exact hs1.y7 | exact hs1.yy7) (by unfold qRise; rw [if_neg b7]; first | done | assumption | rfl))
