set_option maxRecDepth 100000
theorem mi_X9_bestWait : gMV RX9 yX9_bestWait cX9_bestWait 12 (some .int) 2 := ⟨q2892, q2893, q165, q2894, by decide +kernel⟩
set_option maxHeartbeats 4000000 in
set_option maxRecDepth 100000 in
theorem met_X9_bestWait (l : Launch) {G : gG} (hG : gOK G) {ad : Nat → Nat} {σ : mS} {M0 : gM} {b : Nat} {B : Nat → Int32} {a k : Int32} {A : Nat → Nat → Int32} {T : Nat} (h : MR G ad (sb σ b B) M0) (hb : mI σ 21 = nI b) (hA : mA σ = A) (hT : mI σ 11 = nI T) (hb0_ : b < 23) (hw : wT T A) (hB : wB T B) : Met l yX9_bestWait (ws_ yX9_bestWait cX9_bestWait 12 (some .int)) ({ frames := 7, cells := 0, slots := 0, locals := 168 }) (gPre G M0 [.ref (ad 0), .int (a), .int (k)]) (gQ G (gI (fun r M1 => ∃ σ', sQ σ σ' ∧ MF G ad M0 (sb σ' b B) M1 ∧ qWait A B a k = r))) 0 0 (gA G) := by
  refine gMet (L0 := [some (.ref (ad 0)), some (.int (a)), some (.int (k)), none, none, none, none, none, none, none, none, none]) RX9 hG (by decide +kernel) rfl (Nat.le_of_ble_eq_true rfl) rfl ?_
  intro p e s m args below meth c C hnm
  have h := MF.rf h
  have hT4 := hw.T4
  have hnw : B 0 = nI (pNow B) := hB.now.1
  have hnow : pNow B ≤ 63 := hB.now.2
  have hna : B 1865 = nI (dN (B 1865)) := hB.na.1
  have hna8 : dN (B 1865) ≤ 8 := hB.na.2
  have hkp : B 1867 = nI (dN (B 1867)) := hB.kept.1
  have hkp40 : dN (B 1867) ≤ 40 := hB.kept.2
  refine x_aload_n C dX9_bestWait_0 rfl rfl ?_
  refine x_iconst C dX9_bestWait_1 kc_0 ?_
  refine m_put C h 2 rfl q2411 rfl rfl rfl rfl dX9_bestWait_2 (fun M h => ?_)
  obtain ⟨σ1, hs1, h⟩ : ∃ σ', sQ σ σ' ∧ MF G ad M0 (sb σ' b B) M := ⟨_, sQ.p2, h⟩
  refine x_aload_n C dX9_bestWait_5 rfl rfl ?_
  refine x_iload_n C dX9_bestWait_6 rfl rfl ?_
  refine x_V1I C (met_X9_isAsset l C.1 h.1 ((hs1.2.2 21 (by decide) (by decide)).trans hb) hna (by omega)) mi_X9_isAsset q2645 gcX9 h.1.1 ⟨rfl, rfl⟩ rfl ⟨Nat.le_refl _, Nat.le_refl _⟩ rfl dX9_bestWait_7 (fun r M1 hr => ?_)
  rcases hr with ⟨rfl, rfl, b7⟩ | ⟨rfl, rfl, b7⟩
  · -- true
    obtain ⟨an, rfl, hlan⟩ := iT.ex b7 (by omega)
    have ean : dN (nI an) = an := dN_nI (by omega)
    have hR : wR T (pNow B) (pYr B) B an := hB.row hlan
    obtain ⟨hr0, hr0b⟩ : dN (B (2084 + 48 * an + 0)) ≤ 3 ∧ dN (B (2084 + 48 * an + 0)) < T := ⟨hR.owner.1.2, hR.owner.2⟩
    have hr5 := hR.bought.2
    have hr7 := hR.sold.2
    have hr47 := hR.thr.1.2
    refine x_if_eqF (tgt := 22) C (by decide) dX9_bestWait_10 rfl ?_
    refine x_iload_n C dX9_bestWait_13 rfl rfl ?_
    refine x_iconst C dX9_bestWait_14 kc_0 ?_
    refine x_iconst C dX9_bestWait_15 kc_1 ?_
    refine x_S3I C (met_X9_isIn l C.1) mi_X9_isIn q2550 ⟨rfl, rfl⟩ rfl ⟨Nat.le_refl _, Nat.le_refl _⟩ rfl dX9_bestWait_16 (fun r M1 hr => ?_)
    rcases hr with ⟨rfl, rfl, b16⟩ | ⟨rfl, rfl, b16⟩
    · -- true
      refine x_if_neT (tgt := 24) C (by decide) dX9_bestWait_19 rfl ?_
      refine x_aload_n C dX9_bestWait_24 rfl rfl ?_
      refine x_iload_n C dX9_bestWait_25 rfl rfl ?_
      refine x_V1I C (met_X9_isGone l C.1 h.1 ((hs1.2.2 21 (by decide) (by decide)).trans hb) hR.sold.1 (by omega) (by omega) (by omega)) mi_X9_isGone q2649 gcX9 h.1.1 ⟨rfl, rfl⟩ rfl ⟨Nat.le_refl _, Nat.le_refl _⟩ rfl dX9_bestWait_26 (fun r M1 hr => ?_)
      rcases hr with ⟨rfl, rfl, b26⟩ | ⟨rfl, rfl, b26⟩
      · -- true
        refine x_if_eqF (tgt := 35) C (by decide) dX9_bestWait_29 rfl ?_
        refine x_bipush C dX9_bestWait_32 kb_m2 ?_
        exact x_iret C dX9_bestWait_34 ⟨Nat.le_refl _, Nat.le_refl _⟩ (gq h (by first | exact hs1 | exact hs1.y | exact hs1.y7 | exact hs1.yy7) (by unfold qWait; simp only [ean]; rw [if_pos b7, if_pos b16, if_pos b26]; first | done | assumption | rfl))
      · -- false
        refine x_if_eqT (tgt := 35) C (by decide) dX9_bestWait_29 rfl ?_
        have hbe := pBeh_nat (T := T) (w := 0) (Y := 0) hR hnow b26
        obtain ⟨hs5, hs10, hse⟩ := hR.span10
        have hbe2 := hbe.2
        refine x_aload_n C dX9_bestWait_35 rfl rfl ?_
        refine x_iload_n C dX9_bestWait_36 rfl rfl ?_
        refine x_V1I C (met_X9_baseNow l C.1 h.1 ((hs1.2.2 21 (by decide) (by decide)).trans hb) (hs1.1.trans hA) hnw hR.owner.1.1 hR.bought.1.1 hR.thr.1.1 (by omega) (by omega) (by omega) (by omega) (by omega) (by omega) (by omega) hw) mi_X9_baseNow q2887 gcX9 h.1.1 ⟨rfl, rfl⟩ rfl ⟨Nat.le_refl _, Nat.le_refl _⟩ rfl dX9_bestWait_37 (fun r M1 hr => ?_)
        obtain ⟨σ2, hs2, hr, rfl⟩ := hr
        have h := h.tr hr
        have hs1 := hs1.tr hs2.sQ
        refine x_istore_n C dX9_bestWait_40 rfl (gs1_3 rfl) rfl ?_
        refine x_aload_n C dX9_bestWait_41 rfl rfl ?_
        refine x_iload_n C dX9_bestWait_42 rfl rfl ?_
        refine x_aload_n C dX9_bestWait_43 rfl rfl ?_
        refine x_iload_n C dX9_bestWait_44 rfl rfl ?_
        refine x_aload_n C dX9_bestWait_45 rfl rfl ?_
        refine x_iload_n C dX9_bestWait_46 rfl rfl ?_
        refine x_iconst C dX9_bestWait_47 kc_2 ?_
        refine x_V2I C (met_X9_at l C.1 h.1 ((hs1.2.2 21 (by decide) (by decide)).trans hb) (by omega) (by omega) (by omega)) mi_X9_at q2653 gcX9 h.1.1 ⟨rfl, rfl⟩ rfl ⟨Nat.le_refl _, Nat.le_refl _⟩ rfl dX9_bestWait_48 (fun r M1 hr => ?_)
        obtain ⟨rfl, rfl⟩ := hr
        refine x_V2I C (met_X9_worthBy l C.1 h.1 ((hs1.2.2 21 (by decide) (by decide)).trans hb) (hs1.1.trans hA) hnw hR.owner.1.1 hR.bought.1.1 (by omega) (by omega) (by omega) (by omega) (by omega) (by omega) hw) mi_X9_worthBy q2748 gcX9 h.1.1 ⟨rfl, rfl⟩ rfl ⟨Nat.le_refl _, Nat.le_refl _⟩ rfl dX9_bestWait_51 (fun r M1 hr => ?_)
        obtain ⟨rfl, hr⟩ := hr
        have h := h.tr hr
        refine x_iload_n C dX9_bestWait_54 rfl rfl ?_
        refine x_V3J C (met_X9_adjustedBy l C.1 h.1 ((hs1.2.2 21 (by decide) (by decide)).trans hb) (hs1.1.trans hA) (by omega) (by omega) hw hR.span) mi_X9_adjustedBy q2765 gcX9 h.1.1 ⟨rfl, rfl⟩ rfl ⟨Nat.le_refl _, Nat.le_refl _⟩ rfl dX9_bestWait_55 (fun r M1 hr => ?_)
        obtain ⟨rfl, rfl⟩ := hr
        refine x_lstore C dX9_bestWait_58 (gs2_4 rfl) rfl ?_
        refine x_iconst C dX9_bestWait_60 kc_0 ?_
        refine x_istore C dX9_bestWait_61 (gs1_6 rfl) rfl ?_
        refine x_lconst (v := 0) C dX9_bestWait_63 rfl ?_
        refine x_lstore C dX9_bestWait_64 (gs2_7 rfl) rfl ?_
        refine x_iconst C dX9_bestWait_66 kc_0 ?_
        refine x_istore C dX9_bestWait_67 (gs1_9 rfl) rfl ?_
        refine x_loopS (head := 69) (E := dN (B (2084 + 48 * an + 4)) - (pNow B / 4 - dN (B (2084 + 48 * an + 5)) / 4)) (α := Int32) (β := Int64) 0 (by omega) (fun i bs ms M => bs = (pTopL (fWait A B an k) i).1 ∧ ms = (pTopL (fWait A B an k) i).2 ∧ MF G ad M0 (sb (sy σ2 (pYS B (dN (B (2084 + 48 * an + 0))) (pNow B / 4)) (pHO B (dN (B (2084 + 48 * an + 0)))) (pHA B (dN (B (2084 + 48 * an + 0))))) b B) M) (fun i bs ms => [some (.ref (ad 0)), some (.int (nI an)), some (.int k), some (.int (pBas A B an)), some (.long (pAdj A B an (pWorth A B an (B (2084 + 48 * an + 2))) (pBas A B an))), none, some (.int bs), some (.long ms), none, some (.int (nI i)), none, none]) (nI 0) 0 ⟨rfl, rfl, h⟩ (fun i bs ms M ha hi h ih => ?_)
        obtain ⟨eb, em, h⟩ := h
        refine x_iload C dX9_bestWait_69 rfl ?_
        refine x_aload_n C dX9_bestWait_71 rfl rfl ?_
        refine x_iload_n C dX9_bestWait_72 rfl rfl ?_
        refine x_V1I C (met_X9_behindOf l C.1 h.1 ((hs1.2.2 21 (by decide) (by decide)).trans hb) hnw hR.bought.1.1 (by omega) (by omega) (by omega) (by omega) (by omega)) mi_X9_behindOf q2665 gcX9 h.1.1 ⟨rfl, rfl⟩ rfl ⟨Nat.le_refl _, Nat.le_refl _⟩ rfl dX9_bestWait_73 (fun r M1 hr => ?_)
        obtain ⟨rfl, hr⟩ := hr
        have hr := hr.symm.trans hbe.1
        subst hr
        refine x_icmp_gtN (tgt := 148) C (by omega) (by omega) dX9_bestWait_76 rfl (fun c76 => ?_) (fun c76 => ?_)
        · -- 148
          obtain rfl : i = dN (B (2084 + 48 * an + 4)) - (pNow B / 4 - dN (B (2084 + 48 * an + 5)) / 4) := by omega
          refine x_iload C dX9_bestWait_148 rfl ?_
          exact x_iret C dX9_bestWait_150 ⟨Nat.le_refl _, Nat.le_refl _⟩ (gq h (by first | exact hs1 | exact hs1.y | exact hs1.y7 | exact hs1.yy7) (by unfold qWait; simp only [ean]; rw [if_pos b7, if_pos b16, if_neg b26]; exact eb.symm))
        · -- 79
          refine x_join (α := Nat) (P := fun v => v = if iTh B an then i + 1 else i) (LL := fun v => [some (.ref (ad 0)), some (.int (nI an)), some (.int k), some (.int (pBas A B an)), some (.long (pAdj A B an (pWorth A B an (B (2084 + 48 * an + 2))) (pBas A B an))), none, some (.int bs), some (.long ms), none, some (.int (nI i)), none, none]) (ss := fun v => [.int (nI v), .long (pAdj A B an (pWorth A B an (B (2084 + 48 * an + 2))) (pBas A B an))]) 98 (fun v hv => ?_) (fun J98 => ?_)
          · -- join 98
            refine x_i2l C dX9_bestWait_98 ?_
            refine x_lmul C dX9_bestWait_99 ?_
            refine x_aload_n C dX9_bestWait_100 rfl rfl ?_
            refine x_iload_n C dX9_bestWait_101 rfl rfl ?_
            refine x_aload_n C dX9_bestWait_102 rfl rfl ?_
            refine x_iload_n C dX9_bestWait_103 rfl rfl ?_
            refine x_V1I C (met_X9_behindOf l C.1 h.1 ((hs1.2.2 21 (by decide) (by decide)).trans hb) hnw hR.bought.1.1 (by omega) (by omega) (by omega) (by omega) (by omega)) mi_X9_behindOf q2665 gcX9 h.1.1 ⟨rfl, rfl⟩ rfl ⟨Nat.le_refl _, Nat.le_refl _⟩ rfl dX9_bestWait_104 (fun r M1 hr => ?_)
            obtain ⟨rfl, rfl⟩ := hr
            refine x_iload C dX9_bestWait_107 rfl ?_
            refine x_isub C dX9_bestWait_109 ?_
            refine x_iload_n C dX9_bestWait_110 rfl rfl ?_
            refine x_iload_n C dX9_bestWait_111 rfl rfl ?_
            refine x_V4J C (met_X9_lastBy l C.1 h.1 ((hs1.2.2 21 (by decide) (by decide)).trans hb) (hs1.1.trans hA) (by omega) (by omega) hw hR.span) mi_X9_lastBy q2773 gcX9 h.1.1 ⟨rfl, rfl⟩ rfl ⟨Nat.le_refl _, Nat.le_refl _⟩ rfl dX9_bestWait_112 (fun r M1 hr => ?_)
            obtain ⟨rfl, rfl⟩ := hr
            refine x_ladd C dX9_bestWait_115 ?_
            subst hv
            refine x_lstore C dX9_bestWait_116 (gs2_10 rfl) rfl ?_
            refine x_iload C dX9_bestWait_118 rfl ?_
            refine x_if_leN (tgt := 134) C (by omega) dX9_bestWait_120 rfl (fun c120 => ?_) (fun c120 => ?_)
            · -- 134
              refine x_iload C dX9_bestWait_134 rfl ?_
              refine x_istore C dX9_bestWait_136 (gs1_6 rfl) rfl ?_
              refine x_lload C dX9_bestWait_138 rfl ?_
              refine x_lstore C dX9_bestWait_140 (gs2_7 rfl) rfl ?_
              refine x_iincN C dX9_bestWait_142 rfl (gs1_9 rfl) rfl ?_
              refine x_goto (tgt := 69) C dX9_bestWait_145 rfl ?_
              exact x_wk [true, true, true, true, true, true, true, true, true, true, false, true] rfl (ih (by omega) _ _ _ ⟨by rw [pTopL_y em (Or.inl (by omega))] <;> rfl, by rw [pTopL_y em (Or.inl (by omega))] <;> rfl, h⟩)
            · -- 123
              refine x_lload C dX9_bestWait_123 rfl ?_
              refine x_lload C dX9_bestWait_125 rfl ?_
              refine x_lcmp C dX9_bestWait_127 ?_
              refine x_if_gtL (tgt := 134) C dX9_bestWait_128 rfl (fun c128 => ?_) (fun c128 => ?_)
              · -- 134
                refine x_iload C dX9_bestWait_134 rfl ?_
                refine x_istore C dX9_bestWait_136 (gs1_6 rfl) rfl ?_
                refine x_lload C dX9_bestWait_138 rfl ?_
                refine x_lstore C dX9_bestWait_140 (gs2_7 rfl) rfl ?_
                refine x_iincN C dX9_bestWait_142 rfl (gs1_9 rfl) rfl ?_
                refine x_goto (tgt := 69) C dX9_bestWait_145 rfl ?_
                exact x_wk [true, true, true, true, true, true, true, true, true, true, false, true] rfl (ih (by omega) _ _ _ ⟨by rw [pTopL_y em (Or.inr c128)] <;> rfl, by rw [pTopL_y em (Or.inr c128)] <;> rfl, h⟩)
              · -- 131
                refine x_goto (tgt := 142) C dX9_bestWait_131 rfl ?_
                refine x_iincN C dX9_bestWait_142 rfl (gs1_9 rfl) rfl ?_
                refine x_goto (tgt := 69) C dX9_bestWait_145 rfl ?_
                exact x_wk [true, true, true, true, true, true, true, true, true, true, false, true] rfl (ih (by omega) _ _ _ ⟨by rw [pTopL_n em (by omega) c128]; exact eb, by rw [pTopL_n em (by omega) c128]; exact em, h⟩)
          · -- to the join
            refine x_lload C dX9_bestWait_79 rfl ?_
            refine x_aload_n C dX9_bestWait_81 rfl rfl ?_
            refine x_iload_n C dX9_bestWait_82 rfl rfl ?_
            refine x_V1I C (met_X9_isThrough l C.1 h.1 ((hs1.2.2 21 (by decide) (by decide)).trans hb) hR.thr.1.1 (by omega) (by omega) (by omega)) mi_X9_isThrough q2789 gcX9 h.1.1 ⟨rfl, rfl⟩ rfl ⟨Nat.le_refl _, Nat.le_refl _⟩ rfl dX9_bestWait_83 (fun r M1 hr => ?_)
            rcases hr with ⟨rfl, rfl, b83⟩ | ⟨rfl, rfl, b83⟩
            · -- true
              refine x_if_eqF (tgt := 96) C (by decide) dX9_bestWait_86 rfl ?_
              refine x_iload C dX9_bestWait_89 rfl ?_
              refine x_iconst C dX9_bestWait_91 kc_1 ?_
              refine x_iaddN C dX9_bestWait_92 ?_
              refine x_goto (tgt := 98) C dX9_bestWait_93 rfl ?_
              exact (J98 _ (if_pos b83).symm)
            · -- false
              refine x_if_eqT (tgt := 96) C (by decide) dX9_bestWait_86 rfl ?_
              refine x_iload C dX9_bestWait_96 rfl ?_
              exact (J98 _ (if_neg b83).symm)
    · -- false
      refine x_if_neF (tgt := 24) C (by decide) dX9_bestWait_19 rfl ?_
      refine x_iconst C dX9_bestWait_22 kc_m1 ?_
      exact x_iret C dX9_bestWait_23 ⟨Nat.le_refl _, Nat.le_refl _⟩ (gq h (by first | exact hs1 | exact hs1.y | exact hs1.y7 | exact hs1.yy7) (by unfold qWait; simp only [ean]; rw [if_pos b7, if_neg b16]; first | done | assumption | rfl))
  · -- false
    refine x_if_eqT (tgt := 22) C (by decide) dX9_bestWait_10 rfl ?_
    refine x_iconst C dX9_bestWait_22 kc_m1 ?_
    exact x_iret C dX9_bestWait_23 ⟨Nat.le_refl _, Nat.le_refl _⟩ (gq h (by first | exact hs1 | exact hs1.y | exact hs1.y7 | exact hs1.yy7) (by unfold qWait; rw [if_neg b7]; first | done | assumption | rfl))
theorem mi_X9_even : gMV RX9 yX9_even cX9_even 4 (some .int) 2 := ⟨q2908, q2909, q165, q2910, by decide +kernel⟩
set_option maxHeartbeats 4000000 in
set_option maxRecDepth 100000 in
theorem met_X9_even (l : Launch) {G : gG} (hG : gOK G) {ad : Nat → Nat} {σ : mS} {M0 : gM} {b : Nat} {B : Nat → Int32} {a m_ : Int32} {A : Nat → Nat → Int32} {T : Nat} (h : MR G ad (sb σ b B) M0) (hb : mI σ 21 = nI b) (hA : mA σ = A) (hT : mI σ 11 = nI T) (hb0_ : b < 23) (hw : wT T A) (hB : wB T B) : Met l yX9_even (ws_ yX9_even cX9_even 4 (some .int)) ({ frames := 4, cells := 0, slots := 0, locals := 96 }) (gPre G M0 [.ref (ad 0), .int (a), .int (m_)]) (gQ G (gI (fun r M1 => ∃ σ', sQ σ σ' ∧ MF G ad M0 (sb σ' b B) M1 ∧ qEven A B a m_ = r))) 0 0 (gA G) := by
  refine gMet (L0 := [some (.ref (ad 0)), some (.int (a)), some (.int (m_)), none]) RX9 hG (by decide +kernel) rfl (Nat.le_of_ble_eq_true rfl) rfl ?_
  intro p e s m args below meth c C hnm
  have h := MF.rf h
  have hT4 := hw.T4
  have hnw : B 0 = nI (pNow B) := hB.now.1
  have hnow : pNow B ≤ 63 := hB.now.2
  have hna : B 1865 = nI (dN (B 1865)) := hB.na.1
  have hna8 : dN (B 1865) ≤ 8 := hB.na.2
  have hkp : B 1867 = nI (dN (B 1867)) := hB.kept.1
  have hkp40 : dN (B 1867) ≤ 40 := hB.kept.2
  have hst := hw.step.2
  refine x_aload_n C dX9_even_0 rfl rfl ?_
  refine x_iconst C dX9_even_1 kc_0 ?_
  refine m_put C h 2 rfl q2411 rfl rfl rfl rfl dX9_even_2 (fun M h => ?_)
  obtain ⟨σ1, hs1, h⟩ : ∃ σ', sQ σ σ' ∧ MF G ad M0 (sb σ' b B) M := ⟨_, sQ.p2, h⟩
  refine x_aload_n C dX9_even_5 rfl rfl ?_
  refine x_iload_n C dX9_even_6 rfl rfl ?_
  refine x_V1I C (met_X9_isAsset l C.1 h.1 ((hs1.2.2 21 (by decide) (by decide)).trans hb) hna (by omega)) mi_X9_isAsset q2645 gcX9 h.1.1 ⟨rfl, rfl⟩ rfl ⟨Nat.le_refl _, Nat.le_refl _⟩ rfl dX9_even_7 (fun r M1 hr => ?_)
  rcases hr with ⟨rfl, rfl, b7⟩ | ⟨rfl, rfl, b7⟩
  · -- true
    obtain ⟨an, rfl, hlan⟩ := iT.ex b7 (by omega)
    have ean : dN (nI an) = an := dN_nI (by omega)
    have hR : wR T (pNow B) (pYr B) B an := hB.row hlan
    obtain ⟨hr0, hr0b⟩ : dN (B (2084 + 48 * an + 0)) ≤ 3 ∧ dN (B (2084 + 48 * an + 0)) < T := ⟨hR.owner.1.2, hR.owner.2⟩
    have hr5 := hR.bought.2
    have hr7 := hR.sold.2
    have hr47 := hR.thr.1.2
    refine x_if_eqF (tgt := 25) C (by decide) dX9_even_10 rfl ?_
    refine x_iload_n C dX9_even_13 rfl rfl ?_
    refine x_ldcw C dX9_even_14 q2911 ?_
    refine x_ldc C dX9_even_17 q2529 ?_
    rw [show (99999 : Int32) = nI 99999 from by decide +kernel]
    refine x_S3I C (met_X9_isIn l C.1) mi_X9_isIn q2550 ⟨rfl, rfl⟩ rfl ⟨Nat.le_refl _, Nat.le_refl _⟩ rfl dX9_even_19 (fun r M1 hr => ?_)
    rcases hr with ⟨rfl, rfl, b19⟩ | ⟨rfl, rfl, b19⟩
    · -- true
      refine x_if_neT (tgt := 27) C (by decide) dX9_even_22 rfl ?_
      refine x_aload_n C dX9_even_27 rfl rfl ?_
      refine x_iload_n C dX9_even_28 rfl rfl ?_
      refine x_V1I C (met_X9_isThrough l C.1 h.1 ((hs1.2.2 21 (by decide) (by decide)).trans hb) hR.thr.1.1 (by omega) (by omega) (by omega)) mi_X9_isThrough q2789 gcX9 h.1.1 ⟨rfl, rfl⟩ rfl ⟨Nat.le_refl _, Nat.le_refl _⟩ rfl dX9_even_29 (fun r M1 hr => ?_)
      rcases hr with ⟨rfl, rfl, b29⟩ | ⟨rfl, rfl, b29⟩
      · -- true
        refine x_if_neT (tgt := 38) C (by decide) dX9_even_32 rfl ?_
        refine x_iconst C dX9_even_38 kc_0 ?_
        refine x_istore_n C dX9_even_39 rfl (gs1_3 rfl) rfl ?_
        refine x_loop (head := 40) (E := dN (A 6 1) + 1) (fun i M => pFind (fun w => m_.toInt64 ≤ pAdj A B an (nI w) (B (2084 + 48 * an + 6))) i = i ∧ MF G ad M0 (sb σ1 b B) M) (fun i => [some (.ref (ad 0)), some (.int (nI an)), some (.int m_), some (.int (nI i))]) ⟨rfl, h⟩ (fun i M hi h ih => ?_)
        obtain ⟨hf, h⟩ := h
        refine x_iload_n C dX9_even_40 rfl rfl ?_
        refine x_aload_n C dX9_even_41 rfl rfl ?_
        refine m_get C h 17 rfl q2426 rfl dX9_even_42 ?_
        refine x_iconst C dX9_even_45 kc_1 ?_
        refine m_ald C h 6 (N := 14) (by decide) rfl rfl (by omega) ((congrFun (congrFun (hs1.1.trans hA) 6) _).trans hw.step.1) dX9_even_46 ?_
        refine x_icmp_gtN (tgt := 77) C (by omega) (by omega) dX9_even_47 rfl (fun c47 => ?_) (fun c47 => ?_)
        · -- 77
          refine x_bipush C dX9_even_77 kb_m2 ?_
          exact x_iret C dX9_even_79 ⟨Nat.le_refl _, Nat.le_refl _⟩ (gq h (by first | exact hs1 | exact hs1.y | exact hs1.y7 | exact hs1.yy7) (by unfold qEven; simp only [ean]; rw [if_pos b7, if_pos b19, if_pos b29]; rw [show dN (A 6 1) + 1 = i from by omega, hf, if_neg (by omega)]))
        · -- 50
          refine x_aload_n C dX9_even_50 rfl rfl ?_
          refine x_iload_n C dX9_even_51 rfl rfl ?_
          refine x_iload_n C dX9_even_52 rfl rfl ?_
          refine x_aload_n C dX9_even_53 rfl rfl ?_
          refine x_iload_n C dX9_even_54 rfl rfl ?_
          refine x_bipush C dX9_even_55 kb_6 ?_
          refine x_V2I C (met_X9_at l C.1 h.1 ((hs1.2.2 21 (by decide) (by decide)).trans hb) (by omega) (by omega) (by omega)) mi_X9_at q2653 gcX9 h.1.1 ⟨rfl, rfl⟩ rfl ⟨Nat.le_refl _, Nat.le_refl _⟩ rfl dX9_even_57 (fun r M1 hr => ?_)
          obtain ⟨rfl, rfl⟩ := hr
          refine x_V3J C (met_X9_adjustedBy l C.1 h.1 ((hs1.2.2 21 (by decide) (by decide)).trans hb) (hs1.1.trans hA) (by omega) (by omega) hw hR.span) mi_X9_adjustedBy q2765 gcX9 h.1.1 ⟨rfl, rfl⟩ rfl ⟨Nat.le_refl _, Nat.le_refl _⟩ rfl dX9_even_60 (fun r M1 hr => ?_)
          obtain ⟨rfl, rfl⟩ := hr
          refine x_iload_n C dX9_even_63 rfl rfl ?_
          refine x_i2l C dX9_even_64 ?_
          refine x_lcmp C dX9_even_65 ?_
          refine x_if_ltL (tgt := 71) C dX9_even_66 rfl (fun c66 => ?_) (fun c66 => ?_)
          · -- 71
            refine x_iincN C dX9_even_71 rfl (gs1_3 rfl) rfl ?_
            refine x_goto (tgt := 40) C dX9_even_74 rfl ?_
            exact (ih (by omega) _ ⟨pFind_s hf (Int64.not_le.mpr c66), h⟩)
          · -- 69
            refine x_iload_n C dX9_even_69 rfl rfl ?_
            exact x_iret C dX9_even_70 ⟨Nat.le_refl _, Nat.le_refl _⟩ (gq h (by first | exact hs1 | exact hs1.y | exact hs1.y7 | exact hs1.yy7) (by unfold qEven; simp only [ean]; rw [if_pos b7, if_pos b19, if_pos b29]; rw [pFind_h hf (Int64.not_lt.mp c66) (by omega), if_pos (by omega)]))
      · -- false
        refine x_if_neF (tgt := 38) C (by decide) dX9_even_32 rfl ?_
        refine x_bipush C dX9_even_35 kb_m3 ?_
        exact x_iret C dX9_even_37 ⟨Nat.le_refl _, Nat.le_refl _⟩ (gq h (by first | exact hs1 | exact hs1.y | exact hs1.y7 | exact hs1.yy7) (by unfold qEven; simp only [ean]; rw [if_pos b7, if_pos b19, if_neg b29]; first | done | assumption | rfl))
    · -- false
      refine x_if_neF (tgt := 27) C (by decide) dX9_even_22 rfl ?_
      refine x_iconst C dX9_even_25 kc_m1 ?_
      exact x_iret C dX9_even_26 ⟨Nat.le_refl _, Nat.le_refl _⟩ (gq h (by first | exact hs1 | exact hs1.y | exact hs1.y7 | exact hs1.yy7) (by unfold qEven; simp only [ean]; rw [if_pos b7, if_neg b19]; first | done | assumption | rfl))
  · -- false
    refine x_if_eqT (tgt := 25) C (by decide) dX9_even_10 rfl ?_
    refine x_iconst C dX9_even_25 kc_m1 ?_
    exact x_iret C dX9_even_26 ⟨Nat.le_refl _, Nat.le_refl _⟩ (gq h (by first | exact hs1 | exact hs1.y | exact hs1.y7 | exact hs1.yy7) (by unfold qEven; rw [if_neg b7]; first | done | assumption | rfl))
theorem mi_X9_owners : gMV RX9 yX9_owners cX9_owners 5 (some .int) 1 := ⟨q2904, q2905, q165, q2906, by decide +kernel⟩
set_option maxHeartbeats 4000000 in
set_option maxRecDepth 100000 in
theorem met_X9_owners (l : Launch) {G : gG} (hG : gOK G) {ad : Nat → Nat} {σ : mS} {M0 : gM} {b : Nat} {B : Nat → Int32} {a : Int32} {A : Nat → Nat → Int32} {T : Nat} (h : MR G ad (sb σ b B) M0) (hb : mI σ 21 = nI b) (hA : mA σ = A) (hT : mI σ 11 = nI T) (hb0_ : b < 23) (hw : wT T A) (hB : wB T B) : Met l yX9_owners (ws_ yX9_owners cX9_owners 5 (some .int)) ({ frames := 2, cells := 0, slots := 0, locals := 43 }) (gPre G M0 [.ref (ad 0), .int (a)]) (gQ G (gI (fun r M1 => ∃ σ', sQ σ σ' ∧ MF G ad M0 (sb σ' b B) M1 ∧ qOwn B a = r))) 0 0 (gA G) := by
  refine gMet (L0 := [some (.ref (ad 0)), some (.int (a)), none, none, none]) RX9 hG (by decide +kernel) rfl (Nat.le_of_ble_eq_true rfl) rfl ?_
  intro p e s m args below meth c C hnm
  have h := MF.rf h
  have hT4 := hw.T4
  have hnw : B 0 = nI (pNow B) := hB.now.1
  have hnow : pNow B ≤ 63 := hB.now.2
  have hna : B 1865 = nI (dN (B 1865)) := hB.na.1
  have hna8 : dN (B 1865) ≤ 8 := hB.na.2
  have hkp : B 1867 = nI (dN (B 1867)) := hB.kept.1
  have hkp40 : dN (B 1867) ≤ 40 := hB.kept.2
  refine x_aload_n C dX9_owners_0 rfl rfl ?_
  refine x_iconst C dX9_owners_1 kc_0 ?_
  refine m_put C h 2 rfl q2411 rfl rfl rfl rfl dX9_owners_2 (fun M h => ?_)
  obtain ⟨σ1, hs1, h⟩ : ∃ σ', sQ σ σ' ∧ MF G ad M0 (sb σ' b B) M := ⟨_, sQ.p2, h⟩
  refine x_aload_n C dX9_owners_5 rfl rfl ?_
  refine x_iload_n C dX9_owners_6 rfl rfl ?_
  refine x_V1I C (met_X9_isAsset l C.1 h.1 ((hs1.2.2 21 (by decide) (by decide)).trans hb) hna (by omega)) mi_X9_isAsset q2645 gcX9 h.1.1 ⟨rfl, rfl⟩ rfl ⟨Nat.le_refl _, Nat.le_refl _⟩ rfl dX9_owners_7 (fun r M1 hr => ?_)
  rcases hr with ⟨rfl, rfl, b7⟩ | ⟨rfl, rfl, b7⟩
  · -- true
    obtain ⟨an, rfl, hlan⟩ := iT.ex b7 (by omega)
    have ean : dN (nI an) = an := dN_nI (by omega)
    have hR : wR T (pNow B) (pYr B) B an := hB.row hlan
    obtain ⟨hr0, hr0b⟩ : dN (B (2084 + 48 * an + 0)) ≤ 3 ∧ dN (B (2084 + 48 * an + 0)) < T := ⟨hR.owner.1.2, hR.owner.2⟩
    have hr5 := hR.bought.2
    have hr7 := hR.sold.2
    have hr47 := hR.thr.1.2
    refine x_if_neT (tgt := 15) C (by decide) dX9_owners_10 rfl ?_
    refine x_join (α := Int32) (P := fun v => v = pOwB B an 0) (LL := fun v => [some (.ref (ad 0)), some (.int (nI an)), none, none, none]) (ss := fun v => [.int v]) 38 (fun v hv => ?_) (fun J38 => ?_)
    · -- join 38
      refine x_istore_n C dX9_owners_38 rfl (gs1_2 rfl) rfl ?_
      refine x_iconst C dX9_owners_39 kc_0 ?_
      refine x_istore_n C dX9_owners_40 rfl (gs1_3 rfl) rfl ?_
      refine x_loopS (head := 41) (E := dN (B (2084 + 48 * an + 47))) (α := Int32) (β := Unit) 0 (by omega) (fun i bt u_ M => bt = pOwB B an i ∧ MF G ad M0 (sb σ1 b B) M) (fun i bt u_ => [some (.ref (ad 0)), some (.int (nI an)), some (.int bt), some (.int (nI i)), none]) v () ⟨hv, h⟩ (fun i bt u_ M ha hi h ih => ?_)
      obtain ⟨eb, h⟩ := h
      refine x_iload_n C dX9_owners_41 rfl rfl ?_
      refine x_aload_n C dX9_owners_42 rfl rfl ?_
      refine x_iload_n C dX9_owners_43 rfl rfl ?_
      refine x_bipush C dX9_owners_44 kb_47 ?_
      refine x_V2I C (met_X9_at l C.1 h.1 ((hs1.2.2 21 (by decide) (by decide)).trans hb) (by omega) (by omega) (by omega)) mi_X9_at q2653 gcX9 h.1.1 ⟨rfl, rfl⟩ rfl ⟨Nat.le_refl _, Nat.le_refl _⟩ rfl dX9_owners_46 (fun r M1 hr => ?_)
      obtain ⟨rfl, hr⟩ := hr
      have hr := hr.symm.trans (show _ = nI (dN (B (2084 + 48 * an + 47))) from hR.thr.1.1)
      subst hr
      refine x_icmp_geN (tgt := 72) C (by omega) (by omega) dX9_owners_49 rfl (fun c49 => ?_) (fun c49 => ?_)
      · -- 72
        obtain rfl : i = dN (B (2084 + 48 * an + 47)) := by omega
        refine x_iconst C dX9_owners_72 kc_0 ?_
        refine x_istore_n C dX9_owners_73 rfl (gs1_3 rfl) rfl ?_
        refine x_iconst C dX9_owners_74 kc_0 ?_
        refine x_istore C dX9_owners_75 (gs1_4 rfl) rfl ?_
        refine x_loopS (head := 77) (E := 4) (α := Int32) (β := Unit) 0 (by omega) (fun i2 cn u2_ M => cn = pOwC bt i2 ∧ MF G ad M0 (sb σ1 b B) M) (fun i2 cn u2_ => [some (.ref (ad 0)), some (.int (nI an)), some (.int bt), some (.int cn), some (.int (nI i2))]) (nI 0) () ⟨rfl, h⟩ (fun i2 cn u2_ M ha2 hi2 h ih2 => ?_)
        obtain ⟨ec, h⟩ := h
        refine x_iload C dX9_owners_77 rfl ?_
        refine x_iconst C dX9_owners_79 kc_4 ?_
        refine x_icmp_geN (tgt := 98) C (by omega) (by omega) dX9_owners_80 rfl (fun c80 => ?_) (fun c80 => ?_)
        · -- 98
          obtain rfl : i2 = 4 := by omega
          refine x_iload_n C dX9_owners_98 rfl rfl ?_
          exact x_iret C dX9_owners_99 ⟨Nat.le_refl _, Nat.le_refl _⟩ (gq h hs1 (by unfold qOwn; simp only [ean]; rw [if_pos b7, ← eb]; exact ec.symm))
        · -- 83
          refine x_iload_n C dX9_owners_83 rfl rfl ?_
          refine x_iload_n C dX9_owners_84 rfl rfl ?_
          refine x_iload C dX9_owners_85 rfl ?_
          refine x_ishr C dX9_owners_87 ?_
          refine x_iconst C dX9_owners_88 kc_1 ?_
          refine x_iand C dX9_owners_89 ?_
          refine x_iadd C dX9_owners_90 ?_
          refine x_istore_n C dX9_owners_91 rfl (gs1_3 rfl) rfl ?_
          refine x_iincN C dX9_owners_92 rfl (gs1_4 rfl) rfl ?_
          refine x_goto (tgt := 77) C dX9_owners_95 rfl ?_
          exact (ih2 (by omega) _ () _ ⟨by rw [ec]; rfl, h⟩)
      · -- 52
        refine x_iload_n C dX9_owners_52 rfl rfl ?_
        refine x_iconst C dX9_owners_53 kc_1 ?_
        refine x_aload_n C dX9_owners_54 rfl rfl ?_
        refine x_iload_n C dX9_owners_55 rfl rfl ?_
        refine x_bipush C dX9_owners_56 kb_37 ?_
        refine x_iload_n C dX9_owners_58 rfl rfl ?_
        refine x_iaddN C dX9_owners_59 ?_
        refine x_V2I C (met_X9_at l C.1 h.1 ((hs1.2.2 21 (by decide) (by decide)).trans hb) (by omega) (by omega) (by omega)) mi_X9_at q2653 gcX9 h.1.1 ⟨rfl, rfl⟩ rfl ⟨Nat.le_refl _, Nat.le_refl _⟩ rfl dX9_owners_60 (fun r M1 hr => ?_)
        obtain ⟨rfl, rfl⟩ := hr
        refine x_ishl C dX9_owners_63 ?_
        refine x_ior C dX9_owners_64 ?_
        refine x_istore_n C dX9_owners_65 rfl (gs1_2 rfl) rfl ?_
        refine x_iincN C dX9_owners_66 rfl (gs1_3 rfl) rfl ?_
        refine x_goto (tgt := 41) C dX9_owners_69 rfl ?_
        exact (ih (by omega) _ () _ ⟨by rw [eb]; rfl, h⟩)
    · -- to the join
      refine x_aload_n C dX9_owners_15 rfl rfl ?_
      refine x_iload_n C dX9_owners_16 rfl rfl ?_
      refine x_bipush C dX9_owners_17 kb_9 ?_
      refine x_V2I C (met_X9_at l C.1 h.1 ((hs1.2.2 21 (by decide) (by decide)).trans hb) (by omega) (by omega) (by omega)) mi_X9_at q2653 gcX9 h.1.1 ⟨rfl, rfl⟩ rfl ⟨Nat.le_refl _, Nat.le_refl _⟩ rfl dX9_owners_19 (fun r M1 hr => ?_)
      obtain ⟨rfl, rfl⟩ := hr
      refine x_iconst C dX9_owners_22 kc_1 ?_
      refine x_icmp_ne (tgt := 30) C dX9_owners_23 rfl (fun c23 => ?_) (fun c23 => ?_)
      · -- 30
        refine x_iconst C dX9_owners_30 kc_1 ?_
        refine x_aload_n C dX9_owners_31 rfl rfl ?_
        refine x_iload_n C dX9_owners_32 rfl rfl ?_
        refine x_iconst C dX9_owners_33 kc_0 ?_
        refine x_V2I C (met_X9_at l C.1 h.1 ((hs1.2.2 21 (by decide) (by decide)).trans hb) (by omega) (by omega) (by omega)) mi_X9_at q2653 gcX9 h.1.1 ⟨rfl, rfl⟩ rfl ⟨Nat.le_refl _, Nat.le_refl _⟩ rfl dX9_owners_34 (fun r M1 hr => ?_)
        obtain ⟨rfl, rfl⟩ := hr
        refine x_ishl C dX9_owners_37 ?_
        exact (J38 _ (if_neg c23).symm)
      · -- 26
        refine x_iconst C dX9_owners_26 kc_0 ?_
        refine x_goto (tgt := 38) C dX9_owners_27 rfl ?_
        exact (J38 _ (if_pos c23).symm)
  · -- false
    refine x_if_neF (tgt := 15) C (by decide) dX9_owners_10 rfl ?_
    refine x_iconst C dX9_owners_13 kc_m1 ?_
    exact x_iret C dX9_owners_14 ⟨Nat.le_refl _, Nat.le_refl _⟩ (gq h (by first | exact hs1 | exact hs1.y | exact hs1.y7 | exact hs1.yy7) (by unfold qOwn; rw [if_neg b7]; first | done | assumption | rfl))
theorem mi_X9_nameAt : gMV RX9 yX9_nameAt cX9_nameAt 5 (some .int) 3 := ⟨q2544, qs71, q165, q2545, by decide +kernel⟩
set_option maxHeartbeats 4000000 in
set_option maxRecDepth 100000 in
theorem met_X9_nameAt (l : Launch) {G : gG} (hG : gOK G) {ad : Nat → Nat} {σ : mS} {M0 : gM} {x : Int32} {f n : Nat} {A : Nat → Nat → Int32} (h : MR G ad σ M0) (hA : mA σ = A) (hb0_ : f + 8 * n ≤ 64) : Met l yX9_nameAt (ws_ yX9_nameAt cX9_nameAt 5 (some .int)) ({ frames := 0, cells := 0, slots := 0, locals := 0 }) (gPre G M0 [.ref (ad 0), .int (x), .int (nI f), .int (nI n)]) (gQ G (gI (fun r M1 => M0 = M1 ∧ qName A f n x = r))) 0 0 (gA G) := by
  refine gMet (L0 := [some (.ref (ad 0)), some (.int (x)), some (.int (nI f)), some (.int (nI n)), none]) RX9 hG (by decide +kernel) rfl (Nat.le_of_ble_eq_true rfl) rfl ?_
  intro p e s m args below meth c C hnm
  have h := MF.rf h
  refine x_iconst C dX9_nameAt_0 kc_0 ?_
  refine x_istore C dX9_nameAt_1 (gs1_4 rfl) rfl ?_
  refine x_loop (head := 3) (E := n) (fun i M => M0 = M ∧ pFind (fun t => A 2 (f + 8 * t) = x) i = i ∧ MF G ad M0 σ M) (fun i => [some (.ref (ad 0)), some (.int x), some (.int (nI f)), some (.int (nI n)), some (.int (nI i))]) ⟨rfl, rfl, h⟩ (fun i M hi h ih => ?_)
  obtain ⟨rfl, hf, h⟩ := h
  refine x_iload C dX9_nameAt_3 rfl ?_
  refine x_iload_n C dX9_nameAt_5 rfl rfl ?_
  refine x_icmp_geN (tgt := 34) C (by omega) (by omega) dX9_nameAt_6 rfl (fun c6 => ?_) (fun c6 => ?_)
  · -- 34
    obtain rfl : n = i := by omega
    refine x_iconst C dX9_nameAt_34 kc_m1 ?_
    exact x_iret C dX9_nameAt_35 ⟨Nat.le_refl _, Nat.le_refl _⟩ ⟨rfl, (by unfold qName; rw [hf, if_neg (by omega)])⟩
  · -- 9
    refine x_aload_n C dX9_nameAt_9 rfl rfl ?_
    refine m_get C h 13 rfl q2422 rfl dX9_nameAt_10 ?_
    refine x_iload_n C dX9_nameAt_13 rfl rfl ?_
    refine x_bipush C dX9_nameAt_14 kb_8 ?_
    refine x_iload C dX9_nameAt_16 rfl ?_
    refine x_imulN C dX9_nameAt_18 ?_
    refine x_iaddN C dX9_nameAt_19 ?_
    refine m_ald C h 2 (N := 64) (by decide) rfl rfl (by omega) (congrFun (congrFun hA 2) _) dX9_nameAt_20 ?_
    refine x_iload_n C dX9_nameAt_21 rfl rfl ?_
    refine x_icmp_ne (tgt := 28) C dX9_nameAt_22 rfl (fun c22 => ?_) (fun c22 => ?_)
    · -- 28
      refine x_iincN C dX9_nameAt_28 rfl (gs1_4 rfl) rfl ?_
      refine x_goto (tgt := 3) C dX9_nameAt_31 rfl ?_
      exact (ih (by omega) _ ⟨rfl, pFind_s hf c22, h⟩)
    · -- 25
      refine x_iload C dX9_nameAt_25 rfl ?_
      exact x_iret C dX9_nameAt_27 ⟨Nat.le_refl _, Nat.le_refl _⟩ ⟨rfl, (by unfold qName; rw [pFind_h hf c22 (by omega), if_pos (by omega)])⟩
theorem mi_X9_named : gMV RX9 yX9_named cX9_named 2 (some .int) 1 := ⟨q2590, q2591, q165, q2592, by decide +kernel⟩
set_option maxHeartbeats 4000000 in
set_option maxRecDepth 100000 in
theorem met_X9_named (l : Launch) {G : gG} (hG : gOK G) {ad : Nat → Nat} {σ : mS} {M0 : gM} {b : Nat} {B : Nat → Int32} {x : Int32} {A : Nat → Nat → Int32} {T : Nat} (h : MR G ad (sb σ b B) M0) (hb : mI σ 21 = nI b) (hA : mA σ = A) (hT : mI σ 11 = nI T) (hb0_ : b < 23) (hw : wT T A) (hB : wB T B) : Met l yX9_named (ws_ yX9_named cX9_named 2 (some .int)) ({ frames := 1, cells := 0, slots := 0, locals := 24 }) (gPre G M0 [.ref (ad 0), .int (x)]) (gQ G (gI (fun r M1 => ∃ σ', sQ σ σ' ∧ MF G ad M0 (sb σ' b B) M1 ∧ qName A 0 T x = r))) 0 0 (gA G) := by
  refine gMet (L0 := [some (.ref (ad 0)), some (.int (x))]) RX9 hG (by decide +kernel) rfl (Nat.le_of_ble_eq_true rfl) rfl ?_
  intro p e s m args below meth c C hnm
  have h := MF.rf h
  have hT4 := hw.T4
  have hnw : B 0 = nI (pNow B) := hB.now.1
  have hnow : pNow B ≤ 63 := hB.now.2
  have hna : B 1865 = nI (dN (B 1865)) := hB.na.1
  have hna8 : dN (B 1865) ≤ 8 := hB.na.2
  have hkp : B 1867 = nI (dN (B 1867)) := hB.kept.1
  have hkp40 : dN (B 1867) ≤ 40 := hB.kept.2
  refine x_aload_n C dX9_named_0 rfl rfl ?_
  refine x_iconst C dX9_named_1 kc_0 ?_
  refine m_put C h 2 rfl q2411 rfl rfl rfl rfl dX9_named_2 (fun M h => ?_)
  obtain ⟨σ1, hs1, h⟩ : ∃ σ', sQ σ σ' ∧ MF G ad M0 (sb σ' b B) M := ⟨_, sQ.p2, h⟩
  refine x_aload_n C dX9_named_5 rfl rfl ?_
  refine x_iload_n C dX9_named_6 rfl rfl ?_
  refine x_iconst C dX9_named_7 kc_0 ?_
  refine x_aload_n C dX9_named_8 rfl rfl ?_
  refine m_get C h 11 (v := .int (nI T)) rfl q2420 (m_v rfl ((hs1.2.2 11 (by decide) (by decide)).trans hT)) dX9_named_9 ?_
  refine x_V3I C (met_X9_nameAt l C.1 h.1 (hs1.1.trans hA) (by omega)) mi_X9_nameAt q2542 gcX9 h.1.1 ⟨rfl, rfl⟩ rfl ⟨Nat.le_refl _, Nat.le_refl _⟩ rfl dX9_named_12 (fun r M1 hr => ?_)
  obtain ⟨rfl, rfl⟩ := hr
  exact x_iret C dX9_named_15 ⟨Nat.le_refl _, Nat.le_refl _⟩ (gq h hs1 rfl)
theorem mi_X9_fault : gMV RX9 yX9_fault cX9_fault 2 (some .int) 1 := ⟨q2586, q2587, q165, q2588, by decide +kernel⟩
set_option maxHeartbeats 4000000 in
set_option maxRecDepth 100000 in
theorem met_X9_fault (l : Launch) {G : gG} (hG : gOK G) {ad : Nat → Nat} {σ : mS} {M0 : gM} {b : Nat} {B : Nat → Int32} {u : Int32} {A : Nat → Nat → Int32} {T : Nat} (h : MR G ad (sb σ b B) M0) (hb : mI σ 21 = nI b) (hA : mA σ = A) (hT : mI σ 11 = nI T) (hb0_ : b < 23) (hw : wT T A) (hB : wB T B) : Met l yX9_fault (ws_ yX9_fault cX9_fault 2 (some .int)) ({ frames := 0, cells := 0, slots := 0, locals := 0 }) (gPre G M0 [.ref (ad 0), .int (u)]) (gQ G (gI (fun r M1 => ∃ σ', sQ σ σ' ∧ MF G ad M0 (sb σ' b B) M1 ∧ qFlt (mI σ 4) (mI σ 5) u = r))) 0 0 (gA G) := by
  refine gMet (L0 := [some (.ref (ad 0)), some (.int (u))]) RX9 hG (by decide +kernel) rfl (Nat.le_of_ble_eq_true rfl) rfl ?_
  intro p e s m args below meth c C hnm
  have h := MF.rf h
  have hT4 := hw.T4
  have hnw : B 0 = nI (pNow B) := hB.now.1
  have hnow : pNow B ≤ 63 := hB.now.2
  have hna : B 1865 = nI (dN (B 1865)) := hB.na.1
  have hna8 : dN (B 1865) ≤ 8 := hB.na.2
  have hkp : B 1867 = nI (dN (B 1867)) := hB.kept.1
  have hkp40 : dN (B 1867) ≤ 40 := hB.kept.2
  refine x_aload_n C dX9_fault_0 rfl rfl ?_
  refine x_iconst C dX9_fault_1 kc_0 ?_
  refine m_put C h 2 rfl q2411 rfl rfl rfl rfl dX9_fault_2 (fun M h => ?_)
  obtain ⟨σ1, hs1, h⟩ : ∃ σ', sQ σ σ' ∧ MF G ad M0 (sb σ' b B) M := ⟨_, sQ.p2, h⟩
  refine x_iload_n C dX9_fault_5 rfl rfl ?_
  refine x_if_ne (tgt := 16) C dX9_fault_6 rfl (fun c6 => ?_) (fun c6 => ?_)
  · -- 16
    refine x_iload_n C dX9_fault_16 rfl rfl ?_
    refine x_iconst C dX9_fault_17 kc_1 ?_
    refine x_icmp_ne (tgt := 28) C dX9_fault_18 rfl (fun c18 => ?_) (fun c18 => ?_)
    · -- 28
      refine x_iconst C dX9_fault_28 kc_m1 ?_
      exact x_iret C dX9_fault_29 ⟨Nat.le_refl _, Nat.le_refl _⟩ (gq h (by first | exact hs1 | exact hs1.y | exact hs1.y7 | exact hs1.yy7) (by unfold qFlt; rw [if_neg c6, if_neg c18]; first | done | assumption | rfl))
    · -- 21
      refine x_aload_n C dX9_fault_21 rfl rfl ?_
      refine m_get C h 5 (v := .int (mI σ 5)) rfl q2414 (m_v rfl (hs1.2.2 5 (by decide) (by decide))) dX9_fault_22 ?_
      refine x_goto (tgt := 29) C dX9_fault_25 rfl ?_
      exact x_iret C dX9_fault_29 ⟨Nat.le_refl _, Nat.le_refl _⟩ (gq h (by first | exact hs1 | exact hs1.y | exact hs1.y7 | exact hs1.yy7) (by unfold qFlt; rw [if_neg c6, if_pos c18]; first | done | assumption | rfl))
  · -- 9
    refine x_aload_n C dX9_fault_9 rfl rfl ?_
    refine m_get C h 4 (v := .int (mI σ 4)) rfl q2413 (m_v rfl (hs1.2.2 4 (by decide) (by decide))) dX9_fault_10 ?_
    refine x_goto (tgt := 29) C dX9_fault_13 rfl ?_
    exact x_iret C dX9_fault_29 ⟨Nat.le_refl _, Nat.le_refl _⟩ (gq h (by first | exact hs1 | exact hs1.y | exact hs1.y7 | exact hs1.yy7) (by unfold qFlt; rw [if_pos c6]; first | done | assumption | rfl))
theorem mi_X9_count : gMV RX9 yX9_count cX9_count 4 (some .int) 1 := ⟨q2945, q2946, q165, q2947, by decide +kernel⟩
set_option maxHeartbeats 4000000 in
set_option maxRecDepth 100000 in
theorem met_X9_count (l : Launch) {G : gG} (hG : gOK G) {ad : Nat → Nat} {σ : mS} {M0 : gM} {b : Nat} {B : Nat → Int32} {u : Int32} {A : Nat → Nat → Int32} {T : Nat} (h : MR G ad (sb σ b B) M0) (hb : mI σ 21 = nI b) (hA : mA σ = A) (hT : mI σ 11 = nI T) (hb0_ : b < 23) (hw : wT T A) (hB : wB T B) : Met l yX9_count (ws_ yX9_count cX9_count 4 (some .int)) ({ frames := 2, cells := 0, slots := 0, locals := 43 }) (gPre G M0 [.ref (ad 0), .int (u)]) (gQ G (gI (fun r M1 => ∃ σ', sQ σ σ' ∧ MF G ad M0 (sb σ' b B) M1 ∧ qCnt A T B (mI σ 22) (mI σ 1) u = r))) 0 0 (gA G) := by
  refine gMet (L0 := [some (.ref (ad 0)), some (.int (u)), none, none]) RX9 hG (by decide +kernel) rfl (Nat.le_of_ble_eq_true rfl) rfl ?_
  intro p e s m args below meth c C hnm
  have h := MF.rf h
  have hT4 := hw.T4
  have hnw : B 0 = nI (pNow B) := hB.now.1
  have hnow : pNow B ≤ 63 := hB.now.2
  have hna : B 1865 = nI (dN (B 1865)) := hB.na.1
  have hna8 : dN (B 1865) ≤ 8 := hB.na.2
  have hkp : B 1867 = nI (dN (B 1867)) := hB.kept.1
  have hkp40 : dN (B 1867) ≤ 40 := hB.kept.2
  refine x_aload_n C dX9_count_0 rfl rfl ?_
  refine x_iconst C dX9_count_1 kc_0 ?_
  refine m_put C h 2 rfl q2411 rfl rfl rfl rfl dX9_count_2 (fun M h => ?_)
  obtain ⟨σ1, hs1, h⟩ : ∃ σ', sQ σ σ' ∧ MF G ad M0 (sb σ' b B) M := ⟨_, sQ.p2, h⟩
  refine x_iconst C dX9_count_5 kc_0 ?_
  refine x_istore_n C dX9_count_6 rfl (gs1_2 rfl) rfl ?_
  refine x_iload_n C dX9_count_7 rfl rfl ?_
  rcases tab_ex u 12 (by decide) with ⟨k8, rfl, hk8⟩ | h8
  · -- in
    rcases (by omega : k8 = 0 ∨ k8 = 1 ∨ k8 = 2 ∨ k8 = 3 ∨ k8 = 4 ∨ k8 = 5 ∨ k8 = 6 ∨ k8 = 7 ∨ k8 = 8 ∨ k8 = 9 ∨ k8 = 10 ∨ k8 = 11 ∨ k8 = 12) with rfl | rfl | rfl | rfl | rfl | rfl | rfl | rfl | rfl | rfl | rfl | rfl | rfl
    · -- case 0
      refine x_tableIn (off := 68) (tgt := 76) C dX9_count_8 (by decide +kernel) (by decide +kernel) (by decide +kernel) rfl ?_
      refine x_aload_n C dX9_count_76 rfl rfl ?_
      refine m_get C h 11 (v := .int (nI T)) rfl q2420 (m_v rfl ((hs1.2.2 11 (by decide) (by decide)).trans hT)) dX9_count_77 ?_
      exact x_iret C dX9_count_80 ⟨Nat.le_refl _, Nat.le_refl _⟩ (gq h (by first | exact hs1 | exact hs1.y | exact hs1.y7 | exact hs1.yy7) (by unfold qCnt; rw [if_pos rfl]; first | done | assumption | rfl))
    · -- case 1
      refine x_tableIn (off := 73) (tgt := 81) C dX9_count_8 (by decide +kernel) (by decide +kernel) (by decide +kernel) rfl ?_
      refine x_aload_n C dX9_count_81 rfl rfl ?_
      refine x_iconst C dX9_count_82 kc_0 ?_
      refine x_V1I C (met_X9_of l C.1 h.1 ((hs1.2.2 21 (by decide) (by decide)).trans hb) (by omega) (by omega)) mi_X9_of q2389 gcX9 h.1.1 ⟨rfl, rfl⟩ rfl ⟨Nat.le_refl _, Nat.le_refl _⟩ rfl dX9_count_83 (fun r M1 hr => ?_)
      obtain ⟨rfl, hr⟩ := hr
      have hr := hr.symm.trans (show _ = nI (pNow B) from hnw)
      subst hr
      exact x_iret C dX9_count_86 ⟨Nat.le_refl _, Nat.le_refl _⟩ (gq h (by first | exact hs1 | exact hs1.y | exact hs1.y7 | exact hs1.yy7) (by unfold qCnt; rw [if_neg (nI_nn (by decide) (by decide) (by decide)), if_pos rfl]; first | done | assumption | rfl))
    · -- case 2
      refine x_tableIn (off := 79) (tgt := 87) C dX9_count_8 (by decide +kernel) (by decide +kernel) (by decide +kernel) rfl ?_
      refine x_aload_n C dX9_count_87 rfl rfl ?_
      refine x_sipush C dX9_count_88 ks_1865 ?_
      refine x_V1I C (met_X9_of l C.1 h.1 ((hs1.2.2 21 (by decide) (by decide)).trans hb) (by omega) (by omega)) mi_X9_of q2389 gcX9 h.1.1 ⟨rfl, rfl⟩ rfl ⟨Nat.le_refl _, Nat.le_refl _⟩ rfl dX9_count_91 (fun r M1 hr => ?_)
      obtain ⟨rfl, hr⟩ := hr
      have hr := hr.symm.trans (show _ = nI (dN (B 1865)) from hna)
      subst hr
      exact x_iret C dX9_count_94 ⟨Nat.le_refl _, Nat.le_refl _⟩ (gq h (by first | exact hs1 | exact hs1.y | exact hs1.y7 | exact hs1.yy7) (by unfold qCnt; rw [if_neg (nI_nn (by decide) (by decide) (by decide)), if_neg (nI_nn (by decide) (by decide) (by decide)), if_pos rfl]; first | done | assumption | rfl))
    · -- case 3
      refine x_tableIn (off := 87) (tgt := 95) C dX9_count_8 (by decide +kernel) (by decide +kernel) (by decide +kernel) rfl ?_
      refine x_iconst C dX9_count_95 kc_0 ?_
      refine x_istore_n C dX9_count_96 rfl (gs1_3 rfl) rfl ?_
      refine x_loopS (head := 97) (E := dN (B 1865)) (α := Int32) (β := Unit) 0 (by omega) (fun i cn u_ M => cn = pShut B i ∧ MF G ad M0 (sb σ1 b B) M) (fun i cn u_ => [some (.ref (ad 0)), some (.int (nI 3)), some (.int cn), some (.int (nI i))]) (nI 0) () ⟨rfl, h⟩ (fun i cn u_ M ha hi h ih => ?_)
      obtain ⟨ec, h⟩ := h
      refine x_iload_n C dX9_count_97 rfl rfl ?_
      refine x_aload_n C dX9_count_98 rfl rfl ?_
      refine x_sipush C dX9_count_99 ks_1865 ?_
      refine x_V1I C (met_X9_of l C.1 h.1 ((hs1.2.2 21 (by decide) (by decide)).trans hb) (by omega) (by omega)) mi_X9_of q2389 gcX9 h.1.1 ⟨rfl, rfl⟩ rfl ⟨Nat.le_refl _, Nat.le_refl _⟩ rfl dX9_count_102 (fun r M1 hr => ?_)
      obtain ⟨rfl, hr⟩ := hr
      have hr := hr.symm.trans (show _ = nI (dN (B 1865)) from hna)
      subst hr
      refine x_icmp_geN (tgt := 124) C (by omega) (by omega) dX9_count_105 rfl (fun c105 => ?_) (fun c105 => ?_)
      · -- 124
        obtain rfl : i = dN (B 1865) := by omega
        subst ec
        refine x_iload_n C dX9_count_124 rfl rfl ?_
        exact x_iret C dX9_count_125 ⟨Nat.le_refl _, Nat.le_refl _⟩ (gq h (by first | exact hs1 | exact hs1.y | exact hs1.y7 | exact hs1.yy7) (by unfold qCnt; rw [if_neg (nI_nn (by decide) (by decide) (by decide)), if_neg (nI_nn (by decide) (by decide) (by decide)), if_neg (nI_nn (by decide) (by decide) (by decide)), if_pos rfl]; first | done | assumption | rfl))
      · -- 108
        refine x_iload_n C dX9_count_108 rfl rfl ?_
        refine x_aload_n C dX9_count_109 rfl rfl ?_
        refine x_iload_n C dX9_count_110 rfl rfl ?_
        refine x_bipush C dX9_count_111 kb_9 ?_
        refine x_V2I C (met_X9_at l C.1 h.1 ((hs1.2.2 21 (by decide) (by decide)).trans hb) (by omega) (by omega) (by omega)) mi_X9_at q2653 gcX9 h.1.1 ⟨rfl, rfl⟩ rfl ⟨Nat.le_refl _, Nat.le_refl _⟩ rfl dX9_count_113 (fun r M1 hr => ?_)
        obtain ⟨rfl, rfl⟩ := hr
        refine x_iadd C dX9_count_116 ?_
        refine x_istore_n C dX9_count_117 rfl (gs1_2 rfl) rfl ?_
        refine x_iincN C dX9_count_118 rfl (gs1_3 rfl) rfl ?_
        refine x_goto (tgt := 97) C dX9_count_121 rfl ?_
        exact (ih (by omega) _ () _ ⟨by rw [ec]; rfl, h⟩)
    · -- case 4
      refine x_tableIn (off := 118) (tgt := 126) C dX9_count_8 (by decide +kernel) (by decide +kernel) (by decide +kernel) rfl ?_
      refine x_aload_n C dX9_count_126 rfl rfl ?_
      refine x_sipush C dX9_count_127 ks_1866 ?_
      refine x_V1I C (met_X9_of l C.1 h.1 ((hs1.2.2 21 (by decide) (by decide)).trans hb) (by omega) (by omega)) mi_X9_of q2389 gcX9 h.1.1 ⟨rfl, rfl⟩ rfl ⟨Nat.le_refl _, Nat.le_refl _⟩ rfl dX9_count_130 (fun r M1 hr => ?_)
      obtain ⟨rfl, rfl⟩ := hr
      exact x_iret C dX9_count_133 ⟨Nat.le_refl _, Nat.le_refl _⟩ (gq h (by first | exact hs1 | exact hs1.y | exact hs1.y7 | exact hs1.yy7) (by unfold qCnt; rw [if_neg (nI_nn (by decide) (by decide) (by decide)), if_neg (nI_nn (by decide) (by decide) (by decide)), if_neg (nI_nn (by decide) (by decide) (by decide)), if_neg (nI_nn (by decide) (by decide) (by decide)), if_pos rfl]; first | done | assumption | rfl))
    · -- case 5
      refine x_tableIn (off := 126) (tgt := 134) C dX9_count_8 (by decide +kernel) (by decide +kernel) (by decide +kernel) rfl ?_
      refine x_aload_n C dX9_count_134 rfl rfl ?_
      refine m_get C h 17 rfl q2426 rfl dX9_count_135 ?_
      refine x_iconst C dX9_count_138 kc_1 ?_
      refine m_ald C h 6 (N := 14) (by decide) rfl rfl (by omega) (congrFun (congrFun (hs1.1.trans hA) 6) _) dX9_count_139 ?_
      exact x_iret C dX9_count_140 ⟨Nat.le_refl _, Nat.le_refl _⟩ (gq h (by first | exact hs1 | exact hs1.y | exact hs1.y7 | exact hs1.yy7) (by unfold qCnt; rw [if_neg (nI_nn (by decide) (by decide) (by decide)), if_neg (nI_nn (by decide) (by decide) (by decide)), if_neg (nI_nn (by decide) (by decide) (by decide)), if_neg (nI_nn (by decide) (by decide) (by decide)), if_neg (nI_nn (by decide) (by decide) (by decide)), if_pos rfl]; first | done | assumption | rfl))
    · -- case 6
      refine x_tableIn (off := 133) (tgt := 141) C dX9_count_8 (by decide +kernel) (by decide +kernel) (by decide +kernel) rfl ?_
      refine x_aload_n C dX9_count_141 rfl rfl ?_
      refine m_get C h 17 rfl q2426 rfl dX9_count_142 ?_
      refine x_iconst C dX9_count_145 kc_0 ?_
      refine m_ald C h 6 (N := 14) (by decide) rfl rfl (by omega) (congrFun (congrFun (hs1.1.trans hA) 6) _) dX9_count_146 ?_
      exact x_iret C dX9_count_147 ⟨Nat.le_refl _, Nat.le_refl _⟩ (gq h (by first | exact hs1 | exact hs1.y | exact hs1.y7 | exact hs1.yy7) (by unfold qCnt; rw [if_neg (nI_nn (by decide) (by decide) (by decide)), if_neg (nI_nn (by decide) (by decide) (by decide)), if_neg (nI_nn (by decide) (by decide) (by decide)), if_neg (nI_nn (by decide) (by decide) (by decide)), if_neg (nI_nn (by decide) (by decide) (by decide)), if_neg (nI_nn (by decide) (by decide) (by decide)), if_pos rfl]; first | done | assumption | rfl))
    · -- case 7
      refine x_tableIn (off := 140) (tgt := 148) C dX9_count_8 (by decide +kernel) (by decide +kernel) (by decide +kernel) rfl ?_
      refine x_aload_n C dX9_count_148 rfl rfl ?_
      refine m_get C h 17 rfl q2426 rfl dX9_count_149 ?_
      refine x_iconst C dX9_count_152 kc_2 ?_
      refine m_ald C h 6 (N := 14) (by decide) rfl rfl (by omega) (congrFun (congrFun (hs1.1.trans hA) 6) _) dX9_count_153 ?_
      exact x_iret C dX9_count_154 ⟨Nat.le_refl _, Nat.le_refl _⟩ (gq h (by first | exact hs1 | exact hs1.y | exact hs1.y7 | exact hs1.yy7) (by unfold qCnt; rw [if_neg (nI_nn (by decide) (by decide) (by decide)), if_neg (nI_nn (by decide) (by decide) (by decide)), if_neg (nI_nn (by decide) (by decide) (by decide)), if_neg (nI_nn (by decide) (by decide) (by decide)), if_neg (nI_nn (by decide) (by decide) (by decide)), if_neg (nI_nn (by decide) (by decide) (by decide)), if_neg (nI_nn (by decide) (by decide) (by decide)), if_pos rfl]; first | done | assumption | rfl))
    · -- case 8
      refine x_tableIn (off := 147) (tgt := 155) C dX9_count_8 (by decide +kernel) (by decide +kernel) (by decide +kernel) rfl ?_
      refine x_aload_n C dX9_count_155 rfl rfl ?_
      refine m_get C h 17 rfl q2426 rfl dX9_count_156 ?_
      refine x_iconst C dX9_count_159 kc_4 ?_
      refine m_ald C h 6 (N := 14) (by decide) rfl rfl (by omega) (congrFun (congrFun (hs1.1.trans hA) 6) _) dX9_count_160 ?_
      exact x_iret C dX9_count_161 ⟨Nat.le_refl _, Nat.le_refl _⟩ (gq h (by first | exact hs1 | exact hs1.y | exact hs1.y7 | exact hs1.yy7) (by unfold qCnt; rw [if_neg (nI_nn (by decide) (by decide) (by decide)), if_neg (nI_nn (by decide) (by decide) (by decide)), if_neg (nI_nn (by decide) (by decide) (by decide)), if_neg (nI_nn (by decide) (by decide) (by decide)), if_neg (nI_nn (by decide) (by decide) (by decide)), if_neg (nI_nn (by decide) (by decide) (by decide)), if_neg (nI_nn (by decide) (by decide) (by decide)), if_neg (nI_nn (by decide) (by decide) (by decide)), if_pos rfl]; first | done | assumption | rfl))
    · -- case 9
      refine x_tableIn (off := 154) (tgt := 162) C dX9_count_8 (by decide +kernel) (by decide +kernel) (by decide +kernel) rfl ?_
      refine x_aload_n C dX9_count_162 rfl rfl ?_
      refine m_get C h 17 rfl q2426 rfl dX9_count_163 ?_
      refine x_iconst C dX9_count_166 kc_5 ?_
      refine m_ald C h 6 (N := 14) (by decide) rfl rfl (by omega) (congrFun (congrFun (hs1.1.trans hA) 6) _) dX9_count_167 ?_
      exact x_iret C dX9_count_168 ⟨Nat.le_refl _, Nat.le_refl _⟩ (gq h (by first | exact hs1 | exact hs1.y | exact hs1.y7 | exact hs1.yy7) (by unfold qCnt; rw [if_neg (nI_nn (by decide) (by decide) (by decide)), if_neg (nI_nn (by decide) (by decide) (by decide)), if_neg (nI_nn (by decide) (by decide) (by decide)), if_neg (nI_nn (by decide) (by decide) (by decide)), if_neg (nI_nn (by decide) (by decide) (by decide)), if_neg (nI_nn (by decide) (by decide) (by decide)), if_neg (nI_nn (by decide) (by decide) (by decide)), if_neg (nI_nn (by decide) (by decide) (by decide)), if_neg (nI_nn (by decide) (by decide) (by decide)), if_pos rfl]; first | done | assumption | rfl))
    · -- case 10
      refine x_tableIn (off := 161) (tgt := 169) C dX9_count_8 (by decide +kernel) (by decide +kernel) (by decide +kernel) rfl ?_
      refine x_aload_n C dX9_count_169 rfl rfl ?_
      refine m_get C h 22 (v := .int (mI σ 22)) rfl q2431 (m_v rfl (hs1.2.2 22 (by decide) (by decide))) dX9_count_170 ?_
      exact x_iret C dX9_count_173 ⟨Nat.le_refl _, Nat.le_refl _⟩ (gq h (by first | exact hs1 | exact hs1.y | exact hs1.y7 | exact hs1.yy7) (by unfold qCnt; rw [if_neg (nI_nn (by decide) (by decide) (by decide)), if_neg (nI_nn (by decide) (by decide) (by decide)), if_neg (nI_nn (by decide) (by decide) (by decide)), if_neg (nI_nn (by decide) (by decide) (by decide)), if_neg (nI_nn (by decide) (by decide) (by decide)), if_neg (nI_nn (by decide) (by decide) (by decide)), if_neg (nI_nn (by decide) (by decide) (by decide)), if_neg (nI_nn (by decide) (by decide) (by decide)), if_neg (nI_nn (by decide) (by decide) (by decide)), if_neg (nI_nn (by decide) (by decide) (by decide)), if_pos rfl]; first | done | assumption | rfl))
    · -- case 11
      refine x_tableIn (off := 166) (tgt := 174) C dX9_count_8 (by decide +kernel) (by decide +kernel) (by decide +kernel) rfl ?_
      refine x_aload_n C dX9_count_174 rfl rfl ?_
      refine m_get C h 1 (v := .int (mI σ 1)) rfl q2410 (m_v rfl (hs1.2.2 1 (by decide) (by decide))) dX9_count_175 ?_
      exact x_iret C dX9_count_178 ⟨Nat.le_refl _, Nat.le_refl _⟩ (gq h (by first | exact hs1 | exact hs1.y | exact hs1.y7 | exact hs1.yy7) (by unfold qCnt; rw [if_neg (nI_nn (by decide) (by decide) (by decide)), if_neg (nI_nn (by decide) (by decide) (by decide)), if_neg (nI_nn (by decide) (by decide) (by decide)), if_neg (nI_nn (by decide) (by decide) (by decide)), if_neg (nI_nn (by decide) (by decide) (by decide)), if_neg (nI_nn (by decide) (by decide) (by decide)), if_neg (nI_nn (by decide) (by decide) (by decide)), if_neg (nI_nn (by decide) (by decide) (by decide)), if_neg (nI_nn (by decide) (by decide) (by decide)), if_neg (nI_nn (by decide) (by decide) (by decide)), if_neg (nI_nn (by decide) (by decide) (by decide)), if_pos rfl]; first | done | assumption | rfl))
    · -- case 12
      refine x_tableIn (off := 171) (tgt := 179) C dX9_count_8 (by decide +kernel) (by decide +kernel) (by decide +kernel) rfl ?_
      refine x_aload_n C dX9_count_179 rfl rfl ?_
      refine m_get C h 17 rfl q2426 rfl dX9_count_180 ?_
      refine x_bipush C dX9_count_183 kb_6 ?_
      refine m_ald C h 6 (N := 14) (by decide) rfl rfl (by omega) (congrFun (congrFun (hs1.1.trans hA) 6) _) dX9_count_185 ?_
      exact x_iret C dX9_count_186 ⟨Nat.le_refl _, Nat.le_refl _⟩ (gq h (by first | exact hs1 | exact hs1.y | exact hs1.y7 | exact hs1.yy7) (by unfold qCnt; rw [if_neg (nI_nn (by decide) (by decide) (by decide)), if_neg (nI_nn (by decide) (by decide) (by decide)), if_neg (nI_nn (by decide) (by decide) (by decide)), if_neg (nI_nn (by decide) (by decide) (by decide)), if_neg (nI_nn (by decide) (by decide) (by decide)), if_neg (nI_nn (by decide) (by decide) (by decide)), if_neg (nI_nn (by decide) (by decide) (by decide)), if_neg (nI_nn (by decide) (by decide) (by decide)), if_neg (nI_nn (by decide) (by decide) (by decide)), if_neg (nI_nn (by decide) (by decide) (by decide)), if_neg (nI_nn (by decide) (by decide) (by decide)), if_neg (nI_nn (by decide) (by decide) (by decide)), if_pos rfl]; first | done | assumption | rfl))
  · -- out
    refine x_tableOut (tgt := 187) C dX9_count_8 h8 rfl ?_
    refine x_iconst C dX9_count_187 kc_m1 ?_
    exact x_iret C dX9_count_188 ⟨Nat.le_refl _, Nat.le_refl _⟩ (gq h (by first | exact hs1 | exact hs1.y | exact hs1.y7 | exact hs1.yy7) (by unfold qCnt; rw [if_neg (tab_ne h8 0 (by decide) (by decide)), if_neg (tab_ne h8 1 (by decide) (by decide)), if_neg (tab_ne h8 2 (by decide) (by decide)), if_neg (tab_ne h8 3 (by decide) (by decide)), if_neg (tab_ne h8 4 (by decide) (by decide)), if_neg (tab_ne h8 5 (by decide) (by decide)), if_neg (tab_ne h8 6 (by decide) (by decide)), if_neg (tab_ne h8 7 (by decide) (by decide)), if_neg (tab_ne h8 8 (by decide) (by decide)), if_neg (tab_ne h8 9 (by decide) (by decide)), if_neg (tab_ne h8 10 (by decide) (by decide)), if_neg (tab_ne h8 11 (by decide) (by decide)), if_neg (tab_ne h8 12 (by decide) (by decide))]; first | done | assumption | rfl))
theorem mi_X9_fails : gMV RX9 yX9_fails cX9_fails 2 (some .int) 1 := ⟨q2783, qs113, q165, q2784, by decide +kernel⟩
set_option maxHeartbeats 4000000 in
set_option maxRecDepth 100000 in
theorem met_X9_fails (l : Launch) {G : gG} (hG : gOK G) {ad : Nat → Nat} {σ : mS} {M0 : gM} {b : Nat} {B : Nat → Int32} {k : Nat} (h : MR G ad (sb σ b B) M0) (hb : mI σ 21 = nI b) (hb0_ : b < 23) : Met l yX9_fails (ws_ yX9_fails cX9_fails 2 (some .int)) ({ frames := 0, cells := 0, slots := 0, locals := 0 }) (gPre G M0 [.ref (ad 0), .int (nI k)]) (gQ G (gI (fun r M1 => nI 0 = r ∧ MF G ad M0 (sb (si σ 2 (nI k)) b B) M1))) 0 0 (gA G) := by
  refine gMet (L0 := [some (.ref (ad 0)), some (.int (nI k))]) RX9 hG (by decide +kernel) rfl (Nat.le_of_ble_eq_true rfl) rfl ?_
  intro p e s m args below meth c C hnm
  have h := MF.rf h
  refine x_aload_n C dX9_fails_0 rfl rfl ?_
  refine x_iload_n C dX9_fails_1 rfl rfl ?_
  refine m_put C h 2 rfl q2411 rfl rfl rfl rfl dX9_fails_2 (fun M h => ?_)
  refine x_iconst C dX9_fails_5 kc_0 ?_
  exact x_iret C dX9_fails_6 ⟨Nat.le_refl _, Nat.le_refl _⟩ ⟨rfl, h⟩
theorem mi_X9_trader : gMV RX9 yX9_trader cX9_trader 5 (some .int) 2 := ⟨q2778, q2779, q165, q2780, by decide +kernel⟩
set_option maxHeartbeats 4000000 in
set_option maxRecDepth 100000 in
theorem met_X9_trader (l : Launch) {G : gG} (hG : gOK G) {ad : Nat → Nat} {σ : mS} {M0 : gM} {b : Nat} {B : Nat → Int32} {t u : Int32} {A : Nat → Nat → Int32} {T : Nat} (h : MR G ad (sb σ b B) M0) (hb : mI σ 21 = nI b) (hA : mA σ = A) (hT : mI σ 11 = nI T) (hb0_ : b < 23) (hw : wT T A) (hB : wB T B) : Met l yX9_trader (ws_ yX9_trader cX9_trader 5 (some .int)) ({ frames := 2, cells := 0, slots := 0, locals := 43 }) (gPre G M0 [.ref (ad 0), .int (t), .int (u)]) (gQ G (gI (fun r M1 => ∃ σ', sQ σ σ' ∧ MF G ad M0 (sb σ' b B) M1 ∧ mI σ' 2 = nI (qTr A T B t u).1 ∧ (qTr A T B t u).2 = r))) 0 0 (gA G) := by
  refine gMet (L0 := [some (.ref (ad 0)), some (.int (t)), some (.int (u)), none, none]) RX9 hG (by decide +kernel) rfl (Nat.le_of_ble_eq_true rfl) rfl ?_
  intro p e s m args below meth c C hnm
  have h := MF.rf h
  have hT4 := hw.T4
  have hnw : B 0 = nI (pNow B) := hB.now.1
  have hnow : pNow B ≤ 63 := hB.now.2
  have hna : B 1865 = nI (dN (B 1865)) := hB.na.1
  have hna8 : dN (B 1865) ≤ 8 := hB.na.2
  have hkp : B 1867 = nI (dN (B 1867)) := hB.kept.1
  have hkp40 : dN (B 1867) ≤ 40 := hB.kept.2
  refine x_aload_n C dX9_trader_0 rfl rfl ?_
  refine x_iconst C dX9_trader_1 kc_0 ?_
  refine m_put C h 2 rfl q2411 rfl rfl rfl rfl dX9_trader_2 (fun M h => ?_)
  obtain ⟨σ1, hs1, hth, h⟩ : ∃ σ', sQ σ σ' ∧ mI σ' 2 = nI 0 ∧ MF G ad M0 (sb σ' b B) M := ⟨_, sQ.p2, mI_2, h⟩
  refine x_aload_n C dX9_trader_5 rfl rfl ?_
  refine x_iload_n C dX9_trader_6 rfl rfl ?_
  refine x_V1I C (met_X9_isTrader l C.1 h.1 ((hs1.2.2 11 (by decide) (by decide)).trans hT)) mi_X9_isTrader q2613 gcX9 h.1.1 ⟨rfl, rfl⟩ rfl ⟨Nat.le_refl _, Nat.le_refl _⟩ rfl dX9_trader_7 (fun r M1 hr => ?_)
  rcases hr with ⟨rfl, rfl, b7⟩ | ⟨rfl, rfl, b7⟩
  · -- true
    obtain ⟨tn, rfl, hltn⟩ := iT.ex b7 (by omega)
    have etn : dN (nI tn) = tn := dN_nI (by omega)
    refine x_if_neT (tgt := 19) C (by decide) dX9_trader_10 rfl ?_
    refine x_iload_n C dX9_trader_19 rfl rfl ?_
    rcases tab_ex u 5 (by decide) with ⟨k20, rfl, hk20⟩ | h20
    · -- in
      rcases (by omega : k20 = 0 ∨ k20 = 1 ∨ k20 = 2 ∨ k20 = 3 ∨ k20 = 4 ∨ k20 = 5) with rfl | rfl | rfl | rfl | rfl | rfl
      · -- case 0
        refine x_tableIn (off := 40) (tgt := 60) C dX9_trader_20 (by decide +kernel) (by decide +kernel) (by decide +kernel) rfl ?_
        refine x_aload_n C dX9_trader_60 rfl rfl ?_
        refine x_iload_n C dX9_trader_61 rfl rfl ?_
        refine x_iconst C dX9_trader_62 kc_1 ?_
        refine x_V2I C (met_X9_told1 l C.1 h.1 (hs1.1.trans hA) (by omega)) mi_X9_told1 q2381 gcX9 h.1.1 ⟨rfl, rfl⟩ rfl ⟨Nat.le_refl _, Nat.le_refl _⟩ rfl dX9_trader_63 (fun r M1 hr => ?_)
        obtain ⟨rfl, rfl⟩ := hr
        exact x_iret C dX9_trader_66 ⟨Nat.le_refl _, Nat.le_refl _⟩ (gq2 h hs1 (by unfold qTr; simp only [etn]; rw [if_pos b7, if_pos trivial]; exact hth) (by unfold qTr; simp only [etn]; rw [if_pos b7, if_pos trivial]))
      · -- case 1
        refine x_tableIn (off := 47) (tgt := 67) C dX9_trader_20 (by decide +kernel) (by decide +kernel) (by decide +kernel) rfl ?_
        refine x_aload_n C dX9_trader_67 rfl rfl ?_
        refine x_iload_n C dX9_trader_68 rfl rfl ?_
        refine x_iconst C dX9_trader_69 kc_2 ?_
        refine x_V2I C (met_X9_told1 l C.1 h.1 (hs1.1.trans hA) (by omega)) mi_X9_told1 q2381 gcX9 h.1.1 ⟨rfl, rfl⟩ rfl ⟨Nat.le_refl _, Nat.le_refl _⟩ rfl dX9_trader_70 (fun r M1 hr => ?_)
        obtain ⟨rfl, rfl⟩ := hr
        exact x_iret C dX9_trader_73 ⟨Nat.le_refl _, Nat.le_refl _⟩ (gq2 h hs1 (by unfold qTr; simp only [etn]; rw [if_pos b7, if_neg (nI_nn (by decide) (by decide) (by decide)), if_pos trivial]; exact hth) (by unfold qTr; simp only [etn]; rw [if_pos b7, if_neg (nI_nn (by decide) (by decide) (by decide)), if_pos trivial]))
      · -- case 2
        refine x_tableIn (off := 54) (tgt := 74) C dX9_trader_20 (by decide +kernel) (by decide +kernel) (by decide +kernel) rfl ?_
        refine x_aload_n C dX9_trader_74 rfl rfl ?_
        refine x_sipush C dX9_trader_75 ks_1281 ?_
        refine x_iconst C dX9_trader_78 kc_2 ?_
        refine x_iload_n C dX9_trader_79 rfl rfl ?_
        refine x_imulN C dX9_trader_80 ?_
        refine x_iaddN C dX9_trader_81 ?_
        refine x_V1I C (met_X9_of l C.1 h.1 ((hs1.2.2 21 (by decide) (by decide)).trans hb) (by omega) (by omega)) mi_X9_of q2389 gcX9 h.1.1 ⟨rfl, rfl⟩ rfl ⟨Nat.le_refl _, Nat.le_refl _⟩ rfl dX9_trader_82 (fun r M1 hr => ?_)
        obtain ⟨rfl, rfl⟩ := hr
        exact x_iret C dX9_trader_85 ⟨Nat.le_refl _, Nat.le_refl _⟩ (gq2 h hs1 (by unfold qTr; simp only [etn]; rw [if_pos b7, if_neg (nI_nn (by decide) (by decide) (by decide)), if_neg (nI_nn (by decide) (by decide) (by decide)), if_pos trivial]; exact hth) (by unfold qTr; simp only [etn]; rw [if_pos b7, if_neg (nI_nn (by decide) (by decide) (by decide)), if_neg (nI_nn (by decide) (by decide) (by decide)), if_pos trivial]))
      · -- case 3
        refine x_tableIn (off := 66) (tgt := 86) C dX9_trader_20 (by decide +kernel) (by decide +kernel) (by decide +kernel) rfl ?_
        refine x_aload_n C dX9_trader_86 rfl rfl ?_
        refine x_sipush C dX9_trader_87 ks_1281 ?_
        refine x_iconst C dX9_trader_90 kc_2 ?_
        refine x_iload_n C dX9_trader_91 rfl rfl ?_
        refine x_imulN C dX9_trader_92 ?_
        refine x_iaddN C dX9_trader_93 ?_
        refine x_iconst C dX9_trader_94 kc_1 ?_
        refine x_iaddN C dX9_trader_95 ?_
        refine x_V1I C (met_X9_of l C.1 h.1 ((hs1.2.2 21 (by decide) (by decide)).trans hb) (by omega) (by omega)) mi_X9_of q2389 gcX9 h.1.1 ⟨rfl, rfl⟩ rfl ⟨Nat.le_refl _, Nat.le_refl _⟩ rfl dX9_trader_96 (fun r M1 hr => ?_)
        obtain ⟨rfl, rfl⟩ := hr
        exact x_iret C dX9_trader_99 ⟨Nat.le_refl _, Nat.le_refl _⟩ (gq2 h hs1 (by unfold qTr; simp only [etn]; rw [if_pos b7, if_neg (nI_nn (by decide) (by decide) (by decide)), if_neg (nI_nn (by decide) (by decide) (by decide)), if_neg (nI_nn (by decide) (by decide) (by decide)), if_pos trivial]; exact hth) (by unfold qTr; simp only [etn]; rw [if_pos b7, if_neg (nI_nn (by decide) (by decide) (by decide)), if_neg (nI_nn (by decide) (by decide) (by decide)), if_neg (nI_nn (by decide) (by decide) (by decide)), if_pos trivial]))
      · -- case 4
        refine x_tableIn (off := 80) (tgt := 100) C dX9_trader_20 (by decide +kernel) (by decide +kernel) (by decide +kernel) rfl ?_
        refine x_aload_n C dX9_trader_100 rfl rfl ?_
        refine x_iload_n C dX9_trader_101 rfl rfl ?_
        refine x_bipush C dX9_trader_102 kb_6 ?_
        refine x_V2I C (met_X9_told1 l C.1 h.1 (hs1.1.trans hA) (by omega)) mi_X9_told1 q2381 gcX9 h.1.1 ⟨rfl, rfl⟩ rfl ⟨Nat.le_refl _, Nat.le_refl _⟩ rfl dX9_trader_104 (fun r M1 hr => ?_)
        obtain ⟨rfl, rfl⟩ := hr
        refine x_iconst C dX9_trader_107 kc_1 ?_
        refine x_icmp_ne (tgt := 121) C dX9_trader_108 rfl (fun c108 => ?_) (fun c108 => ?_)
        · -- 121
          refine x_bipush C dX9_trader_121 kb_m2 ?_
          exact x_iret C dX9_trader_123 ⟨Nat.le_refl _, Nat.le_refl _⟩ (gq2 h hs1 (by unfold qTr; simp only [etn]; rw [if_pos b7, if_neg (nI_nn (by decide) (by decide) (by decide)), if_neg (nI_nn (by decide) (by decide) (by decide)), if_neg (nI_nn (by decide) (by decide) (by decide)), if_neg (nI_nn (by decide) (by decide) (by decide)), if_pos trivial]; exact hth) (by unfold qTr; simp only [etn]; rw [if_pos b7, if_neg (nI_nn (by decide) (by decide) (by decide)), if_neg (nI_nn (by decide) (by decide) (by decide)), if_neg (nI_nn (by decide) (by decide) (by decide)), if_neg (nI_nn (by decide) (by decide) (by decide)), if_pos trivial]; exact (if_neg c108)))
        · -- 111
          refine x_aload_n C dX9_trader_111 rfl rfl ?_
          refine x_iload_n C dX9_trader_112 rfl rfl ?_
          refine x_bipush C dX9_trader_113 kb_7 ?_
          refine x_V2I C (met_X9_told1 l C.1 h.1 (hs1.1.trans hA) (by omega)) mi_X9_told1 q2381 gcX9 h.1.1 ⟨rfl, rfl⟩ rfl ⟨Nat.le_refl _, Nat.le_refl _⟩ rfl dX9_trader_115 (fun r M1 hr => ?_)
          obtain ⟨rfl, rfl⟩ := hr
          refine x_goto (tgt := 123) C dX9_trader_118 rfl ?_
          exact x_iret C dX9_trader_123 ⟨Nat.le_refl _, Nat.le_refl _⟩ (gq2 h hs1 (by unfold qTr; simp only [etn]; rw [if_pos b7, if_neg (nI_nn (by decide) (by decide) (by decide)), if_neg (nI_nn (by decide) (by decide) (by decide)), if_neg (nI_nn (by decide) (by decide) (by decide)), if_neg (nI_nn (by decide) (by decide) (by decide)), if_pos trivial]; exact hth) (by unfold qTr; simp only [etn]; rw [if_pos b7, if_neg (nI_nn (by decide) (by decide) (by decide)), if_neg (nI_nn (by decide) (by decide) (by decide)), if_neg (nI_nn (by decide) (by decide) (by decide)), if_neg (nI_nn (by decide) (by decide) (by decide)), if_pos trivial]; exact (if_pos c108)))
      · -- case 5
        refine x_tableIn (off := 104) (tgt := 124) C dX9_trader_20 (by decide +kernel) (by decide +kernel) (by decide +kernel) rfl ?_
        refine x_iconst C dX9_trader_124 kc_0 ?_
        refine x_istore_n C dX9_trader_125 rfl (gs1_3 rfl) rfl ?_
        refine x_iconst C dX9_trader_126 kc_0 ?_
        refine x_istore C dX9_trader_127 (gs1_4 rfl) rfl ?_
        refine x_loopS (head := 129) (E := dN (B 1865)) (α := Int32) (β := Unit) 0 (by omega) (fun i bt u_ M => bt = pBits B tn i ∧ MF G ad M0 (sb σ1 b B) M) (fun i bt u_ => [some (.ref (ad 0)), some (.int (nI tn)), some (.int (nI 5)), some (.int bt), some (.int (nI i))]) (nI 0) () ⟨rfl, h⟩ (fun i bt u_ M ha hi h ih => ?_)
        obtain ⟨eb, h⟩ := h
        refine x_iload C dX9_trader_129 rfl ?_
        refine x_aload_n C dX9_trader_131 rfl rfl ?_
        refine x_sipush C dX9_trader_132 ks_1865 ?_
        refine x_V1I C (met_X9_of l C.1 h.1 ((hs1.2.2 21 (by decide) (by decide)).trans hb) (by omega) (by omega)) mi_X9_of q2389 gcX9 h.1.1 ⟨rfl, rfl⟩ rfl ⟨Nat.le_refl _, Nat.le_refl _⟩ rfl dX9_trader_135 (fun r M1 hr => ?_)
        obtain ⟨rfl, hr⟩ := hr
        have hr := hr.symm.trans (show _ = nI (dN (B 1865)) from hna)
        subst hr
        refine x_icmp_geN (tgt := 180) C (by omega) (by omega) dX9_trader_138 rfl (fun c138 => ?_) (fun c138 => ?_)
        · -- 180
          obtain rfl : i = dN (B 1865) := by omega
          refine x_iload_n C dX9_trader_180 rfl rfl ?_
          exact x_iret C dX9_trader_181 ⟨Nat.le_refl _, Nat.le_refl _⟩ (gq2 h hs1 (by unfold qTr; simp only [etn]; rw [if_pos b7, if_neg (nI_nn (by decide) (by decide) (by decide)), if_neg (nI_nn (by decide) (by decide) (by decide)), if_neg (nI_nn (by decide) (by decide) (by decide)), if_neg (nI_nn (by decide) (by decide) (by decide)), if_neg (nI_nn (by decide) (by decide) (by decide)), if_pos trivial]; exact hth) (by unfold qTr; simp only [etn]; rw [if_pos b7, if_neg (nI_nn (by decide) (by decide) (by decide)), if_neg (nI_nn (by decide) (by decide) (by decide)), if_neg (nI_nn (by decide) (by decide) (by decide)), if_neg (nI_nn (by decide) (by decide) (by decide)), if_neg (nI_nn (by decide) (by decide) (by decide)), if_pos trivial]; exact eb.symm))
        · -- 141
          refine x_iload_n C dX9_trader_141 rfl rfl ?_
          refine x_aload_n C dX9_trader_142 rfl rfl ?_
          refine x_iload C dX9_trader_143 rfl ?_
          refine x_iconst C dX9_trader_145 kc_0 ?_
          refine x_V2I C (met_X9_at l C.1 h.1 ((hs1.2.2 21 (by decide) (by decide)).trans hb) (by omega) (by omega) (by omega)) mi_X9_at q2653 gcX9 h.1.1 ⟨rfl, rfl⟩ rfl ⟨Nat.le_refl _, Nat.le_refl _⟩ rfl dX9_trader_146 (fun r M1 hr => ?_)
          obtain ⟨rfl, rfl⟩ := hr
          refine x_iload_n C dX9_trader_149 rfl rfl ?_
          refine x_icmp_ne (tgt := 171) C dX9_trader_150 rfl (fun c150 => ?_) (fun c150 => ?_)
          · -- 171
            refine x_iconst C dX9_trader_171 kc_0 ?_
            refine x_ior C dX9_trader_172 ?_
            refine x_istore_n C dX9_trader_173 rfl (gs1_3 rfl) rfl ?_
            refine x_iincN C dX9_trader_174 rfl (gs1_4 rfl) rfl ?_
            refine x_goto (tgt := 129) C dX9_trader_177 rfl ?_
            exact (ih (by omega) _ () _ ⟨by show _ = pBits B tn i ||| (if _ then _ else _); rw [← eb, if_neg (fun q => c150 q.1)], h⟩)
          · -- 153
            refine x_aload_n C dX9_trader_153 rfl rfl ?_
            refine x_iload C dX9_trader_154 rfl ?_
            refine x_bipush C dX9_trader_156 kb_9 ?_
            refine x_V2I C (met_X9_at l C.1 h.1 ((hs1.2.2 21 (by decide) (by decide)).trans hb) (by omega) (by omega) (by omega)) mi_X9_at q2653 gcX9 h.1.1 ⟨rfl, rfl⟩ rfl ⟨Nat.le_refl _, Nat.le_refl _⟩ rfl dX9_trader_158 (fun r M1 hr => ?_)
            obtain ⟨rfl, rfl⟩ := hr
            refine x_if_ne (tgt := 171) C dX9_trader_161 rfl (fun c161 => ?_) (fun c161 => ?_)
            · -- 171
              refine x_iconst C dX9_trader_171 kc_0 ?_
              refine x_ior C dX9_trader_172 ?_
              refine x_istore_n C dX9_trader_173 rfl (gs1_3 rfl) rfl ?_
              refine x_iincN C dX9_trader_174 rfl (gs1_4 rfl) rfl ?_
              refine x_goto (tgt := 129) C dX9_trader_177 rfl ?_
              exact (ih (by omega) _ () _ ⟨by show _ = pBits B tn i ||| (if _ then _ else _); rw [← eb, if_neg (fun q => c161 q.2)], h⟩)
            · -- 164
              refine x_iconst C dX9_trader_164 kc_1 ?_
              refine x_iload C dX9_trader_165 rfl ?_
              refine x_ishl C dX9_trader_167 ?_
              refine x_goto (tgt := 172) C dX9_trader_168 rfl ?_
              refine x_ior C dX9_trader_172 ?_
              refine x_istore_n C dX9_trader_173 rfl (gs1_3 rfl) rfl ?_
              refine x_iincN C dX9_trader_174 rfl (gs1_4 rfl) rfl ?_
              refine x_goto (tgt := 129) C dX9_trader_177 rfl ?_
              exact (ih (by omega) _ () _ ⟨by show _ = pBits B tn i ||| (if _ then _ else _); rw [← eb, if_pos ⟨c150, c161⟩], h⟩)
    · -- out
      refine x_tableOut (tgt := 182) C dX9_trader_20 h20 rfl ?_
      refine x_aload_n C dX9_trader_182 rfl rfl ?_
      refine x_iconst C dX9_trader_183 kc_2 ?_
      refine x_V1I C (met_X9_fails l C.1 h.1 ((hs1.2.2 21 (by decide) (by decide)).trans hb) (by omega)) mi_X9_fails q2781 gcX9 h.1.1 ⟨rfl, rfl⟩ rfl ⟨Nat.le_refl _, Nat.le_refl _⟩ rfl dX9_trader_184 (fun r M1 hr => ?_)
      obtain ⟨rfl, hr⟩ := hr
      have h := h.tr hr
      exact x_iret C dX9_trader_187 ⟨Nat.le_refl _, Nat.le_refl _⟩ (gq2 h (hs1.tr sQ.p2) (by unfold qTr; simp only [etn]; rw [if_pos b7, if_neg (tab_ne h20 0 (by decide) (by decide)), if_neg (tab_ne h20 1 (by decide) (by decide)), if_neg (tab_ne h20 2 (by decide) (by decide)), if_neg (tab_ne h20 3 (by decide) (by decide)), if_neg (tab_ne h20 4 (by decide) (by decide)), if_neg (tab_ne h20 5 (by decide) (by decide))]; exact mI_2) (by unfold qTr; simp only [etn]; rw [if_pos b7, if_neg (tab_ne h20 0 (by decide) (by decide)), if_neg (tab_ne h20 1 (by decide) (by decide)), if_neg (tab_ne h20 2 (by decide) (by decide)), if_neg (tab_ne h20 3 (by decide) (by decide)), if_neg (tab_ne h20 4 (by decide) (by decide)), if_neg (tab_ne h20 5 (by decide) (by decide))]))
  · -- false
    refine x_if_neF (tgt := 19) C (by decide) dX9_trader_10 rfl ?_
    refine x_aload_n C dX9_trader_13 rfl rfl ?_
    refine x_iconst C dX9_trader_14 kc_1 ?_
    refine x_V1I C (met_X9_fails l C.1 h.1 ((hs1.2.2 21 (by decide) (by decide)).trans hb) (by omega)) mi_X9_fails q2781 gcX9 h.1.1 ⟨rfl, rfl⟩ rfl ⟨Nat.le_refl _, Nat.le_refl _⟩ rfl dX9_trader_15 (fun r M1 hr => ?_)
    obtain ⟨rfl, hr⟩ := hr
    have h := h.tr hr
    exact x_iret C dX9_trader_18 ⟨Nat.le_refl _, Nat.le_refl _⟩ (gq2 h (hs1.tr sQ.p2) (by unfold qTr; rw [if_neg b7]; exact mI_2) (by unfold qTr; rw [if_neg b7]))
theorem mi_X9_room : gMV RX9 yX9_room cX9_room 4 (some .int) 2 := ⟨q2880, q2881, q165, q2882, by decide +kernel⟩
set_option maxHeartbeats 4000000 in
set_option maxRecDepth 100000 in
theorem met_X9_room (l : Launch) {G : gG} (hG : gOK G) {ad : Nat → Nat} {σ : mS} {M0 : gM} {b : Nat} {B : Nat → Int32} {t k : Int32} {A : Nat → Nat → Int32} {T : Nat} (h : MR G ad (sb σ b B) M0) (hb : mI σ 21 = nI b) (hA : mA σ = A) (hT : mI σ 11 = nI T) (hb0_ : b < 23) (hw : wT T A) (hB : wB T B) : Met l yX9_room (ws_ yX9_room cX9_room 4 (some .int)) ({ frames := 6, cells := 0, slots := 0, locals := 141 }) (gPre G M0 [.ref (ad 0), .int (t), .int (k)]) (gQ G (gI (fun r M1 => ∃ σ', sQ σ σ' ∧ MF G ad M0 (sb σ' b B) M1 ∧ qRoom A T B t k = r))) 0 0 (gA G) := by
  refine gMet (L0 := [some (.ref (ad 0)), some (.int (t)), some (.int (k)), none]) RX9 hG (by decide +kernel) rfl (Nat.le_of_ble_eq_true rfl) rfl ?_
  intro p e s m args below meth c C hnm
  have h := MF.rf h
  have hT4 := hw.T4
  have hnw : B 0 = nI (pNow B) := hB.now.1
  have hnow : pNow B ≤ 63 := hB.now.2
  have hna : B 1865 = nI (dN (B 1865)) := hB.na.1
  have hna8 : dN (B 1865) ≤ 8 := hB.na.2
  have hkp : B 1867 = nI (dN (B 1867)) := hB.kept.1
  have hkp40 : dN (B 1867) ≤ 40 := hB.kept.2
  refine x_aload_n C dX9_room_0 rfl rfl ?_
  refine x_iconst C dX9_room_1 kc_0 ?_
  refine m_put C h 2 rfl q2411 rfl rfl rfl rfl dX9_room_2 (fun M h => ?_)
  obtain ⟨σ1, hs1, h⟩ : ∃ σ', sQ σ σ' ∧ MF G ad M0 (sb σ' b B) M := ⟨_, sQ.p2, h⟩
  refine x_aload_n C dX9_room_5 rfl rfl ?_
  refine x_iload_n C dX9_room_6 rfl rfl ?_
  refine x_V1I C (met_X9_isTrader l C.1 h.1 ((hs1.2.2 11 (by decide) (by decide)).trans hT)) mi_X9_isTrader q2613 gcX9 h.1.1 ⟨rfl, rfl⟩ rfl ⟨Nat.le_refl _, Nat.le_refl _⟩ rfl dX9_room_7 (fun r M1 hr => ?_)
  rcases hr with ⟨rfl, rfl, b7⟩ | ⟨rfl, rfl, b7⟩
  · -- true
    obtain ⟨tn, rfl, hltn⟩ := iT.ex b7 (by omega)
    have etn : dN (nI tn) = tn := dN_nI (by omega)
    refine x_if_eqF (tgt := 22) C (by decide) dX9_room_10 rfl ?_
    refine x_iload_n C dX9_room_13 rfl rfl ?_
    refine x_iconst C dX9_room_14 kc_0 ?_
    refine x_iconst C dX9_room_15 kc_2 ?_
    refine x_S3I C (met_X9_isIn l C.1) mi_X9_isIn q2550 ⟨rfl, rfl⟩ rfl ⟨Nat.le_refl _, Nat.le_refl _⟩ rfl dX9_room_16 (fun r M1 hr => ?_)
    rcases hr with ⟨rfl, rfl, b16⟩ | ⟨rfl, rfl, b16⟩
    · -- true
      obtain ⟨kn, rfl, hlkn, hhkn⟩ := iI.ex b16 (by omega) (by omega)
      have ekn : dN (nI kn) = kn := dN_nI (by omega)
      refine x_if_neT (tgt := 24) C (by decide) dX9_room_19 rfl ?_
      refine x_aload_n C dX9_room_24 rfl rfl ?_
      refine x_iload_n C dX9_room_25 rfl rfl ?_
      refine x_aload_n C dX9_room_26 rfl rfl ?_
      refine x_V0I C (met_X9_year l C.1 h.1 ((hs1.2.2 21 (by decide) (by decide)).trans hb) hnw (by omega) (by omega)) mi_X9_year q2629 gcX9 h.1.1 ⟨rfl, rfl⟩ rfl ⟨Nat.le_refl _, Nat.le_refl _⟩ rfl dX9_room_27 (fun r M1 hr => ?_)
      obtain ⟨rfl, rfl⟩ := hr
      refine x_V2I C (met_X9_backOf l C.1 h.1 ((hs1.2.2 21 (by decide) (by decide)).trans hb) (hs1.1.trans hA) hnw (by omega) (by omega) (by omega) (by omega) hw) mi_X9_backOf q2818 gcX9 h.1.1 ⟨rfl, rfl⟩ rfl ⟨Nat.le_refl _, Nat.le_refl _⟩ rfl dX9_room_30 (fun r M1 hr => ?_)
      obtain ⟨rfl, hr⟩ := hr
      have h := h.tr hr
      refine x_pop C dX9_room_33 rfl ?_
      refine x_aload_n C dX9_room_34 rfl rfl ?_
      refine m_get C h 27 (v := .int (pSm A (pAnn A B tn (pNow B / 4)) (A 6 2) (pYS B tn (pNow B / 4)))) rfl q2436 (m_v rfl rfl) dX9_room_35 ?_
      refine x_if_ne (tgt := 44) C dX9_room_38 rfl (fun c38 => ?_) (fun c38 => ?_)
      · -- 44
        refine x_iconst C dX9_room_44 kc_1 ?_
        refine x_istore_n C dX9_room_45 rfl (gs1_3 rfl) rfl ?_
        refine x_loop (head := 46) (E := 9999) (fun i M => pFind (fun n => fRm A B tn (pNow B / 4) (2 + kn) (n + 1) = 0) i = i ∧ ∃ σ2, sQ σ σ2 ∧ MF G ad M0 (sb (sy σ2 (pRm (pYS B tn (pNow B / 4)) (2 + kn) i) (pHO B tn) (pHA B tn)) b B) M) (fun i => [some (.ref (ad 0)), some (.int (nI tn)), some (.int (nI kn)), some (.int (nI (1 + i)))]) ⟨rfl, _, hs1.s7, h⟩ (fun i M hi h ih => ?_)
        obtain ⟨hf, σ2, hs2, h⟩ := h
        refine x_iload_n C dX9_room_46 rfl rfl ?_
        refine x_sipush C dX9_room_47 ks_10000 ?_
        refine x_icmp_geN (tgt := 98) C (by omega) (by omega) dX9_room_50 rfl (fun c50 => ?_) (fun c50 => ?_)
        · -- 98
          obtain rfl : i = 9999 := by omega
          refine x_sipush C dX9_room_98 ks_9999 ?_
          exact x_iret C dX9_room_101 ⟨Nat.le_refl _, Nat.le_refl _⟩ (gq h (by first | exact hs2.yy7 | exact hs2.y7 | exact hs2.y | exact hs2) (by unfold qRoom; simp only [etn, ekn]; rw [if_pos b7, if_pos b16, if_neg c38]; rw [hf]))
        · -- 53
          refine x_aload_n C dX9_room_53 rfl rfl ?_
          refine m_get C h 24 rfl q2433 rfl dX9_room_54 ?_
          refine x_iconst C dX9_room_57 kc_2 ?_
          refine x_iload_n C dX9_room_58 rfl rfl ?_
          refine x_iaddN C dX9_room_59 ?_
          refine x_dup2 C dX9_room_60 rfl rfl ?_
          refine m_lald C h rfl (by omega) dX9_room_61 ?_
          refine x_lconst (v := 1) C dX9_room_62 rfl ?_
          refine x_ladd C dX9_room_63 ?_
          refine m_last C h rfl (by omega) dX9_room_64 (fun M h => ?_)
          refine x_aload_n C dX9_room_65 rfl rfl ?_
          refine x_aload_n C dX9_room_66 rfl rfl ?_
          refine x_iload_n C dX9_room_67 rfl rfl ?_
          refine x_V1I C (met_X9_fraction l C.1 h.1 ((hs2.2.2 21 (by decide) (by decide)).trans hb) (hs2.1.trans hA) (by omega) (by omega) (sZ_rm B tn (pNow B / 4) (2 + kn) (i + 1) (by omega))) mi_X9_fraction q2701 gcX9 h.1.1 ⟨rfl, rfl⟩ rfl ⟨Nat.le_refl _, Nat.le_refl _⟩ rfl dX9_room_68 (fun r M1 hr => ?_)
          obtain ⟨rfl, rfl⟩ := hr
          refine x_aload_n C dX9_room_71 rfl rfl ?_
          refine m_get C h 17 rfl q2426 rfl dX9_room_72 ?_
          refine x_iconst C dX9_room_75 kc_2 ?_
          refine m_ald C h 6 (N := 14) (by decide) rfl rfl (by omega) (congrFun (congrFun (hs2.1.trans hA) 6) _) dX9_room_76 ?_
          refine x_V2I C (met_X9_back1 l C.1 h.1 ((hs2.2.2 21 (by decide) (by decide)).trans hb) (hs2.1.trans hA) (by omega) hw.step hw.step10) mi_X9_back1 q2720 gcX9 h.1.1 ⟨rfl, rfl⟩ rfl ⟨Nat.le_refl _, Nat.le_refl _⟩ rfl dX9_room_77 (fun r M1 hr => ?_)
          obtain ⟨rfl, hr⟩ := hr
          have h := h.tr hr
          refine x_pop C dX9_room_80 rfl ?_
          refine x_aload_n C dX9_room_81 rfl rfl ?_
          refine m_get C h 27 (v := .int (fRm A B tn (pNow B / 4) (2 + kn) (i + 1))) rfl q2436 (m_v rfl rfl) dX9_room_82 ?_
          refine x_if_ne (tgt := 92) C dX9_room_85 rfl (fun c85 => ?_) (fun c85 => ?_)
          · -- 92
            refine x_iincN C dX9_room_92 rfl (gs1_3 rfl) rfl ?_
            refine x_goto (tgt := 46) C dX9_room_95 rfl ?_
            exact (ih (by omega) _ ⟨pFind_s hf c85, _, hs2.s7, h⟩)
          · -- 88
            refine x_iload_n C dX9_room_88 rfl rfl ?_
            refine x_iconst C dX9_room_89 kc_1 ?_
            refine x_isubN C (by omega) dX9_room_90 ?_
            exact x_iret C dX9_room_91 ⟨Nat.le_refl _, Nat.le_refl _⟩ (gq h (by first | exact hs2.yy7 | exact hs2.y7 | exact hs2.y) (by unfold qRoom; simp only [etn, ekn]; rw [if_pos b7, if_pos b16, if_neg c38]; rw [pFind_h hf c85 (by omega), show 1 + i - 1 = i from by omega]))
      · -- 41
        refine x_bipush C dX9_room_41 kb_m2 ?_
        exact x_iret C dX9_room_43 ⟨Nat.le_refl _, Nat.le_refl _⟩ (gq h (by first | exact hs1 | exact hs1.y | exact hs1.y7 | exact hs1.yy7) (by unfold qRoom; simp only [etn, ekn]; rw [if_pos b7, if_pos b16, if_pos c38]; first | done | assumption | rfl))
    · -- false
      refine x_if_neF (tgt := 24) C (by decide) dX9_room_19 rfl ?_
      refine x_iconst C dX9_room_22 kc_m1 ?_
      exact x_iret C dX9_room_23 ⟨Nat.le_refl _, Nat.le_refl _⟩ (gq h (by first | exact hs1 | exact hs1.y | exact hs1.y7 | exact hs1.yy7) (by unfold qRoom; simp only [etn]; rw [if_pos b7, if_neg b16]; first | done | assumption | rfl))
  · -- false
    refine x_if_eqT (tgt := 22) C (by decide) dX9_room_10 rfl ?_
    refine x_iconst C dX9_room_22 kc_m1 ?_
    exact x_iret C dX9_room_23 ⟨Nat.le_refl _, Nat.le_refl _⟩ (gq h (by first | exact hs1 | exact hs1.y | exact hs1.y7 | exact hs1.yy7) (by unfold qRoom; rw [if_neg b7]; first | done | assumption | rfl))
