set_option maxRecDepth 100000
theorem mi_X9_backOf : gMV RX9 yX9_backOf cX9_backOf 3 (some .int) 2 := ⟨q2820, qs117, q165, q2821, by decide +kernel⟩
set_option maxHeartbeats 4000000 in
set_option maxRecDepth 100000 in
theorem met_X9_backOf (l : Launch) {G : gG} (hG : gOK G) {ad : Nat → Nat} {σ : mS} {M0 : gM} {b : Nat} {B : Nat → Int32} {t y w : Nat} {A : Nat → Nat → Int32} {T : Nat} (h : MR G ad (sb σ b B) M0) (hb : mI σ 21 = nI b) (hA : mA σ = A) (hn : B 0 = nI w) (hb0_ : b < 23) (hb1_ : t < 4) (hb2_ : y < 16) (hb3_ : w < 64) (hw : wT T A) : Met l yX9_backOf (ws_ yX9_backOf cX9_backOf 3 (some .int)) ({ frames := 5, cells := 0, slots := 0, locals := 119 }) (gPre G M0 [.ref (ad 0), .int (nI t), .int (nI y)]) (gQ G (gI (fun r M1 => pYB A B t y = r ∧ MF G ad M0 (sb (sy (si (sy σ (pYS B t y) (pHO B t) (pHA B t)) 27 (pSm A (pAnn A B t y) (A 6 2) (pYS B t y))) (pYS B t y) (pHO B t) (pHA B t)) b B) M1))) 0 0 (gA G) := by
  refine gMet (L0 := [some (.ref (ad 0)), some (.int (nI t)), some (.int (nI y))]) RX9 hG (by decide +kernel) rfl (Nat.le_of_ble_eq_true rfl) rfl ?_
  intro p e s m args below meth c C hnm
  have h := MF.rf h
  refine x_aload_n C dX9_backOf_0 rfl rfl ?_
  refine x_aload_n C dX9_backOf_1 rfl rfl ?_
  refine x_iload_n C dX9_backOf_2 rfl rfl ?_
  refine x_iload_n C dX9_backOf_3 rfl rfl ?_
  refine x_V2I C (met_X9_annualOf l C.1 h.1 hb hA hn (by omega) (by omega) (by omega) (by omega)) mi_X9_annualOf q2752 gcX9 h.1.1 ⟨rfl, rfl⟩ rfl ⟨Nat.le_refl _, Nat.le_refl _⟩ rfl dX9_backOf_4 (fun r M1 hr => ?_)
  obtain ⟨rfl, hr⟩ := hr
  have h := h.tr hr
  refine x_aload_n C dX9_backOf_7 rfl rfl ?_
  refine m_get C h 17 rfl q2426 rfl dX9_backOf_8 ?_
  refine x_iconst C dX9_backOf_11 kc_2 ?_
  refine m_ald C h 6 (N := 14) (by decide) rfl rfl (by omega) (congrFun (congrFun hA 6) _) dX9_backOf_12 ?_
  refine x_V2I C (met_X9_back1 l C.1 h.1 hb hA (by omega) hw.step hw.step10) mi_X9_back1 q2720 gcX9 h.1.1 ⟨rfl, rfl⟩ rfl ⟨Nat.le_refl _, Nat.le_refl _⟩ rfl dX9_backOf_13 (fun r M1 hr => ?_)
  obtain ⟨rfl, hr⟩ := hr
  have h := h.tr hr
  exact x_iret C dX9_backOf_16 ⟨Nat.le_refl _, Nat.le_refl _⟩ ⟨rfl, h⟩
theorem mi_X9_behindOf : gMV RX9 yX9_behindOf cX9_behindOf 2 (some .int) 1 := ⟨q2667, qs89, q165, q2668, by decide +kernel⟩
set_option maxHeartbeats 4000000 in
set_option maxRecDepth 100000 in
theorem met_X9_behindOf (l : Launch) {G : gG} (hG : gOK G) {ad : Nat → Nat} {σ : mS} {M0 : gM} {b : Nat} {B : Nat → Int32} {a w q5 : Nat} (h : MR G ad (sb σ b B) M0) (hb : mI σ 21 = nI b) (hn : B 0 = nI w) (h5 : B (2084 + 48 * a + 5) = nI q5) (hb0_ : b < 23) (hb1_ : a < 8) (hb2_ : w < 64) (hb3_ : q5 < 64) (hb4_ : q5 / 4 ≤ w / 4) : Met l yX9_behindOf (ws_ yX9_behindOf cX9_behindOf 2 (some .int)) ({ frames := 3, cells := 0, slots := 0, locals := 65 }) (gPre G M0 [.ref (ad 0), .int (nI a)]) (gQ G (gI (fun r M1 => M0 = M1 ∧ B (2084 + 48 * a + 4) - nI 1 - nI (w / 4 - q5 / 4) = r))) 0 0 (gA G) := by
  refine gMet (L0 := [some (.ref (ad 0)), some (.int (nI a))]) RX9 hG (by decide +kernel) rfl (Nat.le_of_ble_eq_true rfl) rfl ?_
  intro p e s m args below meth c C hnm
  have h := MF.rf h
  refine x_aload_n C dX9_behindOf_0 rfl rfl ?_
  refine x_iload_n C dX9_behindOf_1 rfl rfl ?_
  refine x_iconst C dX9_behindOf_2 kc_4 ?_
  refine x_V2I C (met_X9_at l C.1 h.1 hb (by omega) (by omega) (by omega)) mi_X9_at q2653 gcX9 h.1.1 ⟨rfl, rfl⟩ rfl ⟨Nat.le_refl _, Nat.le_refl _⟩ rfl dX9_behindOf_3 (fun r M1 hr => ?_)
  obtain ⟨rfl, rfl⟩ := hr
  refine x_iconst C dX9_behindOf_6 kc_1 ?_
  refine x_isub C dX9_behindOf_7 ?_
  refine x_aload_n C dX9_behindOf_8 rfl rfl ?_
  refine x_iload_n C dX9_behindOf_9 rfl rfl ?_
  refine x_aload_n C dX9_behindOf_10 rfl rfl ?_
  refine x_V0I C (met_X9_year l C.1 h.1 hb hn (by omega) (by omega)) mi_X9_year q2629 gcX9 h.1.1 ⟨rfl, rfl⟩ rfl ⟨Nat.le_refl _, Nat.le_refl _⟩ rfl dX9_behindOf_11 (fun r M1 hr => ?_)
  obtain ⟨rfl, rfl⟩ := hr
  refine x_V2I C (met_X9_intervalOf l C.1 h.1 hb h5 (by omega) (by omega) (by omega) (by omega)) mi_X9_intervalOf q2657 gcX9 h.1.1 ⟨rfl, rfl⟩ rfl ⟨Nat.le_refl _, Nat.le_refl _⟩ rfl dX9_behindOf_14 (fun r M1 hr => ?_)
  obtain ⟨rfl, rfl⟩ := hr
  refine x_isub C dX9_behindOf_17 ?_
  exact x_iret C dX9_behindOf_18 ⟨Nat.le_refl _, Nat.le_refl _⟩ ⟨rfl, rfl⟩
theorem mi_X9_baseNow : gMV RX9 yX9_baseNow cX9_baseNow 2 (some .int) 1 := ⟨q2889, qs118, q165, q2890, by decide +kernel⟩
set_option maxHeartbeats 4000000 in
set_option maxRecDepth 100000 in
theorem met_X9_baseNow (l : Launch) {G : gG} (hG : gOK G) {ad : Nat → Nat} {σ : mS} {M0 : gM} {b : Nat} {B : Nat → Int32} {a t w q5 s47 : Nat} {A : Nat → Nat → Int32} {T : Nat} (h : MR G ad (sb σ b B) M0) (hb : mI σ 21 = nI b) (hA : mA σ = A) (hn : B 0 = nI w) (h0 : B (2084 + 48 * a + 0) = nI t) (h5 : B (2084 + 48 * a + 5) = nI q5) (h47 : B (2084 + 48 * a + 47) = nI s47) (hb0_ : b < 23) (hb1_ : a < 8) (hb2_ : t < 4) (hb3_ : w < 64) (hb4_ : q5 < 64) (hb5_ : q5 / 4 ≤ w / 4) (hb6_ : s47 ≤ 10) (hw : wT T A) : Met l yX9_baseNow (ws_ yX9_baseNow cX9_baseNow 2 (some .int)) ({ frames := 6, cells := 0, slots := 0, locals := 147 }) (gPre G M0 [.ref (ad 0), .int (nI a)]) (gQ G (gI (fun r M1 => ∃ σ', sE σ σ' ∧ MF G ad M0 (sb σ' b B) M1 ∧ pBas A B a = r))) 0 0 (gA G) := by
  refine gMet (L0 := [some (.ref (ad 0)), some (.int (nI a))]) RX9 hG (by decide +kernel) rfl (Nat.le_of_ble_eq_true rfl) rfl ?_
  intro p e s m args below meth c C hnm
  have h := MF.rf h
  refine x_aload_n C dX9_baseNow_0 rfl rfl ?_
  refine x_iload_n C dX9_baseNow_1 rfl rfl ?_
  refine x_V1I C (met_X9_isThrough l C.1 h.1 hb h47 (by omega) (by omega) (by omega)) mi_X9_isThrough q2789 gcX9 h.1.1 ⟨rfl, rfl⟩ rfl ⟨Nat.le_refl _, Nat.le_refl _⟩ rfl dX9_baseNow_2 (fun r M1 hr => ?_)
  rcases hr with ⟨rfl, rfl, b2⟩ | ⟨rfl, rfl, b2⟩
  · -- true
    refine x_if_eqF (tgt := 18) C (by decide) dX9_baseNow_5 rfl ?_
    refine x_aload_n C dX9_baseNow_8 rfl rfl ?_
    refine x_iload_n C dX9_baseNow_9 rfl rfl ?_
    refine x_bipush C dX9_baseNow_10 kb_6 ?_
    refine x_V2I C (met_X9_at l C.1 h.1 hb (by omega) (by omega) (by omega)) mi_X9_at q2653 gcX9 h.1.1 ⟨rfl, rfl⟩ rfl ⟨Nat.le_refl _, Nat.le_refl _⟩ rfl dX9_baseNow_12 (fun r M1 hr => ?_)
    obtain ⟨rfl, rfl⟩ := hr
    refine x_goto (tgt := 29) C dX9_baseNow_15 rfl ?_
    exact x_iret C dX9_baseNow_29 ⟨Nat.le_refl _, Nat.le_refl _⟩ ⟨_, sE.rf, h, (by unfold pBas iTh; rw [h47, dN_nI (by omega), if_pos b2])⟩
  · -- false
    refine x_if_eqT (tgt := 18) C (by decide) dX9_baseNow_5 rfl ?_
    refine x_aload_n C dX9_baseNow_18 rfl rfl ?_
    refine x_iload_n C dX9_baseNow_19 rfl rfl ?_
    refine x_aload_n C dX9_baseNow_20 rfl rfl ?_
    refine x_iload_n C dX9_baseNow_21 rfl rfl ?_
    refine x_iconst C dX9_baseNow_22 kc_2 ?_
    refine x_V2I C (met_X9_at l C.1 h.1 hb (by omega) (by omega) (by omega)) mi_X9_at q2653 gcX9 h.1.1 ⟨rfl, rfl⟩ rfl ⟨Nat.le_refl _, Nat.le_refl _⟩ rfl dX9_baseNow_23 (fun r M1 hr => ?_)
    obtain ⟨rfl, rfl⟩ := hr
    refine x_V2I C (met_X9_worthBy l C.1 h.1 hb hA hn h0 h5 (by omega) (by omega) (by omega) (by omega) (by omega) (by omega) hw) mi_X9_worthBy q2748 gcX9 h.1.1 ⟨rfl, rfl⟩ rfl ⟨Nat.le_refl _, Nat.le_refl _⟩ rfl dX9_baseNow_26 (fun r M1 hr => ?_)
    obtain ⟨rfl, hr⟩ := hr
    have h := h.tr hr
    exact x_iret C dX9_baseNow_29 ⟨Nat.le_refl _, Nat.le_refl _⟩ ⟨_, sE.sy, h, (by unfold pBas iTh; rw [h47, dN_nI (by omega), if_neg b2])⟩
theorem mi_X9_sum : gMV RX9 yX9_sum cX9_sum 4 (some .int) 3 := ⟨q2794, q2795, q165, q2796, by decide +kernel⟩
set_option maxHeartbeats 4000000 in
set_option maxRecDepth 100000 in
theorem met_X9_sum (l : Launch) {G : gG} (hG : gOK G) {ad : Nat → Nat} {σ : mS} {M0 : gM} {b : Nat} {B : Nat → Int32} {t q u : Int32} {A : Nat → Nat → Int32} {T : Nat} (h : MR G ad (sb σ b B) M0) (hb : mI σ 21 = nI b) (hA : mA σ = A) (hT : mI σ 11 = nI T) (hb0_ : b < 23) (hw : wT T A) (hB : wB T B) : Met l yX9_sum (ws_ yX9_sum cX9_sum 4 (some .int)) ({ frames := 1, cells := 0, slots := 0, locals := 23 }) (gPre G M0 [.ref (ad 0), .int (t), .int (q), .int (u)]) (gQ G (gI (fun r M1 => ∃ σ', sQ σ σ' ∧ MF G ad M0 (sb σ' b B) M1 ∧ qSum T B t q u = r))) 0 0 (gA G) := by
  refine gMet (L0 := [some (.ref (ad 0)), some (.int (t)), some (.int (q)), some (.int (u))]) RX9 hG (by decide +kernel) rfl (Nat.le_of_ble_eq_true rfl) rfl ?_
  intro p e s m args below meth c C hnm
  have h := MF.rf h
  have hT4 := hw.T4
  have hnw : B 0 = nI (pNow B) := hB.now.1
  have hnow : pNow B ≤ 63 := hB.now.2
  have hna : B 1865 = nI (dN (B 1865)) := hB.na.1
  have hna8 : dN (B 1865) ≤ 8 := hB.na.2
  have hkp : B 1867 = nI (dN (B 1867)) := hB.kept.1
  have hkp40 : dN (B 1867) ≤ 40 := hB.kept.2
  refine x_aload_n C dX9_sum_0 rfl rfl ?_
  refine x_iconst C dX9_sum_1 kc_0 ?_
  refine m_put C h 2 rfl q2411 rfl rfl rfl rfl dX9_sum_2 (fun M h => ?_)
  obtain ⟨σ1, hs1, h⟩ : ∃ σ', sQ σ σ' ∧ MF G ad M0 (sb σ' b B) M := ⟨_, sQ.p2, h⟩
  refine x_aload_n C dX9_sum_5 rfl rfl ?_
  refine x_iload_n C dX9_sum_6 rfl rfl ?_
  refine x_V1I C (met_X9_isTrader l C.1 h.1 ((hs1.2.2 11 (by decide) (by decide)).trans hT)) mi_X9_isTrader q2613 gcX9 h.1.1 ⟨rfl, rfl⟩ rfl ⟨Nat.le_refl _, Nat.le_refl _⟩ rfl dX9_sum_7 (fun r M1 hr => ?_)
  rcases hr with ⟨rfl, rfl, b7⟩ | ⟨rfl, rfl, b7⟩
  · -- true
    obtain ⟨tn, rfl, hltn⟩ := iT.ex b7 (by omega)
    have etn : dN (nI tn) = tn := dN_nI (by omega)
    refine x_if_eqF (tgt := 44) C (by decide) dX9_sum_10 rfl ?_
    refine x_aload_n C dX9_sum_13 rfl rfl ?_
    refine x_iload_n C dX9_sum_14 rfl rfl ?_
    refine x_V1I C (met_X9_isQuarter l C.1 h.1) mi_X9_isQuarter q2797 gcX9 h.1.1 ⟨rfl, rfl⟩ rfl ⟨Nat.le_refl _, Nat.le_refl _⟩ rfl dX9_sum_15 (fun r M1 hr => ?_)
    rcases hr with ⟨rfl, rfl, b15⟩ | ⟨rfl, rfl, b15⟩
    · -- true
      obtain ⟨qn, rfl, hlqn⟩ := iT.ex b15 (by decide)
      have eqn : dN (nI qn) = qn := dN_nI (by omega)
      refine x_if_eqF (tgt := 44) C (by decide) dX9_sum_18 rfl ?_
      refine x_iload_n C dX9_sum_21 rfl rfl ?_
      refine x_iconst C dX9_sum_22 kc_0 ?_
      refine x_iconst C dX9_sum_23 kc_4 ?_
      refine x_S3I C (met_X9_isIn l C.1) mi_X9_isIn q2550 ⟨rfl, rfl⟩ rfl ⟨Nat.le_refl _, Nat.le_refl _⟩ rfl dX9_sum_24 (fun r M1 hr => ?_)
      rcases hr with ⟨rfl, rfl, b24⟩ | ⟨rfl, rfl, b24⟩
      · -- true
        obtain ⟨un, rfl, hlun, hhun⟩ := iI.ex b24 (by omega) (by omega)
        have eun : dN (nI un) = un := dN_nI (by omega)
        refine x_if_eqF (tgt := 44) C (by decide) dX9_sum_27 rfl ?_
        refine x_aload_n C dX9_sum_30 rfl rfl ?_
        refine x_aload_n C dX9_sum_31 rfl rfl ?_
        refine x_iload_n C dX9_sum_32 rfl rfl ?_
        refine x_iload_n C dX9_sum_33 rfl rfl ?_
        refine x_iload_n C dX9_sum_34 rfl rfl ?_
        refine x_V3I C (met_X9_sumAt l C.1 h.1) mi_X9_sumAt q2393 gcX9 h.1.1 ⟨rfl, rfl⟩ rfl ⟨Nat.le_refl _, Nat.le_refl _⟩ rfl dX9_sum_35 (fun r M1 hr => ?_)
        obtain ⟨rfl, rfl⟩ := hr
        refine x_V1I C (met_X9_of l C.1 h.1 ((hs1.2.2 21 (by decide) (by decide)).trans hb) (by omega) (by omega)) mi_X9_of q2389 gcX9 h.1.1 ⟨rfl, rfl⟩ rfl ⟨Nat.le_refl _, Nat.le_refl _⟩ rfl dX9_sum_38 (fun r M1 hr => ?_)
        obtain ⟨rfl, rfl⟩ := hr
        refine x_goto (tgt := 45) C dX9_sum_41 rfl ?_
        exact x_iret C dX9_sum_45 ⟨Nat.le_refl _, Nat.le_refl _⟩ (gq h (by first | exact hs1 | exact hs1.y | exact hs1.y7 | exact hs1.yy7) (by unfold qSum; simp only [etn, eqn, eun]; rw [if_pos b7, if_pos b15, if_pos b24]; first | done | assumption | rfl))
      · -- false
        refine x_if_eqT (tgt := 44) C (by decide) dX9_sum_27 rfl ?_
        refine x_iconst C dX9_sum_44 kc_m1 ?_
        exact x_iret C dX9_sum_45 ⟨Nat.le_refl _, Nat.le_refl _⟩ (gq h (by first | exact hs1 | exact hs1.y | exact hs1.y7 | exact hs1.yy7) (by unfold qSum; simp only [etn, eqn]; rw [if_pos b7, if_pos b15, if_neg b24]; first | done | assumption | rfl))
    · -- false
      refine x_if_eqT (tgt := 44) C (by decide) dX9_sum_18 rfl ?_
      refine x_iconst C dX9_sum_44 kc_m1 ?_
      exact x_iret C dX9_sum_45 ⟨Nat.le_refl _, Nat.le_refl _⟩ (gq h (by first | exact hs1 | exact hs1.y | exact hs1.y7 | exact hs1.yy7) (by unfold qSum; simp only [etn]; rw [if_pos b7, if_neg b15]; first | done | assumption | rfl))
  · -- false
    refine x_if_eqT (tgt := 44) C (by decide) dX9_sum_10 rfl ?_
    refine x_iconst C dX9_sum_44 kc_m1 ?_
    exact x_iret C dX9_sum_45 ⟨Nat.le_refl _, Nat.le_refl _⟩ (gq h (by first | exact hs1 | exact hs1.y | exact hs1.y7 | exact hs1.yy7) (by unfold qSum; rw [if_neg b7]; first | done | assumption | rfl))
theorem mi_X9_provisional : gMV RX9 yX9_provisional cX9_provisional 3 (some .int) 2 := ⟨q2802, q2803, q165, q2804, by decide +kernel⟩
set_option maxHeartbeats 4000000 in
set_option maxRecDepth 100000 in
theorem met_X9_provisional (l : Launch) {G : gG} (hG : gOK G) {ad : Nat → Nat} {σ : mS} {M0 : gM} {b : Nat} {B : Nat → Int32} {t q : Int32} {A : Nat → Nat → Int32} {T : Nat} (h : MR G ad (sb σ b B) M0) (hb : mI σ 21 = nI b) (hA : mA σ = A) (hT : mI σ 11 = nI T) (hb0_ : b < 23) (hw : wT T A) (hB : wB T B) : Met l yX9_provisional (ws_ yX9_provisional cX9_provisional 3 (some .int)) ({ frames := 5, cells := 0, slots := 0, locals := 121 }) (gPre G M0 [.ref (ad 0), .int (t), .int (q)]) (gQ G (gI (fun r M1 => ∃ σ', sQ σ σ' ∧ MF G ad M0 (sb σ' b B) M1 ∧ qProv A T B t q = r))) 0 0 (gA G) := by
  refine gMet (L0 := [some (.ref (ad 0)), some (.int (t)), some (.int (q))]) RX9 hG (by decide +kernel) rfl (Nat.le_of_ble_eq_true rfl) rfl ?_
  intro p e s m args below meth c C hnm
  have h := MF.rf h
  have hT4 := hw.T4
  have hnw : B 0 = nI (pNow B) := hB.now.1
  have hnow : pNow B ≤ 63 := hB.now.2
  have hna : B 1865 = nI (dN (B 1865)) := hB.na.1
  have hna8 : dN (B 1865) ≤ 8 := hB.na.2
  have hkp : B 1867 = nI (dN (B 1867)) := hB.kept.1
  have hkp40 : dN (B 1867) ≤ 40 := hB.kept.2
  refine x_aload_n C dX9_provisional_0 rfl rfl ?_
  refine x_iconst C dX9_provisional_1 kc_0 ?_
  refine m_put C h 2 rfl q2411 rfl rfl rfl rfl dX9_provisional_2 (fun M h => ?_)
  obtain ⟨σ1, hs1, h⟩ : ∃ σ', sQ σ σ' ∧ MF G ad M0 (sb σ' b B) M := ⟨_, sQ.p2, h⟩
  refine x_aload_n C dX9_provisional_5 rfl rfl ?_
  refine x_iload_n C dX9_provisional_6 rfl rfl ?_
  refine x_V1I C (met_X9_isTrader l C.1 h.1 ((hs1.2.2 11 (by decide) (by decide)).trans hT)) mi_X9_isTrader q2613 gcX9 h.1.1 ⟨rfl, rfl⟩ rfl ⟨Nat.le_refl _, Nat.le_refl _⟩ rfl dX9_provisional_7 (fun r M1 hr => ?_)
  rcases hr with ⟨rfl, rfl, b7⟩ | ⟨rfl, rfl, b7⟩
  · -- true
    obtain ⟨tn, rfl, hltn⟩ := iT.ex b7 (by omega)
    have etn : dN (nI tn) = tn := dN_nI (by omega)
    refine x_if_eqF (tgt := 21) C (by decide) dX9_provisional_10 rfl ?_
    refine x_aload_n C dX9_provisional_13 rfl rfl ?_
    refine x_iload_n C dX9_provisional_14 rfl rfl ?_
    refine x_V1I C (met_X9_isQuarter l C.1 h.1) mi_X9_isQuarter q2797 gcX9 h.1.1 ⟨rfl, rfl⟩ rfl ⟨Nat.le_refl _, Nat.le_refl _⟩ rfl dX9_provisional_15 (fun r M1 hr => ?_)
    rcases hr with ⟨rfl, rfl, b15⟩ | ⟨rfl, rfl, b15⟩
    · -- true
      obtain ⟨qn, rfl, hlqn⟩ := iT.ex b15 (by decide)
      have eqn : dN (nI qn) = qn := dN_nI (by omega)
      refine x_if_neT (tgt := 23) C (by decide) dX9_provisional_18 rfl ?_
      refine x_iload_n C dX9_provisional_23 rfl rfl ?_
      refine x_aload_n C dX9_provisional_24 rfl rfl ?_
      refine x_iconst C dX9_provisional_25 kc_0 ?_
      refine x_V1I C (met_X9_of l C.1 h.1 ((hs1.2.2 21 (by decide) (by decide)).trans hb) (by omega) (by omega)) mi_X9_of q2389 gcX9 h.1.1 ⟨rfl, rfl⟩ rfl ⟨Nat.le_refl _, Nat.le_refl _⟩ rfl dX9_provisional_26 (fun r M1 hr => ?_)
      obtain ⟨rfl, hr⟩ := hr
      have hr := hr.symm.trans (show _ = nI (pNow B) from hnw)
      subst hr
      refine x_icmp_leN (tgt := 35) C (by omega) (by omega) dX9_provisional_29 rfl (fun c29 => ?_) (fun c29 => ?_)
      · -- 35
        refine x_iload_n C dX9_provisional_35 rfl rfl ?_
        refine x_aload_n C dX9_provisional_36 rfl rfl ?_
        refine x_iconst C dX9_provisional_37 kc_0 ?_
        refine x_V1I C (met_X9_of l C.1 h.1 ((hs1.2.2 21 (by decide) (by decide)).trans hb) (by omega) (by omega)) mi_X9_of q2389 gcX9 h.1.1 ⟨rfl, rfl⟩ rfl ⟨Nat.le_refl _, Nat.le_refl _⟩ rfl dX9_provisional_38 (fun r M1 hr => ?_)
        obtain ⟨rfl, hr⟩ := hr
        have hr := hr.symm.trans (show _ = nI (pNow B) from hnw)
        subst hr
        refine x_icmp_geN (tgt := 61) C (by omega) (by omega) dX9_provisional_41 rfl (fun c41 => ?_) (fun c41 => ?_)
        · -- 61
          refine x_aload_n C dX9_provisional_61 rfl rfl ?_
          refine x_iload_n C dX9_provisional_62 rfl rfl ?_
          refine x_iload_n C dX9_provisional_63 rfl rfl ?_
          refine x_aload_n C dX9_provisional_64 rfl rfl ?_
          refine x_iload_n C dX9_provisional_65 rfl rfl ?_
          refine x_iconst C dX9_provisional_66 kc_2 ?_
          refine x_V2I C (met_X9_told1 l C.1 h.1 (hs1.1.trans hA) (by omega)) mi_X9_told1 q2381 gcX9 h.1.1 ⟨rfl, rfl⟩ rfl ⟨Nat.le_refl _, Nat.le_refl _⟩ rfl dX9_provisional_67 (fun r M1 hr => ?_)
          obtain ⟨rfl, rfl⟩ := hr
          refine x_V3I C (met_X9_provisionalBy l C.1 h.1 ((hs1.2.2 21 (by decide) (by decide)).trans hb) (hs1.1.trans hA) (by omega) (by omega) (by omega)) mi_X9_provisionalBy q2681 gcX9 h.1.1 ⟨rfl, rfl⟩ rfl ⟨Nat.le_refl _, Nat.le_refl _⟩ rfl dX9_provisional_70 (fun r M1 hr => ?_)
          obtain ⟨rfl, hr⟩ := hr
          have h := h.tr hr
          exact x_iret C dX9_provisional_73 ⟨Nat.le_refl _, Nat.le_refl _⟩ (gq h (by first | exact hs1 | exact hs1.y | exact hs1.y7 | exact hs1.yy7) (by unfold qProv; simp only [etn, eqn]; rw [if_pos b7, if_pos b15, if_pos c29, if_pos c41]; first | done | assumption | rfl))
        · -- 44
          refine x_aload_n C dX9_provisional_44 rfl rfl ?_
          refine x_sipush C dX9_provisional_45 ks_1289 ?_
          refine x_bipush C dX9_provisional_48 kb_64 ?_
          refine x_iload_n C dX9_provisional_50 rfl rfl ?_
          refine x_imulN C dX9_provisional_51 ?_
          refine x_iaddN C dX9_provisional_52 ?_
          refine x_iload_n C dX9_provisional_53 rfl rfl ?_
          refine x_iaddN C dX9_provisional_54 ?_
          refine x_V1I C (met_X9_of l C.1 h.1 ((hs1.2.2 21 (by decide) (by decide)).trans hb) (by omega) (by omega)) mi_X9_of q2389 gcX9 h.1.1 ⟨rfl, rfl⟩ rfl ⟨Nat.le_refl _, Nat.le_refl _⟩ rfl dX9_provisional_55 (fun r M1 hr => ?_)
          obtain ⟨rfl, rfl⟩ := hr
          refine x_goto (tgt := 73) C dX9_provisional_58 rfl ?_
          exact x_iret C dX9_provisional_73 ⟨Nat.le_refl _, Nat.le_refl _⟩ (gq h (by first | exact hs1 | exact hs1.y | exact hs1.y7 | exact hs1.yy7) (by unfold qProv; simp only [etn, eqn]; rw [if_pos b7, if_pos b15, if_pos c29, if_neg (by omega)]; first | done | assumption | rfl))
      · -- 32
        refine x_bipush C dX9_provisional_32 kb_m2 ?_
        exact x_iret C dX9_provisional_34 ⟨Nat.le_refl _, Nat.le_refl _⟩ (gq h (by first | exact hs1 | exact hs1.y | exact hs1.y7 | exact hs1.yy7) (by unfold qProv; simp only [etn, eqn]; rw [if_pos b7, if_pos b15, if_neg (by omega)]; first | done | assumption | rfl))
    · -- false
      refine x_if_neF (tgt := 23) C (by decide) dX9_provisional_18 rfl ?_
      refine x_iconst C dX9_provisional_21 kc_m1 ?_
      exact x_iret C dX9_provisional_22 ⟨Nat.le_refl _, Nat.le_refl _⟩ (gq h (by first | exact hs1 | exact hs1.y | exact hs1.y7 | exact hs1.yy7) (by unfold qProv; simp only [etn]; rw [if_pos b7, if_neg b15]; first | done | assumption | rfl))
  · -- false
    refine x_if_eqT (tgt := 21) C (by decide) dX9_provisional_10 rfl ?_
    refine x_iconst C dX9_provisional_21 kc_m1 ?_
    exact x_iret C dX9_provisional_22 ⟨Nat.le_refl _, Nat.le_refl _⟩ (gq h (by first | exact hs1 | exact hs1.y | exact hs1.y7 | exact hs1.yy7) (by unfold qProv; rw [if_neg b7]; first | done | assumption | rfl))
theorem mi_X9_recovered : gMV RX9 yX9_recovered cX9_recovered 3 (some .int) 2 := ⟨q2806, q2807, q165, q2808, by decide +kernel⟩
set_option maxHeartbeats 4000000 in
set_option maxRecDepth 100000 in
theorem met_X9_recovered (l : Launch) {G : gG} (hG : gOK G) {ad : Nat → Nat} {σ : mS} {M0 : gM} {b : Nat} {B : Nat → Int32} {t q : Int32} {A : Nat → Nat → Int32} {T : Nat} (h : MR G ad (sb σ b B) M0) (hb : mI σ 21 = nI b) (hA : mA σ = A) (hT : mI σ 11 = nI T) (hb0_ : b < 23) (hw : wT T A) (hB : wB T B) : Met l yX9_recovered (ws_ yX9_recovered cX9_recovered 3 (some .int)) ({ frames := 1, cells := 0, slots := 0, locals := 21 }) (gPre G M0 [.ref (ad 0), .int (t), .int (q)]) (gQ G (gI (fun r M1 => ∃ σ', sQ σ σ' ∧ MF G ad M0 (sb σ' b B) M1 ∧ qRec T B t q = r))) 0 0 (gA G) := by
  refine gMet (L0 := [some (.ref (ad 0)), some (.int (t)), some (.int (q))]) RX9 hG (by decide +kernel) rfl (Nat.le_of_ble_eq_true rfl) rfl ?_
  intro p e s m args below meth c C hnm
  have h := MF.rf h
  have hT4 := hw.T4
  have hnw : B 0 = nI (pNow B) := hB.now.1
  have hnow : pNow B ≤ 63 := hB.now.2
  have hna : B 1865 = nI (dN (B 1865)) := hB.na.1
  have hna8 : dN (B 1865) ≤ 8 := hB.na.2
  have hkp : B 1867 = nI (dN (B 1867)) := hB.kept.1
  have hkp40 : dN (B 1867) ≤ 40 := hB.kept.2
  refine x_aload_n C dX9_recovered_0 rfl rfl ?_
  refine x_iconst C dX9_recovered_1 kc_0 ?_
  refine m_put C h 2 rfl q2411 rfl rfl rfl rfl dX9_recovered_2 (fun M h => ?_)
  obtain ⟨σ1, hs1, h⟩ : ∃ σ', sQ σ σ' ∧ MF G ad M0 (sb σ' b B) M := ⟨_, sQ.p2, h⟩
  refine x_aload_n C dX9_recovered_5 rfl rfl ?_
  refine x_iload_n C dX9_recovered_6 rfl rfl ?_
  refine x_V1I C (met_X9_isTrader l C.1 h.1 ((hs1.2.2 11 (by decide) (by decide)).trans hT)) mi_X9_isTrader q2613 gcX9 h.1.1 ⟨rfl, rfl⟩ rfl ⟨Nat.le_refl _, Nat.le_refl _⟩ rfl dX9_recovered_7 (fun r M1 hr => ?_)
  rcases hr with ⟨rfl, rfl, b7⟩ | ⟨rfl, rfl, b7⟩
  · -- true
    obtain ⟨tn, rfl, hltn⟩ := iT.ex b7 (by omega)
    have etn : dN (nI tn) = tn := dN_nI (by omega)
    refine x_if_eqF (tgt := 21) C (by decide) dX9_recovered_10 rfl ?_
    refine x_aload_n C dX9_recovered_13 rfl rfl ?_
    refine x_iload_n C dX9_recovered_14 rfl rfl ?_
    refine x_V1I C (met_X9_isQuarter l C.1 h.1) mi_X9_isQuarter q2797 gcX9 h.1.1 ⟨rfl, rfl⟩ rfl ⟨Nat.le_refl _, Nat.le_refl _⟩ rfl dX9_recovered_15 (fun r M1 hr => ?_)
    rcases hr with ⟨rfl, rfl, b15⟩ | ⟨rfl, rfl, b15⟩
    · -- true
      obtain ⟨qn, rfl, hlqn⟩ := iT.ex b15 (by decide)
      have eqn : dN (nI qn) = qn := dN_nI (by omega)
      refine x_if_neT (tgt := 23) C (by decide) dX9_recovered_18 rfl ?_
      refine x_iload_n C dX9_recovered_23 rfl rfl ?_
      refine x_aload_n C dX9_recovered_24 rfl rfl ?_
      refine x_iconst C dX9_recovered_25 kc_0 ?_
      refine x_V1I C (met_X9_of l C.1 h.1 ((hs1.2.2 21 (by decide) (by decide)).trans hb) (by omega) (by omega)) mi_X9_of q2389 gcX9 h.1.1 ⟨rfl, rfl⟩ rfl ⟨Nat.le_refl _, Nat.le_refl _⟩ rfl dX9_recovered_26 (fun r M1 hr => ?_)
      obtain ⟨rfl, hr⟩ := hr
      have hr := hr.symm.trans (show _ = nI (pNow B) from hnw)
      subst hr
      refine x_icmp_geN (tgt := 49) C (by omega) (by omega) dX9_recovered_29 rfl (fun c29 => ?_) (fun c29 => ?_)
      · -- 49
        refine x_bipush C dX9_recovered_49 kb_m2 ?_
        exact x_iret C dX9_recovered_51 ⟨Nat.le_refl _, Nat.le_refl _⟩ (gq h (by first | exact hs1 | exact hs1.y | exact hs1.y7 | exact hs1.yy7) (by unfold qRec; simp only [etn, eqn]; rw [if_pos b7, if_pos b15, if_pos c29]; first | done | assumption | rfl))
      · -- 32
        refine x_aload_n C dX9_recovered_32 rfl rfl ?_
        refine x_sipush C dX9_recovered_33 ks_1545 ?_
        refine x_bipush C dX9_recovered_36 kb_64 ?_
        refine x_iload_n C dX9_recovered_38 rfl rfl ?_
        refine x_imulN C dX9_recovered_39 ?_
        refine x_iaddN C dX9_recovered_40 ?_
        refine x_iload_n C dX9_recovered_41 rfl rfl ?_
        refine x_iaddN C dX9_recovered_42 ?_
        refine x_V1I C (met_X9_of l C.1 h.1 ((hs1.2.2 21 (by decide) (by decide)).trans hb) (by omega) (by omega)) mi_X9_of q2389 gcX9 h.1.1 ⟨rfl, rfl⟩ rfl ⟨Nat.le_refl _, Nat.le_refl _⟩ rfl dX9_recovered_43 (fun r M1 hr => ?_)
        obtain ⟨rfl, rfl⟩ := hr
        refine x_goto (tgt := 51) C dX9_recovered_46 rfl ?_
        exact x_iret C dX9_recovered_51 ⟨Nat.le_refl _, Nat.le_refl _⟩ (gq h (by first | exact hs1 | exact hs1.y | exact hs1.y7 | exact hs1.yy7) (by unfold qRec; simp only [etn, eqn]; rw [if_pos b7, if_pos b15, if_neg (by omega)]; first | done | assumption | rfl))
    · -- false
      refine x_if_neF (tgt := 23) C (by decide) dX9_recovered_18 rfl ?_
      refine x_iconst C dX9_recovered_21 kc_m1 ?_
      exact x_iret C dX9_recovered_22 ⟨Nat.le_refl _, Nat.le_refl _⟩ (gq h (by first | exact hs1 | exact hs1.y | exact hs1.y7 | exact hs1.yy7) (by unfold qRec; simp only [etn]; rw [if_pos b7, if_neg b15]; first | done | assumption | rfl))
  · -- false
    refine x_if_eqT (tgt := 21) C (by decide) dX9_recovered_10 rfl ?_
    refine x_iconst C dX9_recovered_21 kc_m1 ?_
    exact x_iret C dX9_recovered_22 ⟨Nat.le_refl _, Nat.le_refl _⟩ (gq h (by first | exact hs1 | exact hs1.y | exact hs1.y7 | exact hs1.yy7) (by unfold qRec; rw [if_neg b7]; first | done | assumption | rfl))
theorem mi_X9_taken : gMV RX9 yX9_taken cX9_taken 2 (some .int) 1 := ⟨q2827, q2828, q165, q2829, by decide +kernel⟩
set_option maxHeartbeats 4000000 in
set_option maxRecDepth 100000 in
theorem met_X9_taken (l : Launch) {G : gG} (hG : gOK G) {ad : Nat → Nat} {σ : mS} {M0 : gM} {b : Nat} {B : Nat → Int32} {a : Int32} {A : Nat → Nat → Int32} {T : Nat} (h : MR G ad (sb σ b B) M0) (hb : mI σ 21 = nI b) (hA : mA σ = A) (hT : mI σ 11 = nI T) (hb0_ : b < 23) (hw : wT T A) (hB : wB T B) : Met l yX9_taken (ws_ yX9_taken cX9_taken 2 (some .int)) ({ frames := 2, cells := 0, slots := 0, locals := 43 }) (gPre G M0 [.ref (ad 0), .int (a)]) (gQ G (gI (fun r M1 => ∃ σ', sQ σ σ' ∧ MF G ad M0 (sb σ' b B) M1 ∧ qTak B a = r))) 0 0 (gA G) := by
  refine gMet (L0 := [some (.ref (ad 0)), some (.int (a))]) RX9 hG (by decide +kernel) rfl (Nat.le_of_ble_eq_true rfl) rfl ?_
  intro p e s m args below meth c C hnm
  have h := MF.rf h
  have hT4 := hw.T4
  have hnw : B 0 = nI (pNow B) := hB.now.1
  have hnow : pNow B ≤ 63 := hB.now.2
  have hna : B 1865 = nI (dN (B 1865)) := hB.na.1
  have hna8 : dN (B 1865) ≤ 8 := hB.na.2
  have hkp : B 1867 = nI (dN (B 1867)) := hB.kept.1
  have hkp40 : dN (B 1867) ≤ 40 := hB.kept.2
  refine x_aload_n C dX9_taken_0 rfl rfl ?_
  refine x_iconst C dX9_taken_1 kc_0 ?_
  refine m_put C h 2 rfl q2411 rfl rfl rfl rfl dX9_taken_2 (fun M h => ?_)
  obtain ⟨σ1, hs1, h⟩ : ∃ σ', sQ σ σ' ∧ MF G ad M0 (sb σ' b B) M := ⟨_, sQ.p2, h⟩
  refine x_aload_n C dX9_taken_5 rfl rfl ?_
  refine x_iload_n C dX9_taken_6 rfl rfl ?_
  refine x_V1I C (met_X9_isAsset l C.1 h.1 ((hs1.2.2 21 (by decide) (by decide)).trans hb) hna (by omega)) mi_X9_isAsset q2645 gcX9 h.1.1 ⟨rfl, rfl⟩ rfl ⟨Nat.le_refl _, Nat.le_refl _⟩ rfl dX9_taken_7 (fun r M1 hr => ?_)
  rcases hr with ⟨rfl, rfl, b7⟩ | ⟨rfl, rfl, b7⟩
  · -- true
    obtain ⟨an, rfl, hlan⟩ := iT.ex b7 (by omega)
    have ean : dN (nI an) = an := dN_nI (by omega)
    have hR : wR T (pNow B) (pYr B) B an := hB.row hlan
    obtain ⟨hr0, hr0b⟩ : dN (B (2084 + 48 * an + 0)) ≤ 3 ∧ dN (B (2084 + 48 * an + 0)) < T := ⟨hR.owner.1.2, hR.owner.2⟩
    have hr5 := hR.bought.2
    have hr7 := hR.sold.2
    have hr47 := hR.thr.1.2
    refine x_if_eqF (tgt := 23) C (by decide) dX9_taken_10 rfl ?_
    refine x_aload_n C dX9_taken_13 rfl rfl ?_
    refine x_iload_n C dX9_taken_14 rfl rfl ?_
    refine x_bipush C dX9_taken_15 kb_10 ?_
    refine x_V2I C (met_X9_at l C.1 h.1 ((hs1.2.2 21 (by decide) (by decide)).trans hb) (by omega) (by omega) (by omega)) mi_X9_at q2653 gcX9 h.1.1 ⟨rfl, rfl⟩ rfl ⟨Nat.le_refl _, Nat.le_refl _⟩ rfl dX9_taken_17 (fun r M1 hr => ?_)
    obtain ⟨rfl, rfl⟩ := hr
    refine x_goto (tgt := 26) C dX9_taken_20 rfl ?_
    exact x_iret C dX9_taken_26 ⟨Nat.le_refl _, Nat.le_refl _⟩ (gq h (by first | exact hs1 | exact hs1.y | exact hs1.y7 | exact hs1.yy7) (by unfold qTak; simp only [ean]; rw [if_pos b7]; first | done | assumption | rfl))
  · -- false
    refine x_if_eqT (tgt := 23) C (by decide) dX9_taken_10 rfl ?_
    refine x_ldcw C dX9_taken_23 q2817 ?_
    exact x_iret C dX9_taken_26 ⟨Nat.le_refl _, Nat.le_refl _⟩ (gq h (by first | exact hs1 | exact hs1.y | exact hs1.y7 | exact hs1.yy7) (by unfold qTak; rw [if_neg b7]; first | done | assumption | rfl))
theorem mi_X9_last : gMV RX9 yX9_last cX9_last 2 (some .int) 1 := ⟨q2831, q2832, q165, q2833, by decide +kernel⟩
set_option maxHeartbeats 4000000 in
set_option maxRecDepth 100000 in
theorem met_X9_last (l : Launch) {G : gG} (hG : gOK G) {ad : Nat → Nat} {σ : mS} {M0 : gM} {b : Nat} {B : Nat → Int32} {a : Int32} {A : Nat → Nat → Int32} {T : Nat} (h : MR G ad (sb σ b B) M0) (hb : mI σ 21 = nI b) (hA : mA σ = A) (hT : mI σ 11 = nI T) (hb0_ : b < 23) (hw : wT T A) (hB : wB T B) : Met l yX9_last (ws_ yX9_last cX9_last 2 (some .int)) ({ frames := 2, cells := 0, slots := 0, locals := 43 }) (gPre G M0 [.ref (ad 0), .int (a)]) (gQ G (gI (fun r M1 => ∃ σ', sQ σ σ' ∧ MF G ad M0 (sb σ' b B) M1 ∧ qLast B a = r))) 0 0 (gA G) := by
  refine gMet (L0 := [some (.ref (ad 0)), some (.int (a))]) RX9 hG (by decide +kernel) rfl (Nat.le_of_ble_eq_true rfl) rfl ?_
  intro p e s m args below meth c C hnm
  have h := MF.rf h
  have hT4 := hw.T4
  have hnw : B 0 = nI (pNow B) := hB.now.1
  have hnow : pNow B ≤ 63 := hB.now.2
  have hna : B 1865 = nI (dN (B 1865)) := hB.na.1
  have hna8 : dN (B 1865) ≤ 8 := hB.na.2
  have hkp : B 1867 = nI (dN (B 1867)) := hB.kept.1
  have hkp40 : dN (B 1867) ≤ 40 := hB.kept.2
  refine x_aload_n C dX9_last_0 rfl rfl ?_
  refine x_iconst C dX9_last_1 kc_0 ?_
  refine m_put C h 2 rfl q2411 rfl rfl rfl rfl dX9_last_2 (fun M h => ?_)
  obtain ⟨σ1, hs1, h⟩ : ∃ σ', sQ σ σ' ∧ MF G ad M0 (sb σ' b B) M := ⟨_, sQ.p2, h⟩
  refine x_aload_n C dX9_last_5 rfl rfl ?_
  refine x_iload_n C dX9_last_6 rfl rfl ?_
  refine x_V1I C (met_X9_isAsset l C.1 h.1 ((hs1.2.2 21 (by decide) (by decide)).trans hb) hna (by omega)) mi_X9_isAsset q2645 gcX9 h.1.1 ⟨rfl, rfl⟩ rfl ⟨Nat.le_refl _, Nat.le_refl _⟩ rfl dX9_last_7 (fun r M1 hr => ?_)
  rcases hr with ⟨rfl, rfl, b7⟩ | ⟨rfl, rfl, b7⟩
  · -- true
    obtain ⟨an, rfl, hlan⟩ := iT.ex b7 (by omega)
    have ean : dN (nI an) = an := dN_nI (by omega)
    have hR : wR T (pNow B) (pYr B) B an := hB.row hlan
    obtain ⟨hr0, hr0b⟩ : dN (B (2084 + 48 * an + 0)) ≤ 3 ∧ dN (B (2084 + 48 * an + 0)) < T := ⟨hR.owner.1.2, hR.owner.2⟩
    have hr5 := hR.bought.2
    have hr7 := hR.sold.2
    have hr47 := hR.thr.1.2
    refine x_if_eqF (tgt := 34) C (by decide) dX9_last_10 rfl ?_
    refine x_aload_n C dX9_last_13 rfl rfl ?_
    refine x_iload_n C dX9_last_14 rfl rfl ?_
    refine x_bipush C dX9_last_15 kb_11 ?_
    refine x_V2I C (met_X9_at l C.1 h.1 ((hs1.2.2 21 (by decide) (by decide)).trans hb) (by omega) (by omega) (by omega)) mi_X9_at q2653 gcX9 h.1.1 ⟨rfl, rfl⟩ rfl ⟨Nat.le_refl _, Nat.le_refl _⟩ rfl dX9_last_17 (fun r M1 hr => ?_)
    obtain ⟨rfl, rfl⟩ := hr
    refine x_iconst C dX9_last_20 kc_1 ?_
    refine x_icmp_ne (tgt := 34) C dX9_last_21 rfl (fun c21 => ?_) (fun c21 => ?_)
    · -- 34
      refine x_ldcw C dX9_last_34 q2817 ?_
      exact x_iret C dX9_last_37 ⟨Nat.le_refl _, Nat.le_refl _⟩ (gq h (by first | exact hs1 | exact hs1.y | exact hs1.y7 | exact hs1.yy7) (by unfold qLast; simp only [ean]; rw [if_pos b7, if_neg c21]; first | done | assumption | rfl))
    · -- 24
      refine x_aload_n C dX9_last_24 rfl rfl ?_
      refine x_iload_n C dX9_last_25 rfl rfl ?_
      refine x_bipush C dX9_last_26 kb_12 ?_
      refine x_V2I C (met_X9_at l C.1 h.1 ((hs1.2.2 21 (by decide) (by decide)).trans hb) (by omega) (by omega) (by omega)) mi_X9_at q2653 gcX9 h.1.1 ⟨rfl, rfl⟩ rfl ⟨Nat.le_refl _, Nat.le_refl _⟩ rfl dX9_last_28 (fun r M1 hr => ?_)
      obtain ⟨rfl, rfl⟩ := hr
      refine x_goto (tgt := 37) C dX9_last_31 rfl ?_
      exact x_iret C dX9_last_37 ⟨Nat.le_refl _, Nat.le_refl _⟩ (gq h (by first | exact hs1 | exact hs1.y | exact hs1.y7 | exact hs1.yy7) (by unfold qLast; simp only [ean]; rw [if_pos b7, if_pos c21]; first | done | assumption | rfl))
  · -- false
    refine x_if_eqT (tgt := 34) C (by decide) dX9_last_10 rfl ?_
    refine x_ldcw C dX9_last_34 q2817 ?_
    exact x_iret C dX9_last_37 ⟨Nat.le_refl _, Nat.le_refl _⟩ (gq h (by first | exact hs1 | exact hs1.y | exact hs1.y7 | exact hs1.yy7) (by unfold qLast; rw [if_neg b7]; first | done | assumption | rfl))
theorem mi_X9_total : gMV RX9 yX9_total cX9_total 3 (some .int) 2 := ⟨q2839, q2840, q165, q2841, by decide +kernel⟩
set_option maxHeartbeats 4000000 in
set_option maxRecDepth 100000 in
theorem met_X9_total (l : Launch) {G : gG} (hG : gOK G) {ad : Nat → Nat} {σ : mS} {M0 : gM} {b : Nat} {B : Nat → Int32} {t u : Int32} {A : Nat → Nat → Int32} {T : Nat} (h : MR G ad (sb σ b B) M0) (hb : mI σ 21 = nI b) (hA : mA σ = A) (hT : mI σ 11 = nI T) (hb0_ : b < 23) (hw : wT T A) (hB : wB T B) : Met l yX9_total (ws_ yX9_total cX9_total 3 (some .int)) ({ frames := 1, cells := 0, slots := 0, locals := 22 }) (gPre G M0 [.ref (ad 0), .int (t), .int (u)]) (gQ G (gI (fun r M1 => ∃ σ', sQ σ σ' ∧ MF G ad M0 (sb σ' b B) M1 ∧ qTot T B t u = r))) 0 0 (gA G) := by
  refine gMet (L0 := [some (.ref (ad 0)), some (.int (t)), some (.int (u))]) RX9 hG (by decide +kernel) rfl (Nat.le_of_ble_eq_true rfl) rfl ?_
  intro p e s m args below meth c C hnm
  have h := MF.rf h
  have hT4 := hw.T4
  have hnw : B 0 = nI (pNow B) := hB.now.1
  have hnow : pNow B ≤ 63 := hB.now.2
  have hna : B 1865 = nI (dN (B 1865)) := hB.na.1
  have hna8 : dN (B 1865) ≤ 8 := hB.na.2
  have hkp : B 1867 = nI (dN (B 1867)) := hB.kept.1
  have hkp40 : dN (B 1867) ≤ 40 := hB.kept.2
  refine x_aload_n C dX9_total_0 rfl rfl ?_
  refine x_iconst C dX9_total_1 kc_0 ?_
  refine m_put C h 2 rfl q2411 rfl rfl rfl rfl dX9_total_2 (fun M h => ?_)
  obtain ⟨σ1, hs1, h⟩ : ∃ σ', sQ σ σ' ∧ MF G ad M0 (sb σ' b B) M := ⟨_, sQ.p2, h⟩
  refine x_aload_n C dX9_total_5 rfl rfl ?_
  refine x_iload_n C dX9_total_6 rfl rfl ?_
  refine x_V1I C (met_X9_isTrader l C.1 h.1 ((hs1.2.2 11 (by decide) (by decide)).trans hT)) mi_X9_isTrader q2613 gcX9 h.1.1 ⟨rfl, rfl⟩ rfl ⟨Nat.le_refl _, Nat.le_refl _⟩ rfl dX9_total_7 (fun r M1 hr => ?_)
  rcases hr with ⟨rfl, rfl, b7⟩ | ⟨rfl, rfl, b7⟩
  · -- true
    obtain ⟨tn, rfl, hltn⟩ := iT.ex b7 (by omega)
    have etn : dN (nI tn) = tn := dN_nI (by omega)
    refine x_if_eqF (tgt := 38) C (by decide) dX9_total_10 rfl ?_
    refine x_iload_n C dX9_total_13 rfl rfl ?_
    refine x_iconst C dX9_total_14 kc_0 ?_
    refine x_iconst C dX9_total_15 kc_3 ?_
    refine x_S3I C (met_X9_isIn l C.1) mi_X9_isIn q2550 ⟨rfl, rfl⟩ rfl ⟨Nat.le_refl _, Nat.le_refl _⟩ rfl dX9_total_16 (fun r M1 hr => ?_)
    rcases hr with ⟨rfl, rfl, b16⟩ | ⟨rfl, rfl, b16⟩
    · -- true
      obtain ⟨un, rfl, hlun, hhun⟩ := iI.ex b16 (by omega) (by omega)
      have eun : dN (nI un) = un := dN_nI (by omega)
      refine x_if_eqF (tgt := 38) C (by decide) dX9_total_19 rfl ?_
      refine x_aload_n C dX9_total_22 rfl rfl ?_
      refine x_sipush C dX9_total_23 ks_2068 ?_
      refine x_iconst C dX9_total_26 kc_4 ?_
      refine x_iload_n C dX9_total_27 rfl rfl ?_
      refine x_imulN C dX9_total_28 ?_
      refine x_iaddN C dX9_total_29 ?_
      refine x_iload_n C dX9_total_30 rfl rfl ?_
      refine x_iaddN C dX9_total_31 ?_
      refine x_V1I C (met_X9_of l C.1 h.1 ((hs1.2.2 21 (by decide) (by decide)).trans hb) (by omega) (by omega)) mi_X9_of q2389 gcX9 h.1.1 ⟨rfl, rfl⟩ rfl ⟨Nat.le_refl _, Nat.le_refl _⟩ rfl dX9_total_32 (fun r M1 hr => ?_)
      obtain ⟨rfl, rfl⟩ := hr
      refine x_goto (tgt := 41) C dX9_total_35 rfl ?_
      exact x_iret C dX9_total_41 ⟨Nat.le_refl _, Nat.le_refl _⟩ (gq h (by first | exact hs1 | exact hs1.y | exact hs1.y7 | exact hs1.yy7) (by unfold qTot; simp only [etn, eun]; rw [if_pos b7, if_pos b16]; first | done | assumption | rfl))
    · -- false
      refine x_if_eqT (tgt := 38) C (by decide) dX9_total_19 rfl ?_
      refine x_ldcw C dX9_total_38 q2817 ?_
      exact x_iret C dX9_total_41 ⟨Nat.le_refl _, Nat.le_refl _⟩ (gq h (by first | exact hs1 | exact hs1.y | exact hs1.y7 | exact hs1.yy7) (by unfold qTot; simp only [etn]; rw [if_pos b7, if_neg b16]; first | done | assumption | rfl))
  · -- false
    refine x_if_eqT (tgt := 38) C (by decide) dX9_total_10 rfl ?_
    refine x_ldcw C dX9_total_38 q2817 ?_
    exact x_iret C dX9_total_41 ⟨Nat.le_refl _, Nat.le_refl _⟩ (gq h (by first | exact hs1 | exact hs1.y | exact hs1.y7 | exact hs1.yy7) (by unfold qTot; rw [if_neg b7]; first | done | assumption | rfl))
theorem mi_X9_annual : gMV RX9 yX9_annual cX9_annual 5 (some .int) 3 := ⟨q2810, q2811, q165, q2812, by decide +kernel⟩
set_option maxHeartbeats 4000000 in
set_option maxRecDepth 100000 in
theorem met_X9_annual (l : Launch) {G : gG} (hG : gOK G) {ad : Nat → Nat} {σ : mS} {M0 : gM} {b : Nat} {B : Nat → Int32} {t y u : Int32} {A : Nat → Nat → Int32} {T : Nat} (h : MR G ad (sb σ b B) M0) (hb : mI σ 21 = nI b) (hA : mA σ = A) (hT : mI σ 11 = nI T) (hb0_ : b < 23) (hw : wT T A) (hB : wB T B) : Met l yX9_annual (ws_ yX9_annual cX9_annual 5 (some .int)) ({ frames := 6, cells := 0, slots := 0, locals := 141 }) (gPre G M0 [.ref (ad 0), .int (t), .int (y), .int (u)]) (gQ G (gI (fun r M1 => ∃ σ', sQ σ σ' ∧ MF G ad M0 (sb σ' b B) M1 ∧ qAnn A T B t y u = r))) 0 0 (gA G) := by
  refine gMet (L0 := [some (.ref (ad 0)), some (.int (t)), some (.int (y)), some (.int (u)), none]) RX9 hG (by decide +kernel) rfl (Nat.le_of_ble_eq_true rfl) rfl ?_
  intro p e s m args below meth c C hnm
  have h := MF.rf h
  have hT4 := hw.T4
  have hnw : B 0 = nI (pNow B) := hB.now.1
  have hnow : pNow B ≤ 63 := hB.now.2
  have hna : B 1865 = nI (dN (B 1865)) := hB.na.1
  have hna8 : dN (B 1865) ≤ 8 := hB.na.2
  have hkp : B 1867 = nI (dN (B 1867)) := hB.kept.1
  have hkp40 : dN (B 1867) ≤ 40 := hB.kept.2
  refine x_aload_n C dX9_annual_0 rfl rfl ?_
  refine x_iconst C dX9_annual_1 kc_0 ?_
  refine m_put C h 2 rfl q2411 rfl rfl rfl rfl dX9_annual_2 (fun M h => ?_)
  obtain ⟨σ1, hs1, h⟩ : ∃ σ', sQ σ σ' ∧ MF G ad M0 (sb σ' b B) M := ⟨_, sQ.p2, h⟩
  refine x_aload_n C dX9_annual_5 rfl rfl ?_
  refine x_iload_n C dX9_annual_6 rfl rfl ?_
  refine x_iload_n C dX9_annual_7 rfl rfl ?_
  refine x_V2I C (met_X9_isYear l C.1 h.1 ((hs1.2.2 21 (by decide) (by decide)).trans hb) hnw ((hs1.2.2 11 (by decide) (by decide)).trans hT) (by omega) (by omega) (by omega)) mi_X9_isYear q2813 gcX9 h.1.1 ⟨rfl, rfl⟩ rfl ⟨Nat.le_refl _, Nat.le_refl _⟩ rfl dX9_annual_8 (fun r M1 hr => ?_)
  rcases hr with ⟨rfl, rfl, b8⟩ | ⟨rfl, rfl, b8⟩
  · -- true
    obtain ⟨tn, rfl, hltn⟩ := iT.ex b8.1 (by omega)
    have etn : dN (nI tn) = tn := dN_nI (by omega)
    obtain ⟨yn, rfl, hlyn⟩ := iT.ex b8.2 (by omega)
    have eyn : dN (nI yn) = yn := dN_nI (by omega)
    refine x_if_eqF (tgt := 23) C (by decide) dX9_annual_11 rfl ?_
    refine x_iload_n C dX9_annual_14 rfl rfl ?_
    refine x_iconst C dX9_annual_15 kc_0 ?_
    refine x_iconst C dX9_annual_16 kc_3 ?_
    refine x_S3I C (met_X9_isIn l C.1) mi_X9_isIn q2550 ⟨rfl, rfl⟩ rfl ⟨Nat.le_refl _, Nat.le_refl _⟩ rfl dX9_annual_17 (fun r M1 hr => ?_)
    rcases hr with ⟨rfl, rfl, b17⟩ | ⟨rfl, rfl, b17⟩
    · -- true
      refine x_if_neT (tgt := 27) C (by decide) dX9_annual_20 rfl ?_
      refine x_iload_n C dX9_annual_27 rfl rfl ?_
      refine x_if_ne (tgt := 38) C dX9_annual_28 rfl (fun c28 => ?_) (fun c28 => ?_)
      · -- 38
        refine x_aload_n C dX9_annual_38 rfl rfl ?_
        refine x_iload_n C dX9_annual_39 rfl rfl ?_
        refine x_iload_n C dX9_annual_40 rfl rfl ?_
        refine x_V2I C (met_X9_backOf l C.1 h.1 ((hs1.2.2 21 (by decide) (by decide)).trans hb) (hs1.1.trans hA) hnw (by omega) (by omega) (by omega) (by omega) hw) mi_X9_backOf q2818 gcX9 h.1.1 ⟨rfl, rfl⟩ rfl ⟨Nat.le_refl _, Nat.le_refl _⟩ rfl dX9_annual_41 (fun r M1 hr => ?_)
        obtain ⟨rfl, hr⟩ := hr
        have h := h.tr hr
        refine x_istore C dX9_annual_44 (gs1_4 rfl) rfl ?_
        refine x_iload_n C dX9_annual_46 rfl rfl ?_
        refine x_iconst C dX9_annual_47 kc_1 ?_
        refine x_icmp_ne (tgt := 56) C dX9_annual_48 rfl (fun c48 => ?_) (fun c48 => ?_)
        · -- 56
          refine x_iload_n C dX9_annual_56 rfl rfl ?_
          refine x_iconst C dX9_annual_57 kc_2 ?_
          refine x_icmp_ne (tgt := 76) C dX9_annual_58 rfl (fun c58 => ?_) (fun c58 => ?_)
          · -- 76
            refine x_iload C dX9_annual_76 rfl ?_
            refine x_aload_n C dX9_annual_78 rfl rfl ?_
            refine x_iload_n C dX9_annual_79 rfl rfl ?_
            refine x_iload_n C dX9_annual_80 rfl rfl ?_
            refine x_V2I C (met_X9_bookedIn l C.1 h.1 ((hs1.2.2 21 (by decide) (by decide)).trans hb) (by omega) (by omega) (by omega)) mi_X9_bookedIn q2740 gcX9 h.1.1 ⟨rfl, rfl⟩ rfl ⟨Nat.le_refl _, Nat.le_refl _⟩ rfl dX9_annual_81 (fun r M1 hr => ?_)
            obtain ⟨rfl, rfl⟩ := hr
            refine x_isub C dX9_annual_84 ?_
            exact x_iret C dX9_annual_85 ⟨Nat.le_refl _, Nat.le_refl _⟩ (gq h (by first | exact hs1 | exact hs1.y | exact hs1.y7 | exact hs1.yy7) (by unfold qAnn; simp only [etn, eyn]; rw [if_pos b8, if_pos b17, if_neg c28, if_neg c48, if_neg c58]; first | done | assumption | rfl))
          · -- 61
            refine x_aload_n C dX9_annual_61 rfl rfl ?_
            refine m_get C h 27 (v := .int (pSm A (pAnn A B tn yn) (A 6 2) (pYS B tn yn))) rfl q2436 (m_v rfl rfl) dX9_annual_62 ?_
            refine x_if_eq (tgt := 72) C dX9_annual_65 rfl (fun c65 => ?_) (fun c65 => ?_)
            · -- 72
              refine x_iconst C dX9_annual_72 kc_0 ?_
              refine x_goto (tgt := 85) C dX9_annual_73 rfl ?_
              exact x_iret C dX9_annual_85 ⟨Nat.le_refl _, Nat.le_refl _⟩ (gq h (by first | exact hs1 | exact hs1.y | exact hs1.y7 | exact hs1.yy7) (by unfold qAnn; simp only [etn, eyn]; rw [if_pos b8, if_pos b17, if_neg c28, if_neg c48, if_pos c58, pSm_0 c65]; first | done | assumption | rfl))
            · -- 68
              refine x_iconst C dX9_annual_68 kc_1 ?_
              refine x_goto (tgt := 85) C dX9_annual_69 rfl ?_
              exact x_iret C dX9_annual_85 ⟨Nat.le_refl _, Nat.le_refl _⟩ (gq h (by first | exact hs1 | exact hs1.y | exact hs1.y7 | exact hs1.yy7) (by unfold qAnn; simp only [etn, eyn]; rw [if_pos b8, if_pos b17, if_neg c28, if_neg c48, if_pos c58, pSm_1 c65]; first | done | assumption | rfl))
        · -- 51
          refine x_iload C dX9_annual_51 rfl ?_
          refine x_goto (tgt := 85) C dX9_annual_53 rfl ?_
          exact x_iret C dX9_annual_85 ⟨Nat.le_refl _, Nat.le_refl _⟩ (gq h (by first | exact hs1 | exact hs1.y | exact hs1.y7 | exact hs1.yy7) (by unfold qAnn; simp only [etn, eyn]; rw [if_pos b8, if_pos b17, if_neg c28, if_pos c48]; first | done | assumption | rfl))
      · -- 31
        refine x_aload_n C dX9_annual_31 rfl rfl ?_
        refine x_iload_n C dX9_annual_32 rfl rfl ?_
        refine x_iload_n C dX9_annual_33 rfl rfl ?_
        refine x_V2I C (met_X9_annualOf l C.1 h.1 ((hs1.2.2 21 (by decide) (by decide)).trans hb) (hs1.1.trans hA) hnw (by omega) (by omega) (by omega) (by omega)) mi_X9_annualOf q2752 gcX9 h.1.1 ⟨rfl, rfl⟩ rfl ⟨Nat.le_refl _, Nat.le_refl _⟩ rfl dX9_annual_34 (fun r M1 hr => ?_)
        obtain ⟨rfl, hr⟩ := hr
        have h := h.tr hr
        exact x_iret C dX9_annual_37 ⟨Nat.le_refl _, Nat.le_refl _⟩ (gq h (by first | exact hs1 | exact hs1.y | exact hs1.y7 | exact hs1.yy7) (by unfold qAnn; simp only [etn, eyn]; rw [if_pos b8, if_pos b17, if_pos c28]; first | done | assumption | rfl))
    · -- false
      refine x_if_neF (tgt := 27) C (by decide) dX9_annual_20 rfl ?_
      refine x_ldcw C dX9_annual_23 q2817 ?_
      exact x_iret C dX9_annual_26 ⟨Nat.le_refl _, Nat.le_refl _⟩ (gq h (by first | exact hs1 | exact hs1.y | exact hs1.y7 | exact hs1.yy7) (by unfold qAnn; simp only [etn, eyn]; rw [if_pos b8, if_neg b17]; first | done | assumption | rfl))
  · -- false
    refine x_if_eqT (tgt := 23) C (by decide) dX9_annual_11 rfl ?_
    refine x_ldcw C dX9_annual_23 q2817 ?_
    exact x_iret C dX9_annual_26 ⟨Nat.le_refl _, Nat.le_refl _⟩ (gq h (by first | exact hs1 | exact hs1.y | exact hs1.y7 | exact hs1.yy7) (by unfold qAnn; rw [if_neg b8]; first | done | assumption | rfl))
theorem mi_X9_interval : gMV RX9 yX9_interval cX9_interval 4 (some .int) 3 := ⟨q2823, q2824, q165, q2825, by decide +kernel⟩
set_option maxHeartbeats 4000000 in
set_option maxRecDepth 100000 in
theorem met_X9_interval (l : Launch) {G : gG} (hG : gOK G) {ad : Nat → Nat} {σ : mS} {M0 : gM} {b : Nat} {B : Nat → Int32} {a j u : Int32} {A : Nat → Nat → Int32} {T : Nat} (h : MR G ad (sb σ b B) M0) (hb : mI σ 21 = nI b) (hA : mA σ = A) (hT : mI σ 11 = nI T) (hb0_ : b < 23) (hw : wT T A) (hB : wB T B) : Met l yX9_interval (ws_ yX9_interval cX9_interval 4 (some .int)) ({ frames := 2, cells := 0, slots := 0, locals := 43 }) (gPre G M0 [.ref (ad 0), .int (a), .int (j), .int (u)]) (gQ G (gI (fun r M1 => ∃ σ', sQ σ σ' ∧ MF G ad M0 (sb σ' b B) M1 ∧ qInt B a j u = r))) 0 0 (gA G) := by
  refine gMet (L0 := [some (.ref (ad 0)), some (.int (a)), some (.int (j)), some (.int (u))]) RX9 hG (by decide +kernel) rfl (Nat.le_of_ble_eq_true rfl) rfl ?_
  intro p e s m args below meth c C hnm
  have h := MF.rf h
  have hT4 := hw.T4
  have hnw : B 0 = nI (pNow B) := hB.now.1
  have hnow : pNow B ≤ 63 := hB.now.2
  have hna : B 1865 = nI (dN (B 1865)) := hB.na.1
  have hna8 : dN (B 1865) ≤ 8 := hB.na.2
  have hkp : B 1867 = nI (dN (B 1867)) := hB.kept.1
  have hkp40 : dN (B 1867) ≤ 40 := hB.kept.2
  refine x_aload_n C dX9_interval_0 rfl rfl ?_
  refine x_iconst C dX9_interval_1 kc_0 ?_
  refine m_put C h 2 rfl q2411 rfl rfl rfl rfl dX9_interval_2 (fun M h => ?_)
  obtain ⟨σ1, hs1, h⟩ : ∃ σ', sQ σ σ' ∧ MF G ad M0 (sb σ' b B) M := ⟨_, sQ.p2, h⟩
  refine x_aload_n C dX9_interval_5 rfl rfl ?_
  refine x_iload_n C dX9_interval_6 rfl rfl ?_
  refine x_V1I C (met_X9_isAsset l C.1 h.1 ((hs1.2.2 21 (by decide) (by decide)).trans hb) hna (by omega)) mi_X9_isAsset q2645 gcX9 h.1.1 ⟨rfl, rfl⟩ rfl ⟨Nat.le_refl _, Nat.le_refl _⟩ rfl dX9_interval_7 (fun r M1 hr => ?_)
  rcases hr with ⟨rfl, rfl, b7⟩ | ⟨rfl, rfl, b7⟩
  · -- true
    obtain ⟨an, rfl, hlan⟩ := iT.ex b7 (by omega)
    have ean : dN (nI an) = an := dN_nI (by omega)
    have hR : wR T (pNow B) (pYr B) B an := hB.row hlan
    obtain ⟨hr0, hr0b⟩ : dN (B (2084 + 48 * an + 0)) ≤ 3 ∧ dN (B (2084 + 48 * an + 0)) < T := ⟨hR.owner.1.2, hR.owner.2⟩
    have hr5 := hR.bought.2
    have hr7 := hR.sold.2
    have hr47 := hR.thr.1.2
    refine x_if_eqF (tgt := 49) C (by decide) dX9_interval_10 rfl ?_
    refine x_iload_n C dX9_interval_13 rfl rfl ?_
    refine x_iconst C dX9_interval_14 kc_0 ?_
    refine x_aload_n C dX9_interval_15 rfl rfl ?_
    refine x_iload_n C dX9_interval_16 rfl rfl ?_
    refine x_iconst C dX9_interval_17 kc_4 ?_
    refine x_V2I C (met_X9_at l C.1 h.1 ((hs1.2.2 21 (by decide) (by decide)).trans hb) (by omega) (by omega) (by omega)) mi_X9_at q2653 gcX9 h.1.1 ⟨rfl, rfl⟩ rfl ⟨Nat.le_refl _, Nat.le_refl _⟩ rfl dX9_interval_18 (fun r M1 hr => ?_)
    obtain ⟨rfl, rfl⟩ := hr
    refine x_iconst C dX9_interval_21 kc_1 ?_
    refine x_isub C dX9_interval_22 ?_
    refine x_S3I C (met_X9_isIn l C.1) mi_X9_isIn q2550 ⟨rfl, rfl⟩ rfl ⟨Nat.le_refl _, Nat.le_refl _⟩ rfl dX9_interval_23 (fun r M1 hr => ?_)
    rcases hr with ⟨rfl, rfl, b23⟩ | ⟨rfl, rfl, b23⟩
    · -- true
      obtain ⟨hs5, hs10, hse⟩ := hR.span10
      obtain ⟨jn, rfl, hljn⟩ := iI_m1 (w := dN (B (2084 + 48 * an + 4))) (by omega) (by rw [← hse]; exact b23)
      have ejn : dN (nI jn) = jn := dN_nI (by omega)
      refine x_if_eqF (tgt := 49) C (by decide) dX9_interval_26 rfl ?_
      refine x_iload_n C dX9_interval_29 rfl rfl ?_
      refine x_iconst C dX9_interval_30 kc_0 ?_
      refine x_iconst C dX9_interval_31 kc_3 ?_
      refine x_S3I C (met_X9_isIn l C.1) mi_X9_isIn q2550 ⟨rfl, rfl⟩ rfl ⟨Nat.le_refl _, Nat.le_refl _⟩ rfl dX9_interval_32 (fun r M1 hr => ?_)
      rcases hr with ⟨rfl, rfl, b32⟩ | ⟨rfl, rfl, b32⟩
      · -- true
        refine x_if_eqF (tgt := 49) C (by decide) dX9_interval_35 rfl ?_
        refine x_iload_n C dX9_interval_38 rfl rfl ?_
        refine x_aload_n C dX9_interval_39 rfl rfl ?_
        refine x_iload_n C dX9_interval_40 rfl rfl ?_
        refine x_bipush C dX9_interval_41 kb_47 ?_
        refine x_V2I C (met_X9_at l C.1 h.1 ((hs1.2.2 21 (by decide) (by decide)).trans hb) (by omega) (by omega) (by omega)) mi_X9_at q2653 gcX9 h.1.1 ⟨rfl, rfl⟩ rfl ⟨Nat.le_refl _, Nat.le_refl _⟩ rfl dX9_interval_43 (fun r M1 hr => ?_)
        obtain ⟨rfl, hr⟩ := hr
        have hr := hr.symm.trans (show _ = nI (dN (B (2084 + 48 * an + 47))) from hR.thr.1.1)
        subst hr
        refine x_icmp_ltN (tgt := 53) C (by omega) (by omega) dX9_interval_46 rfl (fun c46 => ?_) (fun c46 => ?_)
        · -- 53
          refine x_iload_n C dX9_interval_53 rfl rfl ?_
          refine x_if_ne (tgt := 70) C dX9_interval_54 rfl (fun c54 => ?_) (fun c54 => ?_)
          · -- 70
            refine x_iload_n C dX9_interval_70 rfl rfl ?_
            refine x_iconst C dX9_interval_71 kc_1 ?_
            refine x_icmp_ne (tgt := 87) C dX9_interval_72 rfl (fun c72 => ?_) (fun c72 => ?_)
            · -- 87
              refine x_iload_n C dX9_interval_87 rfl rfl ?_
              refine x_iconst C dX9_interval_88 kc_2 ?_
              refine x_icmp_ne (tgt := 104) C dX9_interval_89 rfl (fun c89 => ?_) (fun c89 => ?_)
              · -- 104
                refine x_aload_n C dX9_interval_104 rfl rfl ?_
                refine x_iload_n C dX9_interval_105 rfl rfl ?_
                refine x_bipush C dX9_interval_106 kb_37 ?_
                refine x_iload_n C dX9_interval_108 rfl rfl ?_
                refine x_iaddN C dX9_interval_109 ?_
                refine x_V2I C (met_X9_at l C.1 h.1 ((hs1.2.2 21 (by decide) (by decide)).trans hb) (by omega) (by omega) (by omega)) mi_X9_at q2653 gcX9 h.1.1 ⟨rfl, rfl⟩ rfl ⟨Nat.le_refl _, Nat.le_refl _⟩ rfl dX9_interval_110 (fun r M1 hr => ?_)
                obtain ⟨rfl, rfl⟩ := hr
                exact x_iret C dX9_interval_113 ⟨Nat.le_refl _, Nat.le_refl _⟩ (gq h (by first | exact hs1 | exact hs1.y | exact hs1.y7 | exact hs1.yy7) (by unfold qInt; simp only [ean, ejn]; rw [if_pos b7, if_pos b23, if_pos b32, if_pos c46, if_neg c54, if_neg c72, if_neg c89]; first | done | assumption | rfl))
              · -- 92
                refine x_aload_n C dX9_interval_92 rfl rfl ?_
                refine x_iload_n C dX9_interval_93 rfl rfl ?_
                refine x_bipush C dX9_interval_94 kb_27 ?_
                refine x_iload_n C dX9_interval_96 rfl rfl ?_
                refine x_iaddN C dX9_interval_97 ?_
                refine x_V2I C (met_X9_at l C.1 h.1 ((hs1.2.2 21 (by decide) (by decide)).trans hb) (by omega) (by omega) (by omega)) mi_X9_at q2653 gcX9 h.1.1 ⟨rfl, rfl⟩ rfl ⟨Nat.le_refl _, Nat.le_refl _⟩ rfl dX9_interval_98 (fun r M1 hr => ?_)
                obtain ⟨rfl, rfl⟩ := hr
                refine x_goto (tgt := 113) C dX9_interval_101 rfl ?_
                exact x_iret C dX9_interval_113 ⟨Nat.le_refl _, Nat.le_refl _⟩ (gq h (by first | exact hs1 | exact hs1.y | exact hs1.y7 | exact hs1.yy7) (by unfold qInt; simp only [ean, ejn]; rw [if_pos b7, if_pos b23, if_pos b32, if_pos c46, if_neg c54, if_neg c72, if_pos c89]; first | done | assumption | rfl))
            · -- 75
              refine x_aload_n C dX9_interval_75 rfl rfl ?_
              refine x_iload_n C dX9_interval_76 rfl rfl ?_
              refine x_bipush C dX9_interval_77 kb_17 ?_
              refine x_iload_n C dX9_interval_79 rfl rfl ?_
              refine x_iaddN C dX9_interval_80 ?_
              refine x_V2I C (met_X9_at l C.1 h.1 ((hs1.2.2 21 (by decide) (by decide)).trans hb) (by omega) (by omega) (by omega)) mi_X9_at q2653 gcX9 h.1.1 ⟨rfl, rfl⟩ rfl ⟨Nat.le_refl _, Nat.le_refl _⟩ rfl dX9_interval_81 (fun r M1 hr => ?_)
              obtain ⟨rfl, rfl⟩ := hr
              refine x_goto (tgt := 113) C dX9_interval_84 rfl ?_
              exact x_iret C dX9_interval_113 ⟨Nat.le_refl _, Nat.le_refl _⟩ (gq h (by first | exact hs1 | exact hs1.y | exact hs1.y7 | exact hs1.yy7) (by unfold qInt; simp only [ean, ejn]; rw [if_pos b7, if_pos b23, if_pos b32, if_pos c46, if_neg c54, if_pos c72]; first | done | assumption | rfl))
          · -- 57
            refine x_aload_n C dX9_interval_57 rfl rfl ?_
            refine x_iload_n C dX9_interval_58 rfl rfl ?_
            refine x_iconst C dX9_interval_59 kc_5 ?_
            refine x_V2I C (met_X9_at l C.1 h.1 ((hs1.2.2 21 (by decide) (by decide)).trans hb) (by omega) (by omega) (by omega)) mi_X9_at q2653 gcX9 h.1.1 ⟨rfl, rfl⟩ rfl ⟨Nat.le_refl _, Nat.le_refl _⟩ rfl dX9_interval_60 (fun r M1 hr => ?_)
            obtain ⟨rfl, hr⟩ := hr
            have hr := hr.symm.trans (show _ = nI (dN (B (2084 + 48 * an + 5))) from hR.bought.1.1)
            subst hr
            refine x_iconst C dX9_interval_63 kc_4 ?_
            refine x_idivN C (by omega) (by omega) (by omega) dX9_interval_64 ?_
            refine x_iload_n C dX9_interval_65 rfl rfl ?_
            refine x_iaddN C dX9_interval_66 ?_
            refine x_goto (tgt := 113) C dX9_interval_67 rfl ?_
            exact x_iret C dX9_interval_113 ⟨Nat.le_refl _, Nat.le_refl _⟩ (gq h (by first | exact hs1 | exact hs1.y | exact hs1.y7 | exact hs1.yy7) (by unfold qInt; simp only [ean, ejn]; rw [if_pos b7, if_pos b23, if_pos b32, if_pos c46, if_pos c54]; first | done | assumption | rfl))
        · -- 49
          refine x_ldcw C dX9_interval_49 q2817 ?_
          exact x_iret C dX9_interval_52 ⟨Nat.le_refl _, Nat.le_refl _⟩ (gq h (by first | exact hs1 | exact hs1.y | exact hs1.y7 | exact hs1.yy7) (by unfold qInt; simp only [ean, ejn]; rw [if_pos b7, if_pos b23, if_pos b32, if_neg (by omega)]; first | done | assumption | rfl))
      · -- false
        refine x_if_eqT (tgt := 49) C (by decide) dX9_interval_35 rfl ?_
        refine x_ldcw C dX9_interval_49 q2817 ?_
        exact x_iret C dX9_interval_52 ⟨Nat.le_refl _, Nat.le_refl _⟩ (gq h (by first | exact hs1 | exact hs1.y | exact hs1.y7 | exact hs1.yy7) (by unfold qInt; simp only [ean, ejn]; rw [if_pos b7, if_pos b23, if_neg b32]; first | done | assumption | rfl))
    · -- false
      refine x_if_eqT (tgt := 49) C (by decide) dX9_interval_26 rfl ?_
      refine x_ldcw C dX9_interval_49 q2817 ?_
      exact x_iret C dX9_interval_52 ⟨Nat.le_refl _, Nat.le_refl _⟩ (gq h (by first | exact hs1 | exact hs1.y | exact hs1.y7 | exact hs1.yy7) (by unfold qInt; simp only [ean]; rw [if_pos b7, if_neg b23]; first | done | assumption | rfl))
  · -- false
    refine x_if_eqT (tgt := 49) C (by decide) dX9_interval_10 rfl ?_
    refine x_ldcw C dX9_interval_49 q2817 ?_
    exact x_iret C dX9_interval_52 ⟨Nat.le_refl _, Nat.le_refl _⟩ (gq h (by first | exact hs1 | exact hs1.y | exact hs1.y7 | exact hs1.yy7) (by unfold qInt; rw [if_neg b7]; first | done | assumption | rfl))
theorem mi_X9_booked : gMV RX9 yX9_booked cX9_booked 3 (some .int) 2 := ⟨q2835, q2836, q165, q2837, by decide +kernel⟩
set_option maxHeartbeats 4000000 in
set_option maxRecDepth 100000 in
theorem met_X9_booked (l : Launch) {G : gG} (hG : gOK G) {ad : Nat → Nat} {σ : mS} {M0 : gM} {b : Nat} {B : Nat → Int32} {k u : Int32} {A : Nat → Nat → Int32} {T : Nat} (h : MR G ad (sb σ b B) M0) (hb : mI σ 21 = nI b) (hA : mA σ = A) (hT : mI σ 11 = nI T) (hb0_ : b < 23) (hw : wT T A) (hB : wB T B) : Met l yX9_booked (ws_ yX9_booked cX9_booked 3 (some .int)) ({ frames := 1, cells := 0, slots := 0, locals := 22 }) (gPre G M0 [.ref (ad 0), .int (k), .int (u)]) (gQ G (gI (fun r M1 => ∃ σ', sQ σ σ' ∧ MF G ad M0 (sb σ' b B) M1 ∧ qBkd B k u = r))) 0 0 (gA G) := by
  refine gMet (L0 := [some (.ref (ad 0)), some (.int (k)), some (.int (u))]) RX9 hG (by decide +kernel) rfl (Nat.le_of_ble_eq_true rfl) rfl ?_
  intro p e s m args below meth c C hnm
  have h := MF.rf h
  have hT4 := hw.T4
  have hnw : B 0 = nI (pNow B) := hB.now.1
  have hnow : pNow B ≤ 63 := hB.now.2
  have hna : B 1865 = nI (dN (B 1865)) := hB.na.1
  have hna8 : dN (B 1865) ≤ 8 := hB.na.2
  have hkp : B 1867 = nI (dN (B 1867)) := hB.kept.1
  have hkp40 : dN (B 1867) ≤ 40 := hB.kept.2
  refine x_aload_n C dX9_booked_0 rfl rfl ?_
  refine x_iconst C dX9_booked_1 kc_0 ?_
  refine m_put C h 2 rfl q2411 rfl rfl rfl rfl dX9_booked_2 (fun M h => ?_)
  obtain ⟨σ1, hs1, h⟩ : ∃ σ', sQ σ σ' ∧ MF G ad M0 (sb σ' b B) M := ⟨_, sQ.p2, h⟩
  refine x_iload_n C dX9_booked_5 rfl rfl ?_
  refine x_if_lt (tgt := 45) C dX9_booked_6 rfl (fun c6 => ?_) (fun c6 => ?_)
  · -- 45
    refine x_ldcw C dX9_booked_45 q2817 ?_
    exact x_iret C dX9_booked_48 ⟨Nat.le_refl _, Nat.le_refl _⟩ (gq h (by first | exact hs1 | exact hs1.y | exact hs1.y7 | exact hs1.yy7) (by unfold qBkd; rw [if_neg (iT_n1 c6)]; first | done | assumption | rfl))
  · -- 9
    refine x_iload_n C dX9_booked_9 rfl rfl ?_
    refine x_aload_n C dX9_booked_10 rfl rfl ?_
    refine x_sipush C dX9_booked_11 ks_1867 ?_
    refine x_V1I C (met_X9_of l C.1 h.1 ((hs1.2.2 21 (by decide) (by decide)).trans hb) (by omega) (by omega)) mi_X9_of q2389 gcX9 h.1.1 ⟨rfl, rfl⟩ rfl ⟨Nat.le_refl _, Nat.le_refl _⟩ rfl dX9_booked_14 (fun r M1 hr => ?_)
    obtain ⟨rfl, hr⟩ := hr
    have hr := hr.symm.trans (show _ = nI (dN (B 1867)) from hkp)
    subst hr
    refine x_icmp_ge (tgt := 45) C dX9_booked_17 rfl (fun c17 => ?_) (fun c17 => ?_)
    · -- 45
      refine x_ldcw C dX9_booked_45 q2817 ?_
      exact x_iret C dX9_booked_48 ⟨Nat.le_refl _, Nat.le_refl _⟩ (gq h (by first | exact hs1 | exact hs1.y | exact hs1.y7 | exact hs1.yy7) (by unfold qBkd; rw [if_neg (iT_n2 c17)]; first | done | assumption | rfl))
    · -- 20
      have b17 : iT (dN (B 1867)) k := iT_y c6 c17
      obtain ⟨kn, rfl, hlkn⟩ := iT.ex b17 (by omega)
      have ekn : dN (nI kn) = kn := dN_nI (by omega)
      refine x_iload_n C dX9_booked_20 rfl rfl ?_
      refine x_iconst C dX9_booked_21 kc_0 ?_
      refine x_iconst C dX9_booked_22 kc_4 ?_
      refine x_S3I C (met_X9_isIn l C.1) mi_X9_isIn q2550 ⟨rfl, rfl⟩ rfl ⟨Nat.le_refl _, Nat.le_refl _⟩ rfl dX9_booked_23 (fun r M1 hr => ?_)
      rcases hr with ⟨rfl, rfl, b23⟩ | ⟨rfl, rfl, b23⟩
      · -- true
        obtain ⟨un, rfl, hlun, hhun⟩ := iI.ex b23 (by omega) (by omega)
        have eun : dN (nI un) = un := dN_nI (by omega)
        refine x_if_eqF (tgt := 45) C (by decide) dX9_booked_26 rfl ?_
        refine x_aload_n C dX9_booked_29 rfl rfl ?_
        refine x_sipush C dX9_booked_30 ks_1868 ?_
        refine x_iconst C dX9_booked_33 kc_5 ?_
        refine x_iload_n C dX9_booked_34 rfl rfl ?_
        refine x_imulN C dX9_booked_35 ?_
        refine x_iaddN C dX9_booked_36 ?_
        refine x_iload_n C dX9_booked_37 rfl rfl ?_
        refine x_iaddN C dX9_booked_38 ?_
        refine x_V1I C (met_X9_of l C.1 h.1 ((hs1.2.2 21 (by decide) (by decide)).trans hb) (by omega) (by omega)) mi_X9_of q2389 gcX9 h.1.1 ⟨rfl, rfl⟩ rfl ⟨Nat.le_refl _, Nat.le_refl _⟩ rfl dX9_booked_39 (fun r M1 hr => ?_)
        obtain ⟨rfl, rfl⟩ := hr
        refine x_goto (tgt := 48) C dX9_booked_42 rfl ?_
        exact x_iret C dX9_booked_48 ⟨Nat.le_refl _, Nat.le_refl _⟩ (gq h (by first | exact hs1 | exact hs1.y | exact hs1.y7 | exact hs1.yy7) (by unfold qBkd; simp only [ekn, eun]; rw [if_pos b17, if_pos b23]; first | done | assumption | rfl))
      · -- false
        refine x_if_eqT (tgt := 45) C (by decide) dX9_booked_26 rfl ?_
        refine x_ldcw C dX9_booked_45 q2817 ?_
        exact x_iret C dX9_booked_48 ⟨Nat.le_refl _, Nat.le_refl _⟩ (gq h (by first | exact hs1 | exact hs1.y | exact hs1.y7 | exact hs1.yy7) (by unfold qBkd; simp only [ekn]; rw [if_pos b17, if_neg b23]; first | done | assumption | rfl))
theorem mi_X9_by : gMV RX9 yX9_by cX9_by 6 (some .int) 5 := ⟨q2843, q2844, q165, q2845, by decide +kernel⟩
set_option maxHeartbeats 4000000 in
set_option maxRecDepth 100000 in
theorem met_X9_by (l : Launch) {G : gG} (hG : gOK G) {ad : Nat → Nat} {σ : mS} {M0 : gM} {b : Nat} {B : Nat → Int32} {t y way mth step : Int32} {A : Nat → Nat → Int32} {T : Nat} (h : MR G ad (sb σ b B) M0) (hb : mI σ 21 = nI b) (hA : mA σ = A) (hT : mI σ 11 = nI T) (hb0_ : b < 23) (hw : wT T A) (hB : wB T B) : Met l yX9_by (ws_ yX9_by cX9_by 6 (some .int)) ({ frames := 3, cells := 0, slots := 0, locals := 79 }) (gPre G M0 [.ref (ad 0), .int (t), .int (y), .int (way), .int (mth), .int (step)]) (gQ G (gI (fun r M1 => ∃ σ', sQ σ σ' ∧ MF G ad M0 (sb σ' b B) M1 ∧ qBy A T B t y way mth step = r))) 0 0 (gA G) := by
  refine gMet (L0 := [some (.ref (ad 0)), some (.int (t)), some (.int (y)), some (.int (way)), some (.int (mth)), some (.int (step))]) RX9 hG (by decide +kernel) rfl (Nat.le_of_ble_eq_true rfl) rfl ?_
  intro p e s m args below meth c C hnm
  have h := MF.rf h
  have hT4 := hw.T4
  have hnw : B 0 = nI (pNow B) := hB.now.1
  have hnow : pNow B ≤ 63 := hB.now.2
  have hna : B 1865 = nI (dN (B 1865)) := hB.na.1
  have hna8 : dN (B 1865) ≤ 8 := hB.na.2
  have hkp : B 1867 = nI (dN (B 1867)) := hB.kept.1
  have hkp40 : dN (B 1867) ≤ 40 := hB.kept.2
  refine x_aload_n C dX9_by_0 rfl rfl ?_
  refine x_iconst C dX9_by_1 kc_0 ?_
  refine m_put C h 2 rfl q2411 rfl rfl rfl rfl dX9_by_2 (fun M h => ?_)
  obtain ⟨σ1, hs1, h⟩ : ∃ σ', sQ σ σ' ∧ MF G ad M0 (sb σ' b B) M := ⟨_, sQ.p2, h⟩
  refine x_aload_n C dX9_by_5 rfl rfl ?_
  refine x_iload_n C dX9_by_6 rfl rfl ?_
  refine x_iload_n C dX9_by_7 rfl rfl ?_
  refine x_V2I C (met_X9_isYear l C.1 h.1 ((hs1.2.2 21 (by decide) (by decide)).trans hb) hnw ((hs1.2.2 11 (by decide) (by decide)).trans hT) (by omega) (by omega) (by omega)) mi_X9_isYear q2813 gcX9 h.1.1 ⟨rfl, rfl⟩ rfl ⟨Nat.le_refl _, Nat.le_refl _⟩ rfl dX9_by_8 (fun r M1 hr => ?_)
  rcases hr with ⟨rfl, rfl, b8⟩ | ⟨rfl, rfl, b8⟩
  · -- true
    obtain ⟨tn, rfl, hltn⟩ := iT.ex b8.1 (by omega)
    have etn : dN (nI tn) = tn := dN_nI (by omega)
    obtain ⟨yn, rfl, hlyn⟩ := iT.ex b8.2 (by omega)
    have eyn : dN (nI yn) = yn := dN_nI (by omega)
    refine x_if_eqF (tgt := 46) C (by decide) dX9_by_11 rfl ?_
    refine x_iload_n C dX9_by_14 rfl rfl ?_
    refine x_iconst C dX9_by_15 kc_0 ?_
    refine x_iconst C dX9_by_16 kc_2 ?_
    refine x_S3I C (met_X9_isIn l C.1) mi_X9_isIn q2550 ⟨rfl, rfl⟩ rfl ⟨Nat.le_refl _, Nat.le_refl _⟩ rfl dX9_by_17 (fun r M1 hr => ?_)
    rcases hr with ⟨rfl, rfl, b17⟩ | ⟨rfl, rfl, b17⟩
    · -- true
      refine x_if_eqF (tgt := 46) C (by decide) dX9_by_20 rfl ?_
      refine x_iload C dX9_by_23 rfl ?_
      refine x_iconst C dX9_by_25 kc_0 ?_
      refine x_iconst C dX9_by_26 kc_2 ?_
      refine x_S3I C (met_X9_isIn l C.1) mi_X9_isIn q2550 ⟨rfl, rfl⟩ rfl ⟨Nat.le_refl _, Nat.le_refl _⟩ rfl dX9_by_27 (fun r M1 hr => ?_)
      rcases hr with ⟨rfl, rfl, b27⟩ | ⟨rfl, rfl, b27⟩
      · -- true
        refine x_if_eqF (tgt := 46) C (by decide) dX9_by_30 rfl ?_
        refine x_iload C dX9_by_33 rfl ?_
        refine x_bipush C dX9_by_35 kb_10 ?_
        refine x_sipush C dX9_by_37 ks_1000 ?_
        refine x_S3I C (met_X9_isIn l C.1) mi_X9_isIn q2550 ⟨rfl, rfl⟩ rfl ⟨Nat.le_refl _, Nat.le_refl _⟩ rfl dX9_by_40 (fun r M1 hr => ?_)
        rcases hr with ⟨rfl, rfl, b40⟩ | ⟨rfl, rfl, b40⟩
        · -- true
          obtain ⟨stepn, rfl, hlstepn, hhstepn⟩ := iI.ex b40 (by omega) (by omega)
          have estepn : dN (nI stepn) = stepn := dN_nI (by omega)
          refine x_if_neT (tgt := 50) C (by decide) dX9_by_43 rfl ?_
          refine x_aload_n C dX9_by_50 rfl rfl ?_
          refine x_iload_n C dX9_by_51 rfl rfl ?_
          refine x_iload_n C dX9_by_52 rfl rfl ?_
          refine x_V2V C (met_X9_layYear l C.1 h.1 ((hs1.2.2 21 (by decide) (by decide)).trans hb) (by omega) (by omega) (by omega)) mi_X9_layYear q2736 gcX9 h.1.1 ⟨rfl, rfl⟩ rfl ⟨Nat.le_refl _, Nat.le_refl _⟩ rfl dX9_by_53 (fun M1 hr => ?_)
          have h := h.tr hr
          refine x_aload_n C dX9_by_56 rfl rfl ?_
          refine x_aload_n C dX9_by_57 rfl rfl ?_
          refine x_iload C dX9_by_58 rfl ?_
          refine x_iload_n C dX9_by_60 rfl rfl ?_
          refine x_iload C dX9_by_61 rfl ?_
          refine x_V3I C (met_X9_fractionBy l C.1 h.1 ((hs1.2.2 21 (by decide) (by decide)).trans hb) (by omega) (sZ_y _ _ _)) mi_X9_fractionBy q2705 gcX9 h.1.1 ⟨rfl, rfl⟩ rfl ⟨Nat.le_refl _, Nat.le_refl _⟩ rfl dX9_by_63 (fun r M1 hr => ?_)
          obtain ⟨rfl, rfl⟩ := hr
          refine x_iload_n C dX9_by_66 rfl rfl ?_
          refine x_iload C dX9_by_67 rfl ?_
          refine x_aload_n C dX9_by_69 rfl rfl ?_
          refine m_get C h 17 rfl q2426 rfl dX9_by_70 ?_
          refine x_iconst C dX9_by_73 kc_2 ?_
          refine m_ald C h 6 (N := 14) (by decide) rfl rfl (by omega) (congrFun (congrFun (hs1.1.trans hA) 6) _) dX9_by_74 ?_
          refine x_V4I C (met_X9_backBy l C.1 h.1 ((hs1.2.2 21 (by decide) (by decide)).trans hb) (by omega) (isN.nI hhstepn (by omega)) (by rw [estepn]; exact hlstepn)) mi_X9_backBy q2724 gcX9 h.1.1 ⟨rfl, rfl⟩ rfl ⟨Nat.le_refl _, Nat.le_refl _⟩ rfl dX9_by_75 (fun r M1 hr => ?_)
          obtain ⟨rfl, hr⟩ := hr
          have h := h.tr hr
          exact x_iret C dX9_by_78 ⟨Nat.le_refl _, Nat.le_refl _⟩ (gq h (by first | exact hs1 | exact hs1.y | exact hs1.y7 | exact hs1.yy7) (by unfold qBy; simp only [etn, eyn, estepn]; rw [if_pos b8, if_pos b17, if_pos b27, if_pos b40]; first | done | assumption | rfl))
        · -- false
          refine x_if_neF (tgt := 50) C (by decide) dX9_by_43 rfl ?_
          refine x_ldcw C dX9_by_46 q2817 ?_
          exact x_iret C dX9_by_49 ⟨Nat.le_refl _, Nat.le_refl _⟩ (gq h (by first | exact hs1 | exact hs1.y | exact hs1.y7 | exact hs1.yy7) (by unfold qBy; simp only [etn, eyn]; rw [if_pos b8, if_pos b17, if_pos b27, if_neg b40]; first | done | assumption | rfl))
      · -- false
        refine x_if_eqT (tgt := 46) C (by decide) dX9_by_30 rfl ?_
        refine x_ldcw C dX9_by_46 q2817 ?_
        exact x_iret C dX9_by_49 ⟨Nat.le_refl _, Nat.le_refl _⟩ (gq h (by first | exact hs1 | exact hs1.y | exact hs1.y7 | exact hs1.yy7) (by unfold qBy; simp only [etn, eyn]; rw [if_pos b8, if_pos b17, if_neg b27]; first | done | assumption | rfl))
    · -- false
      refine x_if_eqT (tgt := 46) C (by decide) dX9_by_20 rfl ?_
      refine x_ldcw C dX9_by_46 q2817 ?_
      exact x_iret C dX9_by_49 ⟨Nat.le_refl _, Nat.le_refl _⟩ (gq h (by first | exact hs1 | exact hs1.y | exact hs1.y7 | exact hs1.yy7) (by unfold qBy; simp only [etn, eyn]; rw [if_pos b8, if_neg b17]; first | done | assumption | rfl))
  · -- false
    refine x_if_eqT (tgt := 46) C (by decide) dX9_by_11 rfl ?_
    refine x_ldcw C dX9_by_46 q2817 ?_
    exact x_iret C dX9_by_49 ⟨Nat.le_refl _, Nat.le_refl _⟩ (gq h (by first | exact hs1 | exact hs1.y | exact hs1.y7 | exact hs1.yy7) (by unfold qBy; rw [if_neg b8]; first | done | assumption | rfl))
theorem mi_X9_worth : gMV RX9 yX9_worth cX9_worth 2 (some .int) 1 := ⟨q2913, q2914, q165, q2915, by decide +kernel⟩
set_option maxHeartbeats 4000000 in
set_option maxRecDepth 100000 in
theorem met_X9_worth (l : Launch) {G : gG} (hG : gOK G) {ad : Nat → Nat} {σ : mS} {M0 : gM} {b : Nat} {B : Nat → Int32} {a : Int32} {A : Nat → Nat → Int32} {T : Nat} (h : MR G ad (sb σ b B) M0) (hb : mI σ 21 = nI b) (hA : mA σ = A) (hT : mI σ 11 = nI T) (hb0_ : b < 23) (hw : wT T A) (hB : wB T B) : Met l yX9_worth (ws_ yX9_worth cX9_worth 2 (some .int)) ({ frames := 6, cells := 0, slots := 0, locals := 147 }) (gPre G M0 [.ref (ad 0), .int (a)]) (gQ G (gI (fun r M1 => ∃ σ', sQ σ σ' ∧ MF G ad M0 (sb σ' b B) M1 ∧ qWth A B a = r))) 0 0 (gA G) := by
  refine gMet (L0 := [some (.ref (ad 0)), some (.int (a))]) RX9 hG (by decide +kernel) rfl (Nat.le_of_ble_eq_true rfl) rfl ?_
  intro p e s m args below meth c C hnm
  have h := MF.rf h
  have hT4 := hw.T4
  have hnw : B 0 = nI (pNow B) := hB.now.1
  have hnow : pNow B ≤ 63 := hB.now.2
  have hna : B 1865 = nI (dN (B 1865)) := hB.na.1
  have hna8 : dN (B 1865) ≤ 8 := hB.na.2
  have hkp : B 1867 = nI (dN (B 1867)) := hB.kept.1
  have hkp40 : dN (B 1867) ≤ 40 := hB.kept.2
  refine x_aload_n C dX9_worth_0 rfl rfl ?_
  refine x_iconst C dX9_worth_1 kc_0 ?_
  refine m_put C h 2 rfl q2411 rfl rfl rfl rfl dX9_worth_2 (fun M h => ?_)
  obtain ⟨σ1, hs1, h⟩ : ∃ σ', sQ σ σ' ∧ MF G ad M0 (sb σ' b B) M := ⟨_, sQ.p2, h⟩
  refine x_aload_n C dX9_worth_5 rfl rfl ?_
  refine x_iload_n C dX9_worth_6 rfl rfl ?_
  refine x_V1I C (met_X9_isAsset l C.1 h.1 ((hs1.2.2 21 (by decide) (by decide)).trans hb) hna (by omega)) mi_X9_isAsset q2645 gcX9 h.1.1 ⟨rfl, rfl⟩ rfl ⟨Nat.le_refl _, Nat.le_refl _⟩ rfl dX9_worth_7 (fun r M1 hr => ?_)
  rcases hr with ⟨rfl, rfl, b7⟩ | ⟨rfl, rfl, b7⟩
  · -- true
    obtain ⟨an, rfl, hlan⟩ := iT.ex b7 (by omega)
    have ean : dN (nI an) = an := dN_nI (by omega)
    have hR : wR T (pNow B) (pYr B) B an := hB.row hlan
    obtain ⟨hr0, hr0b⟩ : dN (B (2084 + 48 * an + 0)) ≤ 3 ∧ dN (B (2084 + 48 * an + 0)) < T := ⟨hR.owner.1.2, hR.owner.2⟩
    have hr5 := hR.bought.2
    have hr7 := hR.sold.2
    have hr47 := hR.thr.1.2
    refine x_if_neT (tgt := 15) C (by decide) dX9_worth_10 rfl ?_
    refine x_aload_n C dX9_worth_15 rfl rfl ?_
    refine x_iload_n C dX9_worth_16 rfl rfl ?_
    refine x_bipush C dX9_worth_17 kb_9 ?_
    refine x_V2I C (met_X9_at l C.1 h.1 ((hs1.2.2 21 (by decide) (by decide)).trans hb) (by omega) (by omega) (by omega)) mi_X9_at q2653 gcX9 h.1.1 ⟨rfl, rfl⟩ rfl ⟨Nat.le_refl _, Nat.le_refl _⟩ rfl dX9_worth_19 (fun r M1 hr => ?_)
    obtain ⟨rfl, rfl⟩ := hr
    refine x_iconst C dX9_worth_22 kc_1 ?_
    refine x_icmp_ne (tgt := 31) C dX9_worth_23 rfl (fun c23 => ?_) (fun c23 => ?_)
    · -- 31
      refine x_aload_n C dX9_worth_31 rfl rfl ?_
      refine x_iload_n C dX9_worth_32 rfl rfl ?_
      refine x_aload_n C dX9_worth_33 rfl rfl ?_
      refine x_iload_n C dX9_worth_34 rfl rfl ?_
      refine x_iconst C dX9_worth_35 kc_2 ?_
      refine x_V2I C (met_X9_at l C.1 h.1 ((hs1.2.2 21 (by decide) (by decide)).trans hb) (by omega) (by omega) (by omega)) mi_X9_at q2653 gcX9 h.1.1 ⟨rfl, rfl⟩ rfl ⟨Nat.le_refl _, Nat.le_refl _⟩ rfl dX9_worth_36 (fun r M1 hr => ?_)
      obtain ⟨rfl, rfl⟩ := hr
      refine x_V2I C (met_X9_worthBy l C.1 h.1 ((hs1.2.2 21 (by decide) (by decide)).trans hb) (hs1.1.trans hA) hnw hR.owner.1.1 hR.bought.1.1 (by omega) (by omega) (by omega) (by omega) (by omega) (by omega) hw) mi_X9_worthBy q2748 gcX9 h.1.1 ⟨rfl, rfl⟩ rfl ⟨Nat.le_refl _, Nat.le_refl _⟩ rfl dX9_worth_39 (fun r M1 hr => ?_)
      obtain ⟨rfl, hr⟩ := hr
      have h := h.tr hr
      exact x_iret C dX9_worth_42 ⟨Nat.le_refl _, Nat.le_refl _⟩ (gq h (by first | exact hs1 | exact hs1.y | exact hs1.y7 | exact hs1.yy7) (by unfold qWth; simp only [ean]; rw [if_pos b7, if_neg c23]; first | done | assumption | rfl))
    · -- 26
      refine x_bipush C dX9_worth_26 kb_m2 ?_
      refine x_goto (tgt := 42) C dX9_worth_28 rfl ?_
      exact x_iret C dX9_worth_42 ⟨Nat.le_refl _, Nat.le_refl _⟩ (gq h (by first | exact hs1 | exact hs1.y | exact hs1.y7 | exact hs1.yy7) (by unfold qWth; simp only [ean]; rw [if_pos b7, if_pos c23]; first | done | assumption | rfl))
  · -- false
    refine x_if_neF (tgt := 15) C (by decide) dX9_worth_10 rfl ?_
    refine x_iconst C dX9_worth_13 kc_m1 ?_
    exact x_iret C dX9_worth_14 ⟨Nat.le_refl _, Nat.le_refl _⟩ (gq h (by first | exact hs1 | exact hs1.y | exact hs1.y7 | exact hs1.yy7) (by unfold qWth; rw [if_neg b7]; first | done | assumption | rfl))
theorem mi_X9_ifUse : gMV RX9 yX9_ifUse cX9_ifUse 3 (some .int) 2 := ⟨q2900, q2901, q165, q2902, by decide +kernel⟩
set_option maxHeartbeats 4000000 in
set_option maxRecDepth 100000 in
theorem met_X9_ifUse (l : Launch) {G : gG} (hG : gOK G) {ad : Nat → Nat} {σ : mS} {M0 : gM} {b : Nat} {B : Nat → Int32} {a u : Int32} {A : Nat → Nat → Int32} {T : Nat} (h : MR G ad (sb σ b B) M0) (hb : mI σ 21 = nI b) (hA : mA σ = A) (hT : mI σ 11 = nI T) (hb0_ : b < 23) (hw : wT T A) (hB : wB T B) : Met l yX9_ifUse (ws_ yX9_ifUse cX9_ifUse 3 (some .int)) ({ frames := 6, cells := 0, slots := 0, locals := 147 }) (gPre G M0 [.ref (ad 0), .int (a), .int (u)]) (gQ G (gI (fun r M1 => ∃ σ', sQ σ σ' ∧ MF G ad M0 (sb σ' b B) M1 ∧ qIfU A B a u = r))) 0 0 (gA G) := by
  refine gMet (L0 := [some (.ref (ad 0)), some (.int (a)), some (.int (u))]) RX9 hG (by decide +kernel) rfl (Nat.le_of_ble_eq_true rfl) rfl ?_
  intro p e s m args below meth c C hnm
  have h := MF.rf h
  have hT4 := hw.T4
  have hnw : B 0 = nI (pNow B) := hB.now.1
  have hnow : pNow B ≤ 63 := hB.now.2
  have hna : B 1865 = nI (dN (B 1865)) := hB.na.1
  have hna8 : dN (B 1865) ≤ 8 := hB.na.2
  have hkp : B 1867 = nI (dN (B 1867)) := hB.kept.1
  have hkp40 : dN (B 1867) ≤ 40 := hB.kept.2
  refine x_aload_n C dX9_ifUse_0 rfl rfl ?_
  refine x_iconst C dX9_ifUse_1 kc_0 ?_
  refine m_put C h 2 rfl q2411 rfl rfl rfl rfl dX9_ifUse_2 (fun M h => ?_)
  obtain ⟨σ1, hs1, h⟩ : ∃ σ', sQ σ σ' ∧ MF G ad M0 (sb σ' b B) M := ⟨_, sQ.p2, h⟩
  refine x_aload_n C dX9_ifUse_5 rfl rfl ?_
  refine x_iload_n C dX9_ifUse_6 rfl rfl ?_
  refine x_V1I C (met_X9_isAsset l C.1 h.1 ((hs1.2.2 21 (by decide) (by decide)).trans hb) hna (by omega)) mi_X9_isAsset q2645 gcX9 h.1.1 ⟨rfl, rfl⟩ rfl ⟨Nat.le_refl _, Nat.le_refl _⟩ rfl dX9_ifUse_7 (fun r M1 hr => ?_)
  rcases hr with ⟨rfl, rfl, b7⟩ | ⟨rfl, rfl, b7⟩
  · -- true
    obtain ⟨an, rfl, hlan⟩ := iT.ex b7 (by omega)
    have ean : dN (nI an) = an := dN_nI (by omega)
    have hR : wR T (pNow B) (pYr B) B an := hB.row hlan
    obtain ⟨hr0, hr0b⟩ : dN (B (2084 + 48 * an + 0)) ≤ 3 ∧ dN (B (2084 + 48 * an + 0)) < T := ⟨hR.owner.1.2, hR.owner.2⟩
    have hr5 := hR.bought.2
    have hr7 := hR.sold.2
    have hr47 := hR.thr.1.2
    refine x_if_eqF (tgt := 38) C (by decide) dX9_ifUse_10 rfl ?_
    refine x_iload_n C dX9_ifUse_13 rfl rfl ?_
    refine x_iconst C dX9_ifUse_14 kc_0 ?_
    refine x_iconst C dX9_ifUse_15 kc_2 ?_
    refine x_S3I C (met_X9_isIn l C.1) mi_X9_isIn q2550 ⟨rfl, rfl⟩ rfl ⟨Nat.le_refl _, Nat.le_refl _⟩ rfl dX9_ifUse_16 (fun r M1 hr => ?_)
    rcases hr with ⟨rfl, rfl, b16⟩ | ⟨rfl, rfl, b16⟩
    · -- true
      refine x_if_eqF (tgt := 38) C (by decide) dX9_ifUse_19 rfl ?_
      refine x_aload_n C dX9_ifUse_22 rfl rfl ?_
      refine x_iload_n C dX9_ifUse_23 rfl rfl ?_
      refine x_V1I C (met_X9_isGone l C.1 h.1 ((hs1.2.2 21 (by decide) (by decide)).trans hb) hR.sold.1 (by omega) (by omega) (by omega)) mi_X9_isGone q2649 gcX9 h.1.1 ⟨rfl, rfl⟩ rfl ⟨Nat.le_refl _, Nat.le_refl _⟩ rfl dX9_ifUse_24 (fun r M1 hr => ?_)
      rcases hr with ⟨rfl, rfl, b24⟩ | ⟨rfl, rfl, b24⟩
      · -- true
        refine x_if_neT (tgt := 38) C (by decide) dX9_ifUse_27 rfl ?_
        refine x_ldcw C dX9_ifUse_38 q2817 ?_
        exact x_iret C dX9_ifUse_41 ⟨Nat.le_refl _, Nat.le_refl _⟩ (gq h (by first | exact hs1 | exact hs1.y | exact hs1.y7 | exact hs1.yy7) (by unfold qIfU; simp only [ean]; rw [if_pos b7, if_pos b16, if_pos b24]; first | done | assumption | rfl))
      · -- false
        refine x_if_neF (tgt := 38) C (by decide) dX9_ifUse_27 rfl ?_
        refine x_aload_n C dX9_ifUse_30 rfl rfl ?_
        refine x_iload_n C dX9_ifUse_31 rfl rfl ?_
        refine x_V1I C (met_X9_isThrough l C.1 h.1 ((hs1.2.2 21 (by decide) (by decide)).trans hb) hR.thr.1.1 (by omega) (by omega) (by omega)) mi_X9_isThrough q2789 gcX9 h.1.1 ⟨rfl, rfl⟩ rfl ⟨Nat.le_refl _, Nat.le_refl _⟩ rfl dX9_ifUse_32 (fun r M1 hr => ?_)
        rcases hr with ⟨rfl, rfl, b32⟩ | ⟨rfl, rfl, b32⟩
        · -- true
          refine x_if_neT (tgt := 42) C (by decide) dX9_ifUse_35 rfl ?_
          refine x_aload_n C dX9_ifUse_42 rfl rfl ?_
          refine x_iload_n C dX9_ifUse_43 rfl rfl ?_
          refine x_iload_n C dX9_ifUse_44 rfl rfl ?_
          refine x_V2I C (met_X9_worthBy l C.1 h.1 ((hs1.2.2 21 (by decide) (by decide)).trans hb) (hs1.1.trans hA) hnw hR.owner.1.1 hR.bought.1.1 (by omega) (by omega) (by omega) (by omega) (by omega) (by omega) hw) mi_X9_worthBy q2748 gcX9 h.1.1 ⟨rfl, rfl⟩ rfl ⟨Nat.le_refl _, Nat.le_refl _⟩ rfl dX9_ifUse_45 (fun r M1 hr => ?_)
          obtain ⟨rfl, hr⟩ := hr
          have h := h.tr hr
          exact x_iret C dX9_ifUse_48 ⟨Nat.le_refl _, Nat.le_refl _⟩ (gq h (by first | exact hs1 | exact hs1.y | exact hs1.y7 | exact hs1.yy7) (by unfold qIfU; simp only [ean]; rw [if_pos b7, if_pos b16, if_neg b24, if_pos b32]; first | done | assumption | rfl))
        · -- false
          refine x_if_neF (tgt := 42) C (by decide) dX9_ifUse_35 rfl ?_
          refine x_ldcw C dX9_ifUse_38 q2817 ?_
          exact x_iret C dX9_ifUse_41 ⟨Nat.le_refl _, Nat.le_refl _⟩ (gq h (by first | exact hs1 | exact hs1.y | exact hs1.y7 | exact hs1.yy7) (by unfold qIfU; simp only [ean]; rw [if_pos b7, if_pos b16, if_neg b24, if_neg b32]; first | done | assumption | rfl))
    · -- false
      refine x_if_eqT (tgt := 38) C (by decide) dX9_ifUse_19 rfl ?_
      refine x_ldcw C dX9_ifUse_38 q2817 ?_
      exact x_iret C dX9_ifUse_41 ⟨Nat.le_refl _, Nat.le_refl _⟩ (gq h (by first | exact hs1 | exact hs1.y | exact hs1.y7 | exact hs1.yy7) (by unfold qIfU; simp only [ean]; rw [if_pos b7, if_neg b16]; first | done | assumption | rfl))
  · -- false
    refine x_if_eqT (tgt := 38) C (by decide) dX9_ifUse_10 rfl ?_
    refine x_ldcw C dX9_ifUse_38 q2817 ?_
    exact x_iret C dX9_ifUse_41 ⟨Nat.le_refl _, Nat.le_refl _⟩ (gq h (by first | exact hs1 | exact hs1.y | exact hs1.y7 | exact hs1.yy7) (by unfold qIfU; rw [if_neg b7]; first | done | assumption | rfl))
theorem mi_X9_would : gMV RX9 yX9_would cX9_would 3 (some .int) 2 := ⟨q2884, q2885, q165, q2886, by decide +kernel⟩
set_option maxHeartbeats 4000000 in
set_option maxRecDepth 100000 in
theorem met_X9_would (l : Launch) {G : gG} (hG : gOK G) {ad : Nat → Nat} {σ : mS} {M0 : gM} {b : Nat} {B : Nat → Int32} {a k : Int32} {A : Nat → Nat → Int32} {T : Nat} (h : MR G ad (sb σ b B) M0) (hb : mI σ 21 = nI b) (hA : mA σ = A) (hT : mI σ 11 = nI T) (hb0_ : b < 23) (hw : wT T A) (hB : wB T B) : Met l yX9_would (ws_ yX9_would cX9_would 3 (some .int)) ({ frames := 7, cells := 0, slots := 0, locals := 168 }) (gPre G M0 [.ref (ad 0), .int (a), .int (k)]) (gQ G (gI (fun r M1 => ∃ σ', sQ σ σ' ∧ MF G ad M0 (sb σ' b B) M1 ∧ qWld A B a k = r))) 0 0 (gA G) := by
  refine gMet (L0 := [some (.ref (ad 0)), some (.int (a)), some (.int (k))]) RX9 hG (by decide +kernel) rfl (Nat.le_of_ble_eq_true rfl) rfl ?_
  intro p e s m args below meth c C hnm
  have h := MF.rf h
  have hT4 := hw.T4
  have hnw : B 0 = nI (pNow B) := hB.now.1
  have hnow : pNow B ≤ 63 := hB.now.2
  have hna : B 1865 = nI (dN (B 1865)) := hB.na.1
  have hna8 : dN (B 1865) ≤ 8 := hB.na.2
  have hkp : B 1867 = nI (dN (B 1867)) := hB.kept.1
  have hkp40 : dN (B 1867) ≤ 40 := hB.kept.2
  refine x_aload_n C dX9_would_0 rfl rfl ?_
  refine x_iconst C dX9_would_1 kc_0 ?_
  refine m_put C h 2 rfl q2411 rfl rfl rfl rfl dX9_would_2 (fun M h => ?_)
  obtain ⟨σ1, hs1, h⟩ : ∃ σ', sQ σ σ' ∧ MF G ad M0 (sb σ' b B) M := ⟨_, sQ.p2, h⟩
  refine x_aload_n C dX9_would_5 rfl rfl ?_
  refine x_iload_n C dX9_would_6 rfl rfl ?_
  refine x_V1I C (met_X9_isAsset l C.1 h.1 ((hs1.2.2 21 (by decide) (by decide)).trans hb) hna (by omega)) mi_X9_isAsset q2645 gcX9 h.1.1 ⟨rfl, rfl⟩ rfl ⟨Nat.le_refl _, Nat.le_refl _⟩ rfl dX9_would_7 (fun r M1 hr => ?_)
  rcases hr with ⟨rfl, rfl, b7⟩ | ⟨rfl, rfl, b7⟩
  · -- true
    obtain ⟨an, rfl, hlan⟩ := iT.ex b7 (by omega)
    have ean : dN (nI an) = an := dN_nI (by omega)
    have hR : wR T (pNow B) (pYr B) B an := hB.row hlan
    obtain ⟨hr0, hr0b⟩ : dN (B (2084 + 48 * an + 0)) ≤ 3 ∧ dN (B (2084 + 48 * an + 0)) < T := ⟨hR.owner.1.2, hR.owner.2⟩
    have hr5 := hR.bought.2
    have hr7 := hR.sold.2
    have hr47 := hR.thr.1.2
    refine x_if_eqF (tgt := 30) C (by decide) dX9_would_10 rfl ?_
    refine x_iload_n C dX9_would_13 rfl rfl ?_
    refine x_iconst C dX9_would_14 kc_0 ?_
    refine x_iconst C dX9_would_15 kc_1 ?_
    refine x_S3I C (met_X9_isIn l C.1) mi_X9_isIn q2550 ⟨rfl, rfl⟩ rfl ⟨Nat.le_refl _, Nat.le_refl _⟩ rfl dX9_would_16 (fun r M1 hr => ?_)
    rcases hr with ⟨rfl, rfl, b16⟩ | ⟨rfl, rfl, b16⟩
    · -- true
      refine x_if_eqF (tgt := 30) C (by decide) dX9_would_19 rfl ?_
      refine x_aload_n C dX9_would_22 rfl rfl ?_
      refine x_iload_n C dX9_would_23 rfl rfl ?_
      refine x_V1I C (met_X9_isGone l C.1 h.1 ((hs1.2.2 21 (by decide) (by decide)).trans hb) hR.sold.1 (by omega) (by omega) (by omega)) mi_X9_isGone q2649 gcX9 h.1.1 ⟨rfl, rfl⟩ rfl ⟨Nat.le_refl _, Nat.le_refl _⟩ rfl dX9_would_24 (fun r M1 hr => ?_)
      rcases hr with ⟨rfl, rfl, b24⟩ | ⟨rfl, rfl, b24⟩
      · -- true
        refine x_if_eqF (tgt := 34) C (by decide) dX9_would_27 rfl ?_
        refine x_ldcw C dX9_would_30 q2817 ?_
        exact x_iret C dX9_would_33 ⟨Nat.le_refl _, Nat.le_refl _⟩ (gq h (by first | exact hs1 | exact hs1.y | exact hs1.y7 | exact hs1.yy7) (by unfold qWld; simp only [ean]; rw [if_pos b7, if_pos b16, if_pos b24]; first | done | assumption | rfl))
      · -- false
        refine x_if_eqT (tgt := 34) C (by decide) dX9_would_27 rfl ?_
        refine x_aload_n C dX9_would_34 rfl rfl ?_
        refine x_iload_n C dX9_would_35 rfl rfl ?_
        refine x_aload_n C dX9_would_36 rfl rfl ?_
        refine x_iload_n C dX9_would_37 rfl rfl ?_
        refine x_V1I C (met_X9_behindOf l C.1 h.1 ((hs1.2.2 21 (by decide) (by decide)).trans hb) hnw hR.bought.1.1 (by omega) (by omega) (by omega) (by omega) (by omega)) mi_X9_behindOf q2665 gcX9 h.1.1 ⟨rfl, rfl⟩ rfl ⟨Nat.le_refl _, Nat.le_refl _⟩ rfl dX9_would_38 (fun r M1 hr => ?_)
        obtain ⟨rfl, rfl⟩ := hr
        refine x_iload_n C dX9_would_41 rfl rfl ?_
        refine x_aload_n C dX9_would_42 rfl rfl ?_
        refine x_iload_n C dX9_would_43 rfl rfl ?_
        refine x_V1I C (met_X9_baseNow l C.1 h.1 ((hs1.2.2 21 (by decide) (by decide)).trans hb) (hs1.1.trans hA) hnw hR.owner.1.1 hR.bought.1.1 hR.thr.1.1 (by omega) (by omega) (by omega) (by omega) (by omega) (by omega) (by omega) hw) mi_X9_baseNow q2887 gcX9 h.1.1 ⟨rfl, rfl⟩ rfl ⟨Nat.le_refl _, Nat.le_refl _⟩ rfl dX9_would_44 (fun r M1 hr => ?_)
        obtain ⟨σ2, hs2, hr, rfl⟩ := hr
        have h := h.tr hr
        have hs1 := hs1.tr hs2.sQ
        refine x_V4J C (met_X9_lastBy l C.1 h.1 ((hs1.2.2 21 (by decide) (by decide)).trans hb) (hs1.1.trans hA) (by omega) (by omega) hw hR.span) mi_X9_lastBy q2773 gcX9 h.1.1 ⟨rfl, rfl⟩ rfl ⟨Nat.le_refl _, Nat.le_refl _⟩ rfl dX9_would_47 (fun r M1 hr => ?_)
        obtain ⟨rfl, rfl⟩ := hr
        refine x_l2i C dX9_would_50 ?_
        exact x_iret C dX9_would_51 ⟨Nat.le_refl _, Nat.le_refl _⟩ (gq h (by first | exact hs1 | exact hs1.y | exact hs1.y7 | exact hs1.yy7) (by unfold qWld; simp only [ean]; rw [if_pos b7, if_pos b16, if_neg b24]; first | done | assumption | rfl))
    · -- false
      refine x_if_eqT (tgt := 30) C (by decide) dX9_would_19 rfl ?_
      refine x_ldcw C dX9_would_30 q2817 ?_
      exact x_iret C dX9_would_33 ⟨Nat.le_refl _, Nat.le_refl _⟩ (gq h (by first | exact hs1 | exact hs1.y | exact hs1.y7 | exact hs1.yy7) (by unfold qWld; simp only [ean]; rw [if_pos b7, if_neg b16]; first | done | assumption | rfl))
  · -- false
    refine x_if_eqT (tgt := 30) C (by decide) dX9_would_10 rfl ?_
    refine x_ldcw C dX9_would_30 q2817 ?_
    exact x_iret C dX9_would_33 ⟨Nat.le_refl _, Nat.le_refl _⟩ (gq h (by first | exact hs1 | exact hs1.y | exact hs1.y7 | exact hs1.yy7) (by unfold qWld; rw [if_neg b7]; first | done | assumption | rfl))
theorem mi_X9_project : gMV RX9 yX9_project cX9_project 6 (some .int) 2 := ⟨q2896, q2897, q165, q2898, by decide +kernel⟩
set_option maxHeartbeats 4000000 in
set_option maxRecDepth 100000 in
theorem met_X9_project (l : Launch) {G : gG} (hG : gOK G) {ad : Nat → Nat} {σ : mS} {M0 : gM} {b : Nat} {B : Nat → Int32} {a n : Int32} {A : Nat → Nat → Int32} {T : Nat} (h : MR G ad (sb σ b B) M0) (hb : mI σ 21 = nI b) (hA : mA σ = A) (hT : mI σ 11 = nI T) (hb0_ : b < 23) (hw : wT T A) (hB : wB T B) : Met l yX9_project (ws_ yX9_project cX9_project 6 (some .int)) ({ frames := 7, cells := 0, slots := 0, locals := 168 }) (gPre G M0 [.ref (ad 0), .int (a), .int (n)]) (gQ G (gI (fun r M1 => ∃ σ', sQ σ σ' ∧ MF G ad M0 (sb σ' b B) M1 ∧ qPrj A B a n = r))) 0 0 (gA G) := by
  refine gMet (L0 := [some (.ref (ad 0)), some (.int (a)), some (.int (n)), none, none, none]) RX9 hG (by decide +kernel) rfl (Nat.le_of_ble_eq_true rfl) rfl ?_
  intro p e s m args below meth c C hnm
  have h := MF.rf h
  have hT4 := hw.T4
  have hnw : B 0 = nI (pNow B) := hB.now.1
  have hnow : pNow B ≤ 63 := hB.now.2
  have hna : B 1865 = nI (dN (B 1865)) := hB.na.1
  have hna8 : dN (B 1865) ≤ 8 := hB.na.2
  have hkp : B 1867 = nI (dN (B 1867)) := hB.kept.1
  have hkp40 : dN (B 1867) ≤ 40 := hB.kept.2
  refine x_aload_n C dX9_project_0 rfl rfl ?_
  refine x_iconst C dX9_project_1 kc_0 ?_
  refine m_put C h 2 rfl q2411 rfl rfl rfl rfl dX9_project_2 (fun M h => ?_)
  obtain ⟨σ1, hs1, h⟩ : ∃ σ', sQ σ σ' ∧ MF G ad M0 (sb σ' b B) M := ⟨_, sQ.p2, h⟩
  refine x_aload_n C dX9_project_5 rfl rfl ?_
  refine x_iload_n C dX9_project_6 rfl rfl ?_
  refine x_V1I C (met_X9_isAsset l C.1 h.1 ((hs1.2.2 21 (by decide) (by decide)).trans hb) hna (by omega)) mi_X9_isAsset q2645 gcX9 h.1.1 ⟨rfl, rfl⟩ rfl ⟨Nat.le_refl _, Nat.le_refl _⟩ rfl dX9_project_7 (fun r M1 hr => ?_)
  rcases hr with ⟨rfl, rfl, b7⟩ | ⟨rfl, rfl, b7⟩
  · -- true
    obtain ⟨an, rfl, hlan⟩ := iT.ex b7 (by omega)
    have ean : dN (nI an) = an := dN_nI (by omega)
    have hR : wR T (pNow B) (pYr B) B an := hB.row hlan
    obtain ⟨hr0, hr0b⟩ : dN (B (2084 + 48 * an + 0)) ≤ 3 ∧ dN (B (2084 + 48 * an + 0)) < T := ⟨hR.owner.1.2, hR.owner.2⟩
    have hr5 := hR.bought.2
    have hr7 := hR.sold.2
    have hr47 := hR.thr.1.2
    refine x_if_eqF (tgt := 36) C (by decide) dX9_project_10 rfl ?_
    refine x_aload_n C dX9_project_13 rfl rfl ?_
    refine x_iload_n C dX9_project_14 rfl rfl ?_
    refine x_V1I C (met_X9_isGone l C.1 h.1 ((hs1.2.2 21 (by decide) (by decide)).trans hb) hR.sold.1 (by omega) (by omega) (by omega)) mi_X9_isGone q2649 gcX9 h.1.1 ⟨rfl, rfl⟩ rfl ⟨Nat.le_refl _, Nat.le_refl _⟩ rfl dX9_project_15 (fun r M1 hr => ?_)
    rcases hr with ⟨rfl, rfl, b15⟩ | ⟨rfl, rfl, b15⟩
    · -- true
      refine x_if_neT (tgt := 36) C (by decide) dX9_project_18 rfl ?_
      refine x_ldcw C dX9_project_36 q2817 ?_
      exact x_iret C dX9_project_39 ⟨Nat.le_refl _, Nat.le_refl _⟩ (gq h (by first | exact hs1 | exact hs1.y | exact hs1.y7 | exact hs1.yy7) (by unfold qPrj; simp only [ean]; rw [if_pos b7, if_pos b15]; first | done | assumption | rfl))
    · -- false
      refine x_if_neF (tgt := 36) C (by decide) dX9_project_18 rfl ?_
      refine x_iload_n C dX9_project_21 rfl rfl ?_
      refine x_iconst C dX9_project_22 kc_1 ?_
      refine x_aload_n C dX9_project_23 rfl rfl ?_
      refine x_iload_n C dX9_project_24 rfl rfl ?_
      refine x_V1I C (met_X9_behindOf l C.1 h.1 ((hs1.2.2 21 (by decide) (by decide)).trans hb) hnw hR.bought.1.1 (by omega) (by omega) (by omega) (by omega) (by omega)) mi_X9_behindOf q2665 gcX9 h.1.1 ⟨rfl, rfl⟩ rfl ⟨Nat.le_refl _, Nat.le_refl _⟩ rfl dX9_project_25 (fun r M1 hr => ?_)
      obtain ⟨rfl, rfl⟩ := hr
      refine x_iconst C dX9_project_28 kc_1 ?_
      refine x_iadd C dX9_project_29 ?_
      refine x_S3I C (met_X9_isIn l C.1) mi_X9_isIn q2550 ⟨rfl, rfl⟩ rfl ⟨Nat.le_refl _, Nat.le_refl _⟩ rfl dX9_project_30 (fun r M1 hr => ?_)
      rcases hr with ⟨rfl, rfl, b30⟩ | ⟨rfl, rfl, b30⟩
      · -- true
        refine x_if_neT (tgt := 40) C (by decide) dX9_project_33 rfl ?_
        refine x_aload_n C dX9_project_40 rfl rfl ?_
        refine x_iload_n C dX9_project_41 rfl rfl ?_
        refine x_V1I C (met_X9_baseNow l C.1 h.1 ((hs1.2.2 21 (by decide) (by decide)).trans hb) (hs1.1.trans hA) hnw hR.owner.1.1 hR.bought.1.1 hR.thr.1.1 (by omega) (by omega) (by omega) (by omega) (by omega) (by omega) (by omega) hw) mi_X9_baseNow q2887 gcX9 h.1.1 ⟨rfl, rfl⟩ rfl ⟨Nat.le_refl _, Nat.le_refl _⟩ rfl dX9_project_42 (fun r M1 hr => ?_)
        obtain ⟨σ2, hs2, hr, rfl⟩ := hr
        have h := h.tr hr
        have hs1 := hs1.tr hs2.sQ
        refine x_istore_n C dX9_project_45 rfl (gs1_3 rfl) rfl ?_
        refine x_aload_n C dX9_project_46 rfl rfl ?_
        refine x_iload_n C dX9_project_47 rfl rfl ?_
        refine x_aload_n C dX9_project_48 rfl rfl ?_
        refine x_iload_n C dX9_project_49 rfl rfl ?_
        refine x_aload_n C dX9_project_50 rfl rfl ?_
        refine x_iload_n C dX9_project_51 rfl rfl ?_
        refine x_iconst C dX9_project_52 kc_2 ?_
        refine x_V2I C (met_X9_at l C.1 h.1 ((hs1.2.2 21 (by decide) (by decide)).trans hb) (by omega) (by omega) (by omega)) mi_X9_at q2653 gcX9 h.1.1 ⟨rfl, rfl⟩ rfl ⟨Nat.le_refl _, Nat.le_refl _⟩ rfl dX9_project_53 (fun r M1 hr => ?_)
        obtain ⟨rfl, rfl⟩ := hr
        refine x_V2I C (met_X9_worthBy l C.1 h.1 ((hs1.2.2 21 (by decide) (by decide)).trans hb) (hs1.1.trans hA) hnw hR.owner.1.1 hR.bought.1.1 (by omega) (by omega) (by omega) (by omega) (by omega) (by omega) hw) mi_X9_worthBy q2748 gcX9 h.1.1 ⟨rfl, rfl⟩ rfl ⟨Nat.le_refl _, Nat.le_refl _⟩ rfl dX9_project_56 (fun r M1 hr => ?_)
        obtain ⟨rfl, hr⟩ := hr
        have h := h.tr hr
        refine x_iload_n C dX9_project_59 rfl rfl ?_
        refine x_V3J C (met_X9_adjustedBy l C.1 h.1 ((hs1.2.2 21 (by decide) (by decide)).trans hb) (hs1.1.trans hA) (by omega) (by omega) hw hR.span) mi_X9_adjustedBy q2765 gcX9 h.1.1 ⟨rfl, rfl⟩ rfl ⟨Nat.le_refl _, Nat.le_refl _⟩ rfl dX9_project_60 (fun r M1 hr => ?_)
        obtain ⟨rfl, rfl⟩ := hr
        refine x_lstore C dX9_project_63 (gs2_4 rfl) rfl ?_
        refine x_aload_n C dX9_project_65 rfl rfl ?_
        refine x_iload_n C dX9_project_66 rfl rfl ?_
        refine x_V1I C (met_X9_isThrough l C.1 h.1 ((hs1.2.2 21 (by decide) (by decide)).trans hb) hR.thr.1.1 (by omega) (by omega) (by omega)) mi_X9_isThrough q2789 gcX9 h.1.1 ⟨rfl, rfl⟩ rfl ⟨Nat.le_refl _, Nat.le_refl _⟩ rfl dX9_project_67 (fun r M1 hr => ?_)
        rcases hr with ⟨rfl, rfl, b67⟩ | ⟨rfl, rfl, b67⟩
        · -- true
          refine x_if_eqF (tgt := 90) C (by decide) dX9_project_70 rfl ?_
          refine x_aload_n C dX9_project_73 rfl rfl ?_
          refine x_iload_n C dX9_project_74 rfl rfl ?_
          refine x_bipush C dX9_project_75 kb_10 ?_
          refine x_V2I C (met_X9_at l C.1 h.1 ((hs1.2.2 21 (by decide) (by decide)).trans hb) (by omega) (by omega) (by omega)) mi_X9_at q2653 gcX9 h.1.1 ⟨rfl, rfl⟩ rfl ⟨Nat.le_refl _, Nat.le_refl _⟩ rfl dX9_project_77 (fun r M1 hr => ?_)
          obtain ⟨rfl, rfl⟩ := hr
          refine x_i2l C dX9_project_80 ?_
          refine x_iload_n C dX9_project_81 rfl rfl ?_
          refine x_i2l C dX9_project_82 ?_
          refine x_lload C dX9_project_83 rfl ?_
          refine x_lmul C dX9_project_85 ?_
          refine x_ladd C dX9_project_86 ?_
          refine x_goto (tgt := 104) C dX9_project_87 rfl ?_
          refine x_l2i C dX9_project_104 ?_
          exact x_iret C dX9_project_105 ⟨Nat.le_refl _, Nat.le_refl _⟩ (gq h (by first | exact hs1 | exact hs1.y | exact hs1.y7 | exact hs1.yy7) (by unfold qPrj; simp only [ean]; rw [if_pos b7, if_neg b15, if_pos b30, if_pos b67]; first | done | assumption | rfl))
        · -- false
          refine x_if_eqT (tgt := 90) C (by decide) dX9_project_70 rfl ?_
          refine x_aload_n C dX9_project_90 rfl rfl ?_
          refine x_iload_n C dX9_project_91 rfl rfl ?_
          refine x_iload_n C dX9_project_92 rfl rfl ?_
          refine x_V2J C (met_X9_firstTaken l C.1 h.1 ((hs1.2.2 21 (by decide) (by decide)).trans hb) (hs1.1.trans hA) (by omega) (by omega) hw) mi_X9_firstTaken q2761 gcX9 h.1.1 ⟨rfl, rfl⟩ rfl ⟨Nat.le_refl _, Nat.le_refl _⟩ rfl dX9_project_93 (fun r M1 hr => ?_)
          obtain ⟨rfl, rfl⟩ := hr
          refine x_iload_n C dX9_project_96 rfl rfl ?_
          refine x_iconst C dX9_project_97 kc_1 ?_
          refine x_isub C dX9_project_98 ?_
          refine x_i2l C dX9_project_99 ?_
          refine x_lload C dX9_project_100 rfl ?_
          refine x_lmul C dX9_project_102 ?_
          refine x_ladd C dX9_project_103 ?_
          refine x_l2i C dX9_project_104 ?_
          exact x_iret C dX9_project_105 ⟨Nat.le_refl _, Nat.le_refl _⟩ (gq h (by first | exact hs1 | exact hs1.y | exact hs1.y7 | exact hs1.yy7) (by unfold qPrj; simp only [ean]; rw [if_pos b7, if_neg b15, if_pos b30, if_neg b67]; first | done | assumption | rfl))
      · -- false
        refine x_if_neF (tgt := 40) C (by decide) dX9_project_33 rfl ?_
        refine x_ldcw C dX9_project_36 q2817 ?_
        exact x_iret C dX9_project_39 ⟨Nat.le_refl _, Nat.le_refl _⟩ (gq h (by first | exact hs1 | exact hs1.y | exact hs1.y7 | exact hs1.yy7) (by unfold qPrj; simp only [ean]; rw [if_pos b7, if_neg b15, if_neg b30]; first | done | assumption | rfl))
  · -- false
    refine x_if_eqT (tgt := 36) C (by decide) dX9_project_10 rfl ?_
    refine x_ldcw C dX9_project_36 q2817 ?_
    exact x_iret C dX9_project_39 ⟨Nat.le_refl _, Nat.le_refl _⟩ (gq h (by first | exact hs1 | exact hs1.y | exact hs1.y7 | exact hs1.yy7) (by unfold qPrj; rw [if_neg b7]; first | done | assumption | rfl))
theorem mi_X9_byBasis : gMV RX9 yX9_byBasis cX9_byBasis 5 (some .int) 3 := ⟨q2863, q2864, q165, q2865, by decide +kernel⟩
set_option maxHeartbeats 4000000 in
set_option maxRecDepth 100000 in
theorem met_X9_byBasis (l : Launch) {G : gG} (hG : gOK G) {ad : Nat → Nat} {σ : mS} {M0 : gM} {b : Nat} {B : Nat → Int32} {t q bs : Int32} {A : Nat → Nat → Int32} {T : Nat} (h : MR G ad (sb σ b B) M0) (hb : mI σ 21 = nI b) (hA : mA σ = A) (hT : mI σ 11 = nI T) (hb0_ : b < 23) (hw : wT T A) (hB : wB T B) : Met l yX9_byBasis (ws_ yX9_byBasis cX9_byBasis 5 (some .int)) ({ frames := 5, cells := 0, slots := 0, locals := 121 }) (gPre G M0 [.ref (ad 0), .int (t), .int (q), .int (bs)]) (gQ G (gI (fun r M1 => ∃ σ', sQ σ σ' ∧ MF G ad M0 (sb σ' b B) M1 ∧ qBB A T B t q bs = r))) 0 0 (gA G) := by
  refine gMet (L0 := [some (.ref (ad 0)), some (.int (t)), some (.int (q)), some (.int (bs)), none]) RX9 hG (by decide +kernel) rfl (Nat.le_of_ble_eq_true rfl) rfl ?_
  intro p e s m args below meth c C hnm
  have h := MF.rf h
  have hT4 := hw.T4
  have hnw : B 0 = nI (pNow B) := hB.now.1
  have hnow : pNow B ≤ 63 := hB.now.2
  have hna : B 1865 = nI (dN (B 1865)) := hB.na.1
  have hna8 : dN (B 1865) ≤ 8 := hB.na.2
  have hkp : B 1867 = nI (dN (B 1867)) := hB.kept.1
  have hkp40 : dN (B 1867) ≤ 40 := hB.kept.2
  refine x_aload_n C dX9_byBasis_0 rfl rfl ?_
  refine x_iconst C dX9_byBasis_1 kc_0 ?_
  refine m_put C h 2 rfl q2411 rfl rfl rfl rfl dX9_byBasis_2 (fun M h => ?_)
  obtain ⟨σ1, hs1, h⟩ : ∃ σ', sQ σ σ' ∧ MF G ad M0 (sb σ' b B) M := ⟨_, sQ.p2, h⟩
  refine x_aload_n C dX9_byBasis_5 rfl rfl ?_
  refine x_iload_n C dX9_byBasis_6 rfl rfl ?_
  refine x_V1I C (met_X9_isTrader l C.1 h.1 ((hs1.2.2 11 (by decide) (by decide)).trans hT)) mi_X9_isTrader q2613 gcX9 h.1.1 ⟨rfl, rfl⟩ rfl ⟨Nat.le_refl _, Nat.le_refl _⟩ rfl dX9_byBasis_7 (fun r M1 hr => ?_)
  rcases hr with ⟨rfl, rfl, b7⟩ | ⟨rfl, rfl, b7⟩
  · -- true
    obtain ⟨tn, rfl, hltn⟩ := iT.ex b7 (by omega)
    have etn : dN (nI tn) = tn := dN_nI (by omega)
    refine x_if_eqF (tgt := 37) C (by decide) dX9_byBasis_10 rfl ?_
    refine x_iload_n C dX9_byBasis_13 rfl rfl ?_
    refine x_iconst C dX9_byBasis_14 kc_0 ?_
    refine x_aload_n C dX9_byBasis_15 rfl rfl ?_
    refine x_iconst C dX9_byBasis_16 kc_0 ?_
    refine x_V1I C (met_X9_of l C.1 h.1 ((hs1.2.2 21 (by decide) (by decide)).trans hb) (by omega) (by omega)) mi_X9_of q2389 gcX9 h.1.1 ⟨rfl, rfl⟩ rfl ⟨Nat.le_refl _, Nat.le_refl _⟩ rfl dX9_byBasis_17 (fun r M1 hr => ?_)
    obtain ⟨rfl, hr⟩ := hr
    have hr := hr.symm.trans (show _ = nI (pNow B) from hnw)
    subst hr
    refine x_iconst C dX9_byBasis_20 kc_1 ?_
    refine x_isub C dX9_byBasis_21 ?_
    refine x_S3I C (met_X9_isIn l C.1) mi_X9_isIn q2550 ⟨rfl, rfl⟩ rfl ⟨Nat.le_refl _, Nat.le_refl _⟩ rfl dX9_byBasis_22 (fun r M1 hr => ?_)
    rcases hr with ⟨rfl, rfl, b22⟩ | ⟨rfl, rfl, b22⟩
    · -- true
      obtain ⟨qn, rfl, hlqn⟩ := iI_m1 (w := pNow B) (by omega) b22
      have eqn : dN (nI qn) = qn := dN_nI (by omega)
      refine x_if_eqF (tgt := 37) C (by decide) dX9_byBasis_25 rfl ?_
      refine x_iload_n C dX9_byBasis_28 rfl rfl ?_
      refine x_iconst C dX9_byBasis_29 kc_0 ?_
      refine x_iconst C dX9_byBasis_30 kc_1 ?_
      refine x_S3I C (met_X9_isIn l C.1) mi_X9_isIn q2550 ⟨rfl, rfl⟩ rfl ⟨Nat.le_refl _, Nat.le_refl _⟩ rfl dX9_byBasis_31 (fun r M1 hr => ?_)
      rcases hr with ⟨rfl, rfl, b31⟩ | ⟨rfl, rfl, b31⟩
      · -- true
        refine x_if_neT (tgt := 41) C (by decide) dX9_byBasis_34 rfl ?_
        refine x_aload_n C dX9_byBasis_41 rfl rfl ?_
        refine x_iload_n C dX9_byBasis_42 rfl rfl ?_
        refine x_iload_n C dX9_byBasis_43 rfl rfl ?_
        refine x_iload_n C dX9_byBasis_44 rfl rfl ?_
        refine x_V3I C (met_X9_provisionalBy l C.1 h.1 ((hs1.2.2 21 (by decide) (by decide)).trans hb) (hs1.1.trans hA) (by omega) (by omega) (by omega)) mi_X9_provisionalBy q2681 gcX9 h.1.1 ⟨rfl, rfl⟩ rfl ⟨Nat.le_refl _, Nat.le_refl _⟩ rfl dX9_byBasis_45 (fun r M1 hr => ?_)
        obtain ⟨rfl, hr⟩ := hr
        have h := h.tr hr
        refine x_istore C dX9_byBasis_48 (gs1_4 rfl) rfl ?_
        refine x_aload_n C dX9_byBasis_50 rfl rfl ?_
        refine x_iload C dX9_byBasis_51 rfl ?_
        refine x_aload_n C dX9_byBasis_53 rfl rfl ?_
        refine m_get C h 17 rfl q2426 rfl dX9_byBasis_54 ?_
        refine x_iconst C dX9_byBasis_57 kc_2 ?_
        refine m_ald C h 6 (N := 14) (by decide) rfl rfl (by omega) (congrFun (congrFun (hs1.1.trans hA) 6) _) dX9_byBasis_58 ?_
        refine x_iconst C dX9_byBasis_59 kc_4 ?_
        refine x_idiv C dX9_byBasis_60 (by decide) ?_
        refine x_V2I C (met_X9_back1 l C.1 h.1 ((hs1.2.2 21 (by decide) (by decide)).trans hb) (hs1.1.trans hA) (by omega) hw.step hw.step10) mi_X9_back1 q2720 gcX9 h.1.1 ⟨rfl, rfl⟩ rfl ⟨Nat.le_refl _, Nat.le_refl _⟩ rfl dX9_byBasis_61 (fun r M1 hr => ?_)
        obtain ⟨rfl, hr⟩ := hr
        have h := h.tr hr
        exact x_iret C dX9_byBasis_64 ⟨Nat.le_refl _, Nat.le_refl _⟩ (gq h (by first | exact hs1 | exact hs1.y | exact hs1.y7 | exact hs1.yy7) (by unfold qBB; simp only [etn, eqn]; rw [if_pos b7, if_pos b22, if_pos b31]; first | done | assumption | rfl))
      · -- false
        refine x_if_neF (tgt := 41) C (by decide) dX9_byBasis_34 rfl ?_
        refine x_ldcw C dX9_byBasis_37 q2817 ?_
        exact x_iret C dX9_byBasis_40 ⟨Nat.le_refl _, Nat.le_refl _⟩ (gq h (by first | exact hs1 | exact hs1.y | exact hs1.y7 | exact hs1.yy7) (by unfold qBB; simp only [etn, eqn]; rw [if_pos b7, if_pos b22, if_neg b31]; first | done | assumption | rfl))
    · -- false
      refine x_if_eqT (tgt := 37) C (by decide) dX9_byBasis_25 rfl ?_
      refine x_ldcw C dX9_byBasis_37 q2817 ?_
      exact x_iret C dX9_byBasis_40 ⟨Nat.le_refl _, Nat.le_refl _⟩ (gq h (by first | exact hs1 | exact hs1.y | exact hs1.y7 | exact hs1.yy7) (by unfold qBB; simp only [etn]; rw [if_pos b7, if_neg b22]; first | done | assumption | rfl))
  · -- false
    refine x_if_eqT (tgt := 37) C (by decide) dX9_byBasis_10 rfl ?_
    refine x_ldcw C dX9_byBasis_37 q2817 ?_
    exact x_iret C dX9_byBasis_40 ⟨Nat.le_refl _, Nat.le_refl _⟩ (gq h (by first | exact hs1 | exact hs1.y | exact hs1.y7 | exact hs1.yy7) (by unfold qBB; rw [if_neg b7]; first | done | assumption | rfl))
theorem mi_X9_asset : gMV RX9 yX9_asset cX9_asset 3 (some .int) 2 := ⟨q2786, q2787, q165, q2788, by decide +kernel⟩
set_option maxHeartbeats 4000000 in
set_option maxRecDepth 100000 in
theorem met_X9_asset (l : Launch) {G : gG} (hG : gOK G) {ad : Nat → Nat} {σ : mS} {M0 : gM} {b : Nat} {B : Nat → Int32} {a u : Int32} {A : Nat → Nat → Int32} {T : Nat} (h : MR G ad (sb σ b B) M0) (hb : mI σ 21 = nI b) (hA : mA σ = A) (hT : mI σ 11 = nI T) (hb0_ : b < 23) (hw : wT T A) (hB : wB T B) : Met l yX9_asset (ws_ yX9_asset cX9_asset 3 (some .int)) ({ frames := 4, cells := 0, slots := 0, locals := 95 }) (gPre G M0 [.ref (ad 0), .int (a), .int (u)]) (gQ G (gI (fun r M1 => ∃ σ', sQ σ σ' ∧ MF G ad M0 (sb σ' b B) M1 ∧ qAst A B a u = r))) 0 0 (gA G) := by
  refine gMet (L0 := [some (.ref (ad 0)), some (.int (a)), some (.int (u))]) RX9 hG (by decide +kernel) rfl (Nat.le_of_ble_eq_true rfl) rfl ?_
  intro p e s m args below meth c C hnm
  have h := MF.rf h
  have hT4 := hw.T4
  have hnw : B 0 = nI (pNow B) := hB.now.1
  have hnow : pNow B ≤ 63 := hB.now.2
  have hna : B 1865 = nI (dN (B 1865)) := hB.na.1
  have hna8 : dN (B 1865) ≤ 8 := hB.na.2
  have hkp : B 1867 = nI (dN (B 1867)) := hB.kept.1
  have hkp40 : dN (B 1867) ≤ 40 := hB.kept.2
  refine x_aload_n C dX9_asset_0 rfl rfl ?_
  refine x_iconst C dX9_asset_1 kc_0 ?_
  refine m_put C h 2 rfl q2411 rfl rfl rfl rfl dX9_asset_2 (fun M h => ?_)
  obtain ⟨σ1, hs1, h⟩ : ∃ σ', sQ σ σ' ∧ MF G ad M0 (sb σ' b B) M := ⟨_, sQ.p2, h⟩
  refine x_aload_n C dX9_asset_5 rfl rfl ?_
  refine x_iload_n C dX9_asset_6 rfl rfl ?_
  refine x_V1I C (met_X9_isAsset l C.1 h.1 ((hs1.2.2 21 (by decide) (by decide)).trans hb) hna (by omega)) mi_X9_isAsset q2645 gcX9 h.1.1 ⟨rfl, rfl⟩ rfl ⟨Nat.le_refl _, Nat.le_refl _⟩ rfl dX9_asset_7 (fun r M1 hr => ?_)
  rcases hr with ⟨rfl, rfl, b7⟩ | ⟨rfl, rfl, b7⟩
  · -- true
    obtain ⟨an, rfl, hlan⟩ := iT.ex b7 (by omega)
    have ean : dN (nI an) = an := dN_nI (by omega)
    have hR : wR T (pNow B) (pYr B) B an := hB.row hlan
    obtain ⟨hr0, hr0b⟩ : dN (B (2084 + 48 * an + 0)) ≤ 3 ∧ dN (B (2084 + 48 * an + 0)) < T := ⟨hR.owner.1.2, hR.owner.2⟩
    have hr5 := hR.bought.2
    have hr7 := hR.sold.2
    have hr47 := hR.thr.1.2
    refine x_if_neT (tgt := 15) C (by decide) dX9_asset_10 rfl ?_
    refine x_iload_n C dX9_asset_15 rfl rfl ?_
    rcases tab_ex u 9 (by decide) with ⟨k16, rfl, hk16⟩ | h16
    · -- in
      rcases (by omega : k16 = 0 ∨ k16 = 1 ∨ k16 = 2 ∨ k16 = 3 ∨ k16 = 4 ∨ k16 = 5 ∨ k16 = 6 ∨ k16 = 7 ∨ k16 = 8 ∨ k16 = 9) with rfl | rfl | rfl | rfl | rfl | rfl | rfl | rfl | rfl | rfl
      · -- case 0
        refine x_tableIn (off := 56) (tgt := 72) C dX9_asset_16 (by decide +kernel) (by decide +kernel) (by decide +kernel) rfl ?_
        refine x_aload_n C dX9_asset_72 rfl rfl ?_
        refine x_iload_n C dX9_asset_73 rfl rfl ?_
        refine x_iconst C dX9_asset_74 kc_0 ?_
        refine x_V2I C (met_X9_at l C.1 h.1 ((hs1.2.2 21 (by decide) (by decide)).trans hb) (by omega) (by omega) (by omega)) mi_X9_at q2653 gcX9 h.1.1 ⟨rfl, rfl⟩ rfl ⟨Nat.le_refl _, Nat.le_refl _⟩ rfl dX9_asset_75 (fun r M1 hr => ?_)
        obtain ⟨rfl, hr⟩ := hr
        have hr := hr.symm.trans (show _ = nI (dN (B (2084 + 48 * an + 0))) from hR.owner.1.1)
        subst hr
        exact x_iret C dX9_asset_78 ⟨Nat.le_refl _, Nat.le_refl _⟩ (gq h (by first | exact hs1 | exact hs1.y | exact hs1.y7 | exact hs1.yy7) (by unfold qAst; simp only [ean]; rw [if_pos b7, if_pos trivial]; first | done | assumption | rfl))
      · -- case 1
        refine x_tableIn (off := 63) (tgt := 79) C dX9_asset_16 (by decide +kernel) (by decide +kernel) (by decide +kernel) rfl ?_
        refine x_aload_n C dX9_asset_79 rfl rfl ?_
        refine x_iload_n C dX9_asset_80 rfl rfl ?_
        refine x_iconst C dX9_asset_81 kc_2 ?_
        refine x_V2I C (met_X9_at l C.1 h.1 ((hs1.2.2 21 (by decide) (by decide)).trans hb) (by omega) (by omega) (by omega)) mi_X9_at q2653 gcX9 h.1.1 ⟨rfl, rfl⟩ rfl ⟨Nat.le_refl _, Nat.le_refl _⟩ rfl dX9_asset_82 (fun r M1 hr => ?_)
        obtain ⟨rfl, rfl⟩ := hr
        exact x_iret C dX9_asset_85 ⟨Nat.le_refl _, Nat.le_refl _⟩ (gq h (by first | exact hs1 | exact hs1.y | exact hs1.y7 | exact hs1.yy7) (by unfold qAst; simp only [ean]; rw [if_pos b7, if_neg (nI_nn (by decide) (by decide) (by decide)), if_pos trivial]; first | done | assumption | rfl))
      · -- case 2
        refine x_tableIn (off := 70) (tgt := 86) C dX9_asset_16 (by decide +kernel) (by decide +kernel) (by decide +kernel) rfl ?_
        refine x_aload_n C dX9_asset_86 rfl rfl ?_
        refine x_iload_n C dX9_asset_87 rfl rfl ?_
        refine x_iconst C dX9_asset_88 kc_3 ?_
        refine x_V2I C (met_X9_at l C.1 h.1 ((hs1.2.2 21 (by decide) (by decide)).trans hb) (by omega) (by omega) (by omega)) mi_X9_at q2653 gcX9 h.1.1 ⟨rfl, rfl⟩ rfl ⟨Nat.le_refl _, Nat.le_refl _⟩ rfl dX9_asset_89 (fun r M1 hr => ?_)
        obtain ⟨rfl, rfl⟩ := hr
        exact x_iret C dX9_asset_92 ⟨Nat.le_refl _, Nat.le_refl _⟩ (gq h (by first | exact hs1 | exact hs1.y | exact hs1.y7 | exact hs1.yy7) (by unfold qAst; simp only [ean]; rw [if_pos b7, if_neg (nI_nn (by decide) (by decide) (by decide)), if_neg (nI_nn (by decide) (by decide) (by decide)), if_pos trivial]; first | done | assumption | rfl))
      · -- case 3
        refine x_tableIn (off := 77) (tgt := 93) C dX9_asset_16 (by decide +kernel) (by decide +kernel) (by decide +kernel) rfl ?_
        refine x_aload_n C dX9_asset_93 rfl rfl ?_
        refine x_iload_n C dX9_asset_94 rfl rfl ?_
        refine x_iconst C dX9_asset_95 kc_4 ?_
        refine x_V2I C (met_X9_at l C.1 h.1 ((hs1.2.2 21 (by decide) (by decide)).trans hb) (by omega) (by omega) (by omega)) mi_X9_at q2653 gcX9 h.1.1 ⟨rfl, rfl⟩ rfl ⟨Nat.le_refl _, Nat.le_refl _⟩ rfl dX9_asset_96 (fun r M1 hr => ?_)
        obtain ⟨rfl, rfl⟩ := hr
        exact x_iret C dX9_asset_99 ⟨Nat.le_refl _, Nat.le_refl _⟩ (gq h (by first | exact hs1 | exact hs1.y | exact hs1.y7 | exact hs1.yy7) (by unfold qAst; simp only [ean]; rw [if_pos b7, if_neg (nI_nn (by decide) (by decide) (by decide)), if_neg (nI_nn (by decide) (by decide) (by decide)), if_neg (nI_nn (by decide) (by decide) (by decide)), if_pos trivial]; first | done | assumption | rfl))
      · -- case 4
        refine x_tableIn (off := 84) (tgt := 100) C dX9_asset_16 (by decide +kernel) (by decide +kernel) (by decide +kernel) rfl ?_
        refine x_aload_n C dX9_asset_100 rfl rfl ?_
        refine x_iload_n C dX9_asset_101 rfl rfl ?_
        refine x_iconst C dX9_asset_102 kc_5 ?_
        refine x_V2I C (met_X9_at l C.1 h.1 ((hs1.2.2 21 (by decide) (by decide)).trans hb) (by omega) (by omega) (by omega)) mi_X9_at q2653 gcX9 h.1.1 ⟨rfl, rfl⟩ rfl ⟨Nat.le_refl _, Nat.le_refl _⟩ rfl dX9_asset_103 (fun r M1 hr => ?_)
        obtain ⟨rfl, hr⟩ := hr
        have hr := hr.symm.trans (show _ = nI (dN (B (2084 + 48 * an + 5))) from hR.bought.1.1)
        subst hr
        exact x_iret C dX9_asset_106 ⟨Nat.le_refl _, Nat.le_refl _⟩ (gq h (by first | exact hs1 | exact hs1.y | exact hs1.y7 | exact hs1.yy7) (by unfold qAst; simp only [ean]; rw [if_pos b7, if_neg (nI_nn (by decide) (by decide) (by decide)), if_neg (nI_nn (by decide) (by decide) (by decide)), if_neg (nI_nn (by decide) (by decide) (by decide)), if_neg (nI_nn (by decide) (by decide) (by decide)), if_pos trivial]; first | done | assumption | rfl))
      · -- case 5
        refine x_tableIn (off := 91) (tgt := 107) C dX9_asset_16 (by decide +kernel) (by decide +kernel) (by decide +kernel) rfl ?_
        refine x_aload_n C dX9_asset_107 rfl rfl ?_
        refine x_iload_n C dX9_asset_108 rfl rfl ?_
        refine x_V1I C (met_X9_isThrough l C.1 h.1 ((hs1.2.2 21 (by decide) (by decide)).trans hb) hR.thr.1.1 (by omega) (by omega) (by omega)) mi_X9_isThrough q2789 gcX9 h.1.1 ⟨rfl, rfl⟩ rfl ⟨Nat.le_refl _, Nat.le_refl _⟩ rfl dX9_asset_109 (fun r M1 hr => ?_)
        rcases hr with ⟨rfl, rfl, b109⟩ | ⟨rfl, rfl, b109⟩
        · -- true
          refine x_if_eqF (tgt := 125) C (by decide) dX9_asset_112 rfl ?_
          refine x_aload_n C dX9_asset_115 rfl rfl ?_
          refine x_iload_n C dX9_asset_116 rfl rfl ?_
          refine x_bipush C dX9_asset_117 kb_6 ?_
          refine x_V2I C (met_X9_at l C.1 h.1 ((hs1.2.2 21 (by decide) (by decide)).trans hb) (by omega) (by omega) (by omega)) mi_X9_at q2653 gcX9 h.1.1 ⟨rfl, rfl⟩ rfl ⟨Nat.le_refl _, Nat.le_refl _⟩ rfl dX9_asset_119 (fun r M1 hr => ?_)
          obtain ⟨rfl, rfl⟩ := hr
          refine x_goto (tgt := 127) C dX9_asset_122 rfl ?_
          exact x_iret C dX9_asset_127 ⟨Nat.le_refl _, Nat.le_refl _⟩ (gq h (by first | exact hs1 | exact hs1.y | exact hs1.y7 | exact hs1.yy7) (by unfold qAst; simp only [ean]; rw [if_pos b7, if_neg (nI_nn (by decide) (by decide) (by decide)), if_neg (nI_nn (by decide) (by decide) (by decide)), if_neg (nI_nn (by decide) (by decide) (by decide)), if_neg (nI_nn (by decide) (by decide) (by decide)), if_neg (nI_nn (by decide) (by decide) (by decide)), if_pos trivial, if_pos b109]; first | done | assumption | rfl))
        · -- false
          refine x_if_eqT (tgt := 125) C (by decide) dX9_asset_112 rfl ?_
          refine x_bipush C dX9_asset_125 kb_m2 ?_
          exact x_iret C dX9_asset_127 ⟨Nat.le_refl _, Nat.le_refl _⟩ (gq h (by first | exact hs1 | exact hs1.y | exact hs1.y7 | exact hs1.yy7) (by unfold qAst; simp only [ean]; rw [if_pos b7, if_neg (nI_nn (by decide) (by decide) (by decide)), if_neg (nI_nn (by decide) (by decide) (by decide)), if_neg (nI_nn (by decide) (by decide) (by decide)), if_neg (nI_nn (by decide) (by decide) (by decide)), if_neg (nI_nn (by decide) (by decide) (by decide)), if_pos trivial, if_neg b109]; first | done | assumption | rfl))
      · -- case 6
        refine x_tableIn (off := 112) (tgt := 128) C dX9_asset_16 (by decide +kernel) (by decide +kernel) (by decide +kernel) rfl ?_
        refine x_aload_n C dX9_asset_128 rfl rfl ?_
        refine x_iload_n C dX9_asset_129 rfl rfl ?_
        refine x_bipush C dX9_asset_130 kb_7 ?_
        refine x_V2I C (met_X9_at l C.1 h.1 ((hs1.2.2 21 (by decide) (by decide)).trans hb) (by omega) (by omega) (by omega)) mi_X9_at q2653 gcX9 h.1.1 ⟨rfl, rfl⟩ rfl ⟨Nat.le_refl _, Nat.le_refl _⟩ rfl dX9_asset_132 (fun r M1 hr => ?_)
        obtain ⟨rfl, hr⟩ := hr
        have hr := hr.symm.trans (show _ = nI (dN (B (2084 + 48 * an + 7))) from hR.sold.1)
        subst hr
        refine x_if_leN (tgt := 150) C (by omega) dX9_asset_135 rfl (fun c135 => ?_) (fun c135 => ?_)
        · -- 150
          refine x_bipush C dX9_asset_150 kb_m2 ?_
          exact x_iret C dX9_asset_152 ⟨Nat.le_refl _, Nat.le_refl _⟩ (gq h (by first | exact hs1 | exact hs1.y | exact hs1.y7 | exact hs1.yy7) (by unfold qAst; simp only [ean]; rw [if_pos b7, if_neg (nI_nn (by decide) (by decide) (by decide)), if_neg (nI_nn (by decide) (by decide) (by decide)), if_neg (nI_nn (by decide) (by decide) (by decide)), if_neg (nI_nn (by decide) (by decide) (by decide)), if_neg (nI_nn (by decide) (by decide) (by decide)), if_neg (nI_nn (by decide) (by decide) (by decide)), if_pos trivial, if_neg (by omega)]; first | done | assumption | rfl))
        · -- 138
          refine x_aload_n C dX9_asset_138 rfl rfl ?_
          refine x_iload_n C dX9_asset_139 rfl rfl ?_
          refine x_bipush C dX9_asset_140 kb_7 ?_
          refine x_V2I C (met_X9_at l C.1 h.1 ((hs1.2.2 21 (by decide) (by decide)).trans hb) (by omega) (by omega) (by omega)) mi_X9_at q2653 gcX9 h.1.1 ⟨rfl, rfl⟩ rfl ⟨Nat.le_refl _, Nat.le_refl _⟩ rfl dX9_asset_142 (fun r M1 hr => ?_)
          obtain ⟨rfl, hr⟩ := hr
          have hr := hr.symm.trans (show _ = nI (dN (B (2084 + 48 * an + 7))) from hR.sold.1)
          subst hr
          refine x_iconst C dX9_asset_145 kc_1 ?_
          refine x_isubN C (by omega) dX9_asset_146 ?_
          refine x_goto (tgt := 152) C dX9_asset_147 rfl ?_
          exact x_iret C dX9_asset_152 ⟨Nat.le_refl _, Nat.le_refl _⟩ (gq h (by first | exact hs1 | exact hs1.y | exact hs1.y7 | exact hs1.yy7) (by unfold qAst; simp only [ean]; rw [if_pos b7, if_neg (nI_nn (by decide) (by decide) (by decide)), if_neg (nI_nn (by decide) (by decide) (by decide)), if_neg (nI_nn (by decide) (by decide) (by decide)), if_neg (nI_nn (by decide) (by decide) (by decide)), if_neg (nI_nn (by decide) (by decide) (by decide)), if_neg (nI_nn (by decide) (by decide) (by decide)), if_pos trivial, if_pos (by omega)]; first | done | assumption | rfl))
      · -- case 7
        refine x_tableIn (off := 137) (tgt := 153) C dX9_asset_16 (by decide +kernel) (by decide +kernel) (by decide +kernel) rfl ?_
        refine x_aload_n C dX9_asset_153 rfl rfl ?_
        refine x_iload_n C dX9_asset_154 rfl rfl ?_
        refine x_bipush C dX9_asset_155 kb_9 ?_
        refine x_V2I C (met_X9_at l C.1 h.1 ((hs1.2.2 21 (by decide) (by decide)).trans hb) (by omega) (by omega) (by omega)) mi_X9_at q2653 gcX9 h.1.1 ⟨rfl, rfl⟩ rfl ⟨Nat.le_refl _, Nat.le_refl _⟩ rfl dX9_asset_157 (fun r M1 hr => ?_)
        obtain ⟨rfl, rfl⟩ := hr
        exact x_iret C dX9_asset_160 ⟨Nat.le_refl _, Nat.le_refl _⟩ (gq h (by first | exact hs1 | exact hs1.y | exact hs1.y7 | exact hs1.yy7) (by unfold qAst; simp only [ean]; rw [if_pos b7, if_neg (nI_nn (by decide) (by decide) (by decide)), if_neg (nI_nn (by decide) (by decide) (by decide)), if_neg (nI_nn (by decide) (by decide) (by decide)), if_neg (nI_nn (by decide) (by decide) (by decide)), if_neg (nI_nn (by decide) (by decide) (by decide)), if_neg (nI_nn (by decide) (by decide) (by decide)), if_neg (nI_nn (by decide) (by decide) (by decide)), if_pos trivial]; first | done | assumption | rfl))
      · -- case 8
        refine x_tableIn (off := 145) (tgt := 161) C dX9_asset_16 (by decide +kernel) (by decide +kernel) (by decide +kernel) rfl ?_
        refine x_aload_n C dX9_asset_161 rfl rfl ?_
        refine x_iload_n C dX9_asset_162 rfl rfl ?_
        refine x_iconst C dX9_asset_163 kc_1 ?_
        refine x_V2I C (met_X9_at l C.1 h.1 ((hs1.2.2 21 (by decide) (by decide)).trans hb) (by omega) (by omega) (by omega)) mi_X9_at q2653 gcX9 h.1.1 ⟨rfl, rfl⟩ rfl ⟨Nat.le_refl _, Nat.le_refl _⟩ rfl dX9_asset_164 (fun r M1 hr => ?_)
        obtain ⟨rfl, rfl⟩ := hr
        exact x_iret C dX9_asset_167 ⟨Nat.le_refl _, Nat.le_refl _⟩ (gq h (by first | exact hs1 | exact hs1.y | exact hs1.y7 | exact hs1.yy7) (by unfold qAst; simp only [ean]; rw [if_pos b7, if_neg (nI_nn (by decide) (by decide) (by decide)), if_neg (nI_nn (by decide) (by decide) (by decide)), if_neg (nI_nn (by decide) (by decide) (by decide)), if_neg (nI_nn (by decide) (by decide) (by decide)), if_neg (nI_nn (by decide) (by decide) (by decide)), if_neg (nI_nn (by decide) (by decide) (by decide)), if_neg (nI_nn (by decide) (by decide) (by decide)), if_neg (nI_nn (by decide) (by decide) (by decide)), if_pos trivial]; first | done | assumption | rfl))
      · -- case 9
        refine x_tableIn (off := 152) (tgt := 168) C dX9_asset_16 (by decide +kernel) (by decide +kernel) (by decide +kernel) rfl ?_
        refine x_aload_n C dX9_asset_168 rfl rfl ?_
        refine x_iload_n C dX9_asset_169 rfl rfl ?_
        refine x_V1I C (met_X9_isThrough l C.1 h.1 ((hs1.2.2 21 (by decide) (by decide)).trans hb) hR.thr.1.1 (by omega) (by omega) (by omega)) mi_X9_isThrough q2789 gcX9 h.1.1 ⟨rfl, rfl⟩ rfl ⟨Nat.le_refl _, Nat.le_refl _⟩ rfl dX9_asset_170 (fun r M1 hr => ?_)
        rcases hr with ⟨rfl, rfl, b170⟩ | ⟨rfl, rfl, b170⟩
        · -- true
          refine x_if_eqF (tgt := 192) C (by decide) dX9_asset_173 rfl ?_
          refine x_aload_n C dX9_asset_176 rfl rfl ?_
          refine x_iload_n C dX9_asset_177 rfl rfl ?_
          refine x_aload_n C dX9_asset_178 rfl rfl ?_
          refine x_iload_n C dX9_asset_179 rfl rfl ?_
          refine x_bipush C dX9_asset_180 kb_6 ?_
          refine x_V2I C (met_X9_at l C.1 h.1 ((hs1.2.2 21 (by decide) (by decide)).trans hb) (by omega) (by omega) (by omega)) mi_X9_at q2653 gcX9 h.1.1 ⟨rfl, rfl⟩ rfl ⟨Nat.le_refl _, Nat.le_refl _⟩ rfl dX9_asset_182 (fun r M1 hr => ?_)
          obtain ⟨rfl, rfl⟩ := hr
          refine x_V2J C (met_X9_firstTaken l C.1 h.1 ((hs1.2.2 21 (by decide) (by decide)).trans hb) (hs1.1.trans hA) (by omega) (by omega) hw) mi_X9_firstTaken q2761 gcX9 h.1.1 ⟨rfl, rfl⟩ rfl ⟨Nat.le_refl _, Nat.le_refl _⟩ rfl dX9_asset_185 (fun r M1 hr => ?_)
          obtain ⟨rfl, rfl⟩ := hr
          refine x_l2i C dX9_asset_188 ?_
          refine x_goto (tgt := 194) C dX9_asset_189 rfl ?_
          exact x_iret C dX9_asset_194 ⟨Nat.le_refl _, Nat.le_refl _⟩ (gq h (by first | exact hs1 | exact hs1.y | exact hs1.y7 | exact hs1.yy7) (by unfold qAst; simp only [ean]; rw [if_pos b7, if_neg (nI_nn (by decide) (by decide) (by decide)), if_neg (nI_nn (by decide) (by decide) (by decide)), if_neg (nI_nn (by decide) (by decide) (by decide)), if_neg (nI_nn (by decide) (by decide) (by decide)), if_neg (nI_nn (by decide) (by decide) (by decide)), if_neg (nI_nn (by decide) (by decide) (by decide)), if_neg (nI_nn (by decide) (by decide) (by decide)), if_neg (nI_nn (by decide) (by decide) (by decide)), if_neg (nI_nn (by decide) (by decide) (by decide)), if_pos trivial, if_pos b170]; first | done | assumption | rfl))
        · -- false
          refine x_if_eqT (tgt := 192) C (by decide) dX9_asset_173 rfl ?_
          refine x_bipush C dX9_asset_192 kb_m2 ?_
          exact x_iret C dX9_asset_194 ⟨Nat.le_refl _, Nat.le_refl _⟩ (gq h (by first | exact hs1 | exact hs1.y | exact hs1.y7 | exact hs1.yy7) (by unfold qAst; simp only [ean]; rw [if_pos b7, if_neg (nI_nn (by decide) (by decide) (by decide)), if_neg (nI_nn (by decide) (by decide) (by decide)), if_neg (nI_nn (by decide) (by decide) (by decide)), if_neg (nI_nn (by decide) (by decide) (by decide)), if_neg (nI_nn (by decide) (by decide) (by decide)), if_neg (nI_nn (by decide) (by decide) (by decide)), if_neg (nI_nn (by decide) (by decide) (by decide)), if_neg (nI_nn (by decide) (by decide) (by decide)), if_neg (nI_nn (by decide) (by decide) (by decide)), if_pos trivial, if_neg b170]; first | done | assumption | rfl))
    · -- out
      refine x_tableOut (tgt := 195) C dX9_asset_16 h16 rfl ?_
      refine x_iconst C dX9_asset_195 kc_m1 ?_
      exact x_iret C dX9_asset_196 ⟨Nat.le_refl _, Nat.le_refl _⟩ (gq h (by first | exact hs1 | exact hs1.y | exact hs1.y7 | exact hs1.yy7) (by unfold qAst; simp only [ean]; rw [if_pos b7, if_neg (tab_ne h16 0 (by decide) (by decide)), if_neg (tab_ne h16 1 (by decide) (by decide)), if_neg (tab_ne h16 2 (by decide) (by decide)), if_neg (tab_ne h16 3 (by decide) (by decide)), if_neg (tab_ne h16 4 (by decide) (by decide)), if_neg (tab_ne h16 5 (by decide) (by decide)), if_neg (tab_ne h16 6 (by decide) (by decide)), if_neg (tab_ne h16 7 (by decide) (by decide)), if_neg (tab_ne h16 8 (by decide) (by decide)), if_neg (tab_ne h16 9 (by decide) (by decide))]; first | done | assumption | rfl))
  · -- false
    refine x_if_neF (tgt := 15) C (by decide) dX9_asset_10 rfl ?_
    refine x_iconst C dX9_asset_13 kc_m1 ?_
    exact x_iret C dX9_asset_14 ⟨Nat.le_refl _, Nat.le_refl _⟩ (gq h (by first | exact hs1 | exact hs1.y | exact hs1.y7 | exact hs1.yy7) (by unfold qAst; rw [if_neg b7]; first | done | assumption | rfl))
