set_option maxRecDepth 100000
theorem mi_X9_sale : gMV RX9 yX9_sale cX9_sale 4 (some .int) 3 := ⟨q2610, q2611, q165, q2612, by decide +kernel⟩
set_option maxHeartbeats 4000000 in
set_option maxRecDepth 100000 in
theorem met_X9_sale (l : Launch) {G : gG} (hG : gOK G) {ad : Nat → Nat} {σ : mS} {M0 : gM} {u : Nat} {B : Nat → Int32} {t k x : Int32} {A : Nat → Nat → Int32} {T : Nat} (h : MR G ad (sb σ 0 B) M0) (hb : mI σ 21 = nI 0) (hu : mI σ 22 = nI u) (hA : mA σ = A) (hT : mI σ 11 = nI T) (hb0_ : u ≤ 20) (hw : wT T A) (hB : wB T B) : Met l yX9_sale (ws_ yX9_sale cX9_sale 4 (some .int)) ({ frames := 2, cells := 0, slots := 0, locals := 44 }) (gPre G M0 [.ref (ad 0), .int (t), .int (k), .int (x)]) (gQ G (gI (fun r M1 => ∃ σ', sQ (tW σ u B (qSale T B t k x).1) σ' ∧ MF G ad M0 σ' M1 ∧ (qSale T B t k x).2 = r))) 0 0 (gA G) := by
  refine gMet (L0 := [some (.ref (ad 0)), some (.int (t)), some (.int (k)), some (.int (x))]) RX9 hG (by decide +kernel) rfl (Nat.le_of_ble_eq_true rfl) rfl ?_
  intro p e s m args below meth c C hnm
  have h := MF.rf h
  have hT4 := hw.T4
  have hnw : B 0 = nI (pNow B) := hB.now.1
  have hnow : pNow B ≤ 63 := hB.now.2
  have hna : B 1865 = nI (dN (B 1865)) := hB.na.1
  have hna8 : dN (B 1865) ≤ 8 := hB.na.2
  have hkp : B 1867 = nI (dN (B 1867)) := hB.kept.1
  have hkp40 : dN (B 1867) ≤ 40 := hB.kept.2
  refine x_aload_n C dX9_sale_0 rfl rfl ?_
  refine x_iconst C dX9_sale_1 kc_0 ?_
  refine m_put C h 2 rfl q2411 rfl rfl rfl rfl dX9_sale_2 (fun M h => ?_)
  obtain ⟨σ1, hs1, h⟩ : ∃ σ', sQ σ σ' ∧ MF G ad M0 (sb σ' 0 B) M := ⟨_, sQ.p2, h⟩
  refine x_aload_n C dX9_sale_5 rfl rfl ?_
  refine x_iload_n C dX9_sale_6 rfl rfl ?_
  refine x_V1I C (met_X9_isTrader l C.1 h.1 ((hs1.2.2 11 (by decide) (by decide)).trans hT)) mi_X9_isTrader q2613 gcX9 h.1.1 ⟨rfl, rfl⟩ rfl ⟨Nat.le_refl _, Nat.le_refl _⟩ rfl dX9_sale_7 (fun r M1 hr => ?_)
  rcases hr with ⟨rfl, rfl, b7⟩ | ⟨rfl, rfl, b7⟩
  · -- true
    obtain ⟨tn, rfl, hltn⟩ := iT.ex b7 (by omega)
    have etn : dN (nI tn) = tn := dN_nI (by omega)
    refine x_if_eqF (tgt := 32) C (by decide) dX9_sale_10 rfl ?_
    refine x_iload_n C dX9_sale_13 rfl rfl ?_
    refine x_iconst C dX9_sale_14 kc_0 ?_
    refine x_iconst C dX9_sale_15 kc_1 ?_
    refine x_S3I C (met_X9_isIn l C.1) mi_X9_isIn q2550 ⟨rfl, rfl⟩ rfl ⟨Nat.le_refl _, Nat.le_refl _⟩ rfl dX9_sale_16 (fun r M1 hr => ?_)
    rcases hr with ⟨rfl, rfl, b16⟩ | ⟨rfl, rfl, b16⟩
    · -- true
      obtain ⟨kn, rfl, hlkn, hhkn⟩ := iI.ex b16 (by omega) (by omega)
      have ekn : dN (nI kn) = kn := dN_nI (by omega)
      refine x_if_eqF (tgt := 32) C (by decide) dX9_sale_19 rfl ?_
      refine x_iload_n C dX9_sale_22 rfl rfl ?_
      refine x_iconst C dX9_sale_23 kc_1 ?_
      refine x_ldc C dX9_sale_24 q2529 ?_
      rw [show (99999 : Int32) = nI 99999 from by decide +kernel]
      refine x_S3I C (met_X9_isIn l C.1) mi_X9_isIn q2550 ⟨rfl, rfl⟩ rfl ⟨Nat.le_refl _, Nat.le_refl _⟩ rfl dX9_sale_26 (fun r M1 hr => ?_)
      rcases hr with ⟨rfl, rfl, b26⟩ | ⟨rfl, rfl, b26⟩
      · -- true
        refine x_if_neT (tgt := 34) C (by decide) dX9_sale_29 rfl ?_
        refine x_aload_n C dX9_sale_34 rfl rfl ?_
        refine x_V0V C (met_X9_canUndo l C.1 h.1 (show mI (sb σ1 0 B) 22 = nI u from ((hs1.2.2 22 (by decide) (by decide)).trans hu)) (by omega)) mi_X9_canUndo q2617 gcX9 h.1.1 ⟨rfl, rfl⟩ rfl ⟨Nat.le_refl _, Nat.le_refl _⟩ rfl dX9_sale_35 (fun M1 hr => ?_)
        have h := h.tr hr
        obtain ⟨σ2, hs2, h⟩ : ∃ σ', sQ (tUn (sb σ1 0 B) u) σ' ∧ MF G ad M0 (sb σ' 0 B) M1 := ⟨_, sQ.rf, (by rw [un_sb]; exact h)⟩
        refine x_aload_n C dX9_sale_38 rfl rfl ?_
        refine x_aload_n C dX9_sale_39 rfl rfl ?_
        refine x_iload_n C dX9_sale_40 rfl rfl ?_
        refine x_aload_n C dX9_sale_41 rfl rfl ?_
        refine x_iconst C dX9_sale_42 kc_0 ?_
        refine x_V1I C (met_X9_of l C.1 h.1 ((hs2.2.2 21 (by decide) (by decide)).trans (show mI (tUn (sb σ1 0 B) u) 21 = nI 0 from ((hs1.2.2 21 (by decide) (by decide)).trans hb))) (by omega) (by omega)) mi_X9_of q2389 gcX9 h.1.1 ⟨rfl, rfl⟩ rfl ⟨Nat.le_refl _, Nat.le_refl _⟩ rfl dX9_sale_43 (fun r M1 hr => ?_)
        obtain ⟨rfl, hr⟩ := hr
        have hr := hr.symm.trans (show _ = nI (pNow B) from hnw)
        subst hr
        refine x_iload_n C dX9_sale_46 rfl rfl ?_
        refine x_V3I C (met_X9_sumAt l C.1 h.1) mi_X9_sumAt q2393 gcX9 h.1.1 ⟨rfl, rfl⟩ rfl ⟨Nat.le_refl _, Nat.le_refl _⟩ rfl dX9_sale_47 (fun r M1 hr => ?_)
        obtain ⟨rfl, rfl⟩ := hr
        refine x_iload_n C dX9_sale_50 rfl rfl ?_
        refine x_V2V C (met_X9_add l C.1 h.1 ((hs2.2.2 21 (by decide) (by decide)).trans (show mI (tUn (sb σ1 0 B) u) 21 = nI 0 from ((hs1.2.2 21 (by decide) (by decide)).trans hb))) (by omega) (by omega)) mi_X9_add q2397 gcX9 h.1.1 ⟨rfl, rfl⟩ rfl ⟨Nat.le_refl _, Nat.le_refl _⟩ rfl dX9_sale_51 (fun M1 hr => ?_)
        have h := h.tr hr
        refine x_aload_n C dX9_sale_54 rfl rfl ?_
        refine x_aload_n C dX9_sale_55 rfl rfl ?_
        refine x_iload_n C dX9_sale_56 rfl rfl ?_
        refine x_aload_n C dX9_sale_57 rfl rfl ?_
        refine x_iconst C dX9_sale_58 kc_0 ?_
        refine x_V1I C (met_X9_of l C.1 h.1 ((hs2.2.2 21 (by decide) (by decide)).trans (show mI (tUn (sb σ1 0 B) u) 21 = nI 0 from ((hs1.2.2 21 (by decide) (by decide)).trans hb))) (by omega) (by omega)) mi_X9_of q2389 gcX9 h.1.1 ⟨rfl, rfl⟩ rfl ⟨Nat.le_refl _, Nat.le_refl _⟩ rfl dX9_sale_59 (fun r M1 hr => ?_)
        obtain ⟨rfl, hr⟩ := hr
        have hr := hr.symm.trans (show _ = nI (pNow B) from ((pAdd_ne (by omega)).trans hnw))
        subst hr
        refine x_iload_n C dX9_sale_62 rfl rfl ?_
        refine x_V3I C (met_X9_sumAt l C.1 h.1) mi_X9_sumAt q2393 gcX9 h.1.1 ⟨rfl, rfl⟩ rfl ⟨Nat.le_refl _, Nat.le_refl _⟩ rfl dX9_sale_63 (fun r M1 hr => ?_)
        obtain ⟨rfl, rfl⟩ := hr
        refine x_V1I C (met_X9_of l C.1 h.1 ((hs2.2.2 21 (by decide) (by decide)).trans (show mI (tUn (sb σ1 0 B) u) 21 = nI 0 from ((hs1.2.2 21 (by decide) (by decide)).trans hb))) (by omega) (by omega)) mi_X9_of q2389 gcX9 h.1.1 ⟨rfl, rfl⟩ rfl ⟨Nat.le_refl _, Nat.le_refl _⟩ rfl dX9_sale_66 (fun r M1 hr => ?_)
        obtain ⟨rfl, rfl⟩ := hr
        exact x_iret C dX9_sale_69 ⟨Nat.le_refl _, Nat.le_refl _⟩ (gw_y h hs2 hs1 (by unfold qSale; simp only [etn, ekn]; rw [if_pos b7, if_pos b16, if_pos b26]; first | done | assumption | rfl))
      · -- false
        refine x_if_neF (tgt := 34) C (by decide) dX9_sale_29 rfl ?_
        refine x_iconst C dX9_sale_32 kc_m1 ?_
        exact x_iret C dX9_sale_33 ⟨Nat.le_refl _, Nat.le_refl _⟩ (gw_n h hs1 (by unfold qSale; simp only [etn, ekn]; rw [if_pos b7, if_pos b16, if_neg b26]; first | done | assumption | rfl))
    · -- false
      refine x_if_eqT (tgt := 32) C (by decide) dX9_sale_19 rfl ?_
      refine x_iconst C dX9_sale_32 kc_m1 ?_
      exact x_iret C dX9_sale_33 ⟨Nat.le_refl _, Nat.le_refl _⟩ (gw_n h hs1 (by unfold qSale; simp only [etn]; rw [if_pos b7, if_neg b16]; first | done | assumption | rfl))
  · -- false
    refine x_if_eqT (tgt := 32) C (by decide) dX9_sale_10 rfl ?_
    refine x_iconst C dX9_sale_32 kc_m1 ?_
    exact x_iret C dX9_sale_33 ⟨Nat.le_refl _, Nat.le_refl _⟩ (gw_n h hs1 (by unfold qSale; rw [if_neg b7]; first | done | assumption | rfl))
theorem mi_X9_buy : gMV RX9 yX9_buy cX9_buy 4 (some .int) 3 := ⟨q2622, q2623, q165, q2624, by decide +kernel⟩
set_option maxHeartbeats 4000000 in
set_option maxRecDepth 100000 in
theorem met_X9_buy (l : Launch) {G : gG} (hG : gOK G) {ad : Nat → Nat} {σ : mS} {M0 : gM} {u : Nat} {B : Nat → Int32} {t k x : Int32} {A : Nat → Nat → Int32} {T : Nat} (h : MR G ad (sb σ 0 B) M0) (hb : mI σ 21 = nI 0) (hu : mI σ 22 = nI u) (hA : mA σ = A) (hT : mI σ 11 = nI T) (hb0_ : u ≤ 20) (hw : wT T A) (hB : wB T B) : Met l yX9_buy (ws_ yX9_buy cX9_buy 4 (some .int)) ({ frames := 2, cells := 0, slots := 0, locals := 44 }) (gPre G M0 [.ref (ad 0), .int (t), .int (k), .int (x)]) (gQ G (gI (fun r M1 => ∃ σ', sQ (tW σ u B (qBuy T B t k x).1) σ' ∧ MF G ad M0 σ' M1 ∧ (qBuy T B t k x).2 = r))) 0 0 (gA G) := by
  refine gMet (L0 := [some (.ref (ad 0)), some (.int (t)), some (.int (k)), some (.int (x))]) RX9 hG (by decide +kernel) rfl (Nat.le_of_ble_eq_true rfl) rfl ?_
  intro p e s m args below meth c C hnm
  have h := MF.rf h
  have hT4 := hw.T4
  have hnw : B 0 = nI (pNow B) := hB.now.1
  have hnow : pNow B ≤ 63 := hB.now.2
  have hna : B 1865 = nI (dN (B 1865)) := hB.na.1
  have hna8 : dN (B 1865) ≤ 8 := hB.na.2
  have hkp : B 1867 = nI (dN (B 1867)) := hB.kept.1
  have hkp40 : dN (B 1867) ≤ 40 := hB.kept.2
  refine x_aload_n C dX9_buy_0 rfl rfl ?_
  refine x_iconst C dX9_buy_1 kc_0 ?_
  refine m_put C h 2 rfl q2411 rfl rfl rfl rfl dX9_buy_2 (fun M h => ?_)
  obtain ⟨σ1, hs1, h⟩ : ∃ σ', sQ σ σ' ∧ MF G ad M0 (sb σ' 0 B) M := ⟨_, sQ.p2, h⟩
  refine x_aload_n C dX9_buy_5 rfl rfl ?_
  refine x_iload_n C dX9_buy_6 rfl rfl ?_
  refine x_V1I C (met_X9_isTrader l C.1 h.1 ((hs1.2.2 11 (by decide) (by decide)).trans hT)) mi_X9_isTrader q2613 gcX9 h.1.1 ⟨rfl, rfl⟩ rfl ⟨Nat.le_refl _, Nat.le_refl _⟩ rfl dX9_buy_7 (fun r M1 hr => ?_)
  rcases hr with ⟨rfl, rfl, b7⟩ | ⟨rfl, rfl, b7⟩
  · -- true
    obtain ⟨tn, rfl, hltn⟩ := iT.ex b7 (by omega)
    have etn : dN (nI tn) = tn := dN_nI (by omega)
    refine x_if_eqF (tgt := 33) C (by decide) dX9_buy_10 rfl ?_
    refine x_iload_n C dX9_buy_13 rfl rfl ?_
    refine x_iconst C dX9_buy_14 kc_0 ?_
    refine x_iconst C dX9_buy_15 kc_2 ?_
    refine x_S3I C (met_X9_isIn l C.1) mi_X9_isIn q2550 ⟨rfl, rfl⟩ rfl ⟨Nat.le_refl _, Nat.le_refl _⟩ rfl dX9_buy_16 (fun r M1 hr => ?_)
    rcases hr with ⟨rfl, rfl, b16⟩ | ⟨rfl, rfl, b16⟩
    · -- true
      obtain ⟨kn, rfl, hlkn, hhkn⟩ := iI.ex b16 (by omega) (by omega)
      have ekn : dN (nI kn) = kn := dN_nI (by omega)
      refine x_if_eqF (tgt := 33) C (by decide) dX9_buy_19 rfl ?_
      refine x_iload_n C dX9_buy_22 rfl rfl ?_
      refine x_iconst C dX9_buy_23 kc_1 ?_
      refine x_sipush C dX9_buy_24 ks_9999 ?_
      refine x_S3I C (met_X9_isIn l C.1) mi_X9_isIn q2550 ⟨rfl, rfl⟩ rfl ⟨Nat.le_refl _, Nat.le_refl _⟩ rfl dX9_buy_27 (fun r M1 hr => ?_)
      rcases hr with ⟨rfl, rfl, b27⟩ | ⟨rfl, rfl, b27⟩
      · -- true
        refine x_if_neT (tgt := 35) C (by decide) dX9_buy_30 rfl ?_
        refine x_aload_n C dX9_buy_35 rfl rfl ?_
        refine x_V0V C (met_X9_canUndo l C.1 h.1 (show mI (sb σ1 0 B) 22 = nI u from ((hs1.2.2 22 (by decide) (by decide)).trans hu)) (by omega)) mi_X9_canUndo q2617 gcX9 h.1.1 ⟨rfl, rfl⟩ rfl ⟨Nat.le_refl _, Nat.le_refl _⟩ rfl dX9_buy_36 (fun M1 hr => ?_)
        have h := h.tr hr
        obtain ⟨σ2, hs2, h⟩ : ∃ σ', sQ (tUn (sb σ1 0 B) u) σ' ∧ MF G ad M0 (sb σ' 0 B) M1 := ⟨_, sQ.rf, (by rw [un_sb]; exact h)⟩
        refine x_aload_n C dX9_buy_39 rfl rfl ?_
        refine x_aload_n C dX9_buy_40 rfl rfl ?_
        refine x_iload_n C dX9_buy_41 rfl rfl ?_
        refine x_aload_n C dX9_buy_42 rfl rfl ?_
        refine x_iconst C dX9_buy_43 kc_0 ?_
        refine x_V1I C (met_X9_of l C.1 h.1 ((hs2.2.2 21 (by decide) (by decide)).trans (show mI (tUn (sb σ1 0 B) u) 21 = nI 0 from ((hs1.2.2 21 (by decide) (by decide)).trans hb))) (by omega) (by omega)) mi_X9_of q2389 gcX9 h.1.1 ⟨rfl, rfl⟩ rfl ⟨Nat.le_refl _, Nat.le_refl _⟩ rfl dX9_buy_44 (fun r M1 hr => ?_)
        obtain ⟨rfl, hr⟩ := hr
        have hr := hr.symm.trans (show _ = nI (pNow B) from hnw)
        subst hr
        refine x_iconst C dX9_buy_47 kc_2 ?_
        refine x_iload_n C dX9_buy_48 rfl rfl ?_
        refine x_iaddN C dX9_buy_49 ?_
        refine x_V3I C (met_X9_sumAt l C.1 h.1) mi_X9_sumAt q2393 gcX9 h.1.1 ⟨rfl, rfl⟩ rfl ⟨Nat.le_refl _, Nat.le_refl _⟩ rfl dX9_buy_50 (fun r M1 hr => ?_)
        obtain ⟨rfl, rfl⟩ := hr
        refine x_iload_n C dX9_buy_53 rfl rfl ?_
        refine x_V2V C (met_X9_add l C.1 h.1 ((hs2.2.2 21 (by decide) (by decide)).trans (show mI (tUn (sb σ1 0 B) u) 21 = nI 0 from ((hs1.2.2 21 (by decide) (by decide)).trans hb))) (by omega) (by omega)) mi_X9_add q2397 gcX9 h.1.1 ⟨rfl, rfl⟩ rfl ⟨Nat.le_refl _, Nat.le_refl _⟩ rfl dX9_buy_54 (fun M1 hr => ?_)
        have h := h.tr hr
        refine x_aload_n C dX9_buy_57 rfl rfl ?_
        refine x_aload_n C dX9_buy_58 rfl rfl ?_
        refine x_iload_n C dX9_buy_59 rfl rfl ?_
        refine x_aload_n C dX9_buy_60 rfl rfl ?_
        refine x_iconst C dX9_buy_61 kc_0 ?_
        refine x_V1I C (met_X9_of l C.1 h.1 ((hs2.2.2 21 (by decide) (by decide)).trans (show mI (tUn (sb σ1 0 B) u) 21 = nI 0 from ((hs1.2.2 21 (by decide) (by decide)).trans hb))) (by omega) (by omega)) mi_X9_of q2389 gcX9 h.1.1 ⟨rfl, rfl⟩ rfl ⟨Nat.le_refl _, Nat.le_refl _⟩ rfl dX9_buy_62 (fun r M1 hr => ?_)
        obtain ⟨rfl, hr⟩ := hr
        have hr := hr.symm.trans (show _ = nI (pNow B) from ((pAdd_ne (by omega)).trans hnw))
        subst hr
        refine x_iconst C dX9_buy_65 kc_2 ?_
        refine x_iload_n C dX9_buy_66 rfl rfl ?_
        refine x_iaddN C dX9_buy_67 ?_
        refine x_V3I C (met_X9_sumAt l C.1 h.1) mi_X9_sumAt q2393 gcX9 h.1.1 ⟨rfl, rfl⟩ rfl ⟨Nat.le_refl _, Nat.le_refl _⟩ rfl dX9_buy_68 (fun r M1 hr => ?_)
        obtain ⟨rfl, rfl⟩ := hr
        refine x_V1I C (met_X9_of l C.1 h.1 ((hs2.2.2 21 (by decide) (by decide)).trans (show mI (tUn (sb σ1 0 B) u) 21 = nI 0 from ((hs1.2.2 21 (by decide) (by decide)).trans hb))) (by omega) (by omega)) mi_X9_of q2389 gcX9 h.1.1 ⟨rfl, rfl⟩ rfl ⟨Nat.le_refl _, Nat.le_refl _⟩ rfl dX9_buy_71 (fun r M1 hr => ?_)
        obtain ⟨rfl, rfl⟩ := hr
        exact x_iret C dX9_buy_74 ⟨Nat.le_refl _, Nat.le_refl _⟩ (gw_y h hs2 hs1 (by unfold qBuy; simp only [etn, ekn]; rw [if_pos b7, if_pos b16, if_pos b27]; first | done | assumption | rfl))
      · -- false
        refine x_if_neF (tgt := 35) C (by decide) dX9_buy_30 rfl ?_
        refine x_iconst C dX9_buy_33 kc_m1 ?_
        exact x_iret C dX9_buy_34 ⟨Nat.le_refl _, Nat.le_refl _⟩ (gw_n h hs1 (by unfold qBuy; simp only [etn, ekn]; rw [if_pos b7, if_pos b16, if_neg b27]; first | done | assumption | rfl))
    · -- false
      refine x_if_eqT (tgt := 33) C (by decide) dX9_buy_19 rfl ?_
      refine x_iconst C dX9_buy_33 kc_m1 ?_
      exact x_iret C dX9_buy_34 ⟨Nat.le_refl _, Nat.le_refl _⟩ (gw_n h hs1 (by unfold qBuy; simp only [etn]; rw [if_pos b7, if_neg b16]; first | done | assumption | rfl))
  · -- false
    refine x_if_eqT (tgt := 33) C (by decide) dX9_buy_10 rfl ?_
    refine x_iconst C dX9_buy_33 kc_m1 ?_
    exact x_iret C dX9_buy_34 ⟨Nat.le_refl _, Nat.le_refl _⟩ (gw_n h hs1 (by unfold qBuy; rw [if_neg b7]; first | done | assumption | rfl))
theorem mi_X9_late : gMV RX9 yX9_late cX9_late 5 (some .int) 4 := ⟨q2626, q2627, q165, q2628, by decide +kernel⟩
set_option maxHeartbeats 4000000 in
set_option maxRecDepth 100000 in
theorem met_X9_late (l : Launch) {G : gG} (hG : gOK G) {ad : Nat → Nat} {σ : mS} {M0 : gM} {u : Nat} {B : Nat → Int32} {t q k x : Int32} {A : Nat → Nat → Int32} {T : Nat} (h : MR G ad (sb σ 0 B) M0) (hb : mI σ 21 = nI 0) (hu : mI σ 22 = nI u) (hA : mA σ = A) (hT : mI σ 11 = nI T) (hb0_ : u ≤ 20) (hw : wT T A) (hB : wB T B) : Met l yX9_late (ws_ yX9_late cX9_late 5 (some .int)) ({ frames := 2, cells := 0, slots := 0, locals := 44 }) (gPre G M0 [.ref (ad 0), .int (t), .int (q), .int (k), .int (x)]) (gQ G (gI (fun r M1 => ∃ σ', sQ (tW σ u B (qLate T B t q k x).1) σ' ∧ MF G ad M0 σ' M1 ∧ (qLate T B t q k x).2 = r))) 0 0 (gA G) := by
  refine gMet (L0 := [some (.ref (ad 0)), some (.int (t)), some (.int (q)), some (.int (k)), some (.int (x))]) RX9 hG (by decide +kernel) rfl (Nat.le_of_ble_eq_true rfl) rfl ?_
  intro p e s m args below meth c C hnm
  have h := MF.rf h
  have hT4 := hw.T4
  have hnw : B 0 = nI (pNow B) := hB.now.1
  have hnow : pNow B ≤ 63 := hB.now.2
  have hna : B 1865 = nI (dN (B 1865)) := hB.na.1
  have hna8 : dN (B 1865) ≤ 8 := hB.na.2
  have hkp : B 1867 = nI (dN (B 1867)) := hB.kept.1
  have hkp40 : dN (B 1867) ≤ 40 := hB.kept.2
  refine x_aload_n C dX9_late_0 rfl rfl ?_
  refine x_iconst C dX9_late_1 kc_0 ?_
  refine m_put C h 2 rfl q2411 rfl rfl rfl rfl dX9_late_2 (fun M h => ?_)
  obtain ⟨σ1, hs1, h⟩ : ∃ σ', sQ σ σ' ∧ MF G ad M0 (sb σ' 0 B) M := ⟨_, sQ.p2, h⟩
  refine x_aload_n C dX9_late_5 rfl rfl ?_
  refine x_iload_n C dX9_late_6 rfl rfl ?_
  refine x_V1I C (met_X9_isTrader l C.1 h.1 ((hs1.2.2 11 (by decide) (by decide)).trans hT)) mi_X9_isTrader q2613 gcX9 h.1.1 ⟨rfl, rfl⟩ rfl ⟨Nat.le_refl _, Nat.le_refl _⟩ rfl dX9_late_7 (fun r M1 hr => ?_)
  rcases hr with ⟨rfl, rfl, b7⟩ | ⟨rfl, rfl, b7⟩
  · -- true
    obtain ⟨tn, rfl, hltn⟩ := iT.ex b7 (by omega)
    have etn : dN (nI tn) = tn := dN_nI (by omega)
    refine x_if_eqF (tgt := 54) C (by decide) dX9_late_10 rfl ?_
    refine x_iload_n C dX9_late_13 rfl rfl ?_
    refine x_iconst C dX9_late_14 kc_4 ?_
    refine x_aload_n C dX9_late_15 rfl rfl ?_
    refine x_V0I C (met_X9_year l C.1 h.1 ((hs1.2.2 21 (by decide) (by decide)).trans hb) hnw (by omega) (by omega)) mi_X9_year q2629 gcX9 h.1.1 ⟨rfl, rfl⟩ rfl ⟨Nat.le_refl _, Nat.le_refl _⟩ rfl dX9_late_16 (fun r M1 hr => ?_)
    obtain ⟨rfl, rfl⟩ := hr
    refine x_imulN C dX9_late_19 ?_
    refine x_aload_n C dX9_late_20 rfl rfl ?_
    refine x_iconst C dX9_late_21 kc_0 ?_
    refine x_V1I C (met_X9_of l C.1 h.1 ((hs1.2.2 21 (by decide) (by decide)).trans hb) (by omega) (by omega)) mi_X9_of q2389 gcX9 h.1.1 ⟨rfl, rfl⟩ rfl ⟨Nat.le_refl _, Nat.le_refl _⟩ rfl dX9_late_22 (fun r M1 hr => ?_)
    obtain ⟨rfl, hr⟩ := hr
    have hr := hr.symm.trans (show _ = nI (pNow B) from hnw)
    subst hr
    refine x_iconst C dX9_late_25 kc_1 ?_
    refine x_isub C dX9_late_26 ?_
    refine x_S3I C (met_X9_isIn l C.1) mi_X9_isIn q2550 ⟨rfl, rfl⟩ rfl ⟨Nat.le_refl _, Nat.le_refl _⟩ rfl dX9_late_27 (fun r M1 hr => ?_)
    rcases hr with ⟨rfl, rfl, b27⟩ | ⟨rfl, rfl, b27⟩
    · -- true
      obtain ⟨qn, rfl, hlqn, hhqn⟩ := iI_m2 (by omega) (by omega) b27
      have eqn : dN (nI qn) = qn := dN_nI (by omega)
      refine x_if_eqF (tgt := 54) C (by decide) dX9_late_30 rfl ?_
      refine x_iload_n C dX9_late_33 rfl rfl ?_
      refine x_iconst C dX9_late_34 kc_0 ?_
      refine x_iconst C dX9_late_35 kc_4 ?_
      refine x_S3I C (met_X9_isIn l C.1) mi_X9_isIn q2550 ⟨rfl, rfl⟩ rfl ⟨Nat.le_refl _, Nat.le_refl _⟩ rfl dX9_late_36 (fun r M1 hr => ?_)
      rcases hr with ⟨rfl, rfl, b36⟩ | ⟨rfl, rfl, b36⟩
      · -- true
        obtain ⟨kn, rfl, hlkn, hhkn⟩ := iI.ex b36 (by omega) (by omega)
        have ekn : dN (nI kn) = kn := dN_nI (by omega)
        refine x_if_eqF (tgt := 54) C (by decide) dX9_late_39 rfl ?_
        refine x_iload C dX9_late_42 rfl ?_
        refine x_iconst C dX9_late_44 kc_1 ?_
        refine x_sipush C dX9_late_45 ks_9999 ?_
        refine x_S3I C (met_X9_isIn l C.1) mi_X9_isIn q2550 ⟨rfl, rfl⟩ rfl ⟨Nat.le_refl _, Nat.le_refl _⟩ rfl dX9_late_48 (fun r M1 hr => ?_)
        rcases hr with ⟨rfl, rfl, b48⟩ | ⟨rfl, rfl, b48⟩
        · -- true
          refine x_if_neT (tgt := 56) C (by decide) dX9_late_51 rfl ?_
          refine x_aload_n C dX9_late_56 rfl rfl ?_
          refine x_V0V C (met_X9_canUndo l C.1 h.1 (show mI (sb σ1 0 B) 22 = nI u from ((hs1.2.2 22 (by decide) (by decide)).trans hu)) (by omega)) mi_X9_canUndo q2617 gcX9 h.1.1 ⟨rfl, rfl⟩ rfl ⟨Nat.le_refl _, Nat.le_refl _⟩ rfl dX9_late_57 (fun M1 hr => ?_)
          have h := h.tr hr
          obtain ⟨σ2, hs2, h⟩ : ∃ σ', sQ (tUn (sb σ1 0 B) u) σ' ∧ MF G ad M0 (sb σ' 0 B) M1 := ⟨_, sQ.rf, (by rw [un_sb]; exact h)⟩
          refine x_aload_n C dX9_late_60 rfl rfl ?_
          refine x_aload_n C dX9_late_61 rfl rfl ?_
          refine x_iload_n C dX9_late_62 rfl rfl ?_
          refine x_iload_n C dX9_late_63 rfl rfl ?_
          refine x_iload_n C dX9_late_64 rfl rfl ?_
          refine x_V3I C (met_X9_sumAt l C.1 h.1) mi_X9_sumAt q2393 gcX9 h.1.1 ⟨rfl, rfl⟩ rfl ⟨Nat.le_refl _, Nat.le_refl _⟩ rfl dX9_late_65 (fun r M1 hr => ?_)
          obtain ⟨rfl, rfl⟩ := hr
          refine x_iload C dX9_late_68 rfl ?_
          refine x_V2V C (met_X9_add l C.1 h.1 ((hs2.2.2 21 (by decide) (by decide)).trans (show mI (tUn (sb σ1 0 B) u) 21 = nI 0 from ((hs1.2.2 21 (by decide) (by decide)).trans hb))) (by omega) (by omega)) mi_X9_add q2397 gcX9 h.1.1 ⟨rfl, rfl⟩ rfl ⟨Nat.le_refl _, Nat.le_refl _⟩ rfl dX9_late_70 (fun M1 hr => ?_)
          have h := h.tr hr
          refine x_aload_n C dX9_late_73 rfl rfl ?_
          refine x_aload_n C dX9_late_74 rfl rfl ?_
          refine x_iload_n C dX9_late_75 rfl rfl ?_
          refine x_iload_n C dX9_late_76 rfl rfl ?_
          refine x_iload_n C dX9_late_77 rfl rfl ?_
          refine x_V3I C (met_X9_sumAt l C.1 h.1) mi_X9_sumAt q2393 gcX9 h.1.1 ⟨rfl, rfl⟩ rfl ⟨Nat.le_refl _, Nat.le_refl _⟩ rfl dX9_late_78 (fun r M1 hr => ?_)
          obtain ⟨rfl, rfl⟩ := hr
          refine x_V1I C (met_X9_of l C.1 h.1 ((hs2.2.2 21 (by decide) (by decide)).trans (show mI (tUn (sb σ1 0 B) u) 21 = nI 0 from ((hs1.2.2 21 (by decide) (by decide)).trans hb))) (by omega) (by omega)) mi_X9_of q2389 gcX9 h.1.1 ⟨rfl, rfl⟩ rfl ⟨Nat.le_refl _, Nat.le_refl _⟩ rfl dX9_late_81 (fun r M1 hr => ?_)
          obtain ⟨rfl, rfl⟩ := hr
          exact x_iret C dX9_late_84 ⟨Nat.le_refl _, Nat.le_refl _⟩ (gw_y h hs2 hs1 (by unfold qLate; simp only [etn, eqn, ekn]; rw [if_pos b7, if_pos b27, if_pos b36, if_pos b48]; first | done | assumption | rfl))
        · -- false
          refine x_if_neF (tgt := 56) C (by decide) dX9_late_51 rfl ?_
          refine x_iconst C dX9_late_54 kc_m1 ?_
          exact x_iret C dX9_late_55 ⟨Nat.le_refl _, Nat.le_refl _⟩ (gw_n h hs1 (by unfold qLate; simp only [etn, eqn, ekn]; rw [if_pos b7, if_pos b27, if_pos b36, if_neg b48]; first | done | assumption | rfl))
      · -- false
        refine x_if_eqT (tgt := 54) C (by decide) dX9_late_39 rfl ?_
        refine x_iconst C dX9_late_54 kc_m1 ?_
        exact x_iret C dX9_late_55 ⟨Nat.le_refl _, Nat.le_refl _⟩ (gw_n h hs1 (by unfold qLate; simp only [etn, eqn]; rw [if_pos b7, if_pos b27, if_neg b36]; first | done | assumption | rfl))
    · -- false
      refine x_if_eqT (tgt := 54) C (by decide) dX9_late_30 rfl ?_
      refine x_iconst C dX9_late_54 kc_m1 ?_
      exact x_iret C dX9_late_55 ⟨Nat.le_refl _, Nat.le_refl _⟩ (gw_n h hs1 (by unfold qLate; simp only [etn]; rw [if_pos b7, if_neg b27]; first | done | assumption | rfl))
  · -- false
    refine x_if_eqT (tgt := 54) C (by decide) dX9_late_10 rfl ?_
    refine x_iconst C dX9_late_54 kc_m1 ?_
    exact x_iret C dX9_late_55 ⟨Nat.le_refl _, Nat.le_refl _⟩ (gw_n h hs1 (by unfold qLate; rw [if_neg b7]; first | done | assumption | rfl))
theorem mi_X9_heads : gMV RX9 yX9_heads cX9_heads 4 (some .boolean) 3 := ⟨q2634, q2635, q165, q2636, by decide +kernel⟩
set_option maxHeartbeats 4000000 in
set_option maxRecDepth 100000 in
theorem met_X9_heads (l : Launch) {G : gG} (hG : gOK G) {ad : Nat → Nat} {σ : mS} {M0 : gM} {u : Nat} {B : Nat → Int32} {t own whl : Int32} {A : Nat → Nat → Int32} {T : Nat} (h : MR G ad (sb σ 0 B) M0) (hb : mI σ 21 = nI 0) (hu : mI σ 22 = nI u) (hA : mA σ = A) (hT : mI σ 11 = nI T) (hb0_ : u ≤ 20) (hw : wT T A) (hB : wB T B) : Met l yX9_heads (ws_ yX9_heads cX9_heads 4 (some .boolean)) ({ frames := 2, cells := 0, slots := 0, locals := 44 }) (gPre G M0 [.ref (ad 0), .int (t), .int (own), .int (whl)]) (gQ G (gI (fun r M1 => ∃ σ', sQ (tW σ u B (qHds T B t own whl).1) σ' ∧ MF G ad M0 σ' M1 ∧ (qHds T B t own whl).2 = r))) 0 0 (gA G) := by
  refine gMet (L0 := [some (.ref (ad 0)), some (.int (t)), some (.int (own)), some (.int (whl))]) RX9 hG (by decide +kernel) rfl (Nat.le_of_ble_eq_true rfl) rfl ?_
  intro p e s m args below meth c C hnm
  have h := MF.rf h
  have hT4 := hw.T4
  have hnw : B 0 = nI (pNow B) := hB.now.1
  have hnow : pNow B ≤ 63 := hB.now.2
  have hna : B 1865 = nI (dN (B 1865)) := hB.na.1
  have hna8 : dN (B 1865) ≤ 8 := hB.na.2
  have hkp : B 1867 = nI (dN (B 1867)) := hB.kept.1
  have hkp40 : dN (B 1867) ≤ 40 := hB.kept.2
  refine x_aload_n C dX9_heads_0 rfl rfl ?_
  refine x_iconst C dX9_heads_1 kc_0 ?_
  refine m_put C h 2 rfl q2411 rfl rfl rfl rfl dX9_heads_2 (fun M h => ?_)
  obtain ⟨σ1, hs1, h⟩ : ∃ σ', sQ σ σ' ∧ MF G ad M0 (sb σ' 0 B) M := ⟨_, sQ.p2, h⟩
  refine x_aload_n C dX9_heads_5 rfl rfl ?_
  refine x_iload_n C dX9_heads_6 rfl rfl ?_
  refine x_V1I C (met_X9_isTrader l C.1 h.1 ((hs1.2.2 11 (by decide) (by decide)).trans hT)) mi_X9_isTrader q2613 gcX9 h.1.1 ⟨rfl, rfl⟩ rfl ⟨Nat.le_refl _, Nat.le_refl _⟩ rfl dX9_heads_7 (fun r M1 hr => ?_)
  rcases hr with ⟨rfl, rfl, b7⟩ | ⟨rfl, rfl, b7⟩
  · -- true
    obtain ⟨tn, rfl, hltn⟩ := iT.ex b7 (by omega)
    have etn : dN (nI tn) = tn := dN_nI (by omega)
    refine x_if_eqF (tgt := 33) C (by decide) dX9_heads_10 rfl ?_
    refine x_iload_n C dX9_heads_13 rfl rfl ?_
    refine x_iconst C dX9_heads_14 kc_0 ?_
    refine x_sipush C dX9_heads_15 ks_999 ?_
    refine x_S3I C (met_X9_isIn l C.1) mi_X9_isIn q2550 ⟨rfl, rfl⟩ rfl ⟨Nat.le_refl _, Nat.le_refl _⟩ rfl dX9_heads_18 (fun r M1 hr => ?_)
    rcases hr with ⟨rfl, rfl, b18⟩ | ⟨rfl, rfl, b18⟩
    · -- true
      obtain ⟨whln, rfl, hlwhln, hhwhln⟩ := iI.ex b18 (by omega) (by omega)
      have ewhln : dN (nI whln) = whln := dN_nI (by omega)
      refine x_if_eqF (tgt := 33) C (by decide) dX9_heads_21 rfl ?_
      refine x_iload_n C dX9_heads_24 rfl rfl ?_
      refine x_iconst C dX9_heads_25 kc_0 ?_
      refine x_iload_n C dX9_heads_26 rfl rfl ?_
      refine x_S3I C (met_X9_isIn l C.1) mi_X9_isIn q2550 ⟨rfl, rfl⟩ rfl ⟨Nat.le_refl _, Nat.le_refl _⟩ rfl dX9_heads_27 (fun r M1 hr => ?_)
      rcases hr with ⟨rfl, rfl, b27⟩ | ⟨rfl, rfl, b27⟩
      · -- true
        obtain ⟨ownn, rfl, hlownn, hhownn⟩ := iI.ex b27 (by omega) (by omega)
        have eownn : dN (nI ownn) = ownn := dN_nI (by omega)
        refine x_if_neT (tgt := 35) C (by decide) dX9_heads_30 rfl ?_
        refine x_aload_n C dX9_heads_35 rfl rfl ?_
        refine x_V0V C (met_X9_canUndo l C.1 h.1 (show mI (sb σ1 0 B) 22 = nI u from ((hs1.2.2 22 (by decide) (by decide)).trans hu)) (by omega)) mi_X9_canUndo q2617 gcX9 h.1.1 ⟨rfl, rfl⟩ rfl ⟨Nat.le_refl _, Nat.le_refl _⟩ rfl dX9_heads_36 (fun M1 hr => ?_)
        have h := h.tr hr
        obtain ⟨σ2, hs2, h⟩ : ∃ σ', sQ (tUn (sb σ1 0 B) u) σ' ∧ MF G ad M0 (sb σ' 0 B) M1 := ⟨_, sQ.rf, (by rw [un_sb]; exact h)⟩
        refine x_aload_n C dX9_heads_39 rfl rfl ?_
        refine x_sipush C dX9_heads_40 ks_1281 ?_
        refine x_iconst C dX9_heads_43 kc_2 ?_
        refine x_iload_n C dX9_heads_44 rfl rfl ?_
        refine x_imulN C dX9_heads_45 ?_
        refine x_iaddN C dX9_heads_46 ?_
        refine x_iload_n C dX9_heads_47 rfl rfl ?_
        refine x_V2V C (met_X9_lay l C.1 h.1 ((hs2.2.2 21 (by decide) (by decide)).trans (show mI (tUn (sb σ1 0 B) u) 21 = nI 0 from ((hs1.2.2 21 (by decide) (by decide)).trans hb))) (by omega) (by omega)) mi_X9_lay q2377 gcX9 h.1.1 ⟨rfl, rfl⟩ rfl ⟨Nat.le_refl _, Nat.le_refl _⟩ rfl dX9_heads_48 (fun M1 hr => ?_)
        have h := h.tr hr
        refine x_aload_n C dX9_heads_51 rfl rfl ?_
        refine x_sipush C dX9_heads_52 ks_1281 ?_
        refine x_iconst C dX9_heads_55 kc_2 ?_
        refine x_iload_n C dX9_heads_56 rfl rfl ?_
        refine x_imulN C dX9_heads_57 ?_
        refine x_iaddN C dX9_heads_58 ?_
        refine x_iconst C dX9_heads_59 kc_1 ?_
        refine x_iaddN C dX9_heads_60 ?_
        refine x_iload_n C dX9_heads_61 rfl rfl ?_
        refine x_V2V C (met_X9_lay l C.1 h.1 ((hs2.2.2 21 (by decide) (by decide)).trans (show mI (tUn (sb σ1 0 B) u) 21 = nI 0 from ((hs1.2.2 21 (by decide) (by decide)).trans hb))) (by omega) (by omega)) mi_X9_lay q2377 gcX9 h.1.1 ⟨rfl, rfl⟩ rfl ⟨Nat.le_refl _, Nat.le_refl _⟩ rfl dX9_heads_62 (fun M1 hr => ?_)
        have h := h.tr hr
        refine x_iconst C dX9_heads_65 kc_1 ?_
        exact x_zret C (by decide +kernel) dX9_heads_66 ⟨Nat.le_refl _, Nat.le_refl _⟩ (gw_y h hs2 hs1 (by unfold qHds; simp only [etn, ewhln, eownn]; rw [if_pos b7, if_pos b18, if_pos b27]; first | done | assumption | rfl))
      · -- false
        refine x_if_neF (tgt := 35) C (by decide) dX9_heads_30 rfl ?_
        refine x_iconst C dX9_heads_33 kc_0 ?_
        exact x_zret C (by decide +kernel) dX9_heads_34 ⟨Nat.le_refl _, Nat.le_refl _⟩ (gw_n h hs1 (by unfold qHds; simp only [etn, ewhln]; rw [if_pos b7, if_pos b18, if_neg b27]; first | done | assumption | rfl))
    · -- false
      refine x_if_eqT (tgt := 33) C (by decide) dX9_heads_21 rfl ?_
      refine x_iconst C dX9_heads_33 kc_0 ?_
      exact x_zret C (by decide +kernel) dX9_heads_34 ⟨Nat.le_refl _, Nat.le_refl _⟩ (gw_n h hs1 (by unfold qHds; simp only [etn]; rw [if_pos b7, if_neg b18]; first | done | assumption | rfl))
  · -- false
    refine x_if_eqT (tgt := 33) C (by decide) dX9_heads_10 rfl ?_
    refine x_iconst C dX9_heads_33 kc_0 ?_
    exact x_zret C (by decide +kernel) dX9_heads_34 ⟨Nat.le_refl _, Nat.le_refl _⟩ (gw_n h hs1 (by unfold qHds; rw [if_neg b7]; first | done | assumption | rfl))
theorem mi_X9_acquire : gMV RX9 yX9_acquire cX9_acquire 5 (some .int) 4 := ⟨q2638, q2639, q165, q2640, by decide +kernel⟩
set_option maxHeartbeats 4000000 in
set_option maxRecDepth 100000 in
theorem met_X9_acquire (l : Launch) {G : gG} (hG : gOK G) {ad : Nat → Nat} {σ : mS} {M0 : gM} {u : Nat} {B : Nat → Int32} {t k tax span : Int32} {A : Nat → Nat → Int32} {T : Nat} (h : MR G ad (sb σ 0 B) M0) (hb : mI σ 21 = nI 0) (hu : mI σ 22 = nI u) (hA : mA σ = A) (hT : mI σ 11 = nI T) (hb0_ : u ≤ 20) (hw : wT T A) (hB : wB T B) : Met l yX9_acquire (ws_ yX9_acquire cX9_acquire 5 (some .int)) ({ frames := 3, cells := 0, slots := 0, locals := 71 }) (gPre G M0 [.ref (ad 0), .int (t), .int (k), .int (tax), .int (span)]) (gQ G (gI (fun r M1 => ∃ σ', sQ (tW σ u B (qAcq T B t k tax span).1) σ' ∧ MF G ad M0 σ' M1 ∧ (qAcq T B t k tax span).2 = r))) 0 0 (gA G) := by
  refine gMet (L0 := [some (.ref (ad 0)), some (.int (t)), some (.int (k)), some (.int (tax)), some (.int (span))]) RX9 hG (by decide +kernel) rfl (Nat.le_of_ble_eq_true rfl) rfl ?_
  intro p e s m args below meth c C hnm
  have h := MF.rf h
  have hT4 := hw.T4
  have hnw : B 0 = nI (pNow B) := hB.now.1
  have hnow : pNow B ≤ 63 := hB.now.2
  have hna : B 1865 = nI (dN (B 1865)) := hB.na.1
  have hna8 : dN (B 1865) ≤ 8 := hB.na.2
  have hkp : B 1867 = nI (dN (B 1867)) := hB.kept.1
  have hkp40 : dN (B 1867) ≤ 40 := hB.kept.2
  refine x_aload_n C dX9_acquire_0 rfl rfl ?_
  refine x_iconst C dX9_acquire_1 kc_0 ?_
  refine m_put C h 2 rfl q2411 rfl rfl rfl rfl dX9_acquire_2 (fun M h => ?_)
  obtain ⟨σ1, hs1, h⟩ : ∃ σ', sQ σ σ' ∧ MF G ad M0 (sb σ' 0 B) M := ⟨_, sQ.p2, h⟩
  refine x_aload_n C dX9_acquire_5 rfl rfl ?_
  refine x_iload_n C dX9_acquire_6 rfl rfl ?_
  refine x_V1I C (met_X9_isTrader l C.1 h.1 ((hs1.2.2 11 (by decide) (by decide)).trans hT)) mi_X9_isTrader q2613 gcX9 h.1.1 ⟨rfl, rfl⟩ rfl ⟨Nat.le_refl _, Nat.le_refl _⟩ rfl dX9_acquire_7 (fun r M1 hr => ?_)
  rcases hr with ⟨rfl, rfl, b7⟩ | ⟨rfl, rfl, b7⟩
  · -- true
    obtain ⟨tn, rfl, hltn⟩ := iT.ex b7 (by omega)
    have etn : dN (nI tn) = tn := dN_nI (by omega)
    refine x_if_eqF (tgt := 45) C (by decide) dX9_acquire_10 rfl ?_
    refine x_iload_n C dX9_acquire_13 rfl rfl ?_
    refine x_iconst C dX9_acquire_14 kc_0 ?_
    refine x_iconst C dX9_acquire_15 kc_2 ?_
    refine x_S3I C (met_X9_isIn l C.1) mi_X9_isIn q2550 ⟨rfl, rfl⟩ rfl ⟨Nat.le_refl _, Nat.le_refl _⟩ rfl dX9_acquire_16 (fun r M1 hr => ?_)
    rcases hr with ⟨rfl, rfl, b16⟩ | ⟨rfl, rfl, b16⟩
    · -- true
      obtain ⟨kn, rfl, hlkn, hhkn⟩ := iI.ex b16 (by omega) (by omega)
      have ekn : dN (nI kn) = kn := dN_nI (by omega)
      refine x_if_eqF (tgt := 45) C (by decide) dX9_acquire_19 rfl ?_
      refine x_iload_n C dX9_acquire_22 rfl rfl ?_
      refine x_iconst C dX9_acquire_23 kc_1 ?_
      refine x_ldc C dX9_acquire_24 q2529 ?_
      rw [show (99999 : Int32) = nI 99999 from by decide +kernel]
      refine x_S3I C (met_X9_isIn l C.1) mi_X9_isIn q2550 ⟨rfl, rfl⟩ rfl ⟨Nat.le_refl _, Nat.le_refl _⟩ rfl dX9_acquire_26 (fun r M1 hr => ?_)
      rcases hr with ⟨rfl, rfl, b26⟩ | ⟨rfl, rfl, b26⟩
      · -- true
        refine x_if_eqF (tgt := 45) C (by decide) dX9_acquire_29 rfl ?_
        refine x_iload C dX9_acquire_32 rfl ?_
        refine x_iconst C dX9_acquire_34 kc_5 ?_
        refine x_icmp_eq (tgt := 47) C dX9_acquire_35 rfl (fun c35 => ?_) (fun c35 => ?_)
        · -- 47
          refine x_aload_n C dX9_acquire_47 rfl rfl ?_
          refine x_sipush C dX9_acquire_48 ks_1865 ?_
          refine x_V1I C (met_X9_of l C.1 h.1 ((hs1.2.2 21 (by decide) (by decide)).trans hb) (by omega) (by omega)) mi_X9_of q2389 gcX9 h.1.1 ⟨rfl, rfl⟩ rfl ⟨Nat.le_refl _, Nat.le_refl _⟩ rfl dX9_acquire_51 (fun r M1 hr => ?_)
          obtain ⟨rfl, hr⟩ := hr
          have hr := hr.symm.trans (show _ = nI (dN (B 1865)) from hna)
          subst hr
          refine x_bipush C dX9_acquire_54 kb_8 ?_
          refine x_icmp_neN (tgt := 62) C (by omega) (by omega) dX9_acquire_56 rfl (fun c56 => ?_) (fun c56 => ?_)
          · -- 62
            refine x_aload_n C dX9_acquire_62 rfl rfl ?_
            refine x_V0V C (met_X9_canUndo l C.1 h.1 (show mI (sb σ1 0 B) 22 = nI u from ((hs1.2.2 22 (by decide) (by decide)).trans hu)) (by omega)) mi_X9_canUndo q2617 gcX9 h.1.1 ⟨rfl, rfl⟩ rfl ⟨Nat.le_refl _, Nat.le_refl _⟩ rfl dX9_acquire_63 (fun M1 hr => ?_)
            have h := h.tr hr
            obtain ⟨σ2, hs2, h⟩ : ∃ σ', sQ (tUn (sb σ1 0 B) u) σ' ∧ MF G ad M0 (sb σ' 0 B) M1 := ⟨_, sQ.rf, (by rw [un_sb]; exact h)⟩
            refine x_aload_n C dX9_acquire_66 rfl rfl ?_
            refine x_iload_n C dX9_acquire_67 rfl rfl ?_
            refine x_iload_n C dX9_acquire_68 rfl rfl ?_
            refine x_iload_n C dX9_acquire_69 rfl rfl ?_
            refine x_iload C dX9_acquire_70 rfl ?_
            refine x_V4I C (met_X9_acquires l C.1 h.1 ((hs2.2.2 21 (by decide) (by decide)).trans (show mI (tUn (sb σ1 0 B) u) 21 = nI 0 from ((hs1.2.2 21 (by decide) (by decide)).trans hb))) hna hnw (by omega) (by omega) (by omega) (by omega) (by omega)) mi_X9_acquires q2401 gcX9 h.1.1 ⟨rfl, rfl⟩ rfl ⟨Nat.le_refl _, Nat.le_refl _⟩ rfl dX9_acquire_72 (fun r M1 hr => ?_)
            obtain ⟨rfl, hr⟩ := hr
            have h := h.tr hr
            exact x_iret C dX9_acquire_75 ⟨Nat.le_refl _, Nat.le_refl _⟩ (gw_y h hs2 hs1 (by unfold qAcq; simp only [etn, ekn]; rw [if_pos b7, if_pos b16, if_pos b26, if_pos c35, if_neg (by omega)]; first | done | assumption | rfl))
          · -- 59
            refine x_bipush C dX9_acquire_59 kb_m2 ?_
            exact x_iret C dX9_acquire_61 ⟨Nat.le_refl _, Nat.le_refl _⟩ (gw_n h hs1 (by unfold qAcq; simp only [etn, ekn]; rw [if_pos b7, if_pos b16, if_pos b26, if_pos c35, if_pos c56]; first | done | assumption | rfl))
        · -- 38
          refine x_iload C dX9_acquire_38 rfl ?_
          refine x_bipush C dX9_acquire_40 kb_10 ?_
          refine x_icmp_eq (tgt := 47) C dX9_acquire_42 rfl (fun c42 => ?_) (fun c42 => ?_)
          · -- 47
            refine x_aload_n C dX9_acquire_47 rfl rfl ?_
            refine x_sipush C dX9_acquire_48 ks_1865 ?_
            refine x_V1I C (met_X9_of l C.1 h.1 ((hs1.2.2 21 (by decide) (by decide)).trans hb) (by omega) (by omega)) mi_X9_of q2389 gcX9 h.1.1 ⟨rfl, rfl⟩ rfl ⟨Nat.le_refl _, Nat.le_refl _⟩ rfl dX9_acquire_51 (fun r M1 hr => ?_)
            obtain ⟨rfl, hr⟩ := hr
            have hr := hr.symm.trans (show _ = nI (dN (B 1865)) from hna)
            subst hr
            refine x_bipush C dX9_acquire_54 kb_8 ?_
            refine x_icmp_neN (tgt := 62) C (by omega) (by omega) dX9_acquire_56 rfl (fun c56 => ?_) (fun c56 => ?_)
            · -- 62
              refine x_aload_n C dX9_acquire_62 rfl rfl ?_
              refine x_V0V C (met_X9_canUndo l C.1 h.1 (show mI (sb σ1 0 B) 22 = nI u from ((hs1.2.2 22 (by decide) (by decide)).trans hu)) (by omega)) mi_X9_canUndo q2617 gcX9 h.1.1 ⟨rfl, rfl⟩ rfl ⟨Nat.le_refl _, Nat.le_refl _⟩ rfl dX9_acquire_63 (fun M1 hr => ?_)
              have h := h.tr hr
              obtain ⟨σ2, hs2, h⟩ : ∃ σ', sQ (tUn (sb σ1 0 B) u) σ' ∧ MF G ad M0 (sb σ' 0 B) M1 := ⟨_, sQ.rf, (by rw [un_sb]; exact h)⟩
              refine x_aload_n C dX9_acquire_66 rfl rfl ?_
              refine x_iload_n C dX9_acquire_67 rfl rfl ?_
              refine x_iload_n C dX9_acquire_68 rfl rfl ?_
              refine x_iload_n C dX9_acquire_69 rfl rfl ?_
              refine x_iload C dX9_acquire_70 rfl ?_
              refine x_V4I C (met_X9_acquires l C.1 h.1 ((hs2.2.2 21 (by decide) (by decide)).trans (show mI (tUn (sb σ1 0 B) u) 21 = nI 0 from ((hs1.2.2 21 (by decide) (by decide)).trans hb))) hna hnw (by omega) (by omega) (by omega) (by omega) (by omega)) mi_X9_acquires q2401 gcX9 h.1.1 ⟨rfl, rfl⟩ rfl ⟨Nat.le_refl _, Nat.le_refl _⟩ rfl dX9_acquire_72 (fun r M1 hr => ?_)
              obtain ⟨rfl, hr⟩ := hr
              have h := h.tr hr
              exact x_iret C dX9_acquire_75 ⟨Nat.le_refl _, Nat.le_refl _⟩ (gw_y h hs2 hs1 (by unfold qAcq; simp only [etn, ekn]; rw [if_pos b7, if_pos b16, if_pos b26, if_neg c35, if_pos c42, if_neg (by omega)]; first | done | assumption | rfl))
            · -- 59
              refine x_bipush C dX9_acquire_59 kb_m2 ?_
              exact x_iret C dX9_acquire_61 ⟨Nat.le_refl _, Nat.le_refl _⟩ (gw_n h hs1 (by unfold qAcq; simp only [etn, ekn]; rw [if_pos b7, if_pos b16, if_pos b26, if_neg c35, if_pos c42, if_pos c56]; first | done | assumption | rfl))
          · -- 45
            refine x_iconst C dX9_acquire_45 kc_m1 ?_
            exact x_iret C dX9_acquire_46 ⟨Nat.le_refl _, Nat.le_refl _⟩ (gw_n h hs1 (by unfold qAcq; simp only [etn, ekn]; rw [if_pos b7, if_pos b16, if_pos b26, if_neg c35, if_neg c42]; first | done | assumption | rfl))
      · -- false
        refine x_if_eqT (tgt := 45) C (by decide) dX9_acquire_29 rfl ?_
        refine x_iconst C dX9_acquire_45 kc_m1 ?_
        exact x_iret C dX9_acquire_46 ⟨Nat.le_refl _, Nat.le_refl _⟩ (gw_n h hs1 (by unfold qAcq; simp only [etn, ekn]; rw [if_pos b7, if_pos b16, if_neg b26]; first | done | assumption | rfl))
    · -- false
      refine x_if_eqT (tgt := 45) C (by decide) dX9_acquire_19 rfl ?_
      refine x_iconst C dX9_acquire_45 kc_m1 ?_
      exact x_iret C dX9_acquire_46 ⟨Nat.le_refl _, Nat.le_refl _⟩ (gw_n h hs1 (by unfold qAcq; simp only [etn]; rw [if_pos b7, if_neg b16]; first | done | assumption | rfl))
  · -- false
    refine x_if_eqT (tgt := 45) C (by decide) dX9_acquire_10 rfl ?_
    refine x_iconst C dX9_acquire_45 kc_m1 ?_
    exact x_iret C dX9_acquire_46 ⟨Nat.le_refl _, Nat.le_refl _⟩ (gw_n h hs1 (by unfold qAcq; rw [if_neg b7]; first | done | assumption | rfl))
theorem mi_X9_use : gMV RX9 yX9_use cX9_use 3 (some .boolean) 2 := ⟨q2642, q2643, q165, q2644, by decide +kernel⟩
set_option maxHeartbeats 4000000 in
set_option maxRecDepth 100000 in
theorem met_X9_use (l : Launch) {G : gG} (hG : gOK G) {ad : Nat → Nat} {σ : mS} {M0 : gM} {u : Nat} {B : Nat → Int32} {a k : Int32} {A : Nat → Nat → Int32} {T : Nat} (h : MR G ad (sb σ 0 B) M0) (hb : mI σ 21 = nI 0) (hu : mI σ 22 = nI u) (hA : mA σ = A) (hT : mI σ 11 = nI T) (hb0_ : u ≤ 20) (hw : wT T A) (hB : wB T B) : Met l yX9_use (ws_ yX9_use cX9_use 3 (some .boolean)) ({ frames := 3, cells := 0, slots := 0, locals := 65 }) (gPre G M0 [.ref (ad 0), .int (a), .int (k)]) (gQ G (gI (fun r M1 => ∃ σ', sQ (tW σ u B (qUse B a k).1) σ' ∧ MF G ad M0 σ' M1 ∧ (qUse B a k).2 = r))) 0 0 (gA G) := by
  refine gMet (L0 := [some (.ref (ad 0)), some (.int (a)), some (.int (k))]) RX9 hG (by decide +kernel) rfl (Nat.le_of_ble_eq_true rfl) rfl ?_
  intro p e s m args below meth c C hnm
  have h := MF.rf h
  have hT4 := hw.T4
  have hnw : B 0 = nI (pNow B) := hB.now.1
  have hnow : pNow B ≤ 63 := hB.now.2
  have hna : B 1865 = nI (dN (B 1865)) := hB.na.1
  have hna8 : dN (B 1865) ≤ 8 := hB.na.2
  have hkp : B 1867 = nI (dN (B 1867)) := hB.kept.1
  have hkp40 : dN (B 1867) ≤ 40 := hB.kept.2
  refine x_aload_n C dX9_use_0 rfl rfl ?_
  refine x_iconst C dX9_use_1 kc_0 ?_
  refine m_put C h 2 rfl q2411 rfl rfl rfl rfl dX9_use_2 (fun M h => ?_)
  obtain ⟨σ1, hs1, h⟩ : ∃ σ', sQ σ σ' ∧ MF G ad M0 (sb σ' 0 B) M := ⟨_, sQ.p2, h⟩
  refine x_aload_n C dX9_use_5 rfl rfl ?_
  refine x_iload_n C dX9_use_6 rfl rfl ?_
  refine x_V1I C (met_X9_isAsset l C.1 h.1 ((hs1.2.2 21 (by decide) (by decide)).trans hb) hna (by omega)) mi_X9_isAsset q2645 gcX9 h.1.1 ⟨rfl, rfl⟩ rfl ⟨Nat.le_refl _, Nat.le_refl _⟩ rfl dX9_use_7 (fun r M1 hr => ?_)
  rcases hr with ⟨rfl, rfl, b7⟩ | ⟨rfl, rfl, b7⟩
  · -- true
    obtain ⟨an, rfl, hlan⟩ := iT.ex b7 (by omega)
    have ean : dN (nI an) = an := dN_nI (by omega)
    have hR : wR T (pNow B) (pYr B) B an := hB.row hlan
    obtain ⟨hr0, hr0b⟩ : dN (B (2084 + 48 * an + 0)) ≤ 3 ∧ dN (B (2084 + 48 * an + 0)) < T := ⟨hR.owner.1.2, hR.owner.2⟩
    have hr5 := hR.bought.2
    have hr7 := hR.sold.2
    have hr47 := hR.thr.1.2
    refine x_if_eqF (tgt := 42) C (by decide) dX9_use_10 rfl ?_
    refine x_iload_n C dX9_use_13 rfl rfl ?_
    refine x_iconst C dX9_use_14 kc_0 ?_
    refine x_iconst C dX9_use_15 kc_2 ?_
    refine x_S3I C (met_X9_isIn l C.1) mi_X9_isIn q2550 ⟨rfl, rfl⟩ rfl ⟨Nat.le_refl _, Nat.le_refl _⟩ rfl dX9_use_16 (fun r M1 hr => ?_)
    rcases hr with ⟨rfl, rfl, b16⟩ | ⟨rfl, rfl, b16⟩
    · -- true
      obtain ⟨kn, rfl, hlkn, hhkn⟩ := iI.ex b16 (by omega) (by omega)
      have ekn : dN (nI kn) = kn := dN_nI (by omega)
      refine x_if_eqF (tgt := 42) C (by decide) dX9_use_19 rfl ?_
      refine x_aload_n C dX9_use_22 rfl rfl ?_
      refine x_iload_n C dX9_use_23 rfl rfl ?_
      refine x_V1I C (met_X9_isGone l C.1 h.1 ((hs1.2.2 21 (by decide) (by decide)).trans hb) hR.sold.1 (by omega) (by omega) (by omega)) mi_X9_isGone q2649 gcX9 h.1.1 ⟨rfl, rfl⟩ rfl ⟨Nat.le_refl _, Nat.le_refl _⟩ rfl dX9_use_24 (fun r M1 hr => ?_)
      rcases hr with ⟨rfl, rfl, b24⟩ | ⟨rfl, rfl, b24⟩
      · -- true
        refine x_if_neT (tgt := 42) C (by decide) dX9_use_27 rfl ?_
        refine x_iconst C dX9_use_42 kc_0 ?_
        exact x_zret C (by decide +kernel) dX9_use_43 ⟨Nat.le_refl _, Nat.le_refl _⟩ (gw_n h hs1 (by unfold qUse; simp only [ean, ekn]; rw [if_pos b7, if_pos b16, if_pos b24]; first | done | assumption | rfl))
      · -- false
        refine x_if_neF (tgt := 42) C (by decide) dX9_use_27 rfl ?_
        refine x_aload_n C dX9_use_30 rfl rfl ?_
        refine x_iload_n C dX9_use_31 rfl rfl ?_
        refine x_aload_n C dX9_use_32 rfl rfl ?_
        refine x_V0I C (met_X9_year l C.1 h.1 ((hs1.2.2 21 (by decide) (by decide)).trans hb) hnw (by omega) (by omega)) mi_X9_year q2629 gcX9 h.1.1 ⟨rfl, rfl⟩ rfl ⟨Nat.le_refl _, Nat.le_refl _⟩ rfl dX9_use_33 (fun r M1 hr => ?_)
        obtain ⟨rfl, rfl⟩ := hr
        refine x_V2I C (met_X9_intervalOf l C.1 h.1 ((hs1.2.2 21 (by decide) (by decide)).trans hb) hR.bought.1.1 (by omega) (by omega) (by omega) (by omega)) mi_X9_intervalOf q2657 gcX9 h.1.1 ⟨rfl, rfl⟩ rfl ⟨Nat.le_refl _, Nat.le_refl _⟩ rfl dX9_use_36 (fun r M1 hr => ?_)
        obtain ⟨rfl, rfl⟩ := hr
        refine x_if_neN (tgt := 44) C (by omega) dX9_use_39 rfl (fun c39 => ?_) (fun c39 => ?_)
        · -- 44
          refine x_aload_n C dX9_use_44 rfl rfl ?_
          refine x_V0V C (met_X9_canUndo l C.1 h.1 (show mI (sb σ1 0 B) 22 = nI u from ((hs1.2.2 22 (by decide) (by decide)).trans hu)) (by omega)) mi_X9_canUndo q2617 gcX9 h.1.1 ⟨rfl, rfl⟩ rfl ⟨Nat.le_refl _, Nat.le_refl _⟩ rfl dX9_use_45 (fun M1 hr => ?_)
          have h := h.tr hr
          obtain ⟨σ2, hs2, h⟩ : ∃ σ', sQ (tUn (sb σ1 0 B) u) σ' ∧ MF G ad M0 (sb σ' 0 B) M1 := ⟨_, sQ.rf, (by rw [un_sb]; exact h)⟩
          refine x_aload_n C dX9_use_48 rfl rfl ?_
          refine x_iload_n C dX9_use_49 rfl rfl ?_
          refine x_iconst C dX9_use_50 kc_2 ?_
          refine x_iload_n C dX9_use_51 rfl rfl ?_
          refine x_V3V C (met_X9_put l C.1 h.1 ((hs2.2.2 21 (by decide) (by decide)).trans (show mI (tUn (sb σ1 0 B) u) 21 = nI 0 from ((hs1.2.2 21 (by decide) (by decide)).trans hb))) (by omega) (by omega) (by omega)) mi_X9_put q2405 gcX9 h.1.1 ⟨rfl, rfl⟩ rfl ⟨Nat.le_refl _, Nat.le_refl _⟩ rfl dX9_use_52 (fun M1 hr => ?_)
          have h := h.tr hr
          refine x_iconst C dX9_use_55 kc_1 ?_
          exact x_zret C (by decide +kernel) dX9_use_56 ⟨Nat.le_refl _, Nat.le_refl _⟩ (gw_y h hs2 hs1 (by unfold qUse; simp only [ean, ekn]; rw [if_pos b7, if_pos b16, if_neg b24, if_neg (by omega)]; first | done | assumption | rfl))
        · -- 42
          refine x_iconst C dX9_use_42 kc_0 ?_
          exact x_zret C (by decide +kernel) dX9_use_43 ⟨Nat.le_refl _, Nat.le_refl _⟩ (gw_n h hs1 (by unfold qUse; simp only [ean, ekn]; rw [if_pos b7, if_pos b16, if_neg b24, if_pos c39]; first | done | assumption | rfl))
    · -- false
      refine x_if_eqT (tgt := 42) C (by decide) dX9_use_19 rfl ?_
      refine x_iconst C dX9_use_42 kc_0 ?_
      exact x_zret C (by decide +kernel) dX9_use_43 ⟨Nat.le_refl _, Nat.le_refl _⟩ (gw_n h hs1 (by unfold qUse; simp only [ean]; rw [if_pos b7, if_neg b16]; first | done | assumption | rfl))
  · -- false
    refine x_if_eqT (tgt := 42) C (by decide) dX9_use_10 rfl ?_
    refine x_iconst C dX9_use_42 kc_0 ?_
    exact x_zret C (by decide +kernel) dX9_use_43 ⟨Nat.le_refl _, Nat.le_refl _⟩ (gw_n h hs1 (by unfold qUse; rw [if_neg b7]; first | done | assumption | rfl))
theorem mi_X9_sell : gMV RX9 yX9_sell cX9_sell 4 (some .int) 3 := ⟨q2662, q2663, q165, q2664, by decide +kernel⟩
set_option maxHeartbeats 4000000 in
set_option maxRecDepth 100000 in
theorem met_X9_sell (l : Launch) {G : gG} (hG : gOK G) {ad : Nat → Nat} {σ : mS} {M0 : gM} {u : Nat} {B : Nat → Int32} {a k cap : Int32} {A : Nat → Nat → Int32} {T : Nat} (h : MR G ad (sb σ 0 B) M0) (hb : mI σ 21 = nI 0) (hu : mI σ 22 = nI u) (hA : mA σ = A) (hT : mI σ 11 = nI T) (hb0_ : u ≤ 20) (hw : wT T A) (hB : wB T B) : Met l yX9_sell (ws_ yX9_sell cX9_sell 4 (some .int)) ({ frames := 4, cells := 0, slots := 0, locals := 86 }) (gPre G M0 [.ref (ad 0), .int (a), .int (k), .int (cap)]) (gQ G (gI (fun r M1 => ∃ σ', sQ (tW σ u B (qSell B a k cap).1) σ' ∧ MF G ad M0 σ' M1 ∧ (qSell B a k cap).2 = r))) 0 0 (gA G) := by
  refine gMet (L0 := [some (.ref (ad 0)), some (.int (a)), some (.int (k)), some (.int (cap))]) RX9 hG (by decide +kernel) rfl (Nat.le_of_ble_eq_true rfl) rfl ?_
  intro p e s m args below meth c C hnm
  have h := MF.rf h
  have hT4 := hw.T4
  have hnw : B 0 = nI (pNow B) := hB.now.1
  have hnow : pNow B ≤ 63 := hB.now.2
  have hna : B 1865 = nI (dN (B 1865)) := hB.na.1
  have hna8 : dN (B 1865) ≤ 8 := hB.na.2
  have hkp : B 1867 = nI (dN (B 1867)) := hB.kept.1
  have hkp40 : dN (B 1867) ≤ 40 := hB.kept.2
  refine x_aload_n C dX9_sell_0 rfl rfl ?_
  refine x_iconst C dX9_sell_1 kc_0 ?_
  refine m_put C h 2 rfl q2411 rfl rfl rfl rfl dX9_sell_2 (fun M h => ?_)
  obtain ⟨σ1, hs1, h⟩ : ∃ σ', sQ σ σ' ∧ MF G ad M0 (sb σ' 0 B) M := ⟨_, sQ.p2, h⟩
  refine x_aload_n C dX9_sell_5 rfl rfl ?_
  refine x_iload_n C dX9_sell_6 rfl rfl ?_
  refine x_V1I C (met_X9_isAsset l C.1 h.1 ((hs1.2.2 21 (by decide) (by decide)).trans hb) hna (by omega)) mi_X9_isAsset q2645 gcX9 h.1.1 ⟨rfl, rfl⟩ rfl ⟨Nat.le_refl _, Nat.le_refl _⟩ rfl dX9_sell_7 (fun r M1 hr => ?_)
  rcases hr with ⟨rfl, rfl, b7⟩ | ⟨rfl, rfl, b7⟩
  · -- true
    obtain ⟨an, rfl, hlan⟩ := iT.ex b7 (by omega)
    have ean : dN (nI an) = an := dN_nI (by omega)
    have hR : wR T (pNow B) (pYr B) B an := hB.row hlan
    obtain ⟨hr0, hr0b⟩ : dN (B (2084 + 48 * an + 0)) ≤ 3 ∧ dN (B (2084 + 48 * an + 0)) < T := ⟨hR.owner.1.2, hR.owner.2⟩
    have hr5 := hR.bought.2
    have hr7 := hR.sold.2
    have hr47 := hR.thr.1.2
    refine x_if_eqF (tgt := 41) C (by decide) dX9_sell_10 rfl ?_
    refine x_iload_n C dX9_sell_13 rfl rfl ?_
    refine x_iconst C dX9_sell_14 kc_0 ?_
    refine x_iconst C dX9_sell_15 kc_2 ?_
    refine x_S3I C (met_X9_isIn l C.1) mi_X9_isIn q2550 ⟨rfl, rfl⟩ rfl ⟨Nat.le_refl _, Nat.le_refl _⟩ rfl dX9_sell_16 (fun r M1 hr => ?_)
    rcases hr with ⟨rfl, rfl, b16⟩ | ⟨rfl, rfl, b16⟩
    · -- true
      obtain ⟨kn, rfl, hlkn, hhkn⟩ := iI.ex b16 (by omega) (by omega)
      have ekn : dN (nI kn) = kn := dN_nI (by omega)
      refine x_if_eqF (tgt := 41) C (by decide) dX9_sell_19 rfl ?_
      refine x_iload_n C dX9_sell_22 rfl rfl ?_
      refine x_iconst C dX9_sell_23 kc_m1 ?_
      refine x_iload_n C dX9_sell_24 rfl rfl ?_
      refine x_iconst C dX9_sell_25 kc_2 ?_
      refine x_icmp_neN (tgt := 33) C (by omega) (by omega) dX9_sell_26 rfl (fun c26 => ?_) (fun c26 => ?_)
      · -- 33
        refine x_ldc C dX9_sell_33 q2529 ?_
        rw [show (99999 : Int32) = nI 99999 from by decide +kernel]
        refine x_S3I C (met_X9_isIn l C.1) mi_X9_isIn q2550 ⟨rfl, rfl⟩ rfl ⟨Nat.le_refl _, Nat.le_refl _⟩ rfl dX9_sell_35 (fun r M1 hr => ?_)
        rcases hr with ⟨rfl, rfl, b35⟩ | ⟨rfl, rfl, b35⟩
        · -- true
          refine x_if_neT (tgt := 43) C (by decide) dX9_sell_38 rfl ?_
          refine x_aload_n C dX9_sell_43 rfl rfl ?_
          refine x_iload_n C dX9_sell_44 rfl rfl ?_
          refine x_V1I C (met_X9_isGone l C.1 h.1 ((hs1.2.2 21 (by decide) (by decide)).trans hb) hR.sold.1 (by omega) (by omega) (by omega)) mi_X9_isGone q2649 gcX9 h.1.1 ⟨rfl, rfl⟩ rfl ⟨Nat.le_refl _, Nat.le_refl _⟩ rfl dX9_sell_45 (fun r M1 hr => ?_)
          rcases hr with ⟨rfl, rfl, b45⟩ | ⟨rfl, rfl, b45⟩
          · -- true
            refine x_if_eqF (tgt := 54) C (by decide) dX9_sell_48 rfl ?_
            refine x_bipush C dX9_sell_51 kb_m2 ?_
            exact x_iret C dX9_sell_53 ⟨Nat.le_refl _, Nat.le_refl _⟩ (gw_n h hs1 (by unfold qSell; simp only [ean, ekn]; rw [if_pos b7, if_pos b16, if_neg (by omega), if_pos b35]; unfold pSell; rw [if_pos b45]; first | done | assumption | rfl))
          · -- false
            refine x_if_eqT (tgt := 54) C (by decide) dX9_sell_48 rfl ?_
            refine x_aload_n C dX9_sell_54 rfl rfl ?_
            refine x_V0V C (met_X9_canUndo l C.1 h.1 (show mI (sb σ1 0 B) 22 = nI u from ((hs1.2.2 22 (by decide) (by decide)).trans hu)) (by omega)) mi_X9_canUndo q2617 gcX9 h.1.1 ⟨rfl, rfl⟩ rfl ⟨Nat.le_refl _, Nat.le_refl _⟩ rfl dX9_sell_55 (fun M1 hr => ?_)
            have h := h.tr hr
            obtain ⟨σ2, hs2, h⟩ : ∃ σ', sQ (tUn (sb σ1 0 B) u) σ' ∧ MF G ad M0 (sb σ' 0 B) M1 := ⟨_, sQ.rf, (by rw [un_sb]; exact h)⟩
            refine x_aload_n C dX9_sell_58 rfl rfl ?_
            refine x_iload_n C dX9_sell_59 rfl rfl ?_
            refine x_bipush C dX9_sell_60 kb_7 ?_
            refine x_iload_n C dX9_sell_62 rfl rfl ?_
            refine x_iconst C dX9_sell_63 kc_1 ?_
            refine x_iaddN C dX9_sell_64 ?_
            refine x_V3V C (met_X9_put l C.1 h.1 ((hs2.2.2 21 (by decide) (by decide)).trans (show mI (tUn (sb σ1 0 B) u) 21 = nI 0 from ((hs1.2.2 21 (by decide) (by decide)).trans hb))) (by omega) (by omega) (by omega)) mi_X9_put q2405 gcX9 h.1.1 ⟨rfl, rfl⟩ rfl ⟨Nat.le_refl _, Nat.le_refl _⟩ rfl dX9_sell_65 (fun M1 hr => ?_)
            have h := h.tr hr
            refine x_aload_n C dX9_sell_68 rfl rfl ?_
            refine x_iload_n C dX9_sell_69 rfl rfl ?_
            refine x_bipush C dX9_sell_70 kb_8 ?_
            refine x_iload_n C dX9_sell_72 rfl rfl ?_
            refine x_V3V C (met_X9_put l C.1 h.1 ((hs2.2.2 21 (by decide) (by decide)).trans (show mI (tUn (sb σ1 0 B) u) 21 = nI 0 from ((hs1.2.2 21 (by decide) (by decide)).trans hb))) (by omega) (by omega) (by omega)) mi_X9_put q2405 gcX9 h.1.1 ⟨rfl, rfl⟩ rfl ⟨Nat.le_refl _, Nat.le_refl _⟩ rfl dX9_sell_73 (fun M1 hr => ?_)
            have h := h.tr hr
            refine x_aload_n C dX9_sell_76 rfl rfl ?_
            refine x_iload_n C dX9_sell_77 rfl rfl ?_
            refine x_V1I C (met_X9_behindOf l C.1 h.1 ((hs2.2.2 21 (by decide) (by decide)).trans (show mI (tUn (sb σ1 0 B) u) 21 = nI 0 from ((hs1.2.2 21 (by decide) (by decide)).trans hb))) ((pk_un (by omega)).trans ((pk_un (by omega)).trans hnw)) ((pk_un (by omega)).trans ((pk_un (by omega)).trans hR.bought.1.1)) (by omega) (by omega) (by omega) (by omega) (by omega)) mi_X9_behindOf q2665 gcX9 h.1.1 ⟨rfl, rfl⟩ rfl ⟨Nat.le_refl _, Nat.le_refl _⟩ rfl dX9_sell_78 (fun r M1 hr => ?_)
            obtain ⟨rfl, rfl⟩ := hr
            exact x_iret C dX9_sell_81 ⟨Nat.le_refl _, Nat.le_refl _⟩ (gw_y h hs2 hs1 (by unfold qSell; simp only [ean, ekn]; rw [if_pos b7, if_pos b16, if_neg (by omega), if_pos b35]; unfold pSell; rw [if_neg b45, pk_un (by omega), pk_un (by omega)]; first | done | assumption | rfl))
        · -- false
          refine x_if_neF (tgt := 43) C (by decide) dX9_sell_38 rfl ?_
          refine x_iconst C dX9_sell_41 kc_m1 ?_
          exact x_iret C dX9_sell_42 ⟨Nat.le_refl _, Nat.le_refl _⟩ (gw_n h hs1 (by unfold qSell; simp only [ean, ekn]; rw [if_pos b7, if_pos b16, if_neg (by omega), if_neg b35]; first | done | assumption | rfl))
      · -- 29
        refine x_iconst C dX9_sell_29 kc_m1 ?_
        refine x_goto (tgt := 35) C dX9_sell_30 rfl ?_
        refine x_S3I C (met_X9_isIn l C.1) mi_X9_isIn q2550 ⟨rfl, rfl⟩ rfl ⟨Nat.le_refl _, Nat.le_refl _⟩ rfl dX9_sell_35 (fun r M1 hr => ?_)
        rcases hr with ⟨rfl, rfl, b35⟩ | ⟨rfl, rfl, b35⟩
        · -- true
          refine x_if_neT (tgt := 43) C (by decide) dX9_sell_38 rfl ?_
          refine x_aload_n C dX9_sell_43 rfl rfl ?_
          refine x_iload_n C dX9_sell_44 rfl rfl ?_
          refine x_V1I C (met_X9_isGone l C.1 h.1 ((hs1.2.2 21 (by decide) (by decide)).trans hb) hR.sold.1 (by omega) (by omega) (by omega)) mi_X9_isGone q2649 gcX9 h.1.1 ⟨rfl, rfl⟩ rfl ⟨Nat.le_refl _, Nat.le_refl _⟩ rfl dX9_sell_45 (fun r M1 hr => ?_)
          rcases hr with ⟨rfl, rfl, b45⟩ | ⟨rfl, rfl, b45⟩
          · -- true
            refine x_if_eqF (tgt := 54) C (by decide) dX9_sell_48 rfl ?_
            refine x_bipush C dX9_sell_51 kb_m2 ?_
            exact x_iret C dX9_sell_53 ⟨Nat.le_refl _, Nat.le_refl _⟩ (gw_n h hs1 (by unfold qSell; simp only [ean, ekn]; rw [if_pos b7, if_pos b16, if_pos c26, if_pos b35]; unfold pSell; rw [if_pos b45]; first | done | assumption | rfl))
          · -- false
            refine x_if_eqT (tgt := 54) C (by decide) dX9_sell_48 rfl ?_
            refine x_aload_n C dX9_sell_54 rfl rfl ?_
            refine x_V0V C (met_X9_canUndo l C.1 h.1 (show mI (sb σ1 0 B) 22 = nI u from ((hs1.2.2 22 (by decide) (by decide)).trans hu)) (by omega)) mi_X9_canUndo q2617 gcX9 h.1.1 ⟨rfl, rfl⟩ rfl ⟨Nat.le_refl _, Nat.le_refl _⟩ rfl dX9_sell_55 (fun M1 hr => ?_)
            have h := h.tr hr
            obtain ⟨σ2, hs2, h⟩ : ∃ σ', sQ (tUn (sb σ1 0 B) u) σ' ∧ MF G ad M0 (sb σ' 0 B) M1 := ⟨_, sQ.rf, (by rw [un_sb]; exact h)⟩
            refine x_aload_n C dX9_sell_58 rfl rfl ?_
            refine x_iload_n C dX9_sell_59 rfl rfl ?_
            refine x_bipush C dX9_sell_60 kb_7 ?_
            refine x_iload_n C dX9_sell_62 rfl rfl ?_
            refine x_iconst C dX9_sell_63 kc_1 ?_
            refine x_iaddN C dX9_sell_64 ?_
            refine x_V3V C (met_X9_put l C.1 h.1 ((hs2.2.2 21 (by decide) (by decide)).trans (show mI (tUn (sb σ1 0 B) u) 21 = nI 0 from ((hs1.2.2 21 (by decide) (by decide)).trans hb))) (by omega) (by omega) (by omega)) mi_X9_put q2405 gcX9 h.1.1 ⟨rfl, rfl⟩ rfl ⟨Nat.le_refl _, Nat.le_refl _⟩ rfl dX9_sell_65 (fun M1 hr => ?_)
            have h := h.tr hr
            refine x_aload_n C dX9_sell_68 rfl rfl ?_
            refine x_iload_n C dX9_sell_69 rfl rfl ?_
            refine x_bipush C dX9_sell_70 kb_8 ?_
            refine x_iload_n C dX9_sell_72 rfl rfl ?_
            refine x_V3V C (met_X9_put l C.1 h.1 ((hs2.2.2 21 (by decide) (by decide)).trans (show mI (tUn (sb σ1 0 B) u) 21 = nI 0 from ((hs1.2.2 21 (by decide) (by decide)).trans hb))) (by omega) (by omega) (by omega)) mi_X9_put q2405 gcX9 h.1.1 ⟨rfl, rfl⟩ rfl ⟨Nat.le_refl _, Nat.le_refl _⟩ rfl dX9_sell_73 (fun M1 hr => ?_)
            have h := h.tr hr
            refine x_aload_n C dX9_sell_76 rfl rfl ?_
            refine x_iload_n C dX9_sell_77 rfl rfl ?_
            refine x_V1I C (met_X9_behindOf l C.1 h.1 ((hs2.2.2 21 (by decide) (by decide)).trans (show mI (tUn (sb σ1 0 B) u) 21 = nI 0 from ((hs1.2.2 21 (by decide) (by decide)).trans hb))) ((pk_un (by omega)).trans ((pk_un (by omega)).trans hnw)) ((pk_un (by omega)).trans ((pk_un (by omega)).trans hR.bought.1.1)) (by omega) (by omega) (by omega) (by omega) (by omega)) mi_X9_behindOf q2665 gcX9 h.1.1 ⟨rfl, rfl⟩ rfl ⟨Nat.le_refl _, Nat.le_refl _⟩ rfl dX9_sell_78 (fun r M1 hr => ?_)
            obtain ⟨rfl, rfl⟩ := hr
            exact x_iret C dX9_sell_81 ⟨Nat.le_refl _, Nat.le_refl _⟩ (gw_y h hs2 hs1 (by unfold qSell; simp only [ean, ekn]; rw [if_pos b7, if_pos b16, if_pos c26, if_pos b35]; unfold pSell; rw [if_neg b45, pk_un (by omega), pk_un (by omega)]; first | done | assumption | rfl))
        · -- false
          refine x_if_neF (tgt := 43) C (by decide) dX9_sell_38 rfl ?_
          refine x_iconst C dX9_sell_41 kc_m1 ?_
          exact x_iret C dX9_sell_42 ⟨Nat.le_refl _, Nat.le_refl _⟩ (gw_n h hs1 (by unfold qSell; simp only [ean, ekn]; rw [if_pos b7, if_pos b16, if_pos c26, if_neg b35]; first | done | assumption | rfl))
    · -- false
      refine x_if_eqT (tgt := 41) C (by decide) dX9_sell_19 rfl ?_
      refine x_iconst C dX9_sell_41 kc_m1 ?_
      exact x_iret C dX9_sell_42 ⟨Nat.le_refl _, Nat.le_refl _⟩ (gw_n h hs1 (by unfold qSell; simp only [ean]; rw [if_pos b7, if_neg b16]; first | done | assumption | rfl))
  · -- false
    refine x_if_eqT (tgt := 41) C (by decide) dX9_sell_10 rfl ?_
    refine x_iconst C dX9_sell_41 kc_m1 ?_
    exact x_iret C dX9_sell_42 ⟨Nat.le_refl _, Nat.le_refl _⟩ (gw_n h hs1 (by unfold qSell; rw [if_neg b7]; first | done | assumption | rfl))
theorem mi_X9_hand : gMV RX9 yX9_hand cX9_hand 4 (some .int) 2 := ⟨q2670, q2671, q165, q2672, by decide +kernel⟩
set_option maxHeartbeats 4000000 in
set_option maxRecDepth 100000 in
theorem met_X9_hand (l : Launch) {G : gG} (hG : gOK G) {ad : Nat → Nat} {σ : mS} {M0 : gM} {u : Nat} {B : Nat → Int32} {a t : Int32} {A : Nat → Nat → Int32} {T : Nat} (h : MR G ad (sb σ 0 B) M0) (hb : mI σ 21 = nI 0) (hu : mI σ 22 = nI u) (hA : mA σ = A) (hT : mI σ 11 = nI T) (hb0_ : u ≤ 20) (hw : wT T A) (hB : wB T B) : Met l yX9_hand (ws_ yX9_hand cX9_hand 4 (some .int)) ({ frames := 3, cells := 0, slots := 0, locals := 64 }) (gPre G M0 [.ref (ad 0), .int (a), .int (t)]) (gQ G (gI (fun r M1 => ∃ σ', sQ (tW σ u B (qHand T B a t).1) σ' ∧ MF G ad M0 σ' M1 ∧ (qHand T B a t).2 = r))) 0 0 (gA G) := by
  refine gMet (L0 := [some (.ref (ad 0)), some (.int (a)), some (.int (t)), none]) RX9 hG (by decide +kernel) rfl (Nat.le_of_ble_eq_true rfl) rfl ?_
  intro p e s m args below meth c C hnm
  have h := MF.rf h
  have hT4 := hw.T4
  have hnw : B 0 = nI (pNow B) := hB.now.1
  have hnow : pNow B ≤ 63 := hB.now.2
  have hna : B 1865 = nI (dN (B 1865)) := hB.na.1
  have hna8 : dN (B 1865) ≤ 8 := hB.na.2
  have hkp : B 1867 = nI (dN (B 1867)) := hB.kept.1
  have hkp40 : dN (B 1867) ≤ 40 := hB.kept.2
  refine x_aload_n C dX9_hand_0 rfl rfl ?_
  refine x_iconst C dX9_hand_1 kc_0 ?_
  refine m_put C h 2 rfl q2411 rfl rfl rfl rfl dX9_hand_2 (fun M h => ?_)
  obtain ⟨σ1, hs1, h⟩ : ∃ σ', sQ σ σ' ∧ MF G ad M0 (sb σ' 0 B) M := ⟨_, sQ.p2, h⟩
  refine x_aload_n C dX9_hand_5 rfl rfl ?_
  refine x_iload_n C dX9_hand_6 rfl rfl ?_
  refine x_V1I C (met_X9_isAsset l C.1 h.1 ((hs1.2.2 21 (by decide) (by decide)).trans hb) hna (by omega)) mi_X9_isAsset q2645 gcX9 h.1.1 ⟨rfl, rfl⟩ rfl ⟨Nat.le_refl _, Nat.le_refl _⟩ rfl dX9_hand_7 (fun r M1 hr => ?_)
  rcases hr with ⟨rfl, rfl, b7⟩ | ⟨rfl, rfl, b7⟩
  · -- true
    obtain ⟨an, rfl, hlan⟩ := iT.ex b7 (by omega)
    have ean : dN (nI an) = an := dN_nI (by omega)
    have hR : wR T (pNow B) (pYr B) B an := hB.row hlan
    obtain ⟨hr0, hr0b⟩ : dN (B (2084 + 48 * an + 0)) ≤ 3 ∧ dN (B (2084 + 48 * an + 0)) < T := ⟨hR.owner.1.2, hR.owner.2⟩
    have hr5 := hR.bought.2
    have hr7 := hR.sold.2
    have hr47 := hR.thr.1.2
    refine x_if_eqF (tgt := 21) C (by decide) dX9_hand_10 rfl ?_
    refine x_aload_n C dX9_hand_13 rfl rfl ?_
    refine x_iload_n C dX9_hand_14 rfl rfl ?_
    refine x_V1I C (met_X9_isTrader l C.1 h.1 ((hs1.2.2 11 (by decide) (by decide)).trans hT)) mi_X9_isTrader q2613 gcX9 h.1.1 ⟨rfl, rfl⟩ rfl ⟨Nat.le_refl _, Nat.le_refl _⟩ rfl dX9_hand_15 (fun r M1 hr => ?_)
    rcases hr with ⟨rfl, rfl, b15⟩ | ⟨rfl, rfl, b15⟩
    · -- true
      obtain ⟨tn, rfl, hltn⟩ := iT.ex b15 (by omega)
      have etn : dN (nI tn) = tn := dN_nI (by omega)
      refine x_if_neT (tgt := 23) C (by decide) dX9_hand_18 rfl ?_
      refine x_aload_n C dX9_hand_23 rfl rfl ?_
      refine x_iload_n C dX9_hand_24 rfl rfl ?_
      refine x_V1I C (met_X9_isGone l C.1 h.1 ((hs1.2.2 21 (by decide) (by decide)).trans hb) hR.sold.1 (by omega) (by omega) (by omega)) mi_X9_isGone q2649 gcX9 h.1.1 ⟨rfl, rfl⟩ rfl ⟨Nat.le_refl _, Nat.le_refl _⟩ rfl dX9_hand_25 (fun r M1 hr => ?_)
      rcases hr with ⟨rfl, rfl, b25⟩ | ⟨rfl, rfl, b25⟩
      · -- true
        refine x_if_eqF (tgt := 34) C (by decide) dX9_hand_28 rfl ?_
        refine x_bipush C dX9_hand_31 kb_m2 ?_
        exact x_iret C dX9_hand_33 ⟨Nat.le_refl _, Nat.le_refl _⟩ (gw_n h hs1 (by unfold qHand; simp only [ean, etn]; rw [if_pos b7, if_pos b15, if_pos b25]; first | done | assumption | rfl))
      · -- false
        refine x_if_eqT (tgt := 34) C (by decide) dX9_hand_28 rfl ?_
        refine x_aload_n C dX9_hand_34 rfl rfl ?_
        refine x_V0V C (met_X9_canUndo l C.1 h.1 (show mI (sb σ1 0 B) 22 = nI u from ((hs1.2.2 22 (by decide) (by decide)).trans hu)) (by omega)) mi_X9_canUndo q2617 gcX9 h.1.1 ⟨rfl, rfl⟩ rfl ⟨Nat.le_refl _, Nat.le_refl _⟩ rfl dX9_hand_35 (fun M1 hr => ?_)
        have h := h.tr hr
        obtain ⟨σ2, hs2, h⟩ : ∃ σ', sQ (tUn (sb σ1 0 B) u) σ' ∧ MF G ad M0 (sb σ' 0 B) M1 := ⟨_, sQ.rf, (by rw [un_sb]; exact h)⟩
        refine x_aload_n C dX9_hand_38 rfl rfl ?_
        refine x_iload_n C dX9_hand_39 rfl rfl ?_
        refine x_iconst C dX9_hand_40 kc_1 ?_
        refine x_V2I C (met_X9_at l C.1 h.1 ((hs2.2.2 21 (by decide) (by decide)).trans (show mI (tUn (sb σ1 0 B) u) 21 = nI 0 from ((hs1.2.2 21 (by decide) (by decide)).trans hb))) (by omega) (by omega) (by omega)) mi_X9_at q2653 gcX9 h.1.1 ⟨rfl, rfl⟩ rfl ⟨Nat.le_refl _, Nat.le_refl _⟩ rfl dX9_hand_41 (fun r M1 hr => ?_)
        obtain ⟨rfl, rfl⟩ := hr
        refine x_istore_n C dX9_hand_44 rfl (gs1_3 rfl) rfl ?_
        refine x_aload_n C dX9_hand_45 rfl rfl ?_
        refine x_iload_n C dX9_hand_46 rfl rfl ?_
        refine x_iconst C dX9_hand_47 kc_1 ?_
        refine x_iload_n C dX9_hand_48 rfl rfl ?_
        refine x_V3V C (met_X9_put l C.1 h.1 ((hs2.2.2 21 (by decide) (by decide)).trans (show mI (tUn (sb σ1 0 B) u) 21 = nI 0 from ((hs1.2.2 21 (by decide) (by decide)).trans hb))) (by omega) (by omega) (by omega)) mi_X9_put q2405 gcX9 h.1.1 ⟨rfl, rfl⟩ rfl ⟨Nat.le_refl _, Nat.le_refl _⟩ rfl dX9_hand_49 (fun M1 hr => ?_)
        have h := h.tr hr
        refine x_iload_n C dX9_hand_52 rfl rfl ?_
        exact x_iret C dX9_hand_53 ⟨Nat.le_refl _, Nat.le_refl _⟩ (gw_y h hs2 hs1 (by unfold qHand; simp only [ean, etn]; rw [if_pos b7, if_pos b15, if_neg b25]; first | done | assumption | rfl))
    · -- false
      refine x_if_neF (tgt := 23) C (by decide) dX9_hand_18 rfl ?_
      refine x_iconst C dX9_hand_21 kc_m1 ?_
      exact x_iret C dX9_hand_22 ⟨Nat.le_refl _, Nat.le_refl _⟩ (gw_n h hs1 (by unfold qHand; simp only [ean]; rw [if_pos b7, if_neg b15]; first | done | assumption | rfl))
  · -- false
    refine x_if_eqT (tgt := 21) C (by decide) dX9_hand_10 rfl ?_
    refine x_iconst C dX9_hand_21 kc_m1 ?_
    exact x_iret C dX9_hand_22 ⟨Nat.le_refl _, Nat.le_refl _⟩ (gw_n h hs1 (by unfold qHand; rw [if_neg b7]; first | done | assumption | rfl))
theorem mi_X9_close : gMV RX9 yX9_close cX9_close 4 (some .int) 1 := ⟨q2674, q2675, q165, q2676, by decide +kernel⟩
set_option maxHeartbeats 4000000 in
set_option maxRecDepth 100000 in
theorem met_X9_close (l : Launch) {G : gG} (hG : gOK G) {ad : Nat → Nat} {σ : mS} {M0 : gM} {u : Nat} {B : Nat → Int32} {n : Int32} {A : Nat → Nat → Int32} {T : Nat} (h : MR G ad (sb σ 0 B) M0) (hb : mI σ 21 = nI 0) (hu : mI σ 22 = nI u) (hA : mA σ = A) (hT : mI σ 11 = nI T) (hb0_ : u ≤ 20) (hw : wT T A) (hB : wB T B) : Met l yX9_close (ws_ yX9_close cX9_close 4 (some .int)) ({ frames := 9, cells := 0, slots := 0, locals := 223 }) (gPre G M0 [.ref (ad 0), .int (n)]) (gQ G (gI (fun r M1 => ∃ σ', sQ (tW σ u B (qClose A T B n).1) σ' ∧ MF G ad M0 σ' M1 ∧ (qClose A T B n).2 = r))) 0 0 (gA G) := by
  refine gMet (L0 := [some (.ref (ad 0)), some (.int (n)), none, none]) RX9 hG (by decide +kernel) rfl (Nat.le_of_ble_eq_true rfl) rfl ?_
  intro p e s m args below meth c C hnm
  have h := MF.rf h
  have hT4 := hw.T4
  have hnw : B 0 = nI (pNow B) := hB.now.1
  have hnow : pNow B ≤ 63 := hB.now.2
  have hna : B 1865 = nI (dN (B 1865)) := hB.na.1
  have hna8 : dN (B 1865) ≤ 8 := hB.na.2
  have hkp : B 1867 = nI (dN (B 1867)) := hB.kept.1
  have hkp40 : dN (B 1867) ≤ 40 := hB.kept.2
  refine x_aload_n C dX9_close_0 rfl rfl ?_
  refine x_iconst C dX9_close_1 kc_0 ?_
  refine m_put C h 2 rfl q2411 rfl rfl rfl rfl dX9_close_2 (fun M h => ?_)
  obtain ⟨σ1, hs1, h⟩ : ∃ σ', sQ σ σ' ∧ MF G ad M0 (sb σ' 0 B) M := ⟨_, sQ.p2, h⟩
  refine x_iload_n C dX9_close_5 rfl rfl ?_
  refine x_iconst C dX9_close_6 kc_1 ?_
  refine x_bipush C dX9_close_7 kb_16 ?_
  refine x_S3I C (met_X9_isIn l C.1) mi_X9_isIn q2550 ⟨rfl, rfl⟩ rfl ⟨Nat.le_refl _, Nat.le_refl _⟩ rfl dX9_close_9 (fun r M1 hr => ?_)
  rcases hr with ⟨rfl, rfl, b9⟩ | ⟨rfl, rfl, b9⟩
  · -- true
    obtain ⟨nn, rfl, hlnn, hhnn⟩ := iI.ex b9 (by omega) (by omega)
    have enn : dN (nI nn) = nn := dN_nI (by omega)
    refine x_if_neT (tgt := 17) C (by decide) dX9_close_12 rfl ?_
    refine x_aload_n C dX9_close_17 rfl rfl ?_
    refine x_iconst C dX9_close_18 kc_0 ?_
    refine x_V1I C (met_X9_of l C.1 h.1 ((hs1.2.2 21 (by decide) (by decide)).trans hb) (by omega) (by omega)) mi_X9_of q2389 gcX9 h.1.1 ⟨rfl, rfl⟩ rfl ⟨Nat.le_refl _, Nat.le_refl _⟩ rfl dX9_close_19 (fun r M1 hr => ?_)
    obtain ⟨rfl, hr⟩ := hr
    have hr := hr.symm.trans (show _ = nI (pNow B) from hnw)
    subst hr
    refine x_iload_n C dX9_close_22 rfl rfl ?_
    refine x_iaddN C dX9_close_23 ?_
    refine x_bipush C dX9_close_24 kb_63 ?_
    refine x_icmp_leN (tgt := 32) C (by omega) (by omega) dX9_close_26 rfl (fun c26 => ?_) (fun c26 => ?_)
    · -- 32
      refine x_aload_n C dX9_close_32 rfl rfl ?_
      refine x_V0V C (met_X9_canUndo l C.1 h.1 (show mI (sb σ1 0 B) 22 = nI u from ((hs1.2.2 22 (by decide) (by decide)).trans hu)) (by omega)) mi_X9_canUndo q2617 gcX9 h.1.1 ⟨rfl, rfl⟩ rfl ⟨Nat.le_refl _, Nat.le_refl _⟩ rfl dX9_close_33 (fun M1 hr => ?_)
      have h := h.tr hr
      obtain ⟨σ2, hs2, h⟩ : ∃ σ', sQ (tUn (sb σ1 0 B) u) σ' ∧ MF G ad M0 (sb σ' 0 B) M1 := ⟨_, sQ.rf, (by rw [un_sb]; exact h)⟩
      refine x_aload_n C dX9_close_36 rfl rfl ?_
      refine x_sipush C dX9_close_37 ks_1866 ?_
      refine x_V1I C (met_X9_of l C.1 h.1 ((hs2.2.2 21 (by decide) (by decide)).trans (show mI (tUn (sb σ1 0 B) u) 21 = nI 0 from ((hs1.2.2 21 (by decide) (by decide)).trans hb))) (by omega) (by omega)) mi_X9_of q2389 gcX9 h.1.1 ⟨rfl, rfl⟩ rfl ⟨Nat.le_refl _, Nat.le_refl _⟩ rfl dX9_close_40 (fun r M1 hr => ?_)
      obtain ⟨rfl, rfl⟩ := hr
      refine x_istore_n C dX9_close_43 rfl (gs1_2 rfl) rfl ?_
      refine x_iconst C dX9_close_44 kc_0 ?_
      refine x_istore_n C dX9_close_45 rfl (gs1_3 rfl) rfl ?_
      refine x_loop (head := 46) (E := nn) (fun i M => ∃ σ3, sQ (tUn (sb σ1 0 B) u) σ3 ∧ MF G ad M0 (sb σ3 0 (pClN A T B i)) M) (fun i => [some (.ref (ad 0)), some (.int (nI nn)), some (.int (B 1866)), some (.int (nI i))]) ⟨_, hs2, h⟩ (fun i M hi h ih => ?_)
      obtain ⟨σ3, hs3, h⟩ := h
      obtain ⟨hBi, hpi⟩ := wB_clN hw hB i (by omega)
      have hBn : pClN A T B i 0 = nI (pNow B + i) := by rw [← hpi]; exact hBi.now.1
      refine x_iload_n C dX9_close_46 rfl rfl ?_
      refine x_iload_n C dX9_close_47 rfl rfl ?_
      refine x_icmp_geN (tgt := 61) C (by omega) (by omega) dX9_close_48 rfl (fun c48 => ?_) (fun c48 => ?_)
      · -- 61
        obtain rfl : i = nn := by omega
        refine x_aload_n C dX9_close_61 rfl rfl ?_
        refine x_sipush C dX9_close_62 ks_1866 ?_
        refine x_V1I C (met_X9_of l C.1 h.1 ((hs3.2.2 21 (by decide) (by decide)).trans (show mI (tUn (sb σ1 0 B) u) 21 = nI 0 from ((hs1.2.2 21 (by decide) (by decide)).trans hb))) (by omega) (by omega)) mi_X9_of q2389 gcX9 h.1.1 ⟨rfl, rfl⟩ rfl ⟨Nat.le_refl _, Nat.le_refl _⟩ rfl dX9_close_65 (fun r M1 hr => ?_)
        obtain ⟨rfl, rfl⟩ := hr
        refine x_iload_n C dX9_close_68 rfl rfl ?_
        refine x_isub C dX9_close_69 ?_
        exact x_iret C dX9_close_70 ⟨Nat.le_refl _, Nat.le_refl _⟩ (gw_y h hs3 hs1 (by unfold qClose; simp only [enn]; rw [if_pos b9, if_pos c26]; first | done | assumption | rfl))
      · -- 51
        refine x_aload_n C dX9_close_51 rfl rfl ?_
        refine x_V0V C (met_X9_closesQuarter l C.1 h.1 ((hs3.2.2 21 (by decide) (by decide)).trans (show mI (tUn (sb σ1 0 B) u) 21 = nI 0 from ((hs1.2.2 21 (by decide) (by decide)).trans hb))) (hs3.1.trans (show mA (tUn (sb σ1 0 B) u) = A from (hs1.1.trans hA))) hBn ((hs3.2.2 11 (by decide) (by decide)).trans (show mI (tUn (sb σ1 0 B) u) 11 = nI T from ((hs1.2.2 11 (by decide) (by decide)).trans hT))) (by omega) (by omega) hw hBi) mi_X9_closesQuarter q2677 gcX9 h.1.1 ⟨rfl, rfl⟩ rfl ⟨Nat.le_refl _, Nat.le_refl _⟩ rfl dX9_close_52 (fun M1 hr => ?_)
        obtain ⟨σ9, hsσ9, hr⟩ := hr
        have h := h.tr hr
        refine x_iincN C dX9_close_55 rfl (gs1_3 rfl) rfl ?_
        refine x_goto (tgt := 46) C dX9_close_58 rfl ?_
        exact (ih (by omega) _ ⟨_, hs3.tr hsσ9.sQ, h⟩)
    · -- 29
      refine x_bipush C dX9_close_29 kb_m2 ?_
      exact x_iret C dX9_close_31 ⟨Nat.le_refl _, Nat.le_refl _⟩ (gw_n h hs1 (by unfold qClose; simp only [enn]; rw [if_pos b9, if_neg (by omega)]; first | done | assumption | rfl))
  · -- false
    refine x_if_neF (tgt := 17) C (by decide) dX9_close_12 rfl ?_
    refine x_iconst C dX9_close_15 kc_m1 ?_
    exact x_iret C dX9_close_16 ⟨Nat.le_refl _, Nat.le_refl _⟩ (gw_n h hs1 (by unfold qClose; rw [if_neg b9]; first | done | assumption | rfl))
