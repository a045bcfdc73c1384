set_option maxRecDepth 100000
theorem mi_X9_intervalOf : gMV RX9 yX9_intervalOf cX9_intervalOf 3 (some .int) 2 := ⟨q2659, qs88, q165, q2660, by decide +kernel⟩
set_option maxHeartbeats 4000000 in
set_option maxRecDepth 100000 in
theorem met_X9_intervalOf (l : Launch) {G : gG} (hG : gOK G) {ad : Nat → Nat} {σ : mS} {M0 : gM} {b : Nat} {B : Nat → Int32} {a y q5 : Nat} (h : MR G ad (sb σ b B) M0) (hb : mI σ 21 = nI b) (h5 : B (2084 + 48 * a + 5) = nI q5) (hb0_ : b < 23) (hb1_ : a < 8) (hb2_ : q5 < 64) (hb3_ : q5 / 4 ≤ y) : Met l yX9_intervalOf (ws_ yX9_intervalOf cX9_intervalOf 3 (some .int)) ({ frames := 2, cells := 0, slots := 0, locals := 43 }) (gPre G M0 [.ref (ad 0), .int (nI a), .int (nI y)]) (gQ G (gI (fun r M1 => M0 = M1 ∧ nI (y - q5 / 4) = r))) 0 0 (gA G) := by
  refine gMet (L0 := [some (.ref (ad 0)), some (.int (nI a)), some (.int (nI y))]) RX9 hG (by decide +kernel) rfl (Nat.le_of_ble_eq_true rfl) rfl ?_
  intro p e s m args below meth c C hnm
  have h := MF.rf h
  refine x_iload_n C dX9_intervalOf_0 rfl rfl ?_
  refine x_aload_n C dX9_intervalOf_1 rfl rfl ?_
  refine x_iload_n C dX9_intervalOf_2 rfl rfl ?_
  refine x_iconst C dX9_intervalOf_3 kc_5 ?_
  refine x_V2I C (met_X9_at l C.1 h.1 hb (by omega) (by omega) (by omega)) mi_X9_at q2653 gcX9 h.1.1 ⟨rfl, rfl⟩ rfl ⟨Nat.le_refl _, Nat.le_refl _⟩ rfl dX9_intervalOf_4 (fun r M1 hr => ?_)
  obtain ⟨rfl, hr⟩ := hr
  have hr := hr.symm.trans (show _ = nI q5 from h5)
  subst hr
  refine x_iconst C dX9_intervalOf_7 kc_4 ?_
  refine x_idivN C (by omega) (by omega) (by omega) dX9_intervalOf_8 ?_
  refine x_isubN C (by omega) dX9_intervalOf_9 ?_
  exact x_iret C dX9_intervalOf_10 ⟨Nat.le_refl _, Nat.le_refl _⟩ ⟨rfl, rfl⟩
theorem mi_X9_firstTaken : gMV RX9 yX9_firstTaken cX9_firstTaken 3 (some .long) 2 := ⟨q2763, qs109, q165, q2764, by decide +kernel⟩
set_option maxHeartbeats 4000000 in
set_option maxRecDepth 100000 in
theorem met_X9_firstTaken (l : Launch) {G : gG} (hG : gOK G) {ad : Nat → Nat} {σ : mS} {M0 : gM} {b : Nat} {B : Nat → Int32} {a : Nat} {x : Int32} {T : Nat} {A : Nat → Nat → Int32} (h : MR G ad (sb σ b B) M0) (hb : mI σ 21 = nI b) (hA : mA σ = A) (hb0_ : b < 23) (hb1_ : a < 8) (hw : wT T A) : Met l yX9_firstTaken (ws_ yX9_firstTaken cX9_firstTaken 3 (some .long)) ({ frames := 3, cells := 0, slots := 0, locals := 73 }) (gPre G M0 [.ref (ad 0), .int (nI a), .int (x)]) (gQ G (gJ (fun r M1 => M0 = M1 ∧ pFirst A B a x = r))) 0 0 (gA G) := by
  refine gMet (L0 := [some (.ref (ad 0)), some (.int (nI a)), some (.int (x))]) RX9 hG (by decide +kernel) rfl (Nat.le_of_ble_eq_true rfl) rfl ?_
  intro p e s m args below meth c C hnm
  have h := MF.rf h
  refine x_aload_n C dX9_firstTaken_0 rfl rfl ?_
  refine x_aload_n C dX9_firstTaken_1 rfl rfl ?_
  refine x_iload_n C dX9_firstTaken_2 rfl rfl ?_
  refine x_iconst C dX9_firstTaken_3 kc_3 ?_
  refine x_V2I C (met_X9_at l C.1 h.1 hb (by omega) (by omega) (by omega)) mi_X9_at q2653 gcX9 h.1.1 ⟨rfl, rfl⟩ rfl ⟨Nat.le_refl _, Nat.le_refl _⟩ rfl dX9_firstTaken_4 (fun r M1 hr => ?_)
  obtain ⟨rfl, rfl⟩ := hr
  refine x_i2l C dX9_firstTaken_7 ?_
  refine x_iload_n C dX9_firstTaken_8 rfl rfl ?_
  refine x_i2l C dX9_firstTaken_9 ?_
  refine x_lmul C dX9_firstTaken_10 ?_
  refine x_aload_n C dX9_firstTaken_11 rfl rfl ?_
  refine m_get C h 17 rfl q2426 rfl dX9_firstTaken_12 ?_
  refine x_iconst C dX9_firstTaken_15 kc_1 ?_
  refine m_ald C h 6 (N := 14) (by decide) rfl rfl (by omega) (congrFun (congrFun hA 6) _) dX9_firstTaken_16 ?_
  refine x_i2l C dX9_firstTaken_17 ?_
  refine x_V2J C (met_X9_cut l C.1 h.1 hA (l_step hw.step hw.step10).1 (l_step hw.step hw.step10).2) mi_X9_cut q2757 gcX9 h.1.1 ⟨rfl, rfl⟩ rfl ⟨Nat.le_refl _, Nat.le_refl _⟩ rfl dX9_firstTaken_18 (fun r M1 hr => ?_)
  obtain ⟨rfl, rfl⟩ := hr
  exact x_lret C dX9_firstTaken_21 ⟨Nat.le_refl _, Nat.le_refl _⟩ ⟨rfl, rfl⟩
theorem mi_X9_adjustedBy : gMV RX9 yX9_adjustedBy cX9_adjustedBy 4 (some .long) 3 := ⟨q2767, qs110, q165, q2768, by decide +kernel⟩
set_option maxHeartbeats 4000000 in
set_option maxRecDepth 100000 in
theorem met_X9_adjustedBy (l : Launch) {G : gG} (hG : gOK G) {ad : Nat → Nat} {σ : mS} {M0 : gM} {b : Nat} {B : Nat → Int32} {a : Nat} {x y : Int32} {T : Nat} {A : Nat → Nat → Int32} (h : MR G ad (sb σ b B) M0) (hb : mI σ 21 = nI b) (hA : mA σ = A) (hb0_ : b < 23) (hb1_ : a < 8) (hw : wT T A) (hsp : B (2084 + 48 * a + 4) = nI 5 ∨ B (2084 + 48 * a + 4) = nI 10) : Met l yX9_adjustedBy (ws_ yX9_adjustedBy cX9_adjustedBy 4 (some .long)) ({ frames := 3, cells := 0, slots := 0, locals := 73 }) (gPre G M0 [.ref (ad 0), .int (nI a), .int (x), .int (y)]) (gQ G (gJ (fun r M1 => M0 = M1 ∧ pAdj A B a x y = r))) 0 0 (gA G) := by
  refine gMet (L0 := [some (.ref (ad 0)), some (.int (nI a)), some (.int (x)), some (.int (y))]) RX9 hG (by decide +kernel) rfl (Nat.le_of_ble_eq_true rfl) rfl ?_
  intro p e s m args below meth c C hnm
  have h := MF.rf h
  refine x_aload_n C dX9_adjustedBy_0 rfl rfl ?_
  refine x_aload_n C dX9_adjustedBy_1 rfl rfl ?_
  refine x_iload_n C dX9_adjustedBy_2 rfl rfl ?_
  refine x_iconst C dX9_adjustedBy_3 kc_3 ?_
  refine x_V2I C (met_X9_at l C.1 h.1 hb (by omega) (by omega) (by omega)) mi_X9_at q2653 gcX9 h.1.1 ⟨rfl, rfl⟩ rfl ⟨Nat.le_refl _, Nat.le_refl _⟩ rfl dX9_adjustedBy_4 (fun r M1 hr => ?_)
  obtain ⟨rfl, rfl⟩ := hr
  refine x_i2l C dX9_adjustedBy_7 ?_
  refine x_iload_n C dX9_adjustedBy_8 rfl rfl ?_
  refine x_iload_n C dX9_adjustedBy_9 rfl rfl ?_
  refine x_isub C dX9_adjustedBy_10 ?_
  refine x_i2l C dX9_adjustedBy_11 ?_
  refine x_lmul C dX9_adjustedBy_12 ?_
  refine x_aload_n C dX9_adjustedBy_13 rfl rfl ?_
  refine x_iload_n C dX9_adjustedBy_14 rfl rfl ?_
  refine x_iconst C dX9_adjustedBy_15 kc_4 ?_
  refine x_V2I C (met_X9_at l C.1 h.1 hb (by omega) (by omega) (by omega)) mi_X9_at q2653 gcX9 h.1.1 ⟨rfl, rfl⟩ rfl ⟨Nat.le_refl _, Nat.le_refl _⟩ rfl dX9_adjustedBy_16 (fun r M1 hr => ?_)
  obtain ⟨rfl, rfl⟩ := hr
  refine x_i2l C dX9_adjustedBy_19 ?_
  refine x_aload_n C dX9_adjustedBy_20 rfl rfl ?_
  refine m_get C h 17 rfl q2426 rfl dX9_adjustedBy_21 ?_
  refine x_iconst C dX9_adjustedBy_24 kc_1 ?_
  refine m_ald C h 6 (N := 14) (by decide) rfl rfl (by omega) (congrFun (congrFun hA 6) _) dX9_adjustedBy_25 ?_
  refine x_i2l C dX9_adjustedBy_26 ?_
  refine x_lmul C dX9_adjustedBy_27 ?_
  refine x_V2J C (met_X9_cut l C.1 h.1 hA (l_ss hsp hw.step hw.step10).1 (l_ss hsp hw.step hw.step10).2) mi_X9_cut q2757 gcX9 h.1.1 ⟨rfl, rfl⟩ rfl ⟨Nat.le_refl _, Nat.le_refl _⟩ rfl dX9_adjustedBy_28 (fun r M1 hr => ?_)
  obtain ⟨rfl, rfl⟩ := hr
  exact x_lret C dX9_adjustedBy_31 ⟨Nat.le_refl _, Nat.le_refl _⟩ ⟨rfl, rfl⟩
theorem mi_X9_lastBy : gMV RX9 yX9_lastBy cX9_lastBy 5 (some .long) 4 := ⟨q2775, qs112, q165, q2776, by decide +kernel⟩
set_option maxHeartbeats 4000000 in
set_option maxRecDepth 100000 in
theorem met_X9_lastBy (l : Launch) {G : gG} (hG : gOK G) {ad : Nat → Nat} {σ : mS} {M0 : gM} {b : Nat} {B : Nat → Int32} {a : Nat} {bh x y : Int32} {T : Nat} {A : Nat → Nat → Int32} (h : MR G ad (sb σ b B) M0) (hb : mI σ 21 = nI b) (hA : mA σ = A) (hb0_ : b < 23) (hb1_ : a < 8) (hw : wT T A) (hsp : B (2084 + 48 * a + 4) = nI 5 ∨ B (2084 + 48 * a + 4) = nI 10) : Met l yX9_lastBy (ws_ yX9_lastBy cX9_lastBy 5 (some .long)) ({ frames := 3, cells := 0, slots := 0, locals := 73 }) (gPre G M0 [.ref (ad 0), .int (nI a), .int (bh), .int (x), .int (y)]) (gQ G (gJ (fun r M1 => M0 = M1 ∧ pLst A B a bh x y = r))) 0 0 (gA G) := by
  refine gMet (L0 := [some (.ref (ad 0)), some (.int (nI a)), some (.int (bh)), some (.int (x)), some (.int (y))]) RX9 hG (by decide +kernel) rfl (Nat.le_of_ble_eq_true rfl) rfl ?_
  intro p e s m args below meth c C hnm
  have h := MF.rf h
  refine x_aload_n C dX9_lastBy_0 rfl rfl ?_
  refine x_aload_n C dX9_lastBy_1 rfl rfl ?_
  refine x_iload_n C dX9_lastBy_2 rfl rfl ?_
  refine x_iconst C dX9_lastBy_3 kc_3 ?_
  refine x_V2I C (met_X9_at l C.1 h.1 hb (by omega) (by omega) (by omega)) mi_X9_at q2653 gcX9 h.1.1 ⟨rfl, rfl⟩ rfl ⟨Nat.le_refl _, Nat.le_refl _⟩ rfl dX9_lastBy_4 (fun r M1 hr => ?_)
  obtain ⟨rfl, rfl⟩ := hr
  refine x_i2l C dX9_lastBy_7 ?_
  refine x_iload_n C dX9_lastBy_8 rfl rfl ?_
  refine x_i2l C dX9_lastBy_9 ?_
  refine x_lmul C dX9_lastBy_10 ?_
  refine x_iload_n C dX9_lastBy_11 rfl rfl ?_
  refine x_if_ne (tgt := 24) C dX9_lastBy_12 rfl (fun c12 => ?_) (fun c12 => ?_)
  · -- 24
    refine x_iconst C dX9_lastBy_24 kc_0 ?_
    refine x_iload C dX9_lastBy_25 rfl ?_
    refine x_isub C dX9_lastBy_27 ?_
    refine x_i2l C dX9_lastBy_28 ?_
    refine x_lmul C dX9_lastBy_29 ?_
    refine x_aload_n C dX9_lastBy_30 rfl rfl ?_
    refine x_iload_n C dX9_lastBy_31 rfl rfl ?_
    refine x_iconst C dX9_lastBy_32 kc_4 ?_
    refine x_V2I C (met_X9_at l C.1 h.1 hb (by omega) (by omega) (by omega)) mi_X9_at q2653 gcX9 h.1.1 ⟨rfl, rfl⟩ rfl ⟨Nat.le_refl _, Nat.le_refl _⟩ rfl dX9_lastBy_33 (fun r M1 hr => ?_)
    obtain ⟨rfl, rfl⟩ := hr
    refine x_i2l C dX9_lastBy_36 ?_
    refine x_aload_n C dX9_lastBy_37 rfl rfl ?_
    refine m_get C h 17 rfl q2426 rfl dX9_lastBy_38 ?_
    refine x_iconst C dX9_lastBy_41 kc_1 ?_
    refine m_ald C h 6 (N := 14) (by decide) rfl rfl (by omega) (congrFun (congrFun hA 6) _) dX9_lastBy_42 ?_
    refine x_i2l C dX9_lastBy_43 ?_
    refine x_lmul C dX9_lastBy_44 ?_
    refine x_V2J C (met_X9_cut l C.1 h.1 hA (l_ss hsp hw.step hw.step10).1 (l_ss hsp hw.step hw.step10).2) mi_X9_cut q2757 gcX9 h.1.1 ⟨rfl, rfl⟩ rfl ⟨Nat.le_refl _, Nat.le_refl _⟩ rfl dX9_lastBy_45 (fun r M1 hr => ?_)
    obtain ⟨rfl, rfl⟩ := hr
    exact x_lret C dX9_lastBy_48 ⟨Nat.le_refl _, Nat.le_refl _⟩ ⟨rfl, (by unfold pLst; rw [if_neg c12])⟩
  · -- 15
    refine x_aload_n C dX9_lastBy_15 rfl rfl ?_
    refine m_get C h 17 rfl q2426 rfl dX9_lastBy_16 ?_
    refine x_iconst C dX9_lastBy_19 kc_1 ?_
    refine m_ald C h 6 (N := 14) (by decide) rfl rfl (by omega) (congrFun (congrFun hA 6) _) dX9_lastBy_20 ?_
    refine x_goto (tgt := 25) C dX9_lastBy_21 rfl ?_
    refine x_iload C dX9_lastBy_25 rfl ?_
    refine x_isub C dX9_lastBy_27 ?_
    refine x_i2l C dX9_lastBy_28 ?_
    refine x_lmul C dX9_lastBy_29 ?_
    refine x_aload_n C dX9_lastBy_30 rfl rfl ?_
    refine x_iload_n C dX9_lastBy_31 rfl rfl ?_
    refine x_iconst C dX9_lastBy_32 kc_4 ?_
    refine x_V2I C (met_X9_at l C.1 h.1 hb (by omega) (by omega) (by omega)) mi_X9_at q2653 gcX9 h.1.1 ⟨rfl, rfl⟩ rfl ⟨Nat.le_refl _, Nat.le_refl _⟩ rfl dX9_lastBy_33 (fun r M1 hr => ?_)
    obtain ⟨rfl, rfl⟩ := hr
    refine x_i2l C dX9_lastBy_36 ?_
    refine x_aload_n C dX9_lastBy_37 rfl rfl ?_
    refine m_get C h 17 rfl q2426 rfl dX9_lastBy_38 ?_
    refine x_iconst C dX9_lastBy_41 kc_1 ?_
    refine m_ald C h 6 (N := 14) (by decide) rfl rfl (by omega) (congrFun (congrFun hA 6) _) dX9_lastBy_42 ?_
    refine x_i2l C dX9_lastBy_43 ?_
    refine x_lmul C dX9_lastBy_44 ?_
    refine x_V2J C (met_X9_cut l C.1 h.1 hA (l_ss hsp hw.step hw.step10).1 (l_ss hsp hw.step hw.step10).2) mi_X9_cut q2757 gcX9 h.1.1 ⟨rfl, rfl⟩ rfl ⟨Nat.le_refl _, Nat.le_refl _⟩ rfl dX9_lastBy_45 (fun r M1 hr => ?_)
    obtain ⟨rfl, rfl⟩ := hr
    exact x_lret C dX9_lastBy_48 ⟨Nat.le_refl _, Nat.le_refl _⟩ ⟨rfl, (by unfold pLst; rw [if_pos c12])⟩
theorem mi_X9_worthBy : gMV RX9 yX9_worthBy cX9_worthBy 9 (some .int) 2 := ⟨q2750, qs106, q165, q2751, by decide +kernel⟩
set_option maxHeartbeats 4000000 in
set_option maxRecDepth 100000 in
theorem met_X9_worthBy (l : Launch) {G : gG} (hG : gOK G) {ad : Nat → Nat} {σ : mS} {M0 : gM} {b : Nat} {B : Nat → Int32} {a t w q5 : Nat} {use : Int32} {A : Nat → Nat → Int32} {T : Nat} (h : MR G ad (sb σ b B) M0) (hb : mI σ 21 = nI b) (hA : mA σ = A) (hn : B 0 = nI w) (h0 : B (2084 + 48 * a + 0) = nI t) (h5 : B (2084 + 48 * a + 5) = nI q5) (hb0_ : b < 23) (hb1_ : a < 8) (hb2_ : t < 4) (hb3_ : w < 64) (hb4_ : q5 < 64) (hb5_ : q5 / 4 ≤ w / 4) (hw : wT T A) : Met l yX9_worthBy (ws_ yX9_worthBy cX9_worthBy 9 (some .int)) ({ frames := 5, cells := 0, slots := 0, locals := 119 }) (gPre G M0 [.ref (ad 0), .int (nI a), .int (use)]) (gQ G (gI (fun r M1 => pWorth A B a use = r ∧ MF G ad M0 (sb (sy σ (pYS B t (w / 4)) (pHO B t) (pHA B t)) b B) M1))) 0 0 (gA G) := by
  refine gMet (L0 := [some (.ref (ad 0)), some (.int (nI a)), some (.int (use)), none, none, none, none, none, none]) RX9 hG (by decide +kernel) rfl (Nat.le_of_ble_eq_true rfl) rfl ?_
  intro p e s m args below meth c C hnm
  have h := MF.rf h
  refine x_aload_n C dX9_worthBy_0 rfl rfl ?_
  refine x_aload_n C dX9_worthBy_1 rfl rfl ?_
  refine x_iload_n C dX9_worthBy_2 rfl rfl ?_
  refine x_iconst C dX9_worthBy_3 kc_0 ?_
  refine x_V2I C (met_X9_at l C.1 h.1 hb (by omega) (by omega) (by omega)) mi_X9_at q2653 gcX9 h.1.1 ⟨rfl, rfl⟩ rfl ⟨Nat.le_refl _, Nat.le_refl _⟩ rfl dX9_worthBy_4 (fun r M1 hr => ?_)
  obtain ⟨rfl, hr⟩ := hr
  have hr := hr.symm.trans (show _ = nI t from h0)
  subst hr
  refine x_aload_n C dX9_worthBy_7 rfl rfl ?_
  refine x_V0I C (met_X9_year l C.1 h.1 hb hn (by omega) (by omega)) mi_X9_year q2629 gcX9 h.1.1 ⟨rfl, rfl⟩ rfl ⟨Nat.le_refl _, Nat.le_refl _⟩ rfl dX9_worthBy_8 (fun r M1 hr => ?_)
  obtain ⟨rfl, rfl⟩ := hr
  refine x_V2I C (met_X9_annualOf l C.1 h.1 hb hA hn (by omega) (by omega) (by omega) (by omega)) mi_X9_annualOf q2752 gcX9 h.1.1 ⟨rfl, rfl⟩ rfl ⟨Nat.le_refl _, Nat.le_refl _⟩ rfl dX9_worthBy_11 (fun r M1 hr => ?_)
  obtain ⟨rfl, hr⟩ := hr
  have h := h.tr hr
  refine x_istore_n C dX9_worthBy_14 rfl (gs1_3 rfl) rfl ?_
  refine x_aload_n C dX9_worthBy_15 rfl rfl ?_
  refine x_iconst C dX9_worthBy_16 kc_0 ?_
  refine x_V1I C (met_X9_of l C.1 h.1 hb (by omega) (by omega)) mi_X9_of q2389 gcX9 h.1.1 ⟨rfl, rfl⟩ rfl ⟨Nat.le_refl _, Nat.le_refl _⟩ rfl dX9_worthBy_17 (fun r M1 hr => ?_)
  obtain ⟨rfl, hr⟩ := hr
  have hr := hr.symm.trans (show _ = nI w from hn)
  subst hr
  refine x_iconst C dX9_worthBy_20 kc_4 ?_
  refine x_iremN C (by omega) (by omega) (by omega) dX9_worthBy_21 ?_
  refine x_istore C dX9_worthBy_22 (gs1_4 rfl) rfl ?_
  refine x_aload_n C dX9_worthBy_24 rfl rfl ?_
  refine x_iload_n C dX9_worthBy_25 rfl rfl ?_
  refine x_aload_n C dX9_worthBy_26 rfl rfl ?_
  refine x_V0I C (met_X9_year l C.1 h.1 hb hn (by omega) (by omega)) mi_X9_year q2629 gcX9 h.1.1 ⟨rfl, rfl⟩ rfl ⟨Nat.le_refl _, Nat.le_refl _⟩ rfl dX9_worthBy_27 (fun r M1 hr => ?_)
  obtain ⟨rfl, rfl⟩ := hr
  refine x_V2I C (met_X9_intervalOf l C.1 h.1 hb h5 (by omega) (by omega) (by omega) (by omega)) mi_X9_intervalOf q2657 gcX9 h.1.1 ⟨rfl, rfl⟩ rfl ⟨Nat.le_refl _, Nat.le_refl _⟩ rfl dX9_worthBy_30 (fun r M1 hr => ?_)
  obtain ⟨rfl, rfl⟩ := hr
  refine x_if_neN (tgt := 60) C (by omega) dX9_worthBy_33 rfl (fun c33 => ?_) (fun c33 => ?_)
  · -- 60
    refine x_lconst (v := 0) C dX9_worthBy_60 rfl ?_
    refine x_lstore C dX9_worthBy_61 (gs2_5 rfl) rfl ?_
    refine x_iconst C dX9_worthBy_63 kc_0 ?_
    refine x_istore C dX9_worthBy_64 (gs1_7 rfl) rfl ?_
    refine x_loop (head := 66) (E := 4) (fun i M => MF G ad M0 (sb (sy σ (pYS B t (w / 4)) (pHO B t) (pHA B t)) b B) M) (fun i => [some (.ref (ad 0)), some (.int (nI a)), some (.int use), some (.int (pAnn A B t (w / 4))), some (.int (nI (w % 4))), some (.long (pWn A B a use (pAnn A B t (w / 4)) (w % 4) i)), none, some (.int (nI i)), none]) h (fun i M hi h ih => ?_)
    refine x_iload C dX9_worthBy_66 rfl ?_
    refine x_iconst C dX9_worthBy_68 kc_4 ?_
    refine x_icmp_geN (tgt := 133) C (by omega) (by omega) dX9_worthBy_69 rfl (fun c69 => ?_) (fun c69 => ?_)
    · -- 133
      obtain rfl : i = 4 := by omega
      refine x_aload_n C dX9_worthBy_133 rfl rfl ?_
      refine x_lload C dX9_worthBy_134 rfl ?_
      refine x_ldc2 C dX9_worthBy_136 q2756 ?_
      refine x_V2J C (met_X9_cut l C.1 h.1 hA (by decide) (by decide)) mi_X9_cut q2757 gcX9 h.1.1 ⟨rfl, rfl⟩ rfl ⟨Nat.le_refl _, Nat.le_refl _⟩ rfl dX9_worthBy_139 (fun r M1 hr => ?_)
      obtain ⟨rfl, rfl⟩ := hr
      refine x_l2i C dX9_worthBy_142 ?_
      exact x_iret C dX9_worthBy_143 ⟨Nat.le_refl _, Nat.le_refl _⟩ ⟨(by rw [pWorth_eq hn h0 h5 (by omega) (by omega) (by omega), if_neg c33]), h⟩
    · -- 72
      refine x_join (α := Int32) (P := fun v => v = (if i < w % 4 then B (2084 + 48 * a + (13 + i)) else use)) (LL := fun v => [some (.ref (ad 0)), some (.int (nI a)), some (.int use), some (.int (pAnn A B t (w / 4))), some (.int (nI (w % 4))), some (.long (pWn A B a use (pAnn A B t (w / 4)) (w % 4) i)), none, some (.int (nI i)), none]) (ss := fun v => [.int v]) 93 (fun v hv => ?_) (fun J93 => ?_)
      · -- join 93
        refine x_istore C dX9_worthBy_93 (gs1_8 rfl) rfl ?_
        refine x_join (α := Int64) (P := fun x => x = (pUse A v (pAnn A B t (w / 4))).toInt64) (LL := fun x => [some (.ref (ad 0)), some (.int (nI a)), some (.int use), some (.int (pAnn A B t (w / 4))), some (.int (nI (w % 4))), some (.long (pWn A B a use (pAnn A B t (w / 4)) (w % 4) i)), none, some (.int (nI i)), some (.int v)]) (ss := fun x => [.long x, .long (pWn A B a use (pAnn A B t (w / 4)) (w % 4) i)]) 124 (fun x hx => ?_) (fun J124 => ?_)
        · -- join 124
          refine x_ladd C dX9_worthBy_124 ?_
          subst hx
          subst hv
          refine x_lstore C dX9_worthBy_125 (gs2_5 rfl) rfl ?_
          refine x_iincN C dX9_worthBy_127 rfl (gs1_7 rfl) rfl ?_
          refine x_goto (tgt := 66) C dX9_worthBy_130 rfl ?_
          exact x_wk [true, true, true, true, true, true, true, true, false] rfl (ih (by omega) _ h)
        · -- to the join
          refine x_lload C dX9_worthBy_95 rfl ?_
          refine x_iload C dX9_worthBy_97 rfl ?_
          refine x_if_ne (tgt := 112) C dX9_worthBy_99 rfl (fun c99 => ?_) (fun c99 => ?_)
          · -- 112
            refine x_iload C dX9_worthBy_112 rfl ?_
            refine x_iconst C dX9_worthBy_114 kc_1 ?_
            refine x_icmp_ne (tgt := 122) C dX9_worthBy_115 rfl (fun c115 => ?_) (fun c115 => ?_)
            · -- 122
              refine x_iload_n C dX9_worthBy_122 rfl rfl ?_
              refine x_i2l C dX9_worthBy_123 ?_
              exact (J124 _ (by unfold pUse; rw [if_neg c99, if_neg c115]))
            · -- 118
              refine x_lconst (v := 0) C dX9_worthBy_118 rfl ?_
              refine x_goto (tgt := 124) C dX9_worthBy_119 rfl ?_
              exact (J124 _ (by unfold pUse; rw [if_neg c99, if_pos c115]; decide +kernel))
          · -- 102
            refine x_aload_n C dX9_worthBy_102 rfl rfl ?_
            refine m_get C h 17 rfl q2426 rfl dX9_worthBy_103 ?_
            refine x_iconst C dX9_worthBy_106 kc_1 ?_
            refine m_ald C h 6 (N := 14) (by decide) rfl rfl (by omega) (congrFun (congrFun hA 6) _) dX9_worthBy_107 ?_
            refine x_i2l C dX9_worthBy_108 ?_
            refine x_goto (tgt := 124) C dX9_worthBy_109 rfl ?_
            exact (J124 _ (by unfold pUse; rw [if_pos c99]))
      · -- to the join
        refine x_iload C dX9_worthBy_72 rfl ?_
        refine x_iload C dX9_worthBy_74 rfl ?_
        refine x_icmp_geN (tgt := 92) C (by omega) (by omega) dX9_worthBy_76 rfl (fun c76 => ?_) (fun c76 => ?_)
        · -- 92
          refine x_iload_n C dX9_worthBy_92 rfl rfl ?_
          exact (J93 _ (if_neg (by omega)).symm)
        · -- 79
          refine x_aload_n C dX9_worthBy_79 rfl rfl ?_
          refine x_iload_n C dX9_worthBy_80 rfl rfl ?_
          refine x_bipush C dX9_worthBy_81 kb_13 ?_
          refine x_iload C dX9_worthBy_83 rfl ?_
          refine x_iaddN C dX9_worthBy_85 ?_
          refine x_V2I C (met_X9_at l C.1 h.1 hb (by omega) (by omega) (by omega)) mi_X9_at q2653 gcX9 h.1.1 ⟨rfl, rfl⟩ rfl ⟨Nat.le_refl _, Nat.le_refl _⟩ rfl dX9_worthBy_86 (fun r M1 hr => ?_)
          obtain ⟨rfl, rfl⟩ := hr
          refine x_goto (tgt := 93) C dX9_worthBy_89 rfl ?_
          exact (J93 _ (if_pos c76).symm)
  · -- 36
    refine x_iload_n C dX9_worthBy_36 rfl rfl ?_
    refine x_if_ne (tgt := 49) C dX9_worthBy_37 rfl (fun c37 => ?_) (fun c37 => ?_)
    · -- 49
      refine x_iload_n C dX9_worthBy_49 rfl rfl ?_
      refine x_iconst C dX9_worthBy_50 kc_1 ?_
      refine x_icmp_ne (tgt := 58) C dX9_worthBy_51 rfl (fun c51 => ?_) (fun c51 => ?_)
      · -- 58
        refine x_iload_n C dX9_worthBy_58 rfl rfl ?_
        exact x_iret C dX9_worthBy_59 ⟨Nat.le_refl _, Nat.le_refl _⟩ ⟨(by rw [pWorth_eq hn h0 h5 (by omega) (by omega) (by omega), if_pos c33]; unfold pUse; rw [if_neg c37, if_neg c51]), h⟩
      · -- 54
        refine x_iconst C dX9_worthBy_54 kc_0 ?_
        refine x_goto (tgt := 59) C dX9_worthBy_55 rfl ?_
        exact x_iret C dX9_worthBy_59 ⟨Nat.le_refl _, Nat.le_refl _⟩ ⟨(by rw [pWorth_eq hn h0 h5 (by omega) (by omega) (by omega), if_pos c33]; unfold pUse; rw [if_neg c37, if_pos c51]), h⟩
    · -- 40
      refine x_aload_n C dX9_worthBy_40 rfl rfl ?_
      refine m_get C h 17 rfl q2426 rfl dX9_worthBy_41 ?_
      refine x_iconst C dX9_worthBy_44 kc_1 ?_
      refine m_ald C h 6 (N := 14) (by decide) rfl rfl (by omega) (congrFun (congrFun hA 6) _) dX9_worthBy_45 ?_
      refine x_goto (tgt := 59) C dX9_worthBy_46 rfl ?_
      exact x_iret C dX9_worthBy_59 ⟨Nat.le_refl _, Nat.le_refl _⟩ ⟨(by rw [pWorth_eq hn h0 h5 (by omega) (by omega) (by omega), if_pos c33]; unfold pUse; rw [if_pos c37]), h⟩
theorem mi_X9_booksFor : gMV RX9 yX9_booksFor cX9_booksFor 4 none 3 := ⟨q2771, qs111, q165, q2772, by decide +kernel⟩
set_option maxHeartbeats 4000000 in
set_option maxRecDepth 100000 in
theorem met_X9_booksFor (l : Launch) {G : gG} (hG : gOK G) {ad : Nat → Nat} {σ : mS} {M0 : gM} {b : Nat} {B : Nat → Int32} {a u kp w t : Nat} {v : Int32} (h : MR G ad (sb σ b B) M0) (hb : mI σ 21 = nI b) (hk : B 1867 = nI kp) (hn : B 0 = nI w) (h0 : B (2084 + 48 * a + 0) = nI t) (hb0_ : b < 23) (hb1_ : kp ≤ 40) (hb2_ : w < 64) (hb3_ : t < 4) (hb4_ : u < 4) (hb5_ : a < 8) : Met l yX9_booksFor (ws_ yX9_booksFor cX9_booksFor 4 none) ({ frames := 3, cells := 0, slots := 0, locals := 70 }) (gPre G M0 [.ref (ad 0), .int (nI a), .int (nI u), .int (v)]) (gQ G (gV (fun M1 => MF G ad M0 (sb σ b (pBookFor B a u v)) M1))) 0 0 (gA G) := by
  refine gMet (L0 := [some (.ref (ad 0)), some (.int (nI a)), some (.int (nI u)), some (.int (v))]) RX9 hG (by decide +kernel) rfl (Nat.le_of_ble_eq_true rfl) rfl ?_
  intro p e s m args below meth c C hnm
  have h := MF.rf h
  refine x_aload_n C dX9_booksFor_0 rfl rfl ?_
  refine x_iload_n C dX9_booksFor_1 rfl rfl ?_
  refine x_bipush C dX9_booksFor_2 kb_10 ?_
  refine x_aload_n C dX9_booksFor_4 rfl rfl ?_
  refine x_iload_n C dX9_booksFor_5 rfl rfl ?_
  refine x_bipush C dX9_booksFor_6 kb_10 ?_
  refine x_V2I C (met_X9_at l C.1 h.1 hb (by omega) (by omega) (by omega)) mi_X9_at q2653 gcX9 h.1.1 ⟨rfl, rfl⟩ rfl ⟨Nat.le_refl _, Nat.le_refl _⟩ rfl dX9_booksFor_8 (fun r M1 hr => ?_)
  obtain ⟨rfl, rfl⟩ := hr
  refine x_iload_n C dX9_booksFor_11 rfl rfl ?_
  refine x_iadd C dX9_booksFor_12 ?_
  refine x_V3V C (met_X9_put l C.1 h.1 hb (by omega) (by omega) (by omega)) mi_X9_put q2405 gcX9 h.1.1 ⟨rfl, rfl⟩ rfl ⟨Nat.le_refl _, Nat.le_refl _⟩ rfl dX9_booksFor_13 (fun M1 hr => ?_)
  have h := h.tr hr
  refine x_aload_n C dX9_booksFor_16 rfl rfl ?_
  refine x_aload_n C dX9_booksFor_17 rfl rfl ?_
  refine x_iload_n C dX9_booksFor_18 rfl rfl ?_
  refine x_iconst C dX9_booksFor_19 kc_0 ?_
  refine x_V2I C (met_X9_at l C.1 h.1 hb (by omega) (by omega) (by omega)) mi_X9_at q2653 gcX9 h.1.1 ⟨rfl, rfl⟩ rfl ⟨Nat.le_refl _, Nat.le_refl _⟩ rfl dX9_booksFor_20 (fun r M1 hr => ?_)
  obtain ⟨rfl, hr⟩ := hr
  have hr := hr.symm.trans (show _ = nI t from ((pk_un (by omega)).trans h0))
  subst hr
  refine x_iload_n C dX9_booksFor_23 rfl rfl ?_
  refine x_iload_n C dX9_booksFor_24 rfl rfl ?_
  refine x_iload_n C dX9_booksFor_25 rfl rfl ?_
  refine x_V4V C (met_X9_books l C.1 h.1 hb ((pk_un (by omega)).trans hk) ((pk_un (by omega)).trans hn) (by omega) (by omega) (by omega) (by omega) (by omega)) mi_X9_books q2728 gcX9 h.1.1 ⟨rfl, rfl⟩ rfl ⟨Nat.le_refl _, Nat.le_refl _⟩ rfl dX9_booksFor_26 (fun M1 hr => ?_)
  have h := h.tr hr
  exact x_vret C dX9_booksFor_29 ⟨Nat.le_refl _, Nat.le_refl _⟩ (by unfold pBookFor; rw [h0, dN_nI (by omega)]; exact h)
theorem mi_X9_closesAsset : gMV RX9 yX9_closesAsset cX9_closesAsset 10 none 2 := ⟨q2746, qs105, q165, q2747, by decide +kernel⟩
set_option maxHeartbeats 4000000 in
set_option maxRecDepth 100000 in
theorem met_X9_closesAsset (l : Launch) {G : gG} (hG : gOK G) {ad : Nat → Nat} {σ : mS} {M0 : gM} {b : Nat} {B : Nat → Int32} {a w kp : Nat} {A : Nat → Nat → Int32} {T : Nat} (h : MR G ad (sb σ b B) M0) (hb : mI σ 21 = nI b) (hA : mA σ = A) (hn : B 0 = nI w) (hk : B 1867 = nI kp) (hb0_ : b < 23) (hb1_ : a < 8) (hb2_ : w < 64) (hb3_ : kp ≤ 40) (hw : wT T A) (hR : wR T w (w / 4) B a) : Met l yX9_closesAsset (ws_ yX9_closesAsset cX9_closesAsset 10 none) ({ frames := 6, cells := 0, slots := 0, locals := 147 }) (gPre G M0 [.ref (ad 0), .int (nI a), .int (nI (w / 4))]) (gQ G (gV (fun M1 => ∃ σ', sE σ σ' ∧ MF G ad M0 (sb σ' b (pCA A B a)) M1))) 0 0 (gA G) := by
  refine gMet (L0 := [some (.ref (ad 0)), some (.int (nI a)), some (.int (nI (w / 4))), none, none, none, none, none, none, none]) RX9 hG (by decide +kernel) rfl (Nat.le_of_ble_eq_true rfl) rfl ?_
  intro p e s m args below meth c C hnm
  have h := MF.rf h
  obtain ⟨t, h0, ht4⟩ : ∃ t, B (2084 + 48 * a + 0) = nI t ∧ t < 4 := ⟨_, hR.owner.1.1, by have := hR.owner.1.2; omega⟩
  obtain ⟨q5, h5, hq5⟩ : ∃ q, B (2084 + 48 * a + 5) = nI q ∧ q < 64 := ⟨_, hR.bought.1.1, by have := hR.bought.1.2; omega⟩
  have hiv : pIv B a = (w / 4 - q5 / 4) := pIv_eq hn h5 (by omega) (by omega)
  refine x_aload_n C dX9_closesAsset_0 rfl rfl ?_
  refine x_iload_n C dX9_closesAsset_1 rfl rfl ?_
  refine x_bipush C dX9_closesAsset_2 kb_9 ?_
  refine x_V2I C (met_X9_at l C.1 h.1 hb (by omega) (by omega) (by omega)) mi_X9_at q2653 gcX9 h.1.1 ⟨rfl, rfl⟩ rfl ⟨Nat.le_refl _, Nat.le_refl _⟩ rfl dX9_closesAsset_4 (fun r M1 hr => ?_)
  obtain ⟨rfl, rfl⟩ := hr
  refine x_iconst C dX9_closesAsset_7 kc_1 ?_
  refine x_icmp_ne (tgt := 12) C dX9_closesAsset_8 rfl (fun c8 => ?_) (fun c8 => ?_)
  · -- 12
    obtain ⟨hi10, hq54, h9, h47⟩ := wR_i hR h5 (by omega) c8
    refine x_aload_n C dX9_closesAsset_12 rfl rfl ?_
    refine x_iload_n C dX9_closesAsset_13 rfl rfl ?_
    refine x_iload_n C dX9_closesAsset_14 rfl rfl ?_
    refine x_V2I C (met_X9_intervalOf l C.1 h.1 hb h5 (by omega) (by omega) (by omega) (by omega)) mi_X9_intervalOf q2657 gcX9 h.1.1 ⟨rfl, rfl⟩ rfl ⟨Nat.le_refl _, Nat.le_refl _⟩ rfl dX9_closesAsset_15 (fun r M1 hr => ?_)
    obtain ⟨rfl, rfl⟩ := hr
    refine x_istore_n C dX9_closesAsset_18 rfl (gs1_3 rfl) rfl ?_
    refine x_aload_n C dX9_closesAsset_19 rfl rfl ?_
    refine x_iload_n C dX9_closesAsset_20 rfl rfl ?_
    refine x_aload_n C dX9_closesAsset_21 rfl rfl ?_
    refine x_iload_n C dX9_closesAsset_22 rfl rfl ?_
    refine x_iconst C dX9_closesAsset_23 kc_2 ?_
    refine x_V2I C (met_X9_at l C.1 h.1 hb (by omega) (by omega) (by omega)) mi_X9_at q2653 gcX9 h.1.1 ⟨rfl, rfl⟩ rfl ⟨Nat.le_refl _, Nat.le_refl _⟩ rfl dX9_closesAsset_24 (fun r M1 hr => ?_)
    obtain ⟨rfl, rfl⟩ := hr
    refine x_V2I C (met_X9_worthBy l C.1 h.1 hb hA hn h0 h5 (by omega) (by omega) (by omega) (by omega) (by omega) (by omega) hw) mi_X9_worthBy q2748 gcX9 h.1.1 ⟨rfl, rfl⟩ rfl ⟨Nat.le_refl _, Nat.le_refl _⟩ rfl dX9_closesAsset_27 (fun r M1 hr => ?_)
    obtain ⟨rfl, hr⟩ := hr
    have h := h.tr hr
    refine x_istore C dX9_closesAsset_30 (gs1_4 rfl) rfl ?_
    refine x_aload_n C dX9_closesAsset_32 rfl rfl ?_
    refine x_iload_n C dX9_closesAsset_33 rfl rfl ?_
    refine x_bipush C dX9_closesAsset_34 kb_17 ?_
    refine x_iload_n C dX9_closesAsset_36 rfl rfl ?_
    refine x_iaddN C dX9_closesAsset_37 ?_
    refine x_iload C dX9_closesAsset_38 rfl ?_
    refine x_V3V C (met_X9_put l C.1 h.1 hb (by omega) (by omega) (by omega)) mi_X9_put q2405 gcX9 h.1.1 ⟨rfl, rfl⟩ rfl ⟨Nat.le_refl _, Nat.le_refl _⟩ rfl dX9_closesAsset_40 (fun M1 hr => ?_)
    have h := h.tr hr
    refine x_aload_n C dX9_closesAsset_43 rfl rfl ?_
    refine x_iload_n C dX9_closesAsset_44 rfl rfl ?_
    refine x_bipush C dX9_closesAsset_45 kb_37 ?_
    refine x_iload_n C dX9_closesAsset_47 rfl rfl ?_
    refine x_iaddN C dX9_closesAsset_48 ?_
    refine x_aload_n C dX9_closesAsset_49 rfl rfl ?_
    refine x_iload_n C dX9_closesAsset_50 rfl rfl ?_
    refine x_iconst C dX9_closesAsset_51 kc_0 ?_
    refine x_V2I C (met_X9_at l C.1 h.1 hb (by omega) (by omega) (by omega)) mi_X9_at q2653 gcX9 h.1.1 ⟨rfl, rfl⟩ rfl ⟨Nat.le_refl _, Nat.le_refl _⟩ rfl dX9_closesAsset_52 (fun r M1 hr => ?_)
    obtain ⟨rfl, rfl⟩ := hr
    refine x_V3V C (met_X9_put l C.1 h.1 hb (by omega) (by omega) (by omega)) mi_X9_put q2405 gcX9 h.1.1 ⟨rfl, rfl⟩ rfl ⟨Nat.le_refl _, Nat.le_refl _⟩ rfl dX9_closesAsset_55 (fun M1 hr => ?_)
    have h := h.tr hr
    refine x_aload_n C dX9_closesAsset_58 rfl rfl ?_
    refine x_iload_n C dX9_closesAsset_59 rfl rfl ?_
    refine x_bipush C dX9_closesAsset_60 kb_47 ?_
    refine x_iload_n C dX9_closesAsset_62 rfl rfl ?_
    refine x_iconst C dX9_closesAsset_63 kc_1 ?_
    refine x_iaddN C dX9_closesAsset_64 ?_
    refine x_V3V C (met_X9_put l C.1 h.1 hb (by omega) (by omega) (by omega)) mi_X9_put q2405 gcX9 h.1.1 ⟨rfl, rfl⟩ rfl ⟨Nat.le_refl _, Nat.le_refl _⟩ rfl dX9_closesAsset_65 (fun M1 hr => ?_)
    have h := h.tr hr
    refine x_joinM (α := Nat → Int32) (P := fun B2 M => B2 = pCA2 A (pCA1 A B a (w / 4 - q5 / 4) (pWorth A B a (B (2084 + 48 * a + 2)))) a (w / 4 - q5 / 4) (pWorth A B a (B (2084 + 48 * a + 2))) ∧ MF G ad M0 (sb (sy σ (pYS B t (w / 4)) (pHO B t) (pHA B t)) b B2) M) (LL := fun B2 => [some (.ref (ad 0)), some (.int (nI a)), none, some (.int (nI (w / 4 - q5 / 4))), none, none, none, none, none, none]) (ss := fun B2 => []) 135 (fun B2 M hB2 => ?_) (fun J135 => ?_)
    · -- join 135
      obtain ⟨hB2, h⟩ := hB2
      have e1 : dN (pCA1 A B a (w / 4 - q5 / 4) (pWorth A B a (B (2084 + 48 * a + 2))) (2084 + 48 * a + 0)) < 4 := by rw [pCA1_ne (by omega) (by omega) (by omega), h0, dN_nI (by omega)]; exact ht4
      have g0 : B2 (2084 + 48 * a + 0) = nI t := by rw [hB2, pCA2_ne e1 (by omega) (by omega) (by omega) (by omega), pCA1_ne (by omega) (by omega) (by omega)]; exact h0
      have gn : B2 0 = nI w := by rw [hB2, pCA2_ne e1 (by omega) (by omega) (by omega) (by omega), pCA1_ne (by omega) (by omega) (by omega)]; exact hn
      have g4 : B2 (2084 + 48 * a + 4) = nI 5 ∨ B2 (2084 + 48 * a + 4) = nI 10 := by rw [hB2, pCA2_ne e1 (by omega) (by omega) (by omega) (by omega), pCA1_ne (by omega) (by omega) (by omega)]; exact hR.span
      obtain ⟨kp2, gk, gk40⟩ : ∃ k, B2 1867 = nI k ∧ k ≤ 40 := by
        have q := pCA2_k (A := A) (i := (w / 4 - q5 / 4)) (w := (pWorth A B a (B (2084 + 48 * a + 2)))) e1 (by rw [pCA1_ne (by omega) (by omega) (by omega), hk]; exact isN.nI (by omega) (by omega))
        rw [← hB2] at q
        exact ⟨_, q.1, q.2⟩
      refine x_aload_n C dX9_closesAsset_135 rfl rfl ?_
      refine x_iload_n C dX9_closesAsset_136 rfl rfl ?_
      refine x_iconst C dX9_closesAsset_137 kc_4 ?_
      refine x_V2I C (met_X9_at l C.1 h.1 hb (by omega) (by omega) (by omega)) mi_X9_at q2653 gcX9 h.1.1 ⟨rfl, rfl⟩ rfl ⟨Nat.le_refl _, Nat.le_refl _⟩ rfl dX9_closesAsset_138 (fun r M1 hr => ?_)
      obtain ⟨rfl, rfl⟩ := hr
      refine x_iconst C dX9_closesAsset_141 kc_1 ?_
      refine x_isub C dX9_closesAsset_142 ?_
      refine x_iload_n C dX9_closesAsset_143 rfl rfl ?_
      refine x_isub C dX9_closesAsset_144 ?_
      refine x_istore C dX9_closesAsset_145 (gs1_5 rfl) rfl ?_
      refine x_aload_n C dX9_closesAsset_147 rfl rfl ?_
      refine x_iload_n C dX9_closesAsset_148 rfl rfl ?_
      refine x_bipush C dX9_closesAsset_149 kb_7 ?_
      refine x_V2I C (met_X9_at l C.1 h.1 hb (by omega) (by omega) (by omega)) mi_X9_at q2653 gcX9 h.1.1 ⟨rfl, rfl⟩ rfl ⟨Nat.le_refl _, Nat.le_refl _⟩ rfl dX9_closesAsset_151 (fun r M1 hr => ?_)
      obtain ⟨rfl, rfl⟩ := hr
      refine x_iconst C dX9_closesAsset_154 kc_1 ?_
      refine x_isub C dX9_closesAsset_155 ?_
      refine x_istore C dX9_closesAsset_156 (gs1_6 rfl) rfl ?_
      refine x_joinM (α := Nat → Int32) (P := fun B3 M => B3 = pCA3 A B2 a (B2 (2084 + 48 * a + 4) - nI 1 - nI (w / 4 - q5 / 4)) (B2 (2084 + 48 * a + 7) - nI 1) ∧ MF G ad M0 (sb (sy σ (pYS B t (w / 4)) (pHO B t) (pHA B t)) b B3) M) (LL := fun B3 => [some (.ref (ad 0)), some (.int (nI a)), none, some (.int (nI (w / 4 - q5 / 4))), none, some (.int (B2 (2084 + 48 * a + 4) - nI 1 - nI (w / 4 - q5 / 4))), some (.int (B2 (2084 + 48 * a + 7) - nI 1)), none, none, none]) (ss := fun B3 => []) 252 (fun B3 M hB3 => ?_) (fun J252 => ?_)
      · -- join 252
        obtain ⟨hB3, h⟩ := hB3
        refine x_iload C dX9_closesAsset_252 rfl ?_
        refine x_if_ge (tgt := 262) C dX9_closesAsset_254 rfl (fun c254 => ?_) (fun c254 => ?_)
        · -- 262
          refine x_aload_n C dX9_closesAsset_262 rfl rfl ?_
          refine x_iload_n C dX9_closesAsset_263 rfl rfl ?_
          refine x_bipush C dX9_closesAsset_264 kb_9 ?_
          refine x_iconst C dX9_closesAsset_266 kc_1 ?_
          refine x_V3V C (met_X9_put l C.1 h.1 hb (by omega) (by omega) (by omega)) mi_X9_put q2405 gcX9 h.1.1 ⟨rfl, rfl⟩ rfl ⟨Nat.le_refl _, Nat.le_refl _⟩ rfl dX9_closesAsset_267 (fun M1 hr => ?_)
          have h := h.tr hr
          refine x_aload_n C dX9_closesAsset_270 rfl rfl ?_
          refine x_iload_n C dX9_closesAsset_271 rfl rfl ?_
          refine x_iconst C dX9_closesAsset_272 kc_0 ?_
          refine x_aload_n C dX9_closesAsset_273 rfl rfl ?_
          refine x_iload_n C dX9_closesAsset_274 rfl rfl ?_
          refine x_iconst C dX9_closesAsset_275 kc_1 ?_
          refine x_V2I C (met_X9_at l C.1 h.1 hb (by omega) (by omega) (by omega)) mi_X9_at q2653 gcX9 h.1.1 ⟨rfl, rfl⟩ rfl ⟨Nat.le_refl _, Nat.le_refl _⟩ rfl dX9_closesAsset_276 (fun r M1 hr => ?_)
          obtain ⟨rfl, rfl⟩ := hr
          refine x_V3V C (met_X9_put l C.1 h.1 hb (by omega) (by omega) (by omega)) mi_X9_put q2405 gcX9 h.1.1 ⟨rfl, rfl⟩ rfl ⟨Nat.le_refl _, Nat.le_refl _⟩ rfl dX9_closesAsset_279 (fun M1 hr => ?_)
          have h := h.tr hr
          exact x_vret C dX9_closesAsset_282 ⟨Nat.le_refl _, Nat.le_refl _⟩ ⟨_, sE.sy, (by rw [pCA_eq c8 hiv hB2 hB3 (if_pos (Or.inl c254)).symm]; exact h)⟩
        · -- 257
          refine x_iload C dX9_closesAsset_257 rfl ?_
          refine x_if_ne (tgt := 270) C dX9_closesAsset_259 rfl (fun c259 => ?_) (fun c259 => ?_)
          · -- 270
            refine x_aload_n C dX9_closesAsset_270 rfl rfl ?_
            refine x_iload_n C dX9_closesAsset_271 rfl rfl ?_
            refine x_iconst C dX9_closesAsset_272 kc_0 ?_
            refine x_aload_n C dX9_closesAsset_273 rfl rfl ?_
            refine x_iload_n C dX9_closesAsset_274 rfl rfl ?_
            refine x_iconst C dX9_closesAsset_275 kc_1 ?_
            refine x_V2I C (met_X9_at l C.1 h.1 hb (by omega) (by omega) (by omega)) mi_X9_at q2653 gcX9 h.1.1 ⟨rfl, rfl⟩ rfl ⟨Nat.le_refl _, Nat.le_refl _⟩ rfl dX9_closesAsset_276 (fun r M1 hr => ?_)
            obtain ⟨rfl, rfl⟩ := hr
            refine x_V3V C (met_X9_put l C.1 h.1 hb (by omega) (by omega) (by omega)) mi_X9_put q2405 gcX9 h.1.1 ⟨rfl, rfl⟩ rfl ⟨Nat.le_refl _, Nat.le_refl _⟩ rfl dX9_closesAsset_279 (fun M1 hr => ?_)
            have h := h.tr hr
            exact x_vret C dX9_closesAsset_282 ⟨Nat.le_refl _, Nat.le_refl _⟩ ⟨_, sE.sy, (by rw [pCA_eq c8 hiv hB2 hB3 (if_neg (fun q => q.elim c254 c259)).symm]; exact h)⟩
          · -- 262
            refine x_aload_n C dX9_closesAsset_262 rfl rfl ?_
            refine x_iload_n C dX9_closesAsset_263 rfl rfl ?_
            refine x_bipush C dX9_closesAsset_264 kb_9 ?_
            refine x_iconst C dX9_closesAsset_266 kc_1 ?_
            refine x_V3V C (met_X9_put l C.1 h.1 hb (by omega) (by omega) (by omega)) mi_X9_put q2405 gcX9 h.1.1 ⟨rfl, rfl⟩ rfl ⟨Nat.le_refl _, Nat.le_refl _⟩ rfl dX9_closesAsset_267 (fun M1 hr => ?_)
            have h := h.tr hr
            refine x_aload_n C dX9_closesAsset_270 rfl rfl ?_
            refine x_iload_n C dX9_closesAsset_271 rfl rfl ?_
            refine x_iconst C dX9_closesAsset_272 kc_0 ?_
            refine x_aload_n C dX9_closesAsset_273 rfl rfl ?_
            refine x_iload_n C dX9_closesAsset_274 rfl rfl ?_
            refine x_iconst C dX9_closesAsset_275 kc_1 ?_
            refine x_V2I C (met_X9_at l C.1 h.1 hb (by omega) (by omega) (by omega)) mi_X9_at q2653 gcX9 h.1.1 ⟨rfl, rfl⟩ rfl ⟨Nat.le_refl _, Nat.le_refl _⟩ rfl dX9_closesAsset_276 (fun r M1 hr => ?_)
            obtain ⟨rfl, rfl⟩ := hr
            refine x_V3V C (met_X9_put l C.1 h.1 hb (by omega) (by omega) (by omega)) mi_X9_put q2405 gcX9 h.1.1 ⟨rfl, rfl⟩ rfl ⟨Nat.le_refl _, Nat.le_refl _⟩ rfl dX9_closesAsset_279 (fun M1 hr => ?_)
            have h := h.tr hr
            exact x_vret C dX9_closesAsset_282 ⟨Nat.le_refl _, Nat.le_refl _⟩ ⟨_, sE.sy, (by rw [pCA_eq c8 hiv hB2 hB3 (if_pos (Or.inr c259)).symm]; exact h)⟩
      · -- to the join
        refine x_join (α := Unit) (P := fun _u => ((B2 (2084 + 48 * a + 7) - nI 1) = 0 ∨ (B2 (2084 + 48 * a + 7) - nI 1) = nI 1)) (LL := fun _u => [some (.ref (ad 0)), some (.int (nI a)), none, some (.int (nI (w / 4 - q5 / 4))), none, some (.int (B2 (2084 + 48 * a + 4) - nI 1 - nI (w / 4 - q5 / 4))), some (.int (B2 (2084 + 48 * a + 7) - nI 1)), none, none, none]) (ss := fun _u => []) 169 (fun _u hs => ?_) (fun J169 => ?_)
        · -- join 169
          refine x_aload_n C dX9_closesAsset_169 rfl rfl ?_
          refine x_iload_n C dX9_closesAsset_170 rfl rfl ?_
          refine x_iload C dX9_closesAsset_171 rfl ?_
          refine x_iload C dX9_closesAsset_173 rfl ?_
          refine x_aload_n C dX9_closesAsset_175 rfl rfl ?_
          refine x_iload_n C dX9_closesAsset_176 rfl rfl ?_
          refine x_bipush C dX9_closesAsset_177 kb_6 ?_
          refine x_V2I C (met_X9_at l C.1 h.1 hb (by omega) (by omega) (by omega)) mi_X9_at q2653 gcX9 h.1.1 ⟨rfl, rfl⟩ rfl ⟨Nat.le_refl _, Nat.le_refl _⟩ rfl dX9_closesAsset_179 (fun r M1 hr => ?_)
          obtain ⟨rfl, rfl⟩ := hr
          refine x_V4J C (met_X9_lastBy l C.1 h.1 hb hA (by omega) (by omega) hw g4) mi_X9_lastBy q2773 gcX9 h.1.1 ⟨rfl, rfl⟩ rfl ⟨Nat.le_refl _, Nat.le_refl _⟩ rfl dX9_closesAsset_182 (fun r M1 hr => ?_)
          obtain ⟨rfl, rfl⟩ := hr
          refine x_lstore C dX9_closesAsset_185 (gs2_7 rfl) rfl ?_
          refine x_join (α := Int64) (P := fun x => x = (if 0 ≤ (B2 (2084 + 48 * a + 8)) ∧ (B2 (2084 + 48 * a + 8)).toInt64 < (pLst A B2 a (B2 (2084 + 48 * a + 4) - nI 1 - nI (w / 4 - q5 / 4)) (B2 (2084 + 48 * a + 7) - nI 1) (B2 (2084 + 48 * a + 6))) then (B2 (2084 + 48 * a + 8)).toInt64 else (pLst A B2 a (B2 (2084 + 48 * a + 4) - nI 1 - nI (w / 4 - q5 / 4)) (B2 (2084 + 48 * a + 7) - nI 1) (B2 (2084 + 48 * a + 6))))) (LL := fun x => [some (.ref (ad 0)), some (.int (nI a)), none, some (.int (nI (w / 4 - q5 / 4))), none, some (.int (B2 (2084 + 48 * a + 4) - nI 1 - nI (w / 4 - q5 / 4))), some (.int (B2 (2084 + 48 * a + 7) - nI 1)), none, none, none]) (ss := fun x => [.long x]) 224 (fun x hx => ?_) (fun J224 => ?_)
          · -- join 224
            subst hx
            refine x_l2i C dX9_closesAsset_224 ?_
            refine x_istore C dX9_closesAsset_225 (gs1_9 rfl) rfl ?_
            refine x_aload_n C dX9_closesAsset_227 rfl rfl ?_
            refine x_iload_n C dX9_closesAsset_228 rfl rfl ?_
            refine x_bipush C dX9_closesAsset_229 kb_11 ?_
            refine x_iconst C dX9_closesAsset_231 kc_1 ?_
            refine x_V3V C (met_X9_put l C.1 h.1 hb (by omega) (by omega) (by omega)) mi_X9_put q2405 gcX9 h.1.1 ⟨rfl, rfl⟩ rfl ⟨Nat.le_refl _, Nat.le_refl _⟩ rfl dX9_closesAsset_232 (fun M1 hr => ?_)
            have h := h.tr hr
            refine x_aload_n C dX9_closesAsset_235 rfl rfl ?_
            refine x_iload_n C dX9_closesAsset_236 rfl rfl ?_
            refine x_bipush C dX9_closesAsset_237 kb_12 ?_
            refine x_iload C dX9_closesAsset_239 rfl ?_
            refine x_V3V C (met_X9_put l C.1 h.1 hb (by omega) (by omega) (by omega)) mi_X9_put q2405 gcX9 h.1.1 ⟨rfl, rfl⟩ rfl ⟨Nat.le_refl _, Nat.le_refl _⟩ rfl dX9_closesAsset_241 (fun M1 hr => ?_)
            have h := h.tr hr
            refine x_aload_n C dX9_closesAsset_244 rfl rfl ?_
            refine x_iload_n C dX9_closesAsset_245 rfl rfl ?_
            refine x_iconst C dX9_closesAsset_246 kc_3 ?_
            refine x_iload C dX9_closesAsset_247 rfl ?_
            refine x_V3V C (met_X9_booksFor l C.1 h.1 hb ((pk_un (by omega)).trans ((pk_un (by omega)).trans gk)) ((pk_un (by omega)).trans ((pk_un (by omega)).trans gn)) ((pk_un (by omega)).trans ((pk_un (by omega)).trans g0)) (by omega) (by omega) (by omega) (by omega) (by omega) (by omega)) mi_X9_booksFor q2769 gcX9 h.1.1 ⟨rfl, rfl⟩ rfl ⟨Nat.le_refl _, Nat.le_refl _⟩ rfl dX9_closesAsset_249 (fun M1 hr => ?_)
            have h := h.tr hr
            exact x_wk [true, true, true, true, true, true, true, true, true, false] rfl (J252 _ _ ⟨(by unfold pCA3; rw [if_pos hs]; rfl), h⟩)
          · -- to the join
            refine x_aload_n C dX9_closesAsset_187 rfl rfl ?_
            refine x_iload_n C dX9_closesAsset_188 rfl rfl ?_
            refine x_bipush C dX9_closesAsset_189 kb_8 ?_
            refine x_V2I C (met_X9_at l C.1 h.1 hb (by omega) (by omega) (by omega)) mi_X9_at q2653 gcX9 h.1.1 ⟨rfl, rfl⟩ rfl ⟨Nat.le_refl _, Nat.le_refl _⟩ rfl dX9_closesAsset_191 (fun r M1 hr => ?_)
            obtain ⟨rfl, rfl⟩ := hr
            refine x_if_lt (tgt := 222) C dX9_closesAsset_194 rfl (fun c194 => ?_) (fun c194 => ?_)
            · -- 222
              refine x_lload C dX9_closesAsset_222 rfl ?_
              exact x_wk [true, true, true, true, true, true, true, false, true, true] rfl (J224 _ (if_neg (fun q => absurd c194 (k2_nlt q.1))).symm)
            · -- 197
              refine x_lload C dX9_closesAsset_197 rfl ?_
              refine x_aload_n C dX9_closesAsset_199 rfl rfl ?_
              refine x_iload_n C dX9_closesAsset_200 rfl rfl ?_
              refine x_bipush C dX9_closesAsset_201 kb_8 ?_
              refine x_V2I C (met_X9_at l C.1 h.1 hb (by omega) (by omega) (by omega)) mi_X9_at q2653 gcX9 h.1.1 ⟨rfl, rfl⟩ rfl ⟨Nat.le_refl _, Nat.le_refl _⟩ rfl dX9_closesAsset_203 (fun r M1 hr => ?_)
              obtain ⟨rfl, rfl⟩ := hr
              refine x_i2l C dX9_closesAsset_206 ?_
              refine x_lcmp C dX9_closesAsset_207 ?_
              refine x_if_leL (tgt := 222) C dX9_closesAsset_208 rfl (fun c208 => ?_) (fun c208 => ?_)
              · -- 222
                refine x_lload C dX9_closesAsset_222 rfl ?_
                exact x_wk [true, true, true, true, true, true, true, false, true, true] rfl (J224 _ (if_neg (fun q => absurd c208 (Int64.not_le.mpr q.2))).symm)
              · -- 211
                refine x_aload_n C dX9_closesAsset_211 rfl rfl ?_
                refine x_iload_n C dX9_closesAsset_212 rfl rfl ?_
                refine x_bipush C dX9_closesAsset_213 kb_8 ?_
                refine x_V2I C (met_X9_at l C.1 h.1 hb (by omega) (by omega) (by omega)) mi_X9_at q2653 gcX9 h.1.1 ⟨rfl, rfl⟩ rfl ⟨Nat.le_refl _, Nat.le_refl _⟩ rfl dX9_closesAsset_215 (fun r M1 hr => ?_)
                obtain ⟨rfl, rfl⟩ := hr
                refine x_i2l C dX9_closesAsset_218 ?_
                refine x_goto (tgt := 224) C dX9_closesAsset_219 rfl ?_
                exact x_wk [true, true, true, true, true, true, true, false, true, true] rfl (J224 _ (if_pos ⟨k2_le c194, Int64.not_le.mp c208⟩).symm)
        · -- to the join
          refine x_iload C dX9_closesAsset_158 rfl ?_
          refine x_if_eq (tgt := 169) C dX9_closesAsset_160 rfl (fun c160 => ?_) (fun c160 => ?_)
          · -- 169
            exact (J169 () (Or.inl c160))
          · -- 163
            refine x_iload C dX9_closesAsset_163 rfl ?_
            refine x_iconst C dX9_closesAsset_165 kc_1 ?_
            refine x_icmp_ne (tgt := 252) C dX9_closesAsset_166 rfl (fun c166 => ?_) (fun c166 => ?_)
            · -- 252
              exact (J252 _ _ ⟨(by unfold pCA3; rw [if_neg (fun q => q.elim c160 c166)]), h⟩)
            · -- 169
              exact (J169 () (Or.inr c166))
    · -- to the join
      refine x_iload_n C dX9_closesAsset_68 rfl rfl ?_
      refine x_if_neN (tgt := 99) C (by omega) dX9_closesAsset_69 rfl (fun c69 => ?_) (fun c69 => ?_)
      · -- 99
        refine x_aload_n C dX9_closesAsset_99 rfl rfl ?_
        refine x_iload_n C dX9_closesAsset_100 rfl rfl ?_
        refine x_iload C dX9_closesAsset_101 rfl ?_
        refine x_aload_n C dX9_closesAsset_103 rfl rfl ?_
        refine x_iload_n C dX9_closesAsset_104 rfl rfl ?_
        refine x_bipush C dX9_closesAsset_105 kb_6 ?_
        refine x_V2I C (met_X9_at l C.1 h.1 hb (by omega) (by omega) (by omega)) mi_X9_at q2653 gcX9 h.1.1 ⟨rfl, rfl⟩ rfl ⟨Nat.le_refl _, Nat.le_refl _⟩ rfl dX9_closesAsset_107 (fun r M1 hr => ?_)
        obtain ⟨rfl, rfl⟩ := hr
        refine x_V3J C (met_X9_adjustedBy l C.1 h.1 hb hA (by omega) (by omega) hw (by rw [pk_un (by omega), pk_un (by omega), pk_un (by omega)]; exact hR.span)) mi_X9_adjustedBy q2765 gcX9 h.1.1 ⟨rfl, rfl⟩ rfl ⟨Nat.le_refl _, Nat.le_refl _⟩ rfl dX9_closesAsset_110 (fun r M1 hr => ?_)
        obtain ⟨rfl, rfl⟩ := hr
        refine x_l2i C dX9_closesAsset_113 ?_
        refine x_istore C dX9_closesAsset_114 (gs1_5 rfl) rfl ?_
        refine x_aload_n C dX9_closesAsset_116 rfl rfl ?_
        refine x_iload_n C dX9_closesAsset_117 rfl rfl ?_
        refine x_bipush C dX9_closesAsset_118 kb_27 ?_
        refine x_iload_n C dX9_closesAsset_120 rfl rfl ?_
        refine x_iaddN C dX9_closesAsset_121 ?_
        refine x_iload C dX9_closesAsset_122 rfl ?_
        refine x_V3V C (met_X9_put l C.1 h.1 hb (by omega) (by omega) (by omega)) mi_X9_put q2405 gcX9 h.1.1 ⟨rfl, rfl⟩ rfl ⟨Nat.le_refl _, Nat.le_refl _⟩ rfl dX9_closesAsset_124 (fun M1 hr => ?_)
        have h := h.tr hr
        refine x_aload_n C dX9_closesAsset_127 rfl rfl ?_
        refine x_iload_n C dX9_closesAsset_128 rfl rfl ?_
        refine x_iconst C dX9_closesAsset_129 kc_2 ?_
        refine x_iload C dX9_closesAsset_130 rfl ?_
        refine x_V3V C (met_X9_booksFor l C.1 h.1 hb ((pk_un (by omega)).trans ((pk_un (by omega)).trans ((pk_un (by omega)).trans ((pk_un (by omega)).trans hk)))) ((pk_un (by omega)).trans ((pk_un (by omega)).trans ((pk_un (by omega)).trans ((pk_un (by omega)).trans hn)))) ((pk_un (by omega)).trans ((pk_un (by omega)).trans ((pk_un (by omega)).trans ((pk_un (by omega)).trans h0)))) (by omega) (by omega) (by omega) (by omega) (by omega) (by omega)) mi_X9_booksFor q2769 gcX9 h.1.1 ⟨rfl, rfl⟩ rfl ⟨Nat.le_refl _, Nat.le_refl _⟩ rfl dX9_closesAsset_132 (fun M1 hr => ?_)
        have h := h.tr hr
        exact x_wk [true, true, false, true, false, false, true, true, true, true] rfl (J135 _ _ ⟨(by unfold pCA2; rw [if_neg c69]; rfl), h⟩)
      · -- 72
        refine x_aload_n C dX9_closesAsset_72 rfl rfl ?_
        refine x_iload_n C dX9_closesAsset_73 rfl rfl ?_
        refine x_bipush C dX9_closesAsset_74 kb_6 ?_
        refine x_iload C dX9_closesAsset_76 rfl ?_
        refine x_V3V C (met_X9_put l C.1 h.1 hb (by omega) (by omega) (by omega)) mi_X9_put q2405 gcX9 h.1.1 ⟨rfl, rfl⟩ rfl ⟨Nat.le_refl _, Nat.le_refl _⟩ rfl dX9_closesAsset_78 (fun M1 hr => ?_)
        have h := h.tr hr
        refine x_aload_n C dX9_closesAsset_81 rfl rfl ?_
        refine x_iload_n C dX9_closesAsset_82 rfl rfl ?_
        refine x_bipush C dX9_closesAsset_83 kb_10 ?_
        refine x_aload_n C dX9_closesAsset_85 rfl rfl ?_
        refine x_iload_n C dX9_closesAsset_86 rfl rfl ?_
        refine x_iload C dX9_closesAsset_87 rfl ?_
        refine x_V2J C (met_X9_firstTaken l C.1 h.1 hb hA (by omega) (by omega) hw) mi_X9_firstTaken q2761 gcX9 h.1.1 ⟨rfl, rfl⟩ rfl ⟨Nat.le_refl _, Nat.le_refl _⟩ rfl dX9_closesAsset_89 (fun r M1 hr => ?_)
        obtain ⟨rfl, rfl⟩ := hr
        refine x_l2i C dX9_closesAsset_92 ?_
        refine x_V3V C (met_X9_put l C.1 h.1 hb (by omega) (by omega) (by omega)) mi_X9_put q2405 gcX9 h.1.1 ⟨rfl, rfl⟩ rfl ⟨Nat.le_refl _, Nat.le_refl _⟩ rfl dX9_closesAsset_93 (fun M1 hr => ?_)
        have h := h.tr hr
        refine x_goto (tgt := 135) C dX9_closesAsset_96 rfl ?_
        exact x_wk [true, true, false, true, false, true, true, true, true, true] rfl (J135 _ _ ⟨(by unfold pCA2; rw [if_pos c69]; rfl), h⟩)
  · -- 11
    exact x_vret C dX9_closesAsset_11 ⟨Nat.le_refl _, Nat.le_refl _⟩ ⟨σ, sE.rf, (by unfold pCA; rw [if_pos c8]; exact h)⟩
