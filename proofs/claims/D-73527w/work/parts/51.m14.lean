set_option maxRecDepth 100000
theorem mi_X9_totalOf : gMV RX9 yX9_totalOf cX9_totalOf 2 (some .int) 1 := ⟨q2930, qs120, q165, q2931, by decide +kernel⟩
set_option maxHeartbeats 4000000 in
set_option maxRecDepth 100000 in
theorem met_X9_totalOf (l : Launch) {G : gG} (hG : gOK G) {ad : Nat → Nat} {σ : mS} {M0 : gM} {b : Nat} {B : Nat → Int32} {t : Nat} (h : MR G ad (sb σ b B) M0) (hb : mI σ 21 = nI b) (hb0_ : b < 23) (hb1_ : t < 4) : Met l yX9_totalOf (ws_ yX9_totalOf cX9_totalOf 2 (some .int)) ({ frames := 1, cells := 0, slots := 0, locals := 21 }) (gPre G M0 [.ref (ad 0), .int (nI t)]) (gQ G (gI (fun r M1 => M0 = M1 ∧ pTot B t = r))) 0 0 (gA G) := by
  refine gMet (L0 := [some (.ref (ad 0)), some (.int (nI t))]) RX9 hG (by decide +kernel) rfl (Nat.le_of_ble_eq_true rfl) rfl ?_
  intro p e s m args below meth c C hnm
  have h := MF.rf h
  refine x_aload_n C dX9_totalOf_0 rfl rfl ?_
  refine x_sipush C dX9_totalOf_1 ks_2068 ?_
  refine x_iconst C dX9_totalOf_4 kc_4 ?_
  refine x_iload_n C dX9_totalOf_5 rfl rfl ?_
  refine x_imulN C dX9_totalOf_6 ?_
  refine x_iaddN C dX9_totalOf_7 ?_
  refine x_V1I C (met_X9_of l C.1 h.1 hb (by omega) (by omega)) mi_X9_of q2389 gcX9 h.1.1 ⟨rfl, rfl⟩ rfl ⟨Nat.le_refl _, Nat.le_refl _⟩ rfl dX9_totalOf_8 (fun r M1 hr => ?_)
  obtain ⟨rfl, rfl⟩ := hr
  refine x_aload_n C dX9_totalOf_11 rfl rfl ?_
  refine x_sipush C dX9_totalOf_12 ks_2068 ?_
  refine x_iconst C dX9_totalOf_15 kc_4 ?_
  refine x_iload_n C dX9_totalOf_16 rfl rfl ?_
  refine x_imulN C dX9_totalOf_17 ?_
  refine x_iaddN C dX9_totalOf_18 ?_
  refine x_iconst C dX9_totalOf_19 kc_1 ?_
  refine x_iaddN C dX9_totalOf_20 ?_
  refine x_V1I C (met_X9_of l C.1 h.1 hb (by omega) (by omega)) mi_X9_of q2389 gcX9 h.1.1 ⟨rfl, rfl⟩ rfl ⟨Nat.le_refl _, Nat.le_refl _⟩ rfl dX9_totalOf_21 (fun r M1 hr => ?_)
  obtain ⟨rfl, rfl⟩ := hr
  refine x_iadd C dX9_totalOf_24 ?_
  refine x_aload_n C dX9_totalOf_25 rfl rfl ?_
  refine x_sipush C dX9_totalOf_26 ks_2068 ?_
  refine x_iconst C dX9_totalOf_29 kc_4 ?_
  refine x_iload_n C dX9_totalOf_30 rfl rfl ?_
  refine x_imulN C dX9_totalOf_31 ?_
  refine x_iaddN C dX9_totalOf_32 ?_
  refine x_iconst C dX9_totalOf_33 kc_2 ?_
  refine x_iaddN C dX9_totalOf_34 ?_
  refine x_V1I C (met_X9_of l C.1 h.1 hb (by omega) (by omega)) mi_X9_of q2389 gcX9 h.1.1 ⟨rfl, rfl⟩ rfl ⟨Nat.le_refl _, Nat.le_refl _⟩ rfl dX9_totalOf_35 (fun r M1 hr => ?_)
  obtain ⟨rfl, rfl⟩ := hr
  refine x_iadd C dX9_totalOf_38 ?_
  refine x_aload_n C dX9_totalOf_39 rfl rfl ?_
  refine x_sipush C dX9_totalOf_40 ks_2068 ?_
  refine x_iconst C dX9_totalOf_43 kc_4 ?_
  refine x_iload_n C dX9_totalOf_44 rfl rfl ?_
  refine x_imulN C dX9_totalOf_45 ?_
  refine x_iaddN C dX9_totalOf_46 ?_
  refine x_iconst C dX9_totalOf_47 kc_3 ?_
  refine x_iaddN C dX9_totalOf_48 ?_
  refine x_V1I C (met_X9_of l C.1 h.1 hb (by omega) (by omega)) mi_X9_of q2389 gcX9 h.1.1 ⟨rfl, rfl⟩ rfl ⟨Nat.le_refl _, Nat.le_refl _⟩ rfl dX9_totalOf_49 (fun r M1 hr => ?_)
  obtain ⟨rfl, rfl⟩ := hr
  refine x_iadd C dX9_totalOf_52 ?_
  exact x_iret C dX9_totalOf_53 ⟨Nat.le_refl _, Nat.le_refl _⟩ ⟨rfl, rfl⟩
theorem mi_X9_draw : gMV RX9 yX9_draw cX9_draw 2 (some .int) 1 := ⟨q2934, qs121, q165, q2935, by decide +kernel⟩
set_option maxHeartbeats 4000000 in
set_option maxRecDepth 100000 in
theorem met_X9_draw (l : Launch) {G : gG} (hG : gOK G) {ad : Nat → Nat} {σ : mS} {M0 : gM} {b : Nat} {B : Nat → Int32} {d : Int64} {mo : Int32} (h : MR G ad (sb σ b B) M0) (hb : mI σ 21 = nI b) (hL : mL σ 28 = d) (hb0_ : b < 23) (hmo : ¬ mo.toInt64 = 0) : Met l yX9_draw (ws_ yX9_draw cX9_draw 2 (some .int)) ({ frames := 0, cells := 0, slots := 0, locals := 0 }) (gPre G M0 [.ref (ad 0), .int (mo)]) (gQ G (gI (fun r M1 => pDv (pNx d) mo = r ∧ MF G ad M0 (sb (sl σ 28 (pNx d)) b B) M1))) 0 0 (gA G) := by
  refine gMet (L0 := [some (.ref (ad 0)), some (.int (mo))]) RX9 hG (by decide +kernel) rfl (Nat.le_of_ble_eq_true rfl) rfl ?_
  intro p e s m args below meth c C hnm
  have h := MF.rf h
  refine x_aload_n C dX9_draw_0 rfl rfl ?_
  refine x_aload_n C dX9_draw_1 rfl rfl ?_
  refine m_get C h 28 (v := .long (d)) rfl q2437 (by rw [← hL]; rfl) dX9_draw_2 ?_
  refine x_ldc2 C dX9_draw_5 q2936 ?_
  refine x_lmul C dX9_draw_8 ?_
  refine x_ldc2 C dX9_draw_9 q2937 ?_
  refine x_ladd C dX9_draw_12 ?_
  refine x_ldc2 C dX9_draw_13 q2938 ?_
  refine x_land C dX9_draw_16 ?_
  refine m_putl C h 28 rfl q2437 rfl rfl rfl rfl dX9_draw_17 (fun M h => ?_)
  refine x_aload_n C dX9_draw_20 rfl rfl ?_
  refine m_get C h 28 (v := .long (pNx d)) rfl q2437 rfl dX9_draw_21 ?_
  refine x_ldc2 C dX9_draw_24 q2939 ?_
  refine x_ldiv C dX9_draw_27 (by decide) ?_
  refine x_iload_n C dX9_draw_28 rfl rfl ?_
  refine x_i2l C dX9_draw_29 ?_
  refine x_lrem C dX9_draw_30 (hmo) ?_
  refine x_l2i C dX9_draw_31 ?_
  exact x_iret C dX9_draw_32 ⟨Nat.le_refl _, Nat.le_refl _⟩ ⟨rfl, h⟩
theorem mi_X9_chance : gMV RX9 yX9_chance cX9_chance 6 (some .int) 3 := ⟨q2925, q2926, q165, q2927, by decide +kernel⟩
set_option maxHeartbeats 4000000 in
set_option maxRecDepth 100000 in
theorem met_X9_chance (l : Launch) {G : gG} (hG : gOK G) {ad : Nat → Nat} {σ : mS} {M0 : gM} {u : Nat} {B : Nat → Int32} {sd n t : Int32} {A : Nat → Nat → Int32} {T : Nat} (h : MR G ad (sb σ 0 B) M0) (hb : mI σ 21 = nI 0) (hu : mI σ 22 = nI u) (hA : mA σ = A) (hT : mI σ 11 = nI T) (hw : wT T A) (hB : wB T B) : Met l yX9_chance (ws_ yX9_chance cX9_chance 6 (some .int)) ({ frames := 9, cells := 0, slots := 0, locals := 223 }) (gPre G M0 [.ref (ad 0), .int (sd), .int (n), .int (t)]) (gQ G (gI (fun r M1 => ∃ σ', sQ (sb σ 0 B) σ' ∧ MF G ad M0 σ' M1 ∧ qChance A T B sd n t = r))) 0 0 (gA G) := by
  refine gMet (L0 := [some (.ref (ad 0)), some (.int (sd)), some (.int (n)), some (.int (t)), none, none]) RX9 hG (by decide +kernel) rfl (Nat.le_of_ble_eq_true rfl) rfl ?_
  intro p e s m args below meth c C hnm
  have h := MF.rf h
  have hT4 := hw.T4
  have hnw : B 0 = nI (pNow B) := hB.now.1
  have hnow : pNow B ≤ 63 := hB.now.2
  have hna : B 1865 = nI (dN (B 1865)) := hB.na.1
  have hna8 : dN (B 1865) ≤ 8 := hB.na.2
  have hkp : B 1867 = nI (dN (B 1867)) := hB.kept.1
  have hkp40 : dN (B 1867) ≤ 40 := hB.kept.2
  refine x_aload_n C dX9_chance_0 rfl rfl ?_
  refine x_iconst C dX9_chance_1 kc_0 ?_
  refine m_put C h 2 rfl q2411 rfl rfl rfl rfl dX9_chance_2 (fun M h => ?_)
  obtain ⟨σ1, hs1, h⟩ : ∃ σ', sQ σ σ' ∧ MF G ad M0 (sb σ' 0 B) M := ⟨_, sQ.p2, h⟩
  refine x_iload_n C dX9_chance_5 rfl rfl ?_
  refine x_iconst C dX9_chance_6 kc_m1 ?_
  refine x_icmp_lt (tgt := 40) C dX9_chance_7 rfl (fun c7 => ?_) (fun c7 => ?_)
  · -- 40
    refine x_ldcw C dX9_chance_40 q2817 ?_
    exact x_iret C dX9_chance_43 ⟨Nat.le_refl _, Nat.le_refl _⟩ (gq3 h hs1.sb (by unfold qChance; rw [if_pos c7]; first | done | assumption | rfl))
  · -- 10
    refine x_iload_n C dX9_chance_10 rfl rfl ?_
    refine x_iconst C dX9_chance_11 kc_1 ?_
    refine x_bipush C dX9_chance_12 kb_8 ?_
    refine x_S3I C (met_X9_isIn l C.1) mi_X9_isIn q2550 ⟨rfl, rfl⟩ rfl ⟨Nat.le_refl _, Nat.le_refl _⟩ rfl dX9_chance_14 (fun r M1 hr => ?_)
    rcases hr with ⟨rfl, rfl, b14⟩ | ⟨rfl, rfl, b14⟩
    · -- true
      obtain ⟨nn, rfl, hlnn, hhnn⟩ := iI.ex b14 (by omega) (by omega)
      have enn : dN (nI nn) = nn := dN_nI (by omega)
      refine x_if_eqF (tgt := 40) C (by decide) dX9_chance_17 rfl ?_
      refine x_aload_n C dX9_chance_20 rfl rfl ?_
      refine x_iload_n C dX9_chance_21 rfl rfl ?_
      refine x_V1I C (met_X9_isTrader l C.1 h.1 ((hs1.2.2 11 (by decide) (by decide)).trans hT)) mi_X9_isTrader q2613 gcX9 h.1.1 ⟨rfl, rfl⟩ rfl ⟨Nat.le_refl _, Nat.le_refl _⟩ rfl dX9_chance_22 (fun r M1 hr => ?_)
      rcases hr with ⟨rfl, rfl, b22⟩ | ⟨rfl, rfl, b22⟩
      · -- true
        obtain ⟨tn, rfl, hltn⟩ := iT.ex b22 (by omega)
        have etn : dN (nI tn) = tn := dN_nI (by omega)
        refine x_if_eqF (tgt := 40) C (by decide) dX9_chance_25 rfl ?_
        refine x_aload_n C dX9_chance_28 rfl rfl ?_
        refine x_iconst C dX9_chance_29 kc_0 ?_
        refine x_V1I C (met_X9_of l C.1 h.1 ((hs1.2.2 21 (by decide) (by decide)).trans hb) (by omega) (by omega)) mi_X9_of q2389 gcX9 h.1.1 ⟨rfl, rfl⟩ rfl ⟨Nat.le_refl _, Nat.le_refl _⟩ rfl dX9_chance_30 (fun r M1 hr => ?_)
        obtain ⟨rfl, hr⟩ := hr
        have hr := hr.symm.trans (show _ = nI (pNow B) from hnw)
        subst hr
        refine x_iload_n C dX9_chance_33 rfl rfl ?_
        refine x_iaddN C dX9_chance_34 ?_
        refine x_bipush C dX9_chance_35 kb_63 ?_
        refine x_icmp_leN (tgt := 44) C (by omega) (by omega) dX9_chance_37 rfl (fun c37 => ?_) (fun c37 => ?_)
        · -- 44
          refine x_join (α := Int64) (P := fun v => v = (if sd < 0 then A 6 3 else sd).toInt64) (LL := fun v => [some (.ref (ad 0)), some (.int sd), some (.int (nI nn)), some (.int (nI tn)), none, none]) (ss := fun v => [.long v, .ref (ad 0)]) 61 (fun v hv => ?_) (fun J61 => ?_)
          · -- join 61
            refine m_putl C h 28 rfl q2437 rfl rfl rfl rfl dX9_chance_61 (fun M h => ?_)
            refine x_aload_n C dX9_chance_64 rfl rfl ?_
            refine x_V0V C (met_X9_asNow l C.1 h.1) mi_X9_asNow q2920 gcX9 h.1.1 ⟨rfl, rfl⟩ rfl ⟨Nat.le_refl _, Nat.le_refl _⟩ rfl dX9_chance_65 (fun M1 hr => ?_)
            have h := h.tr hr
            obtain ⟨σ2, hs2, hL, h⟩ : ∃ σ', sX (si (sb σ1 0 B) 21 (nI 1)) σ' ∧ mL σ' 28 = v ∧ MF G ad M0 (sb σ' 1 B) M1 := ⟨si (sl (sb σ1 0 B) 28 v) 21 (nI 1), ⟨rfl, rfl, fun _ _ => rfl⟩, mLs, h⟩
            refine x_aload_n C dX9_chance_68 rfl rfl ?_
            refine x_iload_n C dX9_chance_69 rfl rfl ?_
            refine x_V1I C (met_X9_totalOf l C.1 h.1 ((hs2.2.2 21 (by decide)).trans (show mI (si (sb σ1 0 B) 21 (nI 1)) 21 = nI 1 from rfl)) (by omega) (by omega)) mi_X9_totalOf q2928 gcX9 h.1.1 ⟨rfl, rfl⟩ rfl ⟨Nat.le_refl _, Nat.le_refl _⟩ rfl dX9_chance_70 (fun r M1 hr => ?_)
            obtain ⟨rfl, rfl⟩ := hr
            refine x_istore C dX9_chance_73 (gs1_4 rfl) rfl ?_
            refine x_iconst C dX9_chance_75 kc_0 ?_
            refine x_istore C dX9_chance_76 (gs1_5 rfl) rfl ?_
            refine x_loop (head := 78) (E := nn) (fun i M => ∃ σ3, sX (si (sb σ1 0 B) 21 (nI 1)) σ3 ∧ mL σ3 28 = pChD v i ∧ MF G ad M0 (sb σ3 1 (pCh A T B tn v i)) M) (fun i => [some (.ref (ad 0)), some (.int sd), some (.int (nI nn)), some (.int (nI tn)), some (.int (pTot B tn)), some (.int (nI i))]) ⟨_, hs2, hL, h⟩ (fun i M hi h ih => ?_)
            obtain ⟨σ3, hs3, hL3, h⟩ := h
            obtain ⟨hBi, hpi⟩ := wB_ch hw hB (t := tn) (by omega) (d := v) i (by omega)
            have hBn : pCh A T B tn v i 0 = nI (pNow B + i) := by rw [← hpi]; exact hBi.now.1
            refine x_iload C dX9_chance_78 rfl ?_
            refine x_iload_n C dX9_chance_80 rfl rfl ?_
            refine x_icmp_geN (tgt := 138) C (by omega) (by omega) dX9_chance_81 rfl (fun c81 => ?_) (fun c81 => ?_)
            · -- 138
              obtain rfl : i = nn := by omega
              refine x_aload_n C dX9_chance_138 rfl rfl ?_
              refine x_iload_n C dX9_chance_139 rfl rfl ?_
              refine x_V1I C (met_X9_totalOf l C.1 h.1 ((hs3.2.2 21 (by decide)).trans (show mI (si (sb σ1 0 B) 21 (nI 1)) 21 = nI 1 from rfl)) (by omega) (by omega)) mi_X9_totalOf q2928 gcX9 h.1.1 ⟨rfl, rfl⟩ rfl ⟨Nat.le_refl _, Nat.le_refl _⟩ rfl dX9_chance_140 (fun r M1 hr => ?_)
              obtain ⟨rfl, rfl⟩ := hr
              refine x_iload C dX9_chance_143 rfl ?_
              refine x_isub C dX9_chance_145 ?_
              refine x_istore C dX9_chance_146 (gs1_5 rfl) rfl ?_
              refine x_aload_n C dX9_chance_148 rfl rfl ?_
              refine x_iconst C dX9_chance_149 kc_0 ?_
              refine m_put C h 21 rfl q2430 rfl rfl rfl rfl dX9_chance_150 (fun M h => ?_)
              refine x_iload C dX9_chance_153 rfl ?_
              exact x_iret C dX9_chance_155 ⟨Nat.le_refl _, Nat.le_refl _⟩ (gq3 h (sQ_b1X hs1 hs3 hb) (by unfold qChance; simp only [enn, etn]; rw [if_neg c7, if_pos b14, if_pos b22, if_pos c37, ← hv]; first | done | assumption | rfl))
            · -- 84
              refine x_aload_n C dX9_chance_84 rfl rfl ?_
              refine x_aload_n C dX9_chance_85 rfl rfl ?_
              refine x_iload_n C dX9_chance_86 rfl rfl ?_
              refine x_aload_n C dX9_chance_87 rfl rfl ?_
              refine x_iconst C dX9_chance_88 kc_0 ?_
              refine x_V1I C (met_X9_of l C.1 h.1 ((hs3.2.2 21 (by decide)).trans (show mI (si (sb σ1 0 B) 21 (nI 1)) 21 = nI 1 from rfl)) (by omega) (by omega)) mi_X9_of q2389 gcX9 h.1.1 ⟨rfl, rfl⟩ rfl ⟨Nat.le_refl _, Nat.le_refl _⟩ rfl dX9_chance_89 (fun r M1 hr => ?_)
              obtain ⟨rfl, hr⟩ := hr
              have hr := hr.symm.trans (show _ = nI (pNow B + i) from hBn)
              subst hr
              refine x_iconst C dX9_chance_92 kc_0 ?_
              refine x_V3I C (met_X9_sumAt l C.1 h.1) mi_X9_sumAt q2393 gcX9 h.1.1 ⟨rfl, rfl⟩ rfl ⟨Nat.le_refl _, Nat.le_refl _⟩ rfl dX9_chance_93 (fun r M1 hr => ?_)
              obtain ⟨rfl, rfl⟩ := hr
              refine x_aload_n C dX9_chance_96 rfl rfl ?_
              refine x_sipush C dX9_chance_97 ks_1000 ?_
              refine x_V1I C (met_X9_draw l C.1 h.1 ((hs3.2.2 21 (by decide)).trans (show mI (si (sb σ1 0 B) 21 (nI 1)) 21 = nI 1 from rfl)) hL3 (by omega) (by decide +kernel)) mi_X9_draw q2932 gcX9 h.1.1 ⟨rfl, rfl⟩ rfl ⟨Nat.le_refl _, Nat.le_refl _⟩ rfl dX9_chance_100 (fun r M1 hr => ?_)
              obtain ⟨rfl, hr⟩ := hr
              have h := h.tr hr
              refine x_V2V C (met_X9_add l C.1 h.1 ((hs3.2.2 21 (by decide)).trans (show mI (si (sb σ1 0 B) 21 (nI 1)) 21 = nI 1 from rfl)) (by omega) (by omega)) mi_X9_add q2397 gcX9 h.1.1 ⟨rfl, rfl⟩ rfl ⟨Nat.le_refl _, Nat.le_refl _⟩ rfl dX9_chance_103 (fun M1 hr => ?_)
              have h := h.tr hr
              refine x_aload_n C dX9_chance_106 rfl rfl ?_
              refine x_aload_n C dX9_chance_107 rfl rfl ?_
              refine x_iload_n C dX9_chance_108 rfl rfl ?_
              refine x_aload_n C dX9_chance_109 rfl rfl ?_
              refine x_iconst C dX9_chance_110 kc_0 ?_
              refine x_V1I C (met_X9_of l C.1 h.1 ((hs3.2.2 21 (by decide)).trans (show mI (si (sb σ1 0 B) 21 (nI 1)) 21 = nI 1 from rfl)) (by omega) (by omega)) mi_X9_of q2389 gcX9 h.1.1 ⟨rfl, rfl⟩ rfl ⟨Nat.le_refl _, Nat.le_refl _⟩ rfl dX9_chance_111 (fun r M1 hr => ?_)
              obtain ⟨rfl, hr⟩ := hr
              have hr := hr.symm.trans (show _ = nI (pNow B + i) from ((pAdd_ne (by omega)).trans hBn))
              subst hr
              refine x_iconst C dX9_chance_114 kc_1 ?_
              refine x_V3I C (met_X9_sumAt l C.1 h.1) mi_X9_sumAt q2393 gcX9 h.1.1 ⟨rfl, rfl⟩ rfl ⟨Nat.le_refl _, Nat.le_refl _⟩ rfl dX9_chance_115 (fun r M1 hr => ?_)
              obtain ⟨rfl, rfl⟩ := hr
              refine x_aload_n C dX9_chance_118 rfl rfl ?_
              refine x_sipush C dX9_chance_119 ks_1000 ?_
              refine x_V1I C (met_X9_draw l C.1 h.1 ((hs3.2.2 21 (by decide)).trans (show mI (si (sb σ1 0 B) 21 (nI 1)) 21 = nI 1 from rfl)) mLs (by omega) (by decide +kernel)) mi_X9_draw q2932 gcX9 h.1.1 ⟨rfl, rfl⟩ rfl ⟨Nat.le_refl _, Nat.le_refl _⟩ rfl dX9_chance_122 (fun r M1 hr => ?_)
              obtain ⟨rfl, hr⟩ := hr
              have h := h.tr hr
              refine x_V2V C (met_X9_add l C.1 h.1 ((hs3.2.2 21 (by decide)).trans (show mI (si (sb σ1 0 B) 21 (nI 1)) 21 = nI 1 from rfl)) (by omega) (by omega)) mi_X9_add q2397 gcX9 h.1.1 ⟨rfl, rfl⟩ rfl ⟨Nat.le_refl _, Nat.le_refl _⟩ rfl dX9_chance_125 (fun M1 hr => ?_)
              have h := h.tr hr
              refine x_aload_n C dX9_chance_128 rfl rfl ?_
              refine x_V0V C (met_X9_closesQuarter l C.1 h.1 ((hs3.2.2 21 (by decide)).trans (show mI (si (sb σ1 0 B) 21 (nI 1)) 21 = nI 1 from rfl)) (hs3.1.trans (show mA (si (sb σ1 0 B) 21 (nI 1)) = A from (hs1.1.trans hA))) ((pAdd_ne (by omega)).trans ((pAdd_ne (by omega)).trans hBn)) ((hs3.2.2 11 (by decide)).trans (show mI (si (sb σ1 0 B) 21 (nI 1)) 11 = nI T from ((hs1.2.2 11 (by decide) (by decide)).trans hT))) (by omega) (by omega) hw (wB_chB hBi (by omega) (by omega) _).1) mi_X9_closesQuarter q2677 gcX9 h.1.1 ⟨rfl, rfl⟩ rfl ⟨Nat.le_refl _, Nat.le_refl _⟩ rfl dX9_chance_129 (fun M1 hr => ?_)
              obtain ⟨σ9, hsσ9, hr⟩ := hr
              have h := h.tr hr
              refine x_iincN C dX9_chance_132 rfl (gs1_5 rfl) rfl ?_
              refine x_goto (tgt := 78) C dX9_chance_135 rfl ?_
              exact (ih (by omega) _ ⟨σ9, hs3.tr (show sX σ3 σ9 from hsσ9.sX), (by rw [hsσ9.2.2.2]; exact mLs), h⟩)
          · -- to the join
            refine x_aload_n C dX9_chance_44 rfl rfl ?_
            refine x_iload_n C dX9_chance_45 rfl rfl ?_
            refine x_if_ge (tgt := 59) C dX9_chance_46 rfl (fun c46 => ?_) (fun c46 => ?_)
            · -- 59
              refine x_iload_n C dX9_chance_59 rfl rfl ?_
              refine x_i2l C dX9_chance_60 ?_
              exact (J61 _ (by rw [if_neg (Int32.not_lt.mpr c46)]))
            · -- 49
              refine x_aload_n C dX9_chance_49 rfl rfl ?_
              refine m_get C h 17 rfl q2426 rfl dX9_chance_50 ?_
              refine x_iconst C dX9_chance_53 kc_3 ?_
              refine m_ald C h 6 (N := 14) (by decide) rfl rfl (by omega) (congrFun (congrFun (hs1.1.trans hA) 6) _) dX9_chance_54 ?_
              refine x_i2l C dX9_chance_55 ?_
              refine x_goto (tgt := 61) C dX9_chance_56 rfl ?_
              exact (J61 _ (by rw [if_pos (Int32.not_le.mp c46)]))
        · -- 40
          refine x_ldcw C dX9_chance_40 q2817 ?_
          exact x_iret C dX9_chance_43 ⟨Nat.le_refl _, Nat.le_refl _⟩ (gq3 h hs1.sb (by unfold qChance; simp only [enn, etn]; rw [if_neg c7, if_pos b14, if_pos b22, if_neg (by omega)]; first | done | assumption | rfl))
      · -- false
        refine x_if_eqT (tgt := 40) C (by decide) dX9_chance_25 rfl ?_
        refine x_ldcw C dX9_chance_40 q2817 ?_
        exact x_iret C dX9_chance_43 ⟨Nat.le_refl _, Nat.le_refl _⟩ (gq3 h hs1.sb (by unfold qChance; simp only [enn]; rw [if_neg c7, if_pos b14, if_neg b22]; first | done | assumption | rfl))
    · -- false
      refine x_if_eqT (tgt := 40) C (by decide) dX9_chance_17 rfl ?_
      refine x_ldcw C dX9_chance_40 q2817 ?_
      exact x_iret C dX9_chance_43 ⟨Nat.le_refl _, Nat.le_refl _⟩ (gq3 h hs1.sb (by unfold qChance; rw [if_neg c7, if_neg b14]; first | done | assumption | rfl))
