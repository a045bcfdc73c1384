set_option maxRecDepth 100000
theorem mi_X9_closesQuarter : gMV RX9 yX9_closesQuarter cX9_closesQuarter 5 none 0 := ⟨q2679, qs90, q165, q2680, by decide +kernel⟩
set_option maxHeartbeats 4000000 in
set_option maxRecDepth 100000 in
theorem met_X9_closesQuarter (l : Launch) {G : gG} (hG : gOK G) {ad : Nat → Nat} {σ : mS} {M0 : gM} {b : Nat} {B : Nat → Int32} {w : Nat} {A : Nat → Nat → Int32} {T : Nat} (h : MR G ad (sb σ b B) M0) (hb : mI σ 21 = nI b) (hA : mA σ = A) (hn : B 0 = nI w) (hT : mI σ 11 = nI T) (hb0_ : b < 23) (hb1_ : w < 63) (hw : wT T A) (hB : wB T B) : Met l yX9_closesQuarter (ws_ yX9_closesQuarter cX9_closesQuarter 5 none) ({ frames := 8, cells := 0, slots := 0, locals := 199 }) (gPre G M0 [.ref (ad 0)]) (gQ G (gV (fun M1 => ∃ σ', sE σ σ' ∧ MF G ad M0 (sb σ' b (pClose A T B)) M1))) 0 0 (gA G) := by
  refine gMet (L0 := [some (.ref (ad 0)), none, none, none, none]) RX9 hG (by decide +kernel) rfl (Nat.le_of_ble_eq_true rfl) rfl ?_
  intro p e s m args below meth c C hnm
  have h := MF.rf h
  have hT4 := hw.T4
  have hpn : pNow B = w := by unfold pNow; rw [hn, dN_nI (by omega)]
  have hna8 := hB.na.2
  refine x_aload_n C dX9_closesQuarter_0 rfl rfl ?_
  refine x_iconst C dX9_closesQuarter_1 kc_0 ?_
  refine x_V1I C (met_X9_of l C.1 h.1 hb (by omega) (by omega)) mi_X9_of q2389 gcX9 h.1.1 ⟨rfl, rfl⟩ rfl ⟨Nat.le_refl _, Nat.le_refl _⟩ rfl dX9_closesQuarter_2 (fun r M1 hr => ?_)
  obtain ⟨rfl, hr⟩ := hr
  have hr := hr.symm.trans (show _ = nI w from hn)
  subst hr
  refine x_istore_n C dX9_closesQuarter_5 rfl (gs1_1 rfl) rfl ?_
  refine x_iconst C dX9_closesQuarter_6 kc_0 ?_
  refine x_istore_n C dX9_closesQuarter_7 rfl (gs1_2 rfl) rfl ?_
  refine x_loop (head := 8) (E := T) (fun i M => ∃ σ1, sE σ σ1 ∧ MF G ad M0 (sb σ1 b (pCQn A B w i)) M) (fun i => [some (.ref (ad 0)), some (.int (nI w)), some (.int (nI i)), none, none]) ⟨σ, sE.rf, h⟩ (fun i M hi h ih => ?_)
  obtain ⟨σ1, hs1, h⟩ := h
  obtain ⟨hw1, c0, c1⟩ := pCQn_w (A := A) (q := w) hB (by omega) i (by omega)
  have hk40 := hw1.kept.2
  refine x_iload_n C dX9_closesQuarter_8 rfl rfl ?_
  refine x_aload_n C dX9_closesQuarter_9 rfl rfl ?_
  refine m_get C h 11 (v := .int (nI T)) rfl q2420 (m_v rfl ((hs1.2.2.1 11 (by decide)).trans hT)) dX9_closesQuarter_10 ?_
  refine x_icmp_geN (tgt := 91) C (by omega) (by omega) dX9_closesQuarter_13 rfl (fun c13 => ?_) (fun c13 => ?_)
  · -- 91
    obtain rfl : T = i := by omega
    refine x_iconst C dX9_closesQuarter_91 kc_0 ?_
    refine x_istore_n C dX9_closesQuarter_92 rfl (gs1_2 rfl) rfl ?_
    refine x_loop (head := 93) (E := dN (B 1865)) (fun i M => ∃ σ1, sE σ σ1 ∧ MF G ad M0 (sb σ1 b (pUs (pCQn A B w T) w i)) M) (fun i => [some (.ref (ad 0)), some (.int (nI w)), some (.int (nI i)), none, none]) ⟨σ1, hs1, h⟩ (fun i M hi h ih => ?_)
    obtain ⟨σ3, hs3, h⟩ := h
    obtain ⟨d1, d0, d2⟩ := pUs_w (q := w) hw1 i (by rw [c1]; omega)
    refine x_iload_n C dX9_closesQuarter_93 rfl rfl ?_
    refine x_aload_n C dX9_closesQuarter_94 rfl rfl ?_
    refine x_sipush C dX9_closesQuarter_95 ks_1865 ?_
    refine x_V1I C (met_X9_of l C.1 h.1 ((hs3.2.2.1 21 (by decide)).trans hb) (by omega) (by omega)) mi_X9_of q2389 gcX9 h.1.1 ⟨rfl, rfl⟩ rfl ⟨Nat.le_refl _, Nat.le_refl _⟩ rfl dX9_closesQuarter_98 (fun r M1 hr => ?_)
    obtain ⟨rfl, hr⟩ := hr
    have hr := hr.symm.trans (show _ = nI (dN (B 1865)) from (d2.trans (c1.trans hB.na.1)))
    subst hr
    refine x_icmp_geN (tgt := 127) C (by omega) (by omega) dX9_closesQuarter_101 rfl (fun c101 => ?_) (fun c101 => ?_)
    · -- 127
      refine x_joinM (α := Unit) (P := fun v M => ∃ σ1, sE σ σ1 ∧ MF G ad M0 (sb σ1 b (pCl2 A T B)) M) (LL := fun v => [some (.ref (ad 0)), some (.int (nI w)), none, none, none]) (ss := fun v => []) 138 (fun v M hv => ?_) (fun J138 => ?_)
      · -- join 138
        obtain ⟨σ6, hs6, h⟩ := hv
        have hc8 : isN (upd (pCl2 A T B) 0 (nI (w + 1)) 1865) 8 := by rw [pk_un (by omega)]; exact wB_cl2 hw hB (by omega)
        refine x_aload_n C dX9_closesQuarter_138 rfl rfl ?_
        refine x_iconst C dX9_closesQuarter_139 kc_0 ?_
        refine x_iload_n C dX9_closesQuarter_140 rfl rfl ?_
        refine x_iconst C dX9_closesQuarter_141 kc_1 ?_
        refine x_iaddN C dX9_closesQuarter_142 ?_
        refine x_V2V C (met_X9_lay l C.1 h.1 ((hs6.2.2.1 21 (by decide)).trans hb) (by omega) (by omega)) mi_X9_lay q2377 gcX9 h.1.1 ⟨rfl, rfl⟩ rfl ⟨Nat.le_refl _, Nat.le_refl _⟩ rfl dX9_closesQuarter_143 (fun M1 hr => ?_)
        have h := h.tr hr
        refine x_aload_n C dX9_closesQuarter_146 rfl rfl ?_
        refine x_V0V C (met_X9_comesNow l C.1 h.1 ((hs6.2.2.1 21 (by decide)).trans hb) (hs6.1.trans hA) pk_us (by omega) (by omega) hw hc8) mi_X9_comesNow q2385 gcX9 h.1.1 ⟨rfl, rfl⟩ rfl ⟨Nat.le_refl _, Nat.le_refl _⟩ rfl dX9_closesQuarter_147 (fun M1 hr => ?_)
        have h := h.tr hr
        exact x_vret C dX9_closesQuarter_150 ⟨Nat.le_refl _, Nat.le_refl _⟩ ⟨_, hs6, (by unfold pClose; rw [hpn]; exact h)⟩
      · -- to the join
        obtain rfl : i = dN (B 1865) := by omega
        have hcl : pCl1 A T B = pUs (pCQn A B w T) w (dN (B 1865)) := by unfold pCl1; rw [hpn]
        obtain ⟨hl1, hl0, hl5⟩ := wB_cl1 hw hB (by omega)
        rw [hcl] at hl1 hl0 hl5
        refine x_iload_n C dX9_closesQuarter_127 rfl rfl ?_
        refine x_iconst C dX9_closesQuarter_128 kc_4 ?_
        refine x_iremN C (by omega) (by omega) (by omega) dX9_closesQuarter_129 ?_
        refine x_iconst C dX9_closesQuarter_130 kc_3 ?_
        refine x_icmp_neN (tgt := 138) C (by omega) (by omega) dX9_closesQuarter_131 rfl (fun c131 => ?_) (fun c131 => ?_)
        · -- 138
          exact x_wk [true, true, false, true, true] rfl (J138 () _ ⟨_, hs3, (by unfold pCl2; rw [hpn, if_neg (by omega), hcl]; exact h)⟩)
        · -- 134
          refine x_aload_n C dX9_closesQuarter_134 rfl rfl ?_
          refine x_V0V C (met_X9_closesYear l C.1 h.1 ((hs3.2.2.1 21 (by decide)).trans hb) (hs3.1.trans hA) (d0.trans (c0.trans hn)) ((hs3.2.2.1 11 (by decide)).trans hT) (by omega) (by omega) hw hl1) mi_X9_closesYear q2732 gcX9 h.1.1 ⟨rfl, rfl⟩ rfl ⟨Nat.le_refl _, Nat.le_refl _⟩ rfl dX9_closesQuarter_135 (fun M1 hr => ?_)
          obtain ⟨σ5, hsσ5, hr⟩ := hr
          have h := h.tr hr
          exact x_wk [true, true, false, true, true] rfl (J138 () _ ⟨_, hs3.tr hsσ5, (by unfold pCl2; rw [hpn, if_pos (by omega), hcl]; exact h)⟩)
    · -- 104
      refine x_aload_n C dX9_closesQuarter_104 rfl rfl ?_
      refine x_iload_n C dX9_closesQuarter_105 rfl rfl ?_
      refine x_bipush C dX9_closesQuarter_106 kb_13 ?_
      refine x_iload_n C dX9_closesQuarter_108 rfl rfl ?_
      refine x_iconst C dX9_closesQuarter_109 kc_4 ?_
      refine x_iremN C (by omega) (by omega) (by omega) dX9_closesQuarter_110 ?_
      refine x_iaddN C dX9_closesQuarter_111 ?_
      refine x_aload_n C dX9_closesQuarter_112 rfl rfl ?_
      refine x_iload_n C dX9_closesQuarter_113 rfl rfl ?_
      refine x_iconst C dX9_closesQuarter_114 kc_2 ?_
      refine x_V2I C (met_X9_at l C.1 h.1 ((hs3.2.2.1 21 (by decide)).trans hb) (by omega) (by omega) (by omega)) mi_X9_at q2653 gcX9 h.1.1 ⟨rfl, rfl⟩ rfl ⟨Nat.le_refl _, Nat.le_refl _⟩ rfl dX9_closesQuarter_115 (fun r M1 hr => ?_)
      obtain ⟨rfl, rfl⟩ := hr
      refine x_V3V C (met_X9_put l C.1 h.1 ((hs3.2.2.1 21 (by decide)).trans hb) (by omega) (by omega) (by omega)) mi_X9_put q2405 gcX9 h.1.1 ⟨rfl, rfl⟩ rfl ⟨Nat.le_refl _, Nat.le_refl _⟩ rfl dX9_closesQuarter_118 (fun M1 hr => ?_)
      have h := h.tr hr
      refine x_iincN C dX9_closesQuarter_121 rfl (gs1_2 rfl) rfl ?_
      refine x_goto (tgt := 93) C dX9_closesQuarter_124 rfl ?_
      exact (ih (by omega) _ ⟨_, hs3, h⟩)
  · -- 16
    refine x_aload_n C dX9_closesQuarter_16 rfl rfl ?_
    refine x_iload_n C dX9_closesQuarter_17 rfl rfl ?_
    refine x_iload_n C dX9_closesQuarter_18 rfl rfl ?_
    refine x_aload_n C dX9_closesQuarter_19 rfl rfl ?_
    refine x_iload_n C dX9_closesQuarter_20 rfl rfl ?_
    refine x_iconst C dX9_closesQuarter_21 kc_2 ?_
    refine x_V2I C (met_X9_told1 l C.1 h.1 (hs1.1.trans hA) (by omega)) mi_X9_told1 q2381 gcX9 h.1.1 ⟨rfl, rfl⟩ rfl ⟨Nat.le_refl _, Nat.le_refl _⟩ rfl dX9_closesQuarter_22 (fun r M1 hr => ?_)
    obtain ⟨rfl, rfl⟩ := hr
    refine x_V3I C (met_X9_provisionalBy l C.1 h.1 ((hs1.2.2.1 21 (by decide)).trans hb) (hs1.1.trans hA) (by omega) (by omega) (by omega)) mi_X9_provisionalBy q2681 gcX9 h.1.1 ⟨rfl, rfl⟩ rfl ⟨Nat.le_refl _, Nat.le_refl _⟩ rfl dX9_closesQuarter_25 (fun r M1 hr => ?_)
    obtain ⟨rfl, hr⟩ := hr
    have h := h.tr hr
    refine x_istore_n C dX9_closesQuarter_28 rfl (gs1_3 rfl) rfl ?_
    refine x_aload_n C dX9_closesQuarter_29 rfl rfl ?_
    refine x_iload_n C dX9_closesQuarter_30 rfl rfl ?_
    refine x_aload_n C dX9_closesQuarter_31 rfl rfl ?_
    refine m_get C h 17 rfl q2426 rfl dX9_closesQuarter_32 ?_
    refine x_iconst C dX9_closesQuarter_35 kc_2 ?_
    refine m_ald C h 6 (N := 14) (by decide) rfl rfl (by omega) (congrFun (congrFun (hs1.1.trans hA) 6) _) dX9_closesQuarter_36 ?_
    refine x_iconst C dX9_closesQuarter_37 kc_4 ?_
    refine x_idiv C dX9_closesQuarter_38 (by decide) ?_
    refine x_V2I C (met_X9_back1 l C.1 h.1 ((hs1.2.2.1 21 (by decide)).trans hb) (hs1.1.trans hA) (by omega) hw.step hw.step10) mi_X9_back1 q2720 gcX9 h.1.1 ⟨rfl, rfl⟩ rfl ⟨Nat.le_refl _, Nat.le_refl _⟩ rfl dX9_closesQuarter_39 (fun r M1 hr => ?_)
    obtain ⟨rfl, hr⟩ := hr
    have h := h.tr hr
    refine x_istore C dX9_closesQuarter_42 (gs1_4 rfl) rfl ?_
    refine x_aload_n C dX9_closesQuarter_44 rfl rfl ?_
    refine x_sipush C dX9_closesQuarter_45 ks_1289 ?_
    refine x_bipush C dX9_closesQuarter_48 kb_64 ?_
    refine x_iload_n C dX9_closesQuarter_50 rfl rfl ?_
    refine x_imulN C dX9_closesQuarter_51 ?_
    refine x_iaddN C dX9_closesQuarter_52 ?_
    refine x_iload_n C dX9_closesQuarter_53 rfl rfl ?_
    refine x_iaddN C dX9_closesQuarter_54 ?_
    refine x_iload_n C dX9_closesQuarter_55 rfl rfl ?_
    refine x_V2V C (met_X9_lay l C.1 h.1 ((hs1.2.2.1 21 (by decide)).trans hb) (by omega) (by omega)) mi_X9_lay q2377 gcX9 h.1.1 ⟨rfl, rfl⟩ rfl ⟨Nat.le_refl _, Nat.le_refl _⟩ rfl dX9_closesQuarter_56 (fun M1 hr => ?_)
    have h := h.tr hr
    refine x_aload_n C dX9_closesQuarter_59 rfl rfl ?_
    refine x_sipush C dX9_closesQuarter_60 ks_1545 ?_
    refine x_bipush C dX9_closesQuarter_63 kb_64 ?_
    refine x_iload_n C dX9_closesQuarter_65 rfl rfl ?_
    refine x_imulN C dX9_closesQuarter_66 ?_
    refine x_iaddN C dX9_closesQuarter_67 ?_
    refine x_iload_n C dX9_closesQuarter_68 rfl rfl ?_
    refine x_iaddN C dX9_closesQuarter_69 ?_
    refine x_iload C dX9_closesQuarter_70 rfl ?_
    refine x_V2V C (met_X9_lay l C.1 h.1 ((hs1.2.2.1 21 (by decide)).trans hb) (by omega) (by omega)) mi_X9_lay q2377 gcX9 h.1.1 ⟨rfl, rfl⟩ rfl ⟨Nat.le_refl _, Nat.le_refl _⟩ rfl dX9_closesQuarter_72 (fun M1 hr => ?_)
    have h := h.tr hr
    refine x_aload_n C dX9_closesQuarter_75 rfl rfl ?_
    refine x_iload_n C dX9_closesQuarter_76 rfl rfl ?_
    refine x_iconst C dX9_closesQuarter_77 kc_0 ?_
    refine x_iload C dX9_closesQuarter_78 rfl ?_
    refine x_bipush C dX9_closesQuarter_80 kb_m2 ?_
    refine x_V4V C (met_X9_books l C.1 h.1 ((hs1.2.2.1 21 (by decide)).trans hb) ((pk_un (by omega)).trans ((pk_un (by omega)).trans hw1.kept.1)) ((pk_un (by omega)).trans ((pk_un (by omega)).trans (c0.trans hn))) (by omega) (by omega) (by omega) (by omega) (by omega)) mi_X9_books q2728 gcX9 h.1.1 ⟨rfl, rfl⟩ rfl ⟨Nat.le_refl _, Nat.le_refl _⟩ rfl dX9_closesQuarter_82 (fun M1 hr => ?_)
    have h := h.tr hr
    refine x_iincN C dX9_closesQuarter_85 rfl (gs1_2 rfl) rfl ?_
    refine x_goto (tgt := 8) C dX9_closesQuarter_88 rfl ?_
    exact x_wk [true, true, true, false, false] rfl (ih (by omega) _ ⟨_, hs1.tr (sE.s27.tr sE.sy), h⟩)
