set_option maxRecDepth 100000
theorem mi_X9_undo : gMV RX9 yX9_undo cX9_undo 1 (some .int) 0 := ⟨q2594, q2595, q165, q2596, by decide +kernel⟩
set_option maxHeartbeats 4000000 in
set_option maxRecDepth 100000 in
theorem met_X9_undo (l : Launch) {G : gG} (hG : gOK G) {ad : Nat → Nat} {σ : mS} {M0 : gM} {u : Nat} (h : MR G ad σ M0) (hu : mI σ 22 = nI u) (hb0_ : u ≤ 20) : Met l yX9_undo (ws_ yX9_undo cX9_undo 1 (some .int)) ({ frames := 1, cells := 0, slots := 0, locals := 23 }) (gPre G M0 [.ref (ad 0)]) (gQ G (gI (fun r M1 => ∃ σ', sQ (tUndo σ u) σ' ∧ MF G ad M0 σ' M1 ∧ qUndo u = r))) 0 0 (gA G) := by
  refine gMet (L0 := [some (.ref (ad 0))]) RX9 hG (by decide +kernel) rfl (Nat.le_of_ble_eq_true rfl) rfl ?_
  intro p e s m args below meth c C hnm
  have h := MF.rf h
  refine x_aload_n C dX9_undo_0 rfl rfl ?_
  refine x_iconst C dX9_undo_1 kc_0 ?_
  refine m_put C h 2 rfl q2411 rfl rfl rfl rfl dX9_undo_2 (fun M h => ?_)
  obtain ⟨σ1, hs1, h⟩ : ∃ σ', sQ σ σ' ∧ MF G ad M0 σ' M := ⟨_, sQ.p2, h⟩
  refine x_aload_n C dX9_undo_5 rfl rfl ?_
  refine m_get C h 22 (v := .int (nI u)) rfl q2431 (m_v rfl ((hs1.2.2 22 (by decide) (by decide)).trans hu)) dX9_undo_6 ?_
  refine x_if_neN (tgt := 14) C (by omega) dX9_undo_9 rfl (fun c9 => ?_) (fun c9 => ?_)
  · -- 14
    refine x_aload_n C dX9_undo_14 rfl rfl ?_
    refine x_dup C dX9_undo_15 rfl ?_
    refine m_get C h 22 (v := .int (nI u)) rfl q2431 (m_v rfl ((hs1.2.2 22 (by decide) (by decide)).trans hu)) dX9_undo_16 ?_
    refine x_iconst C dX9_undo_19 kc_1 ?_
    refine x_isubN C (by omega) dX9_undo_20 ?_
    refine m_put C h 22 rfl q2431 rfl rfl rfl rfl dX9_undo_21 (fun M h => ?_)
    refine x_aload_n C dX9_undo_24 rfl rfl ?_
    refine x_iconst C dX9_undo_25 kc_3 ?_
    refine x_aload_n C dX9_undo_26 rfl rfl ?_
    refine m_get C h 22 (v := .int (nI (u - 1))) rfl q2431 (m_v rfl rfl) dX9_undo_27 ?_
    refine x_iaddN C dX9_undo_30 ?_
    refine x_iconst C dX9_undo_31 kc_0 ?_
    refine x_V2V C (met_X9_copyBank l C.1 h.1 (by omega) (by omega) (by omega)) mi_X9_copyBank q2597 gcX9 h.1.1 ⟨rfl, rfl⟩ rfl ⟨Nat.le_refl _, Nat.le_refl _⟩ rfl dX9_undo_32 (fun M1 hr => ?_)
    have h := h.tr hr
    refine x_aload_n C dX9_undo_35 rfl rfl ?_
    refine m_get C h 22 (v := .int (nI (u - 1))) rfl q2431 (m_v rfl rfl) dX9_undo_36 ?_
    exact x_iret C dX9_undo_39 ⟨Nat.le_refl _, Nat.le_refl _⟩ (gq3 h (by rw [tUndo, if_neg (by omega)]; exact hs1.bk) (by rw [qUndo, if_neg (by omega)]))
  · -- 12
    refine x_iconst C dX9_undo_12 kc_m1 ?_
    exact x_iret C dX9_undo_13 ⟨Nat.le_refl _, Nat.le_refl _⟩ (gq3 h (by rw [tUndo, if_pos c9]; exact hs1) (by rw [qUndo, if_pos c9]))
theorem mi_X9_keep : gMV RX9 yX9_keep cX9_keep 1 (some .int) 0 := ⟨q2602, q2603, q165, q2604, by decide +kernel⟩
set_option maxHeartbeats 4000000 in
set_option maxRecDepth 100000 in
theorem met_X9_keep (l : Launch) {G : gG} (hG : gOK G) {ad : Nat → Nat} {σ : mS} {M0 : gM} (h : MR G ad σ M0) (hb : mI σ 21 = nI 0) : Met l yX9_keep (ws_ yX9_keep cX9_keep 1 (some .int)) ({ frames := 1, cells := 0, slots := 0, locals := 23 }) (gPre G M0 [.ref (ad 0)]) (gQ G (gI (fun r M1 => ∃ σ', sQ (tKeep σ) σ' ∧ MF G ad M0 σ' M1 ∧ mK σ 0 0 = r))) 0 0 (gA G) := by
  refine gMet (L0 := [some (.ref (ad 0))]) RX9 hG (by decide +kernel) rfl (Nat.le_of_ble_eq_true rfl) rfl ?_
  intro p e s m args below meth c C hnm
  have h := MF.rf h
  refine x_aload_n C dX9_keep_0 rfl rfl ?_
  refine x_iconst C dX9_keep_1 kc_0 ?_
  refine m_put C h 2 rfl q2411 rfl rfl rfl rfl dX9_keep_2 (fun M h => ?_)
  obtain ⟨σ1, hs1, h⟩ : ∃ σ', sQ σ σ' ∧ MF G ad M0 σ' M := ⟨_, sQ.p2, h⟩
  refine x_aload_n C dX9_keep_5 rfl rfl ?_
  refine x_iconst C dX9_keep_6 kc_0 ?_
  refine x_iconst C dX9_keep_7 kc_2 ?_
  refine x_V2V C (met_X9_copyBank l C.1 h.1 (by omega) (by omega) (by omega)) mi_X9_copyBank q2597 gcX9 h.1.1 ⟨rfl, rfl⟩ rfl ⟨Nat.le_refl _, Nat.le_refl _⟩ rfl dX9_keep_8 (fun M1 hr => ?_)
  have h := h.tr hr
  refine x_aload_n C dX9_keep_11 rfl rfl ?_
  refine x_iconst C dX9_keep_12 kc_1 ?_
  refine m_put C h 23 rfl q2432 rfl (by decide +kernel) rfl rfl dX9_keep_13 (fun M h => ?_)
  have h : MF G ad M0 (sb (tKeep σ1) 0 (mK σ1 0)) M := (by rw [kp_sb]; exact h)
  refine x_aload_n C dX9_keep_16 rfl rfl ?_
  refine x_iconst C dX9_keep_17 kc_0 ?_
  refine x_V1I C (met_X9_of l C.1 h.1 ((hs1.2.2 21 (by decide) (by decide)).trans hb) (by omega) (by omega)) mi_X9_of q2389 gcX9 h.1.1 ⟨rfl, rfl⟩ rfl ⟨Nat.le_refl _, Nat.le_refl _⟩ rfl dX9_keep_18 (fun r M1 hr => ?_)
  obtain ⟨rfl, rfl⟩ := hr
  exact x_iret C dX9_keep_21 ⟨Nat.le_refl _, Nat.le_refl _⟩ (gq3 h (by rw [kp_sb]; exact hs1.kp) (by rw [← hs1.2.1 0 (by omega)]))
theorem mi_X9_back : gMV RX9 yX9_back cX9_back 1 (some .int) 0 := ⟨q2606, q2607, q165, q2608, by decide +kernel⟩
set_option maxHeartbeats 4000000 in
set_option maxRecDepth 100000 in
theorem met_X9_back (l : Launch) {G : gG} (hG : gOK G) {ad : Nat → Nat} {σ : mS} {M0 : gM} (h : MR G ad σ M0) (hb : mI σ 21 = nI 0) : Met l yX9_back (ws_ yX9_back cX9_back 1 (some .int)) ({ frames := 1, cells := 0, slots := 0, locals := 23 }) (gPre G M0 [.ref (ad 0)]) (gQ G (gI (fun r M1 => ∃ σ', sQ (tRet σ) σ' ∧ MF G ad M0 σ' M1 ∧ qRet σ = r))) 0 0 (gA G) := by
  refine gMet (L0 := [some (.ref (ad 0))]) RX9 hG (by decide +kernel) rfl (Nat.le_of_ble_eq_true rfl) rfl ?_
  intro p e s m args below meth c C hnm
  have h := MF.rf h
  refine x_aload_n C dX9_back_0 rfl rfl ?_
  refine x_iconst C dX9_back_1 kc_0 ?_
  refine m_put C h 2 rfl q2411 rfl rfl rfl rfl dX9_back_2 (fun M h => ?_)
  obtain ⟨σ1, hs1, h⟩ : ∃ σ', sQ σ σ' ∧ MF G ad M0 σ' M := ⟨_, sQ.p2, h⟩
  refine x_aload_n C dX9_back_5 rfl rfl ?_
  refine m_get C h 23 (v := .int (mI σ 23)) rfl q2432 (m_v rfl (hs1.2.2 23 (by decide) (by decide))) dX9_back_6 ?_
  refine x_if_ne (tgt := 14) C dX9_back_9 rfl (fun c9 => ?_) (fun c9 => ?_)
  · -- 14
    refine x_aload_n C dX9_back_14 rfl rfl ?_
    refine x_iconst C dX9_back_15 kc_2 ?_
    refine x_iconst C dX9_back_16 kc_0 ?_
    refine x_V2V C (met_X9_copyBank l C.1 h.1 (by omega) (by omega) (by omega)) mi_X9_copyBank q2597 gcX9 h.1.1 ⟨rfl, rfl⟩ rfl ⟨Nat.le_refl _, Nat.le_refl _⟩ rfl dX9_back_17 (fun M1 hr => ?_)
    have h := h.tr hr
    refine x_aload_n C dX9_back_20 rfl rfl ?_
    refine x_iconst C dX9_back_21 kc_0 ?_
    refine m_put C h 22 rfl q2431 rfl rfl rfl rfl dX9_back_22 (fun M h => ?_)
    have h : MF G ad M0 (sb (tImg σ1) 0 (mK σ1 2)) M := (by rw [im_sb]; exact h)
    refine x_aload_n C dX9_back_25 rfl rfl ?_
    refine x_iconst C dX9_back_26 kc_0 ?_
    refine x_V1I C (met_X9_of l C.1 h.1 ((hs1.2.2 21 (by decide) (by decide)).trans hb) (by omega) (by omega)) mi_X9_of q2389 gcX9 h.1.1 ⟨rfl, rfl⟩ rfl ⟨Nat.le_refl _, Nat.le_refl _⟩ rfl dX9_back_27 (fun r M1 hr => ?_)
    obtain ⟨rfl, rfl⟩ := hr
    exact x_iret C dX9_back_30 ⟨Nat.le_refl _, Nat.le_refl _⟩ (gq3 h (by rw [im_sb, tRet, if_neg c9]; exact hs1.im) (by rw [qRet, if_neg c9, ← hs1.2.1 2 (by omega)]))
  · -- 12
    refine x_iconst C dX9_back_12 kc_m1 ?_
    exact x_iret C dX9_back_13 ⟨Nat.le_refl _, Nat.le_refl _⟩ (gq3 h (by rw [tRet, if_pos c9]; exact hs1) (by rw [qRet, if_pos c9]))
theorem mi_X9_asNow : gMV RX9 yX9_asNow cX9_asNow 1 none 0 := ⟨q2922, qs119, q165, q2923, by decide +kernel⟩
set_option maxHeartbeats 4000000 in
set_option maxRecDepth 100000 in
theorem met_X9_asNow (l : Launch) {G : gG} (hG : gOK G) {ad : Nat → Nat} {σ : mS} {M0 : gM} (h : MR G ad σ M0) : Met l yX9_asNow (ws_ yX9_asNow cX9_asNow 1 none) ({ frames := 1, cells := 0, slots := 0, locals := 23 }) (gPre G M0 [.ref (ad 0)]) (gQ G (gV (fun M1 => MF G ad M0 (si (sb σ 1 (mK σ 0)) 21 (nI 1)) M1))) 0 0 (gA G) := by
  refine gMet (L0 := [some (.ref (ad 0))]) RX9 hG (by decide +kernel) rfl (Nat.le_of_ble_eq_true rfl) rfl ?_
  intro p e s m args below meth c C hnm
  have h := MF.rf h
  refine x_aload_n C dX9_asNow_0 rfl rfl ?_
  refine x_iconst C dX9_asNow_1 kc_0 ?_
  refine x_iconst C dX9_asNow_2 kc_1 ?_
  refine x_V2V C (met_X9_copyBank l C.1 h.1 (by omega) (by omega) (by omega)) mi_X9_copyBank q2597 gcX9 h.1.1 ⟨rfl, rfl⟩ rfl ⟨Nat.le_refl _, Nat.le_refl _⟩ rfl dX9_asNow_3 (fun M1 hr => ?_)
  have h := h.tr hr
  refine x_aload_n C dX9_asNow_6 rfl rfl ?_
  refine x_iconst C dX9_asNow_7 kc_1 ?_
  refine m_put C h 21 rfl q2430 rfl rfl rfl rfl dX9_asNow_8 (fun M h => ?_)
  exact x_vret C dX9_asNow_11 ⟨Nat.le_refl _, Nat.le_refl _⟩ h
theorem mi_X9_tried : gMV RX9 yX9_tried cX9_tried 6 (some .int) 3 := ⟨q2917, q2918, q165, q2919, by decide +kernel⟩
set_option maxHeartbeats 4000000 in
set_option maxRecDepth 100000 in
theorem met_X9_tried (l : Launch) {G : gG} (hG : gOK G) {ad : Nat → Nat} {σ : mS} {M0 : gM} {u : Nat} {B : Nat → Int32} {n t s_ : Int32} {A : Nat → Nat → Int32} {T : Nat} (h : MR G ad (sb σ 0 B) M0) (hb : mI σ 21 = nI 0) (hu : mI σ 22 = nI u) (hA : mA σ = A) (hT : mI σ 11 = nI T) (hw : wT T A) (hB : wB T B) : Met l yX9_tried (ws_ yX9_tried cX9_tried 6 (some .int)) ({ frames := 9, cells := 0, slots := 0, locals := 223 }) (gPre G M0 [.ref (ad 0), .int (n), .int (t), .int (s_)]) (gQ G (gI (fun r M1 => ∃ σ', sQ (sb σ 0 B) σ' ∧ MF G ad M0 σ' M1 ∧ qTried A T B n t s_ = r))) 0 0 (gA G) := by
  refine gMet (L0 := [some (.ref (ad 0)), some (.int (n)), some (.int (t)), some (.int (s_)), none, none]) RX9 hG (by decide +kernel) rfl (Nat.le_of_ble_eq_true rfl) rfl ?_
  intro p e s m args below meth c C hnm
  have h := MF.rf h
  have hT4 := hw.T4
  have hnw : B 0 = nI (pNow B) := hB.now.1
  have hnow : pNow B ≤ 63 := hB.now.2
  have hna : B 1865 = nI (dN (B 1865)) := hB.na.1
  have hna8 : dN (B 1865) ≤ 8 := hB.na.2
  have hkp : B 1867 = nI (dN (B 1867)) := hB.kept.1
  have hkp40 : dN (B 1867) ≤ 40 := hB.kept.2
  refine x_aload_n C dX9_tried_0 rfl rfl ?_
  refine x_iconst C dX9_tried_1 kc_0 ?_
  refine m_put C h 2 rfl q2411 rfl rfl rfl rfl dX9_tried_2 (fun M h => ?_)
  obtain ⟨σ1, hs1, h⟩ : ∃ σ', sQ σ σ' ∧ MF G ad M0 (sb σ' 0 B) M := ⟨_, sQ.p2, h⟩
  refine x_iload_n C dX9_tried_5 rfl rfl ?_
  refine x_iconst C dX9_tried_6 kc_1 ?_
  refine x_bipush C dX9_tried_7 kb_16 ?_
  refine x_S3I C (met_X9_isIn l C.1) mi_X9_isIn q2550 ⟨rfl, rfl⟩ rfl ⟨Nat.le_refl _, Nat.le_refl _⟩ rfl dX9_tried_9 (fun r M1 hr => ?_)
  rcases hr with ⟨rfl, rfl, b9⟩ | ⟨rfl, rfl, b9⟩
  · -- true
    obtain ⟨nn, rfl, hlnn, hhnn⟩ := iI.ex b9 (by omega) (by omega)
    have enn : dN (nI nn) = nn := dN_nI (by omega)
    refine x_if_eqF (tgt := 44) C (by decide) dX9_tried_12 rfl ?_
    refine x_aload_n C dX9_tried_15 rfl rfl ?_
    refine x_iload_n C dX9_tried_16 rfl rfl ?_
    refine x_V1I C (met_X9_isTrader l C.1 h.1 ((hs1.2.2 11 (by decide) (by decide)).trans hT)) mi_X9_isTrader q2613 gcX9 h.1.1 ⟨rfl, rfl⟩ rfl ⟨Nat.le_refl _, Nat.le_refl _⟩ rfl dX9_tried_17 (fun r M1 hr => ?_)
    rcases hr with ⟨rfl, rfl, b17⟩ | ⟨rfl, rfl, b17⟩
    · -- true
      obtain ⟨tn, rfl, hltn⟩ := iT.ex b17 (by omega)
      have etn : dN (nI tn) = tn := dN_nI (by omega)
      refine x_if_eqF (tgt := 44) C (by decide) dX9_tried_20 rfl ?_
      refine x_iload_n C dX9_tried_23 rfl rfl ?_
      refine x_iconst C dX9_tried_24 kc_0 ?_
      refine x_iconst C dX9_tried_25 kc_3 ?_
      refine x_S3I C (met_X9_isIn l C.1) mi_X9_isIn q2550 ⟨rfl, rfl⟩ rfl ⟨Nat.le_refl _, Nat.le_refl _⟩ rfl dX9_tried_26 (fun r M1 hr => ?_)
      rcases hr with ⟨rfl, rfl, b26⟩ | ⟨rfl, rfl, b26⟩
      · -- true
        obtain ⟨s_n, rfl, hls_n, hhs_n⟩ := iI.ex b26 (by omega) (by omega)
        have es_n : dN (nI s_n) = s_n := dN_nI (by omega)
        refine x_if_eqF (tgt := 44) C (by decide) dX9_tried_29 rfl ?_
        refine x_aload_n C dX9_tried_32 rfl rfl ?_
        refine x_iconst C dX9_tried_33 kc_0 ?_
        refine x_V1I C (met_X9_of l C.1 h.1 ((hs1.2.2 21 (by decide) (by decide)).trans hb) (by omega) (by omega)) mi_X9_of q2389 gcX9 h.1.1 ⟨rfl, rfl⟩ rfl ⟨Nat.le_refl _, Nat.le_refl _⟩ rfl dX9_tried_34 (fun r M1 hr => ?_)
        obtain ⟨rfl, hr⟩ := hr
        have hr := hr.symm.trans (show _ = nI (pNow B) from hnw)
        subst hr
        refine x_iload_n C dX9_tried_37 rfl rfl ?_
        refine x_iaddN C dX9_tried_38 ?_
        refine x_bipush C dX9_tried_39 kb_63 ?_
        refine x_icmp_leN (tgt := 48) C (by omega) (by omega) dX9_tried_41 rfl (fun c41 => ?_) (fun c41 => ?_)
        · -- 48
          refine x_aload_n C dX9_tried_48 rfl rfl ?_
          refine x_V0V C (met_X9_asNow l C.1 h.1) mi_X9_asNow q2920 gcX9 h.1.1 ⟨rfl, rfl⟩ rfl ⟨Nat.le_refl _, Nat.le_refl _⟩ rfl dX9_tried_49 (fun M1 hr => ?_)
          have h := h.tr hr
          obtain ⟨σ2, e2, h⟩ : ∃ σ', σ' = si (sb σ1 0 B) 21 (nI 1) ∧ MF G ad M0 (sb σ' 1 B) M1 := ⟨_, rfl, h⟩
          have hs2 : sE (si (sb σ1 0 B) 21 (nI 1)) σ2 := (by rw [e2]; exact sE.rf)
          refine x_aload_n C dX9_tried_52 rfl rfl ?_
          refine x_sipush C dX9_tried_53 ks_2068 ?_
          refine x_iconst C dX9_tried_56 kc_4 ?_
          refine x_iload_n C dX9_tried_57 rfl rfl ?_
          refine x_imulN C dX9_tried_58 ?_
          refine x_iaddN C dX9_tried_59 ?_
          refine x_iload_n C dX9_tried_60 rfl rfl ?_
          refine x_iaddN C dX9_tried_61 ?_
          refine x_V1I C (met_X9_of l C.1 h.1 ((hs2.2.2.1 21 (by decide)).trans (show mI (si (sb σ1 0 B) 21 (nI 1)) 21 = nI 1 from rfl)) (by omega) (by omega)) mi_X9_of q2389 gcX9 h.1.1 ⟨rfl, rfl⟩ rfl ⟨Nat.le_refl _, Nat.le_refl _⟩ rfl dX9_tried_62 (fun r M1 hr => ?_)
          obtain ⟨rfl, rfl⟩ := hr
          refine x_istore C dX9_tried_65 (gs1_4 rfl) rfl ?_
          refine x_iconst C dX9_tried_67 kc_0 ?_
          refine x_istore C dX9_tried_68 (gs1_5 rfl) rfl ?_
          refine x_loop (head := 70) (E := nn) (fun i M => ∃ σ3, sE (si (sb σ1 0 B) 21 (nI 1)) σ3 ∧ MF G ad M0 (sb σ3 1 (pClN A T B i)) M) (fun i => [some (.ref (ad 0)), some (.int (nI nn)), some (.int (nI tn)), some (.int (nI s_n)), some (.int (B (2068 + 4 * tn + s_n))), some (.int (nI i))]) ⟨_, hs2, h⟩ (fun i M hi h ih => ?_)
          obtain ⟨σ3, hs3, h⟩ := h
          obtain ⟨hBi, hpi⟩ := wB_clN hw hB i (by omega)
          have hBn : pClN A T B i 0 = nI (pNow B + i) := by rw [← hpi]; exact hBi.now.1
          refine x_iload C dX9_tried_70 rfl ?_
          refine x_iload_n C dX9_tried_72 rfl rfl ?_
          refine x_icmp_geN (tgt := 86) C (by omega) (by omega) dX9_tried_73 rfl (fun c73 => ?_) (fun c73 => ?_)
          · -- 86
            obtain rfl : i = nn := by omega
            refine x_aload_n C dX9_tried_86 rfl rfl ?_
            refine x_sipush C dX9_tried_87 ks_2068 ?_
            refine x_iconst C dX9_tried_90 kc_4 ?_
            refine x_iload_n C dX9_tried_91 rfl rfl ?_
            refine x_imulN C dX9_tried_92 ?_
            refine x_iaddN C dX9_tried_93 ?_
            refine x_iload_n C dX9_tried_94 rfl rfl ?_
            refine x_iaddN C dX9_tried_95 ?_
            refine x_V1I C (met_X9_of l C.1 h.1 ((hs3.2.2.1 21 (by decide)).trans (show mI (si (sb σ1 0 B) 21 (nI 1)) 21 = nI 1 from rfl)) (by omega) (by omega)) mi_X9_of q2389 gcX9 h.1.1 ⟨rfl, rfl⟩ rfl ⟨Nat.le_refl _, Nat.le_refl _⟩ rfl dX9_tried_96 (fun r M1 hr => ?_)
            obtain ⟨rfl, rfl⟩ := hr
            refine x_iload C dX9_tried_99 rfl ?_
            refine x_isub C dX9_tried_101 ?_
            refine x_istore C dX9_tried_102 (gs1_5 rfl) rfl ?_
            refine x_aload_n C dX9_tried_104 rfl rfl ?_
            refine x_iconst C dX9_tried_105 kc_0 ?_
            refine m_put C h 21 rfl q2430 rfl rfl rfl rfl dX9_tried_106 (fun M h => ?_)
            refine x_iload C dX9_tried_109 rfl ?_
            exact x_iret C dX9_tried_111 ⟨Nat.le_refl _, Nat.le_refl _⟩ (gq3 h (sQ_b1 hs1 hs3 hb) (by unfold qTried; simp only [enn, etn, es_n]; rw [if_pos b9, if_pos b17, if_pos b26, if_pos c41]; first | done | assumption | rfl))
          · -- 76
            refine x_aload_n C dX9_tried_76 rfl rfl ?_
            refine x_V0V C (met_X9_closesQuarter l C.1 h.1 ((hs3.2.2.1 21 (by decide)).trans (show mI (si (sb σ1 0 B) 21 (nI 1)) 21 = nI 1 from rfl)) (hs3.1.trans (show mA (si (sb σ1 0 B) 21 (nI 1)) = A from (hs1.1.trans hA))) hBn ((hs3.2.2.1 11 (by decide)).trans (show mI (si (sb σ1 0 B) 21 (nI 1)) 11 = nI T from ((hs1.2.2 11 (by decide) (by decide)).trans hT))) (by omega) (by omega) hw hBi) mi_X9_closesQuarter q2677 gcX9 h.1.1 ⟨rfl, rfl⟩ rfl ⟨Nat.le_refl _, Nat.le_refl _⟩ rfl dX9_tried_77 (fun M1 hr => ?_)
            obtain ⟨σ9, hsσ9, hr⟩ := hr
            have h := h.tr hr
            refine x_iincN C dX9_tried_80 rfl (gs1_5 rfl) rfl ?_
            refine x_goto (tgt := 70) C dX9_tried_83 rfl ?_
            exact (ih (by omega) _ ⟨_, hs3.tr hsσ9, h⟩)
        · -- 44
          refine x_ldcw C dX9_tried_44 q2817 ?_
          exact x_iret C dX9_tried_47 ⟨Nat.le_refl _, Nat.le_refl _⟩ (gq3 h hs1.sb (by unfold qTried; simp only [enn, etn, es_n]; rw [if_pos b9, if_pos b17, if_pos b26, if_neg (by omega)]; first | done | assumption | rfl))
      · -- false
        refine x_if_eqT (tgt := 44) C (by decide) dX9_tried_29 rfl ?_
        refine x_ldcw C dX9_tried_44 q2817 ?_
        exact x_iret C dX9_tried_47 ⟨Nat.le_refl _, Nat.le_refl _⟩ (gq3 h hs1.sb (by unfold qTried; simp only [enn, etn]; rw [if_pos b9, if_pos b17, if_neg b26]; first | done | assumption | rfl))
    · -- false
      refine x_if_eqT (tgt := 44) C (by decide) dX9_tried_20 rfl ?_
      refine x_ldcw C dX9_tried_44 q2817 ?_
      exact x_iret C dX9_tried_47 ⟨Nat.le_refl _, Nat.le_refl _⟩ (gq3 h hs1.sb (by unfold qTried; simp only [enn]; rw [if_pos b9, if_neg b17]; first | done | assumption | rfl))
  · -- false
    refine x_if_eqT (tgt := 44) C (by decide) dX9_tried_12 rfl ?_
    refine x_ldcw C dX9_tried_44 q2817 ?_
    exact x_iret C dX9_tried_47 ⟨Nat.le_refl _, Nat.le_refl _⟩ (gq3 h hs1.sb (by unfold qTried; rw [if_neg b9]; first | done | assumption | rfl))
