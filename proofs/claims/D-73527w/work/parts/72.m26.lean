set_option maxRecDepth 100000
theorem mi_X9_keepText : gMV RX9 yX9_keepText cX9_keepText 2 none 0 := ⟨q2372, qs54, q165, q2373, by decide +kernel⟩
set_option maxHeartbeats 4000000 in
set_option maxRecDepth 100000 in
theorem met_X9_keepText (l : Launch) {G : gG} (hG : gOK G) {ad : Nat → Nat} {σ : mS} {M0 : gM} {tr : Nat} (h : MR G ad σ M0) (h12 : mI σ 12 = nI tr) (hb0_ : tr ≤ 4) (hw : wT tr (mA (tTx σ tr))) : Met l yX9_keepText (ws_ yX9_keepText cX9_keepText 2 none) ({ frames := 4, cells := 0, slots := 0, locals := 93 }) (gPre G M0 [.ref (ad 0)]) (gQ G (gV (fun M1 => MF G ad M0 (tKT σ tr) M1))) 0 0 (gA G) := by
  refine gMet (L0 := [some (.ref (ad 0)), none]) RX9 hG (by decide +kernel) rfl (Nat.le_of_ble_eq_true rfl) rfl ?_
  intro p e s m args below meth c C hnm
  have h := MF.rf h
  refine x_aload_n C dX9_keepText_0 rfl rfl ?_
  refine x_aload_n C dX9_keepText_1 rfl rfl ?_
  refine m_get C h 12 (v := .int (nI tr)) rfl q2421 (m_v rfl h12) dX9_keepText_2 ?_
  refine m_put C h 11 rfl q2420 rfl rfl rfl rfl dX9_keepText_5 (fun M h => ?_)
  refine x_aload_n C dX9_keepText_8 rfl rfl ?_
  refine m_get C h 13 rfl q2422 rfl dX9_keepText_9 ?_
  refine x_bipush C dX9_keepText_12 kb_32 ?_
  refine x_S2V C (met_X9_copies2 l C.1 h.1) mi_X9_copies q2374 ⟨rfl, rfl⟩ rfl ⟨Nat.le_refl _, Nat.le_refl _⟩ rfl dX9_keepText_14 (fun M1 hr => ?_)
  have h := h.tr hr
  refine x_aload_n C dX9_keepText_17 rfl rfl ?_
  refine m_get C h 14 rfl q2423 rfl dX9_keepText_18 ?_
  refine x_bipush C dX9_keepText_21 kb_48 ?_
  refine x_S2V C (met_X9_copies3 l C.1 h.1) mi_X9_copies q2374 ⟨rfl, rfl⟩ rfl ⟨Nat.le_refl _, Nat.le_refl _⟩ rfl dX9_keepText_23 (fun M1 hr => ?_)
  have h := h.tr hr
  refine x_aload_n C dX9_keepText_26 rfl rfl ?_
  refine m_get C h 15 rfl q2424 rfl dX9_keepText_27 ?_
  refine x_bipush C dX9_keepText_30 kb_48 ?_
  refine x_S2V C (met_X9_copies4 l C.1 h.1) mi_X9_copies q2374 ⟨rfl, rfl⟩ rfl ⟨Nat.le_refl _, Nat.le_refl _⟩ rfl dX9_keepText_32 (fun M1 hr => ?_)
  have h := h.tr hr
  refine x_aload_n C dX9_keepText_35 rfl rfl ?_
  refine m_get C h 16 rfl q2425 rfl dX9_keepText_36 ?_
  refine x_bipush C dX9_keepText_39 kb_20 ?_
  refine x_S2V C (met_X9_copies5 l C.1 h.1) mi_X9_copies q2374 ⟨rfl, rfl⟩ rfl ⟨Nat.le_refl _, Nat.le_refl _⟩ rfl dX9_keepText_41 (fun M1 hr => ?_)
  have h := h.tr hr
  refine x_aload_n C dX9_keepText_44 rfl rfl ?_
  refine m_get C h 17 rfl q2426 rfl dX9_keepText_45 ?_
  refine x_bipush C dX9_keepText_48 kb_7 ?_
  refine x_S2V C (met_X9_copies6 l C.1 h.1) mi_X9_copies q2374 ⟨rfl, rfl⟩ rfl ⟨Nat.le_refl _, Nat.le_refl _⟩ rfl dX9_keepText_50 (fun M1 hr => ?_)
  have h := h.tr hr
  refine x_aload_n C dX9_keepText_53 rfl rfl ?_
  refine x_iconst C dX9_keepText_54 kc_0 ?_
  refine m_put C h 21 rfl q2430 rfl rfl rfl rfl dX9_keepText_55 (fun M h => ?_)
  refine x_aload_n C dX9_keepText_58 rfl rfl ?_
  refine x_iconst C dX9_keepText_59 kc_0 ?_
  refine m_put C h 22 rfl q2431 rfl rfl rfl rfl dX9_keepText_60 (fun M h => ?_)
  refine x_aload_n C dX9_keepText_63 rfl rfl ?_
  refine x_iconst C dX9_keepText_64 kc_0 ?_
  refine m_put C h 23 rfl q2432 rfl (by decide +kernel) rfl rfl dX9_keepText_65 (fun M h => ?_)
  obtain ⟨S, eS, h⟩ : ∃ S, S = si (si (si (tTx σ tr) 21 (nI 0)) 22 (nI 0)) 23 (nI 0) ∧ MF G ad M0 S M := ⟨_, rfl, h⟩
  have hb : mI S 21 = nI 0 := by rw [eS]; rfl
  have hT : mI S 11 = nI tr := by rw [eS]; rfl
  have hA : mA S = mA (tTx σ tr) := by rw [eS]; rfl
  have hT4 := hw.T4
  refine x_iconst C dX9_keepText_68 kc_0 ?_
  refine x_istore_n C dX9_keepText_69 rfl (gs1_1 rfl) rfl ?_
  refine x_loop (head := 70) (E := 2468) (fun i M => MF G ad M0 (sb S 0 (fun j => if j < i then nI 0 else mK S 0 j)) M) (fun i => [some (.ref (ad 0)), some (.int (nI i))]) (by rw [z_0]; exact h) (fun i M hi h ih => ?_)
  refine x_iload_n C dX9_keepText_70 rfl rfl ?_
  refine x_sipush C dX9_keepText_71 ks_2468 ?_
  refine x_icmp_geN (tgt := 89) C (by omega) (by omega) dX9_keepText_74 rfl (fun c74 => ?_) (fun c74 => ?_)
  · -- 89
    obtain rfl : i = 2468 := by omega
    refine x_iconst C dX9_keepText_89 kc_0 ?_
    refine x_istore_n C dX9_keepText_90 rfl (gs1_1 rfl) rfl ?_
    refine x_loop (head := 91) (E := tr) (fun i M => MF G ad M0 (sb S 0 (pHd (mA (tTx σ tr)) i)) M) (fun i => [some (.ref (ad 0)), some (.int (nI i))]) (h.cK z_e rfl rfl rfl rfl) (fun i M hi h ih => ?_)
    refine x_iload_n C dX9_keepText_91 rfl rfl ?_
    refine x_aload_n C dX9_keepText_92 rfl rfl ?_
    refine m_get C h 11 (v := .int (nI tr)) rfl q2420 (m_v rfl hT) dX9_keepText_93 ?_
    refine x_icmp_geN (tgt := 141) C (by omega) (by omega) dX9_keepText_96 rfl (fun c96 => ?_) (fun c96 => ?_)
    · -- 141
      obtain rfl : i = tr := by omega
      refine x_aload_n C dX9_keepText_141 rfl rfl ?_
      refine x_V0V C (met_X9_comesNow l C.1 h.1 hb hA (pHd_ne _ _ (by omega) (by omega)) (by omega) (by omega) hw (by rw [pHd_ne _ _ (by omega) (by omega)]; exact isN.nI (by omega) (by omega))) mi_X9_comesNow q2385 gcX9 h.1.1 ⟨rfl, rfl⟩ rfl ⟨Nat.le_refl _, Nat.le_refl _⟩ rfl dX9_keepText_142 (fun M1 hr => ?_)
      have h := h.tr hr
      exact x_vret C dX9_keepText_145 ⟨Nat.le_refl _, Nat.le_refl _⟩ (by unfold tKT pBeg; rw [← eS]; exact h)
    · -- 99
      refine x_aload_n C dX9_keepText_99 rfl rfl ?_
      refine x_sipush C dX9_keepText_100 ks_1281 ?_
      refine x_iconst C dX9_keepText_103 kc_2 ?_
      refine x_iload_n C dX9_keepText_104 rfl rfl ?_
      refine x_imulN C dX9_keepText_105 ?_
      refine x_iaddN C dX9_keepText_106 ?_
      refine x_aload_n C dX9_keepText_107 rfl rfl ?_
      refine x_iload_n C dX9_keepText_108 rfl rfl ?_
      refine x_iconst C dX9_keepText_109 kc_4 ?_
      refine x_V2I C (met_X9_told1 l C.1 h.1 hA (by omega)) mi_X9_told1 q2381 gcX9 h.1.1 ⟨rfl, rfl⟩ rfl ⟨Nat.le_refl _, Nat.le_refl _⟩ rfl dX9_keepText_110 (fun r M1 hr => ?_)
      obtain ⟨rfl, rfl⟩ := hr
      refine x_V2V C (met_X9_lay l C.1 h.1 hb (by omega) (by omega)) mi_X9_lay q2377 gcX9 h.1.1 ⟨rfl, rfl⟩ rfl ⟨Nat.le_refl _, Nat.le_refl _⟩ rfl dX9_keepText_113 (fun M1 hr => ?_)
      have h := h.tr hr
      refine x_aload_n C dX9_keepText_116 rfl rfl ?_
      refine x_sipush C dX9_keepText_117 ks_1281 ?_
      refine x_iconst C dX9_keepText_120 kc_2 ?_
      refine x_iload_n C dX9_keepText_121 rfl rfl ?_
      refine x_imulN C dX9_keepText_122 ?_
      refine x_iaddN C dX9_keepText_123 ?_
      refine x_iconst C dX9_keepText_124 kc_1 ?_
      refine x_iaddN C dX9_keepText_125 ?_
      refine x_aload_n C dX9_keepText_126 rfl rfl ?_
      refine x_iload_n C dX9_keepText_127 rfl rfl ?_
      refine x_iconst C dX9_keepText_128 kc_5 ?_
      refine x_V2I C (met_X9_told1 l C.1 h.1 hA (by omega)) mi_X9_told1 q2381 gcX9 h.1.1 ⟨rfl, rfl⟩ rfl ⟨Nat.le_refl _, Nat.le_refl _⟩ rfl dX9_keepText_129 (fun r M1 hr => ?_)
      obtain ⟨rfl, rfl⟩ := hr
      refine x_V2V C (met_X9_lay l C.1 h.1 hb (by omega) (by omega)) mi_X9_lay q2377 gcX9 h.1.1 ⟨rfl, rfl⟩ rfl ⟨Nat.le_refl _, Nat.le_refl _⟩ rfl dX9_keepText_132 (fun M1 hr => ?_)
      have h := h.tr hr
      refine x_iincN C dX9_keepText_135 rfl (gs1_1 rfl) rfl ?_
      refine x_goto (tgt := 91) C dX9_keepText_138 rfl ?_
      exact (ih (by omega) _ h)
  · -- 77
    refine x_aload_n C dX9_keepText_77 rfl rfl ?_
    refine x_iload_n C dX9_keepText_78 rfl rfl ?_
    refine x_iconst C dX9_keepText_79 kc_0 ?_
    refine x_V2V C (met_X9_lay l C.1 h.1 hb (by omega) (by omega)) mi_X9_lay q2377 gcX9 h.1.1 ⟨rfl, rfl⟩ rfl ⟨Nat.le_refl _, Nat.le_refl _⟩ rfl dX9_keepText_80 (fun M1 hr => ?_)
    have h := h.tr hr
    refine x_iincN C dX9_keepText_83 rfl (gs1_1 rfl) rfl ?_
    refine x_goto (tgt := 70) C dX9_keepText_86 rfl ?_
    exact (ih (by omega) _ (by rw [z_s] at h; exact h))
