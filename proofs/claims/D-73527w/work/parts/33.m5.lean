set_option maxRecDepth 100000
theorem mi_X9_comesNow : gMV RX9 yX9_comesNow cX9_comesNow 3 none 0 := ⟨q2387, qs57, q165, q2388, by decide +kernel⟩
set_option maxHeartbeats 4000000 in
set_option maxRecDepth 100000 in
theorem met_X9_comesNow (l : Launch) {G : gG} (hG : gOK G) {ad : Nat → Nat} {σ : mS} {M0 : gM} {b : Nat} {B : Nat → Int32} {w : Nat} {A : Nat → Nat → Int32} {T : Nat} (h : MR G ad (sb σ b B) M0) (hb : mI σ 21 = nI b) (hA : mA σ = A) (hn : B 0 = nI w) (hb0_ : b < 23) (hb1_ : w < 64) (hw : wT T A) (hna : isN (B 1865) 8) : Met l yX9_comesNow (ws_ yX9_comesNow cX9_comesNow 3 none) ({ frames := 3, cells := 0, slots := 0, locals := 71 }) (gPre G M0 [.ref (ad 0)]) (gQ G (gV (fun M1 => MF G ad M0 (sb σ b (pComes A B)) M1))) 0 0 (gA G) := by
  refine gMet (L0 := [some (.ref (ad 0)), none, none]) RX9 hG (by decide +kernel) rfl (Nat.le_of_ble_eq_true rfl) rfl ?_
  intro p e s m args below meth c C hnm
  have h := MF.rf h
  have hns := hw.ns.2
  have hnb := hw.nb.2
  have hnA := hw.na.2
  have hT4 := hw.T4
  have hpn : pNow B = w := by unfold pNow; rw [hn]; exact dN_nI (by omega)
  refine x_aload_n C dX9_comesNow_0 rfl rfl ?_
  refine x_iconst C dX9_comesNow_1 kc_0 ?_
  refine x_V1I C (met_X9_of l C.1 h.1 hb (by omega) (by omega)) mi_X9_of q2389 gcX9 h.1.1 ⟨rfl, rfl⟩ rfl ⟨Nat.le_refl _, Nat.le_refl _⟩ rfl dX9_comesNow_2 (fun r M1 hr => ?_)
  obtain ⟨rfl, hr⟩ := hr
  have hr := hr.symm.trans (show _ = nI w from hn)
  subst hr
  refine x_istore_n C dX9_comesNow_5 rfl (gs1_1 rfl) rfl ?_
  refine x_iconst C dX9_comesNow_6 kc_0 ?_
  refine x_istore_n C dX9_comesNow_7 rfl (gs1_2 rfl) rfl ?_
  refine x_loop (head := 8) (E := dN (A 6 4)) (fun i M => MF G ad M0 (sb σ b (pCom3 A w B i)) M) (fun i => [some (.ref (ad 0)), some (.int (nI w)), some (.int (nI i))]) h (fun i M hi h ih => ?_)
  refine x_iload_n C dX9_comesNow_8 rfl rfl ?_
  refine x_aload_n C dX9_comesNow_9 rfl rfl ?_
  refine m_get C h 17 rfl q2426 rfl dX9_comesNow_10 ?_
  refine x_iconst C dX9_comesNow_13 kc_4 ?_
  refine m_ald C h 6 (N := 14) (by decide) rfl rfl (by omega) ((congrFun (congrFun hA 6) _).trans hw.ns.1) dX9_comesNow_14 ?_
  refine x_icmp_geN (tgt := 75) C (by omega) (by omega) dX9_comesNow_15 rfl (fun c15 => ?_) (fun c15 => ?_)
  · -- 75
    obtain rfl : i = dN (A 6 4) := by omega
    refine x_iconst C dX9_comesNow_75 kc_0 ?_
    refine x_istore_n C dX9_comesNow_76 rfl (gs1_2 rfl) rfl ?_
    refine x_loop (head := 77) (E := dN (A 6 5)) (fun i M => MF G ad M0 (sb σ b (pCom4 A w (pCom3 A w B (dN (A 6 4))) i)) M) (fun i => [some (.ref (ad 0)), some (.int (nI w)), some (.int (nI i))]) h (fun i M hi h ih => ?_)
    refine x_iload_n C dX9_comesNow_77 rfl rfl ?_
    refine x_aload_n C dX9_comesNow_78 rfl rfl ?_
    refine m_get C h 17 rfl q2426 rfl dX9_comesNow_79 ?_
    refine x_iconst C dX9_comesNow_82 kc_5 ?_
    refine m_ald C h 6 (N := 14) (by decide) rfl rfl (by omega) ((congrFun (congrFun hA 6) _).trans hw.nb.1) dX9_comesNow_83 ?_
    refine x_icmp_geN (tgt := 146) C (by omega) (by omega) dX9_comesNow_84 rfl (fun c84 => ?_) (fun c84 => ?_)
    · -- 146
      obtain rfl : i = dN (A 6 5) := by omega
      refine x_iconst C dX9_comesNow_146 kc_0 ?_
      refine x_istore_n C dX9_comesNow_147 rfl (gs1_2 rfl) rfl ?_
      refine x_loop (head := 148) (E := dN (A 6 6)) (fun i M => MF G ad M0 (sb σ b (pCom5 A w (pCom4 A w (pCom3 A w B (dN (A 6 4))) (dN (A 6 5))) i)) M) (fun i => [some (.ref (ad 0)), some (.int (nI w)), some (.int (nI i))]) h (fun i M hi h ih => ?_)
      refine x_iload_n C dX9_comesNow_148 rfl rfl ?_
      refine x_aload_n C dX9_comesNow_149 rfl rfl ?_
      refine m_get C h 17 rfl q2426 rfl dX9_comesNow_150 ?_
      refine x_bipush C dX9_comesNow_153 kb_6 ?_
      refine m_ald C h 6 (N := 14) (by decide) rfl rfl (by omega) ((congrFun (congrFun hA 6) _).trans hw.na.1) dX9_comesNow_155 ?_
      refine x_icmp_geN (tgt := 234) C (by omega) (by omega) dX9_comesNow_156 rfl (fun c156 => ?_) (fun c156 => ?_)
      · -- 234
        obtain rfl : i = dN (A 6 6) := by omega
        exact x_vret C dX9_comesNow_234 ⟨Nat.le_refl _, Nat.le_refl _⟩ (by unfold pComes; rw [hpn]; exact h)
      · -- 159
        obtain ⟨g1, g2, g3, g4, g5, g6⟩ := hw.asset (k := i) (by omega)
        have g1b := g1.2
        have g4b := g4.2
        obtain ⟨k5, hk5, hk8⟩ : ∃ k, pCom5 A w (pCom4 A w (pCom3 A w B (dN (A 6 4))) (dN (A 6 5))) i 1865 = nI k ∧ k ≤ 8 := ⟨_, (pCom5_na (by rw [pCom4_ne hw (by omega) (by omega) _ (Nat.le_refl _), pCom3_ne hw (by omega) (by omega) _ (Nat.le_refl _)]; exact hna) i).1, (pCom5_na (by rw [pCom4_ne hw (by omega) (by omega) _ (Nat.le_refl _), pCom3_ne hw (by omega) (by omega) _ (Nat.le_refl _)]; exact hna) i).2⟩
        have hd5 : dN (pCom5 A w (pCom4 A w (pCom3 A w B (dN (A 6 4))) (dN (A 6 5))) i 1865) = k5 := by rw [hk5]; exact dN_nI (by omega)
        have h05 : pCom5 A w (pCom4 A w (pCom3 A w B (dN (A 6 4))) (dN (A 6 5))) i 0 = nI w := by rw [pCom5_0, pCom4_ne hw (by omega) (by omega) _ (Nat.le_refl _), pCom3_ne hw (by omega) (by omega) _ (Nat.le_refl _)]; exact hn
        refine x_aload_n C dX9_comesNow_159 rfl rfl ?_
        refine m_get C h 16 rfl q2425 rfl dX9_comesNow_160 ?_
        refine x_iconst C dX9_comesNow_163 kc_5 ?_
        refine x_iload_n C dX9_comesNow_164 rfl rfl ?_
        refine x_imulN C dX9_comesNow_165 ?_
        refine x_iconst C dX9_comesNow_166 kc_1 ?_
        refine x_iaddN C dX9_comesNow_167 ?_
        refine m_ald C h 5 (N := 40) (by decide) rfl rfl (by omega) (congrFun (congrFun hA 5) _) dX9_comesNow_168 ?_
        refine x_iload_n C dX9_comesNow_169 rfl rfl ?_
        refine x_icmp_ne (tgt := 228) C dX9_comesNow_170 rfl (fun c170 => ?_) (fun c170 => ?_)
        · -- 228
          refine x_iincN C dX9_comesNow_228 rfl (gs1_2 rfl) rfl ?_
          refine x_goto (tgt := 148) C dX9_comesNow_231 rfl ?_
          exact (ih (by omega) _ (by show MF G ad M0 (sb σ b (if _ then _ else _)) _; rw [if_neg (fun q => c170 q.1)]; exact h))
        · -- 173
          refine x_aload_n C dX9_comesNow_173 rfl rfl ?_
          refine x_sipush C dX9_comesNow_174 ks_1865 ?_
          refine x_V1I C (met_X9_of l C.1 h.1 hb (by omega) (by omega)) mi_X9_of q2389 gcX9 h.1.1 ⟨rfl, rfl⟩ rfl ⟨Nat.le_refl _, Nat.le_refl _⟩ rfl dX9_comesNow_177 (fun r M1 hr => ?_)
          obtain ⟨rfl, hr⟩ := hr
          have hr := hr.symm.trans (show _ = nI k5 from hk5)
          subst hr
          refine x_bipush C dX9_comesNow_180 kb_8 ?_
          refine x_icmp_geN (tgt := 228) C (by omega) (by omega) dX9_comesNow_182 rfl (fun c182 => ?_) (fun c182 => ?_)
          · -- 228
            refine x_iincN C dX9_comesNow_228 rfl (gs1_2 rfl) rfl ?_
            refine x_goto (tgt := 148) C dX9_comesNow_231 rfl ?_
            exact (ih (by omega) _ (by show MF G ad M0 (sb σ b (if _ then _ else _)) _; rw [if_neg (fun q => by have := q.2; omega)]; exact h))
          · -- 185
            refine x_aload_n C dX9_comesNow_185 rfl rfl ?_
            refine x_aload_n C dX9_comesNow_186 rfl rfl ?_
            refine m_get C h 16 rfl q2425 rfl dX9_comesNow_187 ?_
            refine x_iconst C dX9_comesNow_190 kc_5 ?_
            refine x_iload_n C dX9_comesNow_191 rfl rfl ?_
            refine x_imulN C dX9_comesNow_192 ?_
            refine m_ald C h 5 (N := 40) (by decide) rfl rfl (by omega) ((congrFun (congrFun hA 5) _).trans g1.1) dX9_comesNow_193 ?_
            refine x_aload_n C dX9_comesNow_194 rfl rfl ?_
            refine m_get C h 16 rfl q2425 rfl dX9_comesNow_195 ?_
            refine x_iconst C dX9_comesNow_198 kc_5 ?_
            refine x_iload_n C dX9_comesNow_199 rfl rfl ?_
            refine x_imulN C dX9_comesNow_200 ?_
            refine x_iconst C dX9_comesNow_201 kc_2 ?_
            refine x_iaddN C dX9_comesNow_202 ?_
            refine m_ald C h 5 (N := 40) (by decide) rfl rfl (by omega) ((congrFun (congrFun hA 5) _).trans g4.1) dX9_comesNow_203 ?_
            refine x_aload_n C dX9_comesNow_204 rfl rfl ?_
            refine m_get C h 16 rfl q2425 rfl dX9_comesNow_205 ?_
            refine x_iconst C dX9_comesNow_208 kc_5 ?_
            refine x_iload_n C dX9_comesNow_209 rfl rfl ?_
            refine x_imulN C dX9_comesNow_210 ?_
            refine x_iconst C dX9_comesNow_211 kc_3 ?_
            refine x_iaddN C dX9_comesNow_212 ?_
            refine m_ald C h 5 (N := 40) (by decide) rfl rfl (by omega) (congrFun (congrFun hA 5) _) dX9_comesNow_213 ?_
            refine x_aload_n C dX9_comesNow_214 rfl rfl ?_
            refine m_get C h 16 rfl q2425 rfl dX9_comesNow_215 ?_
            refine x_iconst C dX9_comesNow_218 kc_5 ?_
            refine x_iload_n C dX9_comesNow_219 rfl rfl ?_
            refine x_imulN C dX9_comesNow_220 ?_
            refine x_iconst C dX9_comesNow_221 kc_4 ?_
            refine x_iaddN C dX9_comesNow_222 ?_
            refine m_ald C h 5 (N := 40) (by decide) rfl rfl (by omega) (congrFun (congrFun hA 5) _) dX9_comesNow_223 ?_
            refine x_V4I C (met_X9_acquires l C.1 h.1 hb hk5 h05 (by omega) (by omega) (by omega) (by omega) (by omega)) mi_X9_acquires q2401 gcX9 h.1.1 ⟨rfl, rfl⟩ rfl ⟨Nat.le_refl _, Nat.le_refl _⟩ rfl dX9_comesNow_224 (fun r M1 hr => ?_)
            obtain ⟨rfl, hr⟩ := hr
            have h := h.tr hr
            refine x_pop C dX9_comesNow_227 rfl ?_
            refine x_iincN C dX9_comesNow_228 rfl (gs1_2 rfl) rfl ?_
            refine x_goto (tgt := 148) C dX9_comesNow_231 rfl ?_
            exact (ih (by omega) _ (by show MF G ad M0 (sb σ b (if _ then _ else _)) _; rw [if_pos ⟨c170, by omega⟩]; exact h))
    · -- 87
      obtain ⟨g1, g2, g3, g4, g5⟩ := hw.buy (k := i) (by omega)
      have g1b := g1.2
      have g4b := g4.2
      refine x_aload_n C dX9_comesNow_87 rfl rfl ?_
      refine m_get C h 15 rfl q2424 rfl dX9_comesNow_88 ?_
      refine x_iconst C dX9_comesNow_91 kc_4 ?_
      refine x_iload_n C dX9_comesNow_92 rfl rfl ?_
      refine x_imulN C dX9_comesNow_93 ?_
      refine x_iconst C dX9_comesNow_94 kc_1 ?_
      refine x_iaddN C dX9_comesNow_95 ?_
      refine m_ald C h 4 (N := 96) (by decide) rfl rfl (by omega) (congrFun (congrFun hA 4) _) dX9_comesNow_96 ?_
      refine x_iload_n C dX9_comesNow_97 rfl rfl ?_
      refine x_icmp_ne (tgt := 140) C dX9_comesNow_98 rfl (fun c98 => ?_) (fun c98 => ?_)
      · -- 140
        refine x_iincN C dX9_comesNow_140 rfl (gs1_2 rfl) rfl ?_
        refine x_goto (tgt := 77) C dX9_comesNow_143 rfl ?_
        exact (ih (by omega) _ (by show MF G ad M0 (sb σ b (if _ then _ else _)) _; rw [if_neg c98]; exact h))
      · -- 101
        refine x_aload_n C dX9_comesNow_101 rfl rfl ?_
        refine x_aload_n C dX9_comesNow_102 rfl rfl ?_
        refine x_aload_n C dX9_comesNow_103 rfl rfl ?_
        refine m_get C h 15 rfl q2424 rfl dX9_comesNow_104 ?_
        refine x_iconst C dX9_comesNow_107 kc_4 ?_
        refine x_iload_n C dX9_comesNow_108 rfl rfl ?_
        refine x_imulN C dX9_comesNow_109 ?_
        refine m_ald C h 4 (N := 96) (by decide) rfl rfl (by omega) ((congrFun (congrFun hA 4) _).trans g1.1) dX9_comesNow_110 ?_
        refine x_iload_n C dX9_comesNow_111 rfl rfl ?_
        refine x_iconst C dX9_comesNow_112 kc_2 ?_
        refine x_aload_n C dX9_comesNow_113 rfl rfl ?_
        refine m_get C h 15 rfl q2424 rfl dX9_comesNow_114 ?_
        refine x_iconst C dX9_comesNow_117 kc_4 ?_
        refine x_iload_n C dX9_comesNow_118 rfl rfl ?_
        refine x_imulN C dX9_comesNow_119 ?_
        refine x_iconst C dX9_comesNow_120 kc_2 ?_
        refine x_iaddN C dX9_comesNow_121 ?_
        refine m_ald C h 4 (N := 96) (by decide) rfl rfl (by omega) ((congrFun (congrFun hA 4) _).trans g4.1) dX9_comesNow_122 ?_
        refine x_iaddN C dX9_comesNow_123 ?_
        refine x_V3I C (met_X9_sumAt l C.1 h.1) mi_X9_sumAt q2393 gcX9 h.1.1 ⟨rfl, rfl⟩ rfl ⟨Nat.le_refl _, Nat.le_refl _⟩ rfl dX9_comesNow_124 (fun r M1 hr => ?_)
        obtain ⟨rfl, rfl⟩ := hr
        refine x_aload_n C dX9_comesNow_127 rfl rfl ?_
        refine m_get C h 15 rfl q2424 rfl dX9_comesNow_128 ?_
        refine x_iconst C dX9_comesNow_131 kc_4 ?_
        refine x_iload_n C dX9_comesNow_132 rfl rfl ?_
        refine x_imulN C dX9_comesNow_133 ?_
        refine x_iconst C dX9_comesNow_134 kc_3 ?_
        refine x_iaddN C dX9_comesNow_135 ?_
        refine m_ald C h 4 (N := 96) (by decide) rfl rfl (by omega) (congrFun (congrFun hA 4) _) dX9_comesNow_136 ?_
        refine x_V2V C (met_X9_add l C.1 h.1 hb (by omega) (by omega)) mi_X9_add q2397 gcX9 h.1.1 ⟨rfl, rfl⟩ rfl ⟨Nat.le_refl _, Nat.le_refl _⟩ rfl dX9_comesNow_137 (fun M1 hr => ?_)
        have h := h.tr hr
        refine x_iincN C dX9_comesNow_140 rfl (gs1_2 rfl) rfl ?_
        refine x_goto (tgt := 77) C dX9_comesNow_143 rfl ?_
        exact (ih (by omega) _ (by show MF G ad M0 (sb σ b (if _ then _ else _)) _; rw [if_pos c98]; exact h))
  · -- 18
    obtain ⟨g1, g2, g3, g4, g5⟩ := hw.sale (k := i) (by omega)
    have g1b := g1.2
    have g4b := g4.2
    refine x_aload_n C dX9_comesNow_18 rfl rfl ?_
    refine m_get C h 14 rfl q2423 rfl dX9_comesNow_19 ?_
    refine x_iconst C dX9_comesNow_22 kc_4 ?_
    refine x_iload_n C dX9_comesNow_23 rfl rfl ?_
    refine x_imulN C dX9_comesNow_24 ?_
    refine x_iconst C dX9_comesNow_25 kc_1 ?_
    refine x_iaddN C dX9_comesNow_26 ?_
    refine m_ald C h 3 (N := 96) (by decide) rfl rfl (by omega) (congrFun (congrFun hA 3) _) dX9_comesNow_27 ?_
    refine x_iload_n C dX9_comesNow_28 rfl rfl ?_
    refine x_icmp_ne (tgt := 69) C dX9_comesNow_29 rfl (fun c29 => ?_) (fun c29 => ?_)
    · -- 69
      refine x_iincN C dX9_comesNow_69 rfl (gs1_2 rfl) rfl ?_
      refine x_goto (tgt := 8) C dX9_comesNow_72 rfl ?_
      exact (ih (by omega) _ (by show MF G ad M0 (sb σ b (if _ then _ else _)) _; rw [if_neg c29]; exact h))
    · -- 32
      refine x_aload_n C dX9_comesNow_32 rfl rfl ?_
      refine x_aload_n C dX9_comesNow_33 rfl rfl ?_
      refine x_aload_n C dX9_comesNow_34 rfl rfl ?_
      refine m_get C h 14 rfl q2423 rfl dX9_comesNow_35 ?_
      refine x_iconst C dX9_comesNow_38 kc_4 ?_
      refine x_iload_n C dX9_comesNow_39 rfl rfl ?_
      refine x_imulN C dX9_comesNow_40 ?_
      refine m_ald C h 3 (N := 96) (by decide) rfl rfl (by omega) ((congrFun (congrFun hA 3) _).trans g1.1) dX9_comesNow_41 ?_
      refine x_iload_n C dX9_comesNow_42 rfl rfl ?_
      refine x_aload_n C dX9_comesNow_43 rfl rfl ?_
      refine m_get C h 14 rfl q2423 rfl dX9_comesNow_44 ?_
      refine x_iconst C dX9_comesNow_47 kc_4 ?_
      refine x_iload_n C dX9_comesNow_48 rfl rfl ?_
      refine x_imulN C dX9_comesNow_49 ?_
      refine x_iconst C dX9_comesNow_50 kc_2 ?_
      refine x_iaddN C dX9_comesNow_51 ?_
      refine m_ald C h 3 (N := 96) (by decide) rfl rfl (by omega) ((congrFun (congrFun hA 3) _).trans g4.1) dX9_comesNow_52 ?_
      refine x_V3I C (met_X9_sumAt l C.1 h.1) mi_X9_sumAt q2393 gcX9 h.1.1 ⟨rfl, rfl⟩ rfl ⟨Nat.le_refl _, Nat.le_refl _⟩ rfl dX9_comesNow_53 (fun r M1 hr => ?_)
      obtain ⟨rfl, rfl⟩ := hr
      refine x_aload_n C dX9_comesNow_56 rfl rfl ?_
      refine m_get C h 14 rfl q2423 rfl dX9_comesNow_57 ?_
      refine x_iconst C dX9_comesNow_60 kc_4 ?_
      refine x_iload_n C dX9_comesNow_61 rfl rfl ?_
      refine x_imulN C dX9_comesNow_62 ?_
      refine x_iconst C dX9_comesNow_63 kc_3 ?_
      refine x_iaddN C dX9_comesNow_64 ?_
      refine m_ald C h 3 (N := 96) (by decide) rfl rfl (by omega) (congrFun (congrFun hA 3) _) dX9_comesNow_65 ?_
      refine x_V2V C (met_X9_add l C.1 h.1 hb (by omega) (by omega)) mi_X9_add q2397 gcX9 h.1.1 ⟨rfl, rfl⟩ rfl ⟨Nat.le_refl _, Nat.le_refl _⟩ rfl dX9_comesNow_66 (fun M1 hr => ?_)
      have h := h.tr hr
      refine x_iincN C dX9_comesNow_69 rfl (gs1_2 rfl) rfl ?_
      refine x_goto (tgt := 8) C dX9_comesNow_72 rfl ?_
      exact (ih (by omega) _ (by show MF G ad M0 (sb σ b (if _ then _ else _)) _; rw [if_pos c29]; exact h))
theorem mi_X9_closesYear : gMV RX9 yX9_closesYear cX9_closesYear 4 none 0 := ⟨q2734, qs102, q165, q2735, by decide +kernel⟩
set_option maxHeartbeats 4000000 in
set_option maxRecDepth 100000 in
theorem met_X9_closesYear (l : Launch) {G : gG} (hG : gOK G) {ad : Nat → Nat} {σ : mS} {M0 : gM} {b : Nat} {B : Nat → Int32} {w : Nat} {A : Nat → Nat → Int32} {T : Nat} (h : MR G ad (sb σ b B) M0) (hb : mI σ 21 = nI b) (hA : mA σ = A) (hn : B 0 = nI w) (hT : mI σ 11 = nI T) (hb0_ : b < 23) (hb1_ : w < 64) (hw : wT T A) (hB : wB T B) : Met l yX9_closesYear (ws_ yX9_closesYear cX9_closesYear 4 none) ({ frames := 7, cells := 0, slots := 0, locals := 176 }) (gPre G M0 [.ref (ad 0)]) (gQ G (gV (fun M1 => ∃ σ', sE σ σ' ∧ MF G ad M0 (sb σ' b (pCY A T B)) M1))) 0 0 (gA G) := by
  refine gMet (L0 := [some (.ref (ad 0)), none, none, none]) RX9 hG (by decide +kernel) rfl (Nat.le_of_ble_eq_true rfl) rfl ?_
  intro p e s m args below meth c C hnm
  have h := MF.rf h
  have hT4 := hw.T4
  have hy : pYr B = w / 4 := by unfold pYr pNow; rw [hn, dN_nI (by omega)]
  have hna8 := hB.na.2
  refine x_aload_n C dX9_closesYear_0 rfl rfl ?_
  refine x_V0I C (met_X9_year l C.1 h.1 hb hn (by omega) (by omega)) mi_X9_year q2629 gcX9 h.1.1 ⟨rfl, rfl⟩ rfl ⟨Nat.le_refl _, Nat.le_refl _⟩ rfl dX9_closesYear_1 (fun r M1 hr => ?_)
  obtain ⟨rfl, rfl⟩ := hr
  refine x_istore_n C dX9_closesYear_4 rfl (gs1_1 rfl) rfl ?_
  refine x_iconst C dX9_closesYear_5 kc_0 ?_
  refine x_istore_n C dX9_closesYear_6 rfl (gs1_2 rfl) rfl ?_
  refine x_loop (head := 7) (E := T) (fun i M => ∃ σ1, sE σ σ1 ∧ MF G ad M0 (sb σ1 b (pCYn A B (w / 4) i)) M) (fun i => [some (.ref (ad 0)), some (.int (nI (w / 4))), some (.int (nI i)), none]) ⟨σ, sE.rf, h⟩ (fun i M hi h ih => ?_)
  obtain ⟨σ1, hs1, h⟩ := h
  obtain ⟨hw1, c0, c1⟩ := pCYn_w (A := A) (y := w / 4) hB (by omega) i (by omega)
  have hk40 := hw1.kept.2
  refine x_iload_n C dX9_closesYear_7 rfl rfl ?_
  refine x_aload_n C dX9_closesYear_8 rfl rfl ?_
  refine m_get C h 11 (v := .int (nI T)) rfl q2420 (m_v rfl ((hs1.2.2.1 11 (by decide)).trans hT)) dX9_closesYear_9 ?_
  refine x_icmp_geN (tgt := 74) C (by omega) (by omega) dX9_closesYear_12 rfl (fun c12 => ?_) (fun c12 => ?_)
  · -- 74
    obtain rfl : T = i := by omega
    have hyT : pYr (pCYn A B (w / 4) T) = pYr B := by unfold pYr; rw [show pNow (pCYn A B (w / 4) T) = pNow B from by show dN _ = dN _; rw [c0]]
    refine x_iconst C dX9_closesYear_74 kc_0 ?_
    refine x_istore_n C dX9_closesYear_75 rfl (gs1_2 rfl) rfl ?_
    refine x_loop (head := 76) (E := dN (B 1865)) (fun i M => ∃ σ1, sE σ σ1 ∧ MF G ad M0 (sb σ1 b (pCAn A (pCYn A B (w / 4) T) i)) M) (fun i => [some (.ref (ad 0)), some (.int (nI (w / 4))), some (.int (nI i)), none]) ⟨σ1, hs1, h⟩ (fun i M hi h ih => ?_)
    obtain ⟨σ3, hs3, h⟩ := h
    obtain ⟨d1, d0, d2⟩ := pCAn_ne (A := A) hw.T4 hw1 hyT i (by rw [c1]; omega)
    have hk41 := d1.kept.2
    have hnn : pNow (pCAn A (pCYn A B (w / 4) T) i) = w := by show dN _ = _; rw [d0, c0, hn, dN_nI (by omega)]
    refine x_iload_n C dX9_closesYear_76 rfl rfl ?_
    refine x_aload_n C dX9_closesYear_77 rfl rfl ?_
    refine x_sipush C dX9_closesYear_78 ks_1865 ?_
    refine x_V1I C (met_X9_of l C.1 h.1 ((hs3.2.2.1 21 (by decide)).trans hb) (by omega) (by omega)) mi_X9_of q2389 gcX9 h.1.1 ⟨rfl, rfl⟩ rfl ⟨Nat.le_refl _, Nat.le_refl _⟩ rfl dX9_closesYear_81 (fun r M1 hr => ?_)
    obtain ⟨rfl, hr⟩ := hr
    have hr := hr.symm.trans (show _ = nI (dN (B 1865)) from (d2.trans (c1.trans hB.na.1)))
    subst hr
    refine x_icmp_geN (tgt := 99) C (by omega) (by omega) dX9_closesYear_84 rfl (fun c84 => ?_) (fun c84 => ?_)
    · -- 99
      obtain rfl : i = dN (B 1865) := by omega
      exact x_vret C dX9_closesYear_99 ⟨Nat.le_refl _, Nat.le_refl _⟩ ⟨_, hs3, (by unfold pCY; rw [hy]; exact h)⟩
    · -- 87
      refine x_aload_n C dX9_closesYear_87 rfl rfl ?_
      refine x_iload_n C dX9_closesYear_88 rfl rfl ?_
      refine x_iload_n C dX9_closesYear_89 rfl rfl ?_
      refine x_V2V C (met_X9_closesAsset l C.1 h.1 ((hs3.2.2.1 21 (by decide)).trans hb) (hs3.1.trans hA) (d0.trans (c0.trans hn)) d1.kept.1 (by omega) (by omega) (by omega) (by omega) hw (by have q := d1.row (a := i) (by rw [d2, c1]; omega); simp only [if_neg (Nat.lt_irrefl i)] at q; rw [hnn, hy] at q; exact q)) mi_X9_closesAsset q2744 gcX9 h.1.1 ⟨rfl, rfl⟩ rfl ⟨Nat.le_refl _, Nat.le_refl _⟩ rfl dX9_closesYear_90 (fun M1 hr => ?_)
      obtain ⟨σ2, hsσ2, hr⟩ := hr
      have h := h.tr hr
      refine x_iincN C dX9_closesYear_93 rfl (gs1_2 rfl) rfl ?_
      refine x_goto (tgt := 76) C dX9_closesYear_96 rfl ?_
      exact (ih (by omega) _ ⟨_, hs3.tr hsσ2, h⟩)
  · -- 15
    refine x_aload_n C dX9_closesYear_15 rfl rfl ?_
    refine x_iload_n C dX9_closesYear_16 rfl rfl ?_
    refine x_iload_n C dX9_closesYear_17 rfl rfl ?_
    refine x_V2V C (met_X9_layYear l C.1 h.1 ((hs1.2.2.1 21 (by decide)).trans hb) (by omega) (by omega) (by omega)) mi_X9_layYear q2736 gcX9 h.1.1 ⟨rfl, rfl⟩ rfl ⟨Nat.le_refl _, Nat.le_refl _⟩ rfl dX9_closesYear_18 (fun M1 hr => ?_)
    have h := h.tr hr
    refine x_aload_n C dX9_closesYear_21 rfl rfl ?_
    refine x_iload_n C dX9_closesYear_22 rfl rfl ?_
    refine x_V1I C (met_X9_fraction l C.1 h.1 ((hs1.2.2.1 21 (by decide)).trans hb) (hs1.1.trans hA) (by omega) (by omega) (sZ_y _ _ _)) mi_X9_fraction q2701 gcX9 h.1.1 ⟨rfl, rfl⟩ rfl ⟨Nat.le_refl _, Nat.le_refl _⟩ rfl dX9_closesYear_23 (fun r M1 hr => ?_)
    obtain ⟨rfl, rfl⟩ := hr
    refine x_istore_n C dX9_closesYear_26 rfl (gs1_3 rfl) rfl ?_
    refine x_aload_n C dX9_closesYear_27 rfl rfl ?_
    refine x_sipush C dX9_closesYear_28 ks_1801 ?_
    refine x_bipush C dX9_closesYear_31 kb_16 ?_
    refine x_iload_n C dX9_closesYear_33 rfl rfl ?_
    refine x_imulN C dX9_closesYear_34 ?_
    refine x_iaddN C dX9_closesYear_35 ?_
    refine x_iload_n C dX9_closesYear_36 rfl rfl ?_
    refine x_iaddN C dX9_closesYear_37 ?_
    refine x_iload_n C dX9_closesYear_38 rfl rfl ?_
    refine x_V2V C (met_X9_lay l C.1 h.1 ((hs1.2.2.1 21 (by decide)).trans hb) (by omega) (by omega)) mi_X9_lay q2377 gcX9 h.1.1 ⟨rfl, rfl⟩ rfl ⟨Nat.le_refl _, Nat.le_refl _⟩ rfl dX9_closesYear_39 (fun M1 hr => ?_)
    have h := h.tr hr
    refine x_aload_n C dX9_closesYear_42 rfl rfl ?_
    refine x_iload_n C dX9_closesYear_43 rfl rfl ?_
    refine x_iconst C dX9_closesYear_44 kc_1 ?_
    refine x_aload_n C dX9_closesYear_45 rfl rfl ?_
    refine x_iload_n C dX9_closesYear_46 rfl rfl ?_
    refine x_aload_n C dX9_closesYear_47 rfl rfl ?_
    refine m_get C h 17 rfl q2426 rfl dX9_closesYear_48 ?_
    refine x_iconst C dX9_closesYear_51 kc_2 ?_
    refine m_ald C h 6 (N := 14) (by decide) rfl rfl (by omega) (congrFun (congrFun (hs1.1.trans hA) 6) _) dX9_closesYear_52 ?_
    refine x_V2I C (met_X9_back1 l C.1 h.1 ((hs1.2.2.1 21 (by decide)).trans hb) (hs1.1.trans hA) (by omega) hw.step hw.step10) mi_X9_back1 q2720 gcX9 h.1.1 ⟨rfl, rfl⟩ rfl ⟨Nat.le_refl _, Nat.le_refl _⟩ rfl dX9_closesYear_53 (fun r M1 hr => ?_)
    obtain ⟨rfl, hr⟩ := hr
    have h := h.tr hr
    refine x_aload_n C dX9_closesYear_56 rfl rfl ?_
    refine x_iload_n C dX9_closesYear_57 rfl rfl ?_
    refine x_iload_n C dX9_closesYear_58 rfl rfl ?_
    refine x_V2I C (met_X9_bookedIn l C.1 h.1 ((hs1.2.2.1 21 (by decide)).trans hb) (by omega) (by omega) (by omega)) mi_X9_bookedIn q2740 gcX9 h.1.1 ⟨rfl, rfl⟩ rfl ⟨Nat.le_refl _, Nat.le_refl _⟩ rfl dX9_closesYear_59 (fun r M1 hr => ?_)
    obtain ⟨rfl, rfl⟩ := hr
    refine x_isub C dX9_closesYear_62 ?_
    refine x_bipush C dX9_closesYear_63 kb_m2 ?_
    refine x_V4V C (met_X9_books l C.1 h.1 ((hs1.2.2.1 21 (by decide)).trans hb) ((pk_un (by omega)).trans hw1.kept.1) ((pk_un (by omega)).trans (c0.trans hn)) (by omega) (by omega) (by omega) (by omega) (by omega)) mi_X9_books q2728 gcX9 h.1.1 ⟨rfl, rfl⟩ rfl ⟨Nat.le_refl _, Nat.le_refl _⟩ rfl dX9_closesYear_65 (fun M1 hr => ?_)
    have h := h.tr hr
    refine x_iincN C dX9_closesYear_68 rfl (gs1_2 rfl) rfl ?_
    refine x_goto (tgt := 7) C dX9_closesYear_71 rfl ?_
    exact x_wk [true, true, true, false] rfl (ih (by omega) _ ⟨_, hs1.tr (sE.s27.tr sE.sy), h⟩)
