set_option maxRecDepth 100000
theorem mi_X9_token : gMV RX9 yX9_token cX9_token 1 none 0 := ⟨q2511, qs63, q165, q2512, by decide +kernel⟩
set_option maxHeartbeats 4000000 in
set_option maxRecDepth 100000 in
theorem met_X9_token (l : Launch) {G : gG} (hG : gOK G) {ad : Nat → Nat} {σ : mS} {M0 : gM} {n sp : Nat} {tp : Nat → Int32} (h : MR G ad σ M0) (hsp : mI σ 6 = nI sp) (hb0_ : n ≤ sp) (hb1_ : sp ≤ 700) (hn : mI σ 7 = nI n) (htp : mA σ 0 = tp) (hwd : mA σ 1 = wdA) : Met l yX9_token (ws_ yX9_token cX9_token 1 none) ({ frames := 1, cells := 0, slots := 0, locals := 27 }) (gPre G M0 [.ref (ad 0)]) (gQ G (gV (fun M1 => MF G ad M0 (tTokA σ tp sp (pTkA tp sp n)) M1))) 0 0 (gA G) := by
  refine gMet (L0 := [some (.ref (ad 0))]) RX9 hG (by decide +kernel) rfl (Nat.le_of_ble_eq_true rfl) rfl ?_
  intro p e s m args below meth c C hnm
  have h := MF.rf h
  have h : MF G ad M0 (tk σ (nI n) (mI σ 8) (mI σ 9) (mI σ 10)) M0 := (by rw [← hn, tk_0]; exact h)
  refine x_joinM (α := Nat) (P := fun v M => v = pTkA tp sp n ∧ MF G ad M0 (tk σ (nI v) (mI σ 8) (mI σ 9) (mI σ 10)) M) (LL := fun v => [some (.ref (ad 0))]) (ss := fun v => []) 52 (fun v M hv => ?_) (fun J52 => ?_)
  · -- join 52
    obtain ⟨hv, h⟩ := hv
    have hvb := pScan_b (P := isBl) (tp := tp) (sp := sp) (n := n) (by omega)
    have hv1 : n ≤ v := by rw [hv]; exact hvb.1
    have hv2 : v ≤ sp := by rw [hv]; exact hvb.2
    refine x_aload_n C dX9_token_52 rfl rfl ?_
    refine x_aload_n C dX9_token_53 rfl rfl ?_
    refine m_get C h 7 (v := .int (nI v)) rfl q2416 (m_v rfl rfl) dX9_token_54 ?_
    refine m_put C h 10 rfl q2419 rfl rfl rfl rfl dX9_token_57 (fun M h => ?_)
    rw [tk_10] at h
    refine x_aload_n C dX9_token_60 rfl rfl ?_
    refine m_get C h 7 (v := .int (nI v)) rfl q2416 (m_v rfl rfl) dX9_token_61 ?_
    refine x_aload_n C dX9_token_64 rfl rfl ?_
    refine m_get C h 6 (v := .int (nI sp)) rfl q2415 (m_v rfl hsp) dX9_token_65 ?_
    refine x_icmp_neN (tgt := 79) C (by omega) (by omega) dX9_token_68 rfl (fun c68 => ?_) (fun c68 => ?_)
    · -- 79
      refine x_aload_n C dX9_token_79 rfl rfl ?_
      refine x_aload_n C dX9_token_80 rfl rfl ?_
      refine m_get C h 7 (v := .int (nI v)) rfl q2416 (m_v rfl rfl) dX9_token_81 ?_
      refine x_V1I C (met_X9_isSmall l C.1 h.1 hsp (by omega) (by omega) htp) mi_X9_isSmall q2513 gcX9 h.1.1 ⟨rfl, rfl⟩ rfl ⟨Nat.le_refl _, Nat.le_refl _⟩ rfl dX9_token_84 (fun r M1 hr => ?_)
      rcases hr with ⟨rfl, rfl, b84⟩ | ⟨rfl, rfl, b84⟩
      · -- true
        refine x_if_eqF (tgt := 191) C (by decide) dX9_token_87 rfl ?_
        refine x_loopS (head := 90) (E := sp) (α := Unit) (β := Unit) v (by omega) (fun i u_ v_ M => pScan isSm tp sp v = pScan isSm tp sp i ∧ MF G ad M0 (tk σ (nI i) (mI σ 8) (mI σ 9) (nI v)) M) (fun i u_ v_ => [some (.ref (ad 0))]) () () ⟨rfl, h⟩ (fun i u_ v_ M ha hi h ih => ?_)
        obtain ⟨hss, h⟩ := h
        refine x_aload_n C dX9_token_90 rfl rfl ?_
        refine x_aload_n C dX9_token_91 rfl rfl ?_
        refine m_get C h 7 (v := .int (nI i)) rfl q2416 (m_v rfl rfl) dX9_token_92 ?_
        refine x_V1I C (met_X9_isSmall l C.1 h.1 hsp (by omega) (by omega) htp) mi_X9_isSmall q2513 gcX9 h.1.1 ⟨rfl, rfl⟩ rfl ⟨Nat.le_refl _, Nat.le_refl _⟩ rfl dX9_token_95 (fun r M1 hr => ?_)
        rcases hr with ⟨rfl, rfl, b95⟩ | ⟨rfl, rfl, b95⟩
        · -- true
          refine x_if_eqF (tgt := 114) C (by decide) dX9_token_98 rfl ?_
          refine x_aload_n C dX9_token_101 rfl rfl ?_
          refine x_dup C dX9_token_102 rfl ?_
          refine m_get C h 7 (v := .int (nI i)) rfl q2416 (m_v rfl rfl) dX9_token_103 ?_
          refine x_iconst C dX9_token_106 kc_1 ?_
          refine x_iaddN C dX9_token_107 ?_
          refine m_put C h 7 rfl q2416 rfl rfl rfl rfl dX9_token_108 (fun M h => ?_)
          rw [tk_7] at h
          refine x_goto (tgt := 90) C dX9_token_111 rfl ?_
          exact (ih (by omega) () () _ ⟨hss.trans (pScan_s (by omega) b95.2), h⟩)
        · -- false
          refine x_if_eqT (tgt := 114) C (by decide) dX9_token_98 rfl ?_
          have hse : pScan isSm tp sp v = i := by rw [hss, pScan_e b95]
          refine x_aload_n C dX9_token_114 rfl rfl ?_
          refine x_aload_n C dX9_token_115 rfl rfl ?_
          refine x_aload_n C dX9_token_116 rfl rfl ?_
          refine m_get C h 10 (v := .int (nI v)) rfl q2419 (m_v rfl rfl) dX9_token_117 ?_
          refine x_aload_n C dX9_token_120 rfl rfl ?_
          refine m_get C h 7 (v := .int (nI i)) rfl q2416 (m_v rfl rfl) dX9_token_121 ?_
          refine x_V2I C (met_X9_wordAt l C.1 h.1 (by omega) (by omega) htp hwd) mi_X9_wordAt q2517 gcX9 h.1.1 ⟨rfl, rfl⟩ rfl ⟨Nat.le_refl _, Nat.le_refl _⟩ rfl dX9_token_124 (fun r M1 hr => ?_)
          obtain ⟨rfl, hwv⟩ := hr
          revert r
          intro wr hwv
          refine m_put C h 9 rfl q2418 rfl rfl rfl rfl dX9_token_127 (fun M h => ?_)
          rw [tk_9] at h
          refine x_aload_n C dX9_token_130 rfl rfl ?_
          refine x_aload_n C dX9_token_131 rfl rfl ?_
          refine m_get C h 9 (v := .int (wr)) rfl q2418 (m_v rfl rfl) dX9_token_132 ?_
          refine x_if_lt (tgt := 142) C dX9_token_135 rfl (fun c135 => ?_) (fun c135 => ?_)
          · -- 142
            refine x_aload_n C dX9_token_142 rfl rfl ?_
            refine m_get C h 7 (v := .int (nI i)) rfl q2416 (m_v rfl rfl) dX9_token_143 ?_
            refine x_aload_n C dX9_token_146 rfl rfl ?_
            refine m_get C h 10 (v := .int (nI v)) rfl q2419 (m_v rfl rfl) dX9_token_147 ?_
            refine x_isubN C (by omega) dX9_token_150 ?_
            refine x_bipush C dX9_token_151 kb_6 ?_
            refine x_icmp_leN (tgt := 160) C (by omega) (by omega) dX9_token_153 rfl (fun c153 => ?_) (fun c153 => ?_)
            · -- 160
              refine x_iconst C dX9_token_160 kc_2 ?_
              refine m_put C h 8 rfl q2417 rfl rfl rfl rfl dX9_token_161 (fun M h => ?_)
              rw [tk_8] at h
              refine x_aload_n C dX9_token_164 rfl rfl ?_
              refine m_get C h 8 (v := .int (nI 2)) rfl q2417 (m_v rfl rfl) dX9_token_165 ?_
              refine x_iconst C dX9_token_168 kc_2 ?_
              refine x_icmp_neF (tgt := 309) C (by decide +kernel) dX9_token_169 rfl ?_
              refine x_aload_n C dX9_token_172 rfl rfl ?_
              refine x_aload_n C dX9_token_173 rfl rfl ?_
              refine x_aload_n C dX9_token_174 rfl rfl ?_
              refine m_get C h 10 (v := .int (nI v)) rfl q2419 (m_v rfl rfl) dX9_token_175 ?_
              refine x_aload_n C dX9_token_178 rfl rfl ?_
              refine m_get C h 7 (v := .int (nI i)) rfl q2416 (m_v rfl rfl) dX9_token_179 ?_
              refine x_V2I C (met_X9_packed l C.1 h.1 (by omega) (by omega) htp) mi_X9_packed q2521 gcX9 h.1.1 ⟨rfl, rfl⟩ rfl ⟨Nat.le_refl _, Nat.le_refl _⟩ rfl dX9_token_182 (fun r M1 hr => ?_)
              obtain ⟨rfl, hpv⟩ := hr
              revert r
              intro pr hpv
              refine m_put C h 9 rfl q2418 rfl rfl rfl rfl dX9_token_185 (fun M h => ?_)
              rw [tk_9] at h
              refine x_goto (tgt := 309) C dX9_token_188 rfl ?_
              exact x_vret C dX9_token_309 ⟨Nat.le_refl _, Nat.le_refl _⟩ (by show MF G ad M0 (tTokA σ tp sp (pTkA tp sp n)) _; rw [← hv]; unfold tTokA; rw [if_neg (show ¬ v = sp from by omega), if_pos b84.2, hse]; unfold pTkW; rw [hwv]; rw [if_pos c135, if_neg (by omega), hpv]; exact h)
            · -- 156
              refine x_iconst C dX9_token_156 kc_5 ?_
              refine x_goto (tgt := 161) C dX9_token_157 rfl ?_
              refine m_put C h 8 rfl q2417 rfl rfl rfl rfl dX9_token_161 (fun M h => ?_)
              rw [tk_8] at h
              refine x_aload_n C dX9_token_164 rfl rfl ?_
              refine m_get C h 8 (v := .int (nI 5)) rfl q2417 (m_v rfl rfl) dX9_token_165 ?_
              refine x_iconst C dX9_token_168 kc_2 ?_
              refine x_icmp_neT (tgt := 309) C (by decide +kernel) dX9_token_169 rfl ?_
              exact x_vret C dX9_token_309 ⟨Nat.le_refl _, Nat.le_refl _⟩ (by show MF G ad M0 (tTokA σ tp sp (pTkA tp sp n)) _; rw [← hv]; unfold tTokA; rw [if_neg (show ¬ v = sp from by omega), if_pos b84.2, hse]; unfold pTkW; rw [hwv]; rw [if_pos c135, if_pos (by omega)]; exact h)
          · -- 138
            refine x_iconst C dX9_token_138 kc_1 ?_
            refine x_goto (tgt := 161) C dX9_token_139 rfl ?_
            refine m_put C h 8 rfl q2417 rfl rfl rfl rfl dX9_token_161 (fun M h => ?_)
            rw [tk_8] at h
            refine x_aload_n C dX9_token_164 rfl rfl ?_
            refine m_get C h 8 (v := .int (nI 1)) rfl q2417 (m_v rfl rfl) dX9_token_165 ?_
            refine x_iconst C dX9_token_168 kc_2 ?_
            refine x_icmp_neT (tgt := 309) C (by decide +kernel) dX9_token_169 rfl ?_
            exact x_vret C dX9_token_309 ⟨Nat.le_refl _, Nat.le_refl _⟩ (by show MF G ad M0 (tTokA σ tp sp (pTkA tp sp n)) _; rw [← hv]; unfold tTokA; rw [if_neg (show ¬ v = sp from by omega), if_pos b84.2, hse]; unfold pTkW; rw [hwv]; rw [if_neg c135]; exact h)
      · -- false
        refine x_if_eqT (tgt := 191) C (by decide) dX9_token_87 rfl ?_
        refine x_aload_n C dX9_token_191 rfl rfl ?_
        refine x_aload_n C dX9_token_192 rfl rfl ?_
        refine m_get C h 7 (v := .int (nI v)) rfl q2416 (m_v rfl rfl) dX9_token_193 ?_
        refine x_V1I C (met_X9_isDigit l C.1 h.1 hsp (by omega) (by omega) htp) mi_X9_isDigit q2525 gcX9 h.1.1 ⟨rfl, rfl⟩ rfl ⟨Nat.le_refl _, Nat.le_refl _⟩ rfl dX9_token_196 (fun r M1 hr => ?_)
        rcases hr with ⟨rfl, rfl, b196⟩ | ⟨rfl, rfl, b196⟩
        · -- true
          refine x_if_eqF (tgt := 276) C (by decide) dX9_token_199 rfl ?_
          refine x_aload_n C dX9_token_202 rfl rfl ?_
          refine x_iconst C dX9_token_203 kc_3 ?_
          refine m_put C h 8 rfl q2417 rfl rfl rfl rfl dX9_token_204 (fun M h => ?_)
          rw [tk_8] at h
          refine x_aload_n C dX9_token_207 rfl rfl ?_
          refine x_iconst C dX9_token_208 kc_0 ?_
          refine m_put C h 9 rfl q2418 rfl rfl rfl rfl dX9_token_209 (fun M h => ?_)
          rw [tk_9] at h
          refine x_loopS (head := 212) (E := (sp - v)) (α := Unit) (β := Unit) 0 (by omega) (fun i u_ v_ M => pScan isDg tp sp v = pScan isDg tp sp (v + i) ∧ MF G ad M0 (tk σ (nI (v + i)) (nI 3) (pVal tp v i) (nI v)) M) (fun i u_ v_ => [some (.ref (ad 0))]) () () ⟨rfl, h⟩ (fun i u_ v_ M ha hi h ih => ?_)
          obtain ⟨hss, h⟩ := h
          refine x_aload_n C dX9_token_212 rfl rfl ?_
          refine x_aload_n C dX9_token_213 rfl rfl ?_
          refine m_get C h 7 (v := .int (nI (v + i))) rfl q2416 (m_v rfl rfl) dX9_token_214 ?_
          refine x_V1I C (met_X9_isDigit l C.1 h.1 hsp (by omega) (by omega) htp) mi_X9_isDigit q2525 gcX9 h.1.1 ⟨rfl, rfl⟩ rfl ⟨Nat.le_refl _, Nat.le_refl _⟩ rfl dX9_token_217 (fun r M1 hr => ?_)
          rcases hr with ⟨rfl, rfl, b217⟩ | ⟨rfl, rfl, b217⟩
          · -- true
            refine x_if_eqF (tgt := 309) C (by decide) dX9_token_220 rfl ?_
            refine x_aload_n C dX9_token_223 rfl rfl ?_
            refine x_aload_n C dX9_token_224 rfl rfl ?_
            refine m_get C h 9 (v := .int (pVal tp v i)) rfl q2418 (m_v rfl rfl) dX9_token_225 ?_
            refine x_ldc C dX9_token_228 q2529 ?_
            rw [show (99999 : Int32) = nI 99999 from by decide +kernel]
            refine x_icmp_le (tgt := 240) C dX9_token_230 rfl (fun c230 => ?_) (fun c230 => ?_)
            · -- 240
              refine x_bipush C dX9_token_240 kb_10 ?_
              refine x_aload_n C dX9_token_242 rfl rfl ?_
              refine m_get C h 9 (v := .int (pVal tp v i)) rfl q2418 (m_v rfl rfl) dX9_token_243 ?_
              refine x_imul C dX9_token_246 ?_
              refine x_aload_n C dX9_token_247 rfl rfl ?_
              refine m_get C h 0 rfl q2409 rfl dX9_token_248 ?_
              refine x_aload_n C dX9_token_251 rfl rfl ?_
              refine m_get C h 7 (v := .int (nI (v + i))) rfl q2416 (m_v rfl rfl) dX9_token_252 ?_
              refine m_ald C h 0 (N := 700) (by decide) rfl rfl (by omega) (congrFun htp _) dX9_token_255 ?_
              refine x_iadd C dX9_token_256 ?_
              refine x_bipush C dX9_token_257 kb_48 ?_
              refine x_isub C dX9_token_259 ?_
              refine m_put C h 9 rfl q2418 rfl rfl rfl rfl dX9_token_260 (fun M h => ?_)
              rw [tk_9] at h
              refine x_aload_n C dX9_token_263 rfl rfl ?_
              refine x_dup C dX9_token_264 rfl ?_
              refine m_get C h 7 (v := .int (nI (v + i))) rfl q2416 (m_v rfl rfl) dX9_token_265 ?_
              refine x_iconst C dX9_token_268 kc_1 ?_
              refine x_iaddN C dX9_token_269 ?_
              refine m_put C h 7 rfl q2416 rfl rfl rfl rfl dX9_token_270 (fun M h => ?_)
              rw [tk_7] at h
              refine x_goto (tgt := 212) C dX9_token_273 rfl ?_
              exact (ih (by omega) () () _ ⟨hss.trans (pScan_s (by omega) b217.2), (by rw [show pVal tp v (i + 1) = _ from if_neg (Int32.not_lt.mpr c230)]; exact h)⟩)
            · -- 233
              refine x_aload_n C dX9_token_233 rfl rfl ?_
              refine m_get C h 9 (v := .int (pVal tp v i)) rfl q2418 (m_v rfl rfl) dX9_token_234 ?_
              refine x_goto (tgt := 260) C dX9_token_237 rfl ?_
              refine m_put C h 9 rfl q2418 rfl rfl rfl rfl dX9_token_260 (fun M h => ?_)
              rw [tk_9] at h
              refine x_aload_n C dX9_token_263 rfl rfl ?_
              refine x_dup C dX9_token_264 rfl ?_
              refine m_get C h 7 (v := .int (nI (v + i))) rfl q2416 (m_v rfl rfl) dX9_token_265 ?_
              refine x_iconst C dX9_token_268 kc_1 ?_
              refine x_iaddN C dX9_token_269 ?_
              refine m_put C h 7 rfl q2416 rfl rfl rfl rfl dX9_token_270 (fun M h => ?_)
              rw [tk_7] at h
              refine x_goto (tgt := 212) C dX9_token_273 rfl ?_
              exact (ih (by omega) () () _ ⟨hss.trans (pScan_s (by omega) b217.2), (by rw [show pVal tp v (i + 1) = _ from if_pos (Int32.not_le.mp c230)]; exact h)⟩)
          · -- false
            refine x_if_eqT (tgt := 309) C (by decide) dX9_token_220 rfl ?_
            exact x_vret C dX9_token_309 ⟨Nat.le_refl _, Nat.le_refl _⟩ (by show MF G ad M0 (tTokA σ tp sp (pTkA tp sp n)) _; rw [← hv]; unfold tTokA; rw [if_neg (show ¬ v = sp from by omega), if_neg (fun q => b84 ⟨by omega, q⟩), if_pos b196.2, show pScan isDg tp sp v = v + i from by rw [hss, pScan_e b217], show v + i - v = i from by omega]; exact h)
        · -- false
          refine x_if_eqT (tgt := 276) C (by decide) dX9_token_199 rfl ?_
          refine x_aload_n C dX9_token_276 rfl rfl ?_
          refine x_aload_n C dX9_token_277 rfl rfl ?_
          refine m_get C h 0 rfl q2409 rfl dX9_token_278 ?_
          refine x_aload_n C dX9_token_281 rfl rfl ?_
          refine m_get C h 7 (v := .int (nI v)) rfl q2416 (m_v rfl rfl) dX9_token_282 ?_
          refine m_ald C h 0 (N := 700) (by decide) rfl rfl (by omega) (congrFun htp _) dX9_token_285 ?_
          refine x_bipush C dX9_token_286 kb_59 ?_
          refine x_icmp_ne (tgt := 295) C dX9_token_288 rfl (fun c288 => ?_) (fun c288 => ?_)
          · -- 295
            refine x_iconst C dX9_token_295 kc_5 ?_
            refine m_put C h 8 rfl q2417 rfl rfl rfl rfl dX9_token_296 (fun M h => ?_)
            rw [tk_8] at h
            refine x_aload_n C dX9_token_299 rfl rfl ?_
            refine x_dup C dX9_token_300 rfl ?_
            refine m_get C h 7 (v := .int (nI v)) rfl q2416 (m_v rfl rfl) dX9_token_301 ?_
            refine x_iconst C dX9_token_304 kc_1 ?_
            refine x_iaddN C dX9_token_305 ?_
            refine m_put C h 7 rfl q2416 rfl rfl rfl rfl dX9_token_306 (fun M h => ?_)
            rw [tk_7] at h
            exact x_vret C dX9_token_309 ⟨Nat.le_refl _, Nat.le_refl _⟩ (by show MF G ad M0 (tTokA σ tp sp (pTkA tp sp n)) _; rw [← hv]; unfold tTokA; rw [if_neg (show ¬ v = sp from by omega), if_neg (fun q => b84 ⟨by omega, q⟩), if_neg (fun q => b196 ⟨by omega, q⟩), if_neg c288]; exact h)
          · -- 291
            refine x_iconst C dX9_token_291 kc_4 ?_
            refine x_goto (tgt := 296) C dX9_token_292 rfl ?_
            refine m_put C h 8 rfl q2417 rfl rfl rfl rfl dX9_token_296 (fun M h => ?_)
            rw [tk_8] at h
            refine x_aload_n C dX9_token_299 rfl rfl ?_
            refine x_dup C dX9_token_300 rfl ?_
            refine m_get C h 7 (v := .int (nI v)) rfl q2416 (m_v rfl rfl) dX9_token_301 ?_
            refine x_iconst C dX9_token_304 kc_1 ?_
            refine x_iaddN C dX9_token_305 ?_
            refine m_put C h 7 rfl q2416 rfl rfl rfl rfl dX9_token_306 (fun M h => ?_)
            rw [tk_7] at h
            exact x_vret C dX9_token_309 ⟨Nat.le_refl _, Nat.le_refl _⟩ (by show MF G ad M0 (tTokA σ tp sp (pTkA tp sp n)) _; rw [← hv]; unfold tTokA; rw [if_neg (show ¬ v = sp from by omega), if_neg (fun q => b84 ⟨by omega, q⟩), if_neg (fun q => b196 ⟨by omega, q⟩), if_pos c288]; exact h)
    · -- 71
      refine x_aload_n C dX9_token_71 rfl rfl ?_
      refine x_iconst C dX9_token_72 kc_0 ?_
      refine m_put C h 8 rfl q2417 rfl rfl rfl rfl dX9_token_73 (fun M h => ?_)
      rw [tk_8] at h
      refine x_goto (tgt := 309) C dX9_token_76 rfl ?_
      exact x_vret C dX9_token_309 ⟨Nat.le_refl _, Nat.le_refl _⟩ (by show MF G ad M0 (tTokA σ tp sp (pTkA tp sp n)) _; rw [← hv]; unfold tTokA; rw [if_pos c68]; exact h)
  · -- to the join
    refine x_loopS (head := 0) (E := sp) (α := Unit) (β := Unit) n (by omega) (fun i u_ v_ M => pTkA tp sp n = pScan isBl tp sp i ∧ MF G ad M0 (tk σ (nI i) (mI σ 8) (mI σ 9) (mI σ 10)) M) (fun i u_ v_ => [some (.ref (ad 0))]) () () ⟨rfl, h⟩ (fun i u_ v_ M ha hi h ih => ?_)
    obtain ⟨hsc, h⟩ := h
    refine x_aload_n C dX9_token_0 rfl rfl ?_
    refine m_get C h 7 (v := .int (nI i)) rfl q2416 (m_v rfl rfl) dX9_token_1 ?_
    refine x_aload_n C dX9_token_4 rfl rfl ?_
    refine m_get C h 6 (v := .int (nI sp)) rfl q2415 (m_v rfl hsp) dX9_token_5 ?_
    refine x_icmp_geN (tgt := 52) C (by omega) (by omega) dX9_token_8 rfl (fun c8 => ?_) (fun c8 => ?_)
    · -- 52
      exact (J52 _ _ ⟨(by rw [hsc, pScan_e (fun q => by omega)]), h⟩)
    · -- 11
      refine x_aload_n C dX9_token_11 rfl rfl ?_
      refine m_get C h 0 rfl q2409 rfl dX9_token_12 ?_
      refine x_aload_n C dX9_token_15 rfl rfl ?_
      refine m_get C h 7 (v := .int (nI i)) rfl q2416 (m_v rfl rfl) dX9_token_16 ?_
      refine m_ald C h 0 (N := 700) (by decide) rfl rfl (by omega) (congrFun htp _) dX9_token_19 ?_
      refine x_bipush C dX9_token_20 kb_10 ?_
      refine x_icmp_eq (tgt := 39) C dX9_token_22 rfl (fun c22 => ?_) (fun c22 => ?_)
      · -- 39
        refine x_aload_n C dX9_token_39 rfl rfl ?_
        refine x_dup C dX9_token_40 rfl ?_
        refine m_get C h 7 (v := .int (nI i)) rfl q2416 (m_v rfl rfl) dX9_token_41 ?_
        refine x_iconst C dX9_token_44 kc_1 ?_
        refine x_iaddN C dX9_token_45 ?_
        refine m_put C h 7 rfl q2416 rfl rfl rfl rfl dX9_token_46 (fun M h => ?_)
        rw [tk_7] at h
        refine x_goto (tgt := 0) C dX9_token_49 rfl ?_
        exact (ih (by omega) () () _ ⟨hsc.trans (pScan_s (by omega) (Or.inl c22)), h⟩)
      · -- 25
        refine x_aload_n C dX9_token_25 rfl rfl ?_
        refine m_get C h 0 rfl q2409 rfl dX9_token_26 ?_
        refine x_aload_n C dX9_token_29 rfl rfl ?_
        refine m_get C h 7 (v := .int (nI i)) rfl q2416 (m_v rfl rfl) dX9_token_30 ?_
        refine m_ald C h 0 (N := 700) (by decide) rfl rfl (by omega) (congrFun htp _) dX9_token_33 ?_
        refine x_bipush C dX9_token_34 kb_32 ?_
        refine x_icmp_ne (tgt := 52) C dX9_token_36 rfl (fun c36 => ?_) (fun c36 => ?_)
        · -- 52
          exact (J52 _ _ ⟨(by rw [hsc, pScan_e (fun q => q.2.elim c22 c36)]), h⟩)
        · -- 39
          refine x_aload_n C dX9_token_39 rfl rfl ?_
          refine x_dup C dX9_token_40 rfl ?_
          refine m_get C h 7 (v := .int (nI i)) rfl q2416 (m_v rfl rfl) dX9_token_41 ?_
          refine x_iconst C dX9_token_44 kc_1 ?_
          refine x_iaddN C dX9_token_45 ?_
          refine m_put C h 7 rfl q2416 rfl rfl rfl rfl dX9_token_46 (fun M h => ?_)
          rw [tk_7] at h
          refine x_goto (tgt := 0) C dX9_token_49 rfl ?_
          exact (ih (by omega) () () _ ⟨hsc.trans (pScan_s (by omega) (Or.inr c36)), h⟩)
