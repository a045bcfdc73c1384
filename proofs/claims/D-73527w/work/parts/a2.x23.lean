set_option maxRecDepth 100000
theorem pProv_fBg {T : Nat} {A : Nat → Nat → Int32} {B : Nat → Int32} (hw : wT T A) (hq : qB B) (hh : hdB B) (hr : rB A B) {t q : Nat} {bs : Int32} (hb : bs = 0 ∨ bs = nI 1) (ht : t < T) (hq6 : q < 64) : fB (A 6 1) (pProv A B t q bs) := by
  have hT4 := hw.T4
  have hs := hw.stepI
  have hf : fB (A 6 1) (pFr A (pQS B t q) (pHO B t) (pHA B t) t) := pFr_fB hw (hq.z (by omega) hq6) (hh t (by omega))
  unfold pProv
  by_cases c0 : bs = 0
  · rw [if_pos c0]; exact hf
  rw [if_neg c0]
  by_cases c1 : q < 4
  · rw [if_pos c1]
    by_cases c2 : A 2 (8 * t + 6) = nI 1
    · rw [if_pos c2]
      have h7 := (hw.trader ht).2.2.2.2.2.2.2.int (by omega)
      unfold pFst fB
      by_cases c3 : A 2 (8 * t + 7) < A 6 1
      · rw [if_pos c3]
        have := Int32.lt_iff_toInt_lt.mp c3
        omega
      · rw [if_neg c3]; omega
    · rw [if_neg c2]; exact hf
  · rw [if_neg c1, if_pos (hb.elim (fun q => absurd q c0) id), show 1801 + 16 * t + q / 4 - 1 = 1801 + 16 * t + (q / 4 - 1) by omega]
    exact hr t _ (by omega) (by omega)
theorem mi_X1_byBasis : gMV RX1 yX1_byBasis cX1_byBasis 7 (some .int) 3 := ⟨q2183, q2184, q123, q2185, by decide +kernel⟩
set_option maxHeartbeats 4000000 in
set_option maxRecDepth 100000 in
theorem met_X1_byBasis (l : Launch) {G : gG} (hG : gOK G) {M0 : gM} {r x : Nat} {ba : Nat → Nat} {B : Nat → Int32} {D : Nat → Nat → Int32} {Z : Nat → Int64} {tx wl ml : Nat} {wf mf : Nat → Nat} {rt : Nat} {ta : Nat → Nat} {mc : Nat → Int32} {nd it : Nat → Nat → Nat} {A : Nat → Nat → Int32} {ln : Int32} {T n : Nat} {xv : Nat → Value} {t q bs : Int32} (hBC : BC G r ba x (pQS B) (bf B D) (bo B) (B 0) (B 1866) Z M0) (hX : XW G x tx wl ml wf mf M0) (hT : TR G rt tx ta mc nd it (cA T A) (trA A) (wA A ln) M0) (hr4 : 4 ≤ r) (hrx : r ≠ x + 4) (hrt : r ≠ rt) (hw : wT T A) (hn : B 0 = nI n) (hn6 : n < 64) (hx : M0 x = some ((x + 4, 0), .inr (16, [.ref wl, .ref ml, xv 2, xv 3, .ref tx, .ref (ba 0), xv 6, xv 7, xv 8, xv 9, xv 10, xv 11, xv 12, xv 13]))) (hq : qB B) (hh : hdB B) (hrb : rB A B) : Met l yX1_byBasis (ws_ yX1_byBasis cX1_byBasis 7 (some .int)) ({ frames := 6, cells := 0, slots := 0, locals := 145 }) (gPre G M0 [.ref (x), .int (t), .int (q), .int (bs)]) (gQ G (gI (fun r9 M1 => M1 = M0 ∧ qBB A T B t q bs = r9))) 0 0 (gA G) := by
  refine gMet (L0 := [some (.ref (x)), some (.int (t)), some (.int (q)), some (.int (bs)), none, none, none]) RX1 hG (by decide +kernel) rfl (Nat.le_of_ble_eq_true rfl) rfl ?_
  intro p e s m args below meth c C hnm
  obtain ⟨wk, hwk, hwk3⟩ := isN_to hw.way
  have hsI := hw.stepI
  obtain ⟨⟨vs, hx0⟩, ⟨wq, hwl, hwq⟩, ⟨mq, hml, hmq⟩, hWY, hMT⟩ := id hX
  have ht0 : M0 tx = some ((rt, 0), .inr (20, [.ref (ta 1), .ref (ta 2), .ref (ta 3), .ref (ta 4), .int (A 6 0), .int (A 6 1), .int (A 6 2), .int (A 6 3), .int ln])) := hT.1
  rw [hwk] at ht0
  have hb0 := hBC.1
  rw [hn] at hb0
  obtain ⟨jw, aw, hwc, -⟩ := hWY wk (by omega)
  have hT4 := hw.T4
  refine x_aload_n C dX1_byBasis_0 rfl rfl ?_
  refine x_iload_n C dX1_byBasis_1 rfl rfl ?_
  refine x_V1I C (met_X1_isTrader l C.1 hBC hX hT hr4 hrx hrt hw hn hn6 hx) mi_X1_isTrader q1648 gcX1 hx ⟨rfl, rfl⟩ rfl ⟨Nat.le_of_ble_eq_true rfl, Nat.le_of_ble_eq_true rfl⟩ rfl dX1_byBasis_2 (fun r2 M1 hr => ?_)
  rcases hr with ⟨hr, rfl, p2⟩ | ⟨hr, rfl, p2⟩
  · -- 2 1
    rw [hr]
    obtain ⟨k_t, rfl, hk_t⟩ := iT_ex (by omega) p2
    refine x_if_eqF (tgt := 37) C (by decide) dX1_byBasis_5 rfl ?_
    refine x_iload_n C dX1_byBasis_8 rfl rfl ?_
    refine x_i2l C dX1_byBasis_9 ?_
    refine x_lconst (v := 0) C dX1_byBasis_10 rfl ?_
    refine x_aload_n C dX1_byBasis_11 rfl rfl ?_
    refine x_get C gcX1 hx 5 rfl q1257 rfl dX1_byBasis_12 ?_
    refine x_getN C gcX6 hb0 13 rfl q538 rfl dX1_byBasis_15 ?_
    refine x_iconst C dX1_byBasis_18 kc_1 ?_
    refine x_isub C dX1_byBasis_19 ?_
    refine x_i2l C dX1_byBasis_20 ?_
    refine x_S3I C (met_X1_in l C.1) mi_X1_in q1308 ⟨rfl, rfl⟩ rfl ⟨Nat.le_of_ble_eq_true rfl, Nat.le_of_ble_eq_true rfl⟩ rfl dX1_byBasis_21 (fun r4 M3 hr => ?_)
    rcases hr with ⟨hr, rfl, p21⟩ | ⟨hr, rfl, p21⟩
    · -- 21 1
      rw [hr]
      obtain ⟨k_q, rfl, hk_q⟩ := iT_ex (by omega) ((in_iT (by omega)).mp p21)
      refine x_if_eqF (tgt := 37) C (by decide) dX1_byBasis_24 rfl ?_
      refine x_iload_n C dX1_byBasis_27 rfl rfl ?_
      refine x_i2l C dX1_byBasis_28 ?_
      refine x_lconst (v := 0) C dX1_byBasis_29 rfl ?_
      refine x_lconst (v := 1) C dX1_byBasis_30 rfl ?_
      refine x_S3I C (met_X1_in l C.1) mi_X1_in q1308 ⟨rfl, rfl⟩ rfl ⟨Nat.le_of_ble_eq_true rfl, Nat.le_of_ble_eq_true rfl⟩ rfl dX1_byBasis_31 (fun r6 M5 hr => ?_)
      rcases hr with ⟨hr, rfl, p31⟩ | ⟨hr, rfl, p31⟩
      · -- yes
        rw [hr]
        obtain ⟨k_b, rfl, -, hk_b⟩ := iI_ex (by omega) (by omega) (u1.mp p31)
        rcases (by omega : k_b = 0 ∨ k_b = 1) with rfl | rfl
        · -- basis 0
          by_cases hst : A 2 (8 * k_t + 6) = nI 1
          · -- start True
            refine x_if_neT (tgt := 41) C (by decide) dX1_byBasis_34 rfl ?_
            refine x_aload_n C dX1_byBasis_41 rfl rfl ?_
            refine x_get C gcX1 hx 4 rfl q1256 rfl dX1_byBasis_42 ?_
            refine x_iload_n C dX1_byBasis_45 rfl rfl ?_
            refine x_V1R C (met_X5_trader l C.1 hT hk_t) mi_X5_trader q2170 gcX5 ht0 ⟨rfl, rfl⟩ rfl ⟨Nat.le_of_ble_eq_true rfl, Nat.le_of_ble_eq_true rfl⟩ rfl dX1_byBasis_46 (fun r8 M7 hr => ?_)
            obtain ⟨hr, rfl⟩ := hr
            rw [hr]
            have htr : M0 (it 1 k_t) = some ((rt, 21), .inr (26, [.int (trA A 1 k_t 0), .int (trA A 1 k_t 1), .int (trA A 1 k_t 2), .int (trA A 1 k_t 3), .int (trA A 1 k_t 4), .int (if A 2 (8 * k_t + 6) = nI 1 then A 2 (8 * k_t + 7) else -1)])) := hT.at1 hk_t
            rw [if_pos hst] at htr
            have hsn : ¬ A 2 (8 * k_t + 7) = -1 := fun e9 => by have z9 := (hw.trader hk_t).2.2.2.2.2.2.2.int (by omega); rw [e9] at z9; exact absurd z9.1 (by decide)
            refine x_getN C gcX11 htr 5 rfl q1450 rfl dX1_byBasis_49 ?_
            refine x_istore C dX1_byBasis_52 (gs1_4 rfl) rfl ?_
            refine x_aload_n C dX1_byBasis_54 rfl rfl ?_
            refine x_get C gcX1 hx 5 rfl q1257 rfl dX1_byBasis_55 ?_
            refine x_getN C gcX6 hb0 0 rfl q514 rfl dX1_byBasis_58 ?_
            refine x_iload_n C dX1_byBasis_61 rfl rfl ?_
            refine y_aaldR (ty := .array (.object "ExemptDesk$Sums")) (i := k_t) (b := ba (20 + k_t)) C 5 rfl rfl hBC.2.1 rfl (by omega) rfl rfl dX1_byBasis_62 ?_
            refine x_iload_n C dX1_byBasis_63 rfl rfl ?_
            refine y_aaldR (ty := .object "ExemptDesk$Sums") (i := k_q) (b := ba (1000 + 64 * k_t + k_q)) C 4 rfl rfl (hBC.2.2.2.1 k_t (by omega)) rfl (by omega) rfl rfl dX1_byBasis_64 ?_
            refine x_astore C dX1_byBasis_65 (gs1_5 rfl) rfl ?_
            refine x_aload_n C dX1_byBasis_67 rfl rfl ?_
            refine x_get C gcX1 hx 5 rfl q1257 rfl dX1_byBasis_68 ?_
            refine x_iload_n C dX1_byBasis_71 rfl rfl ?_
            refine x_aload C dX1_byBasis_72 rfl ?_
            refine x_VN2I C (met_X6_fractionBy l C.1 hBC hX hT hr4 hrx hrt hw hn hn6 (by omega) (hBC.2.2.2.2.2.1 k_t k_q (by omega) (by omega)) (hq.z (by omega) (by omega)) (hh _ (by omega))) mi_X6_fractionBy q2186 gcX6 hb0 ⟨rfl, rfl⟩ rfl ⟨Nat.le_of_ble_eq_true rfl, Nat.le_of_ble_eq_true rfl⟩ rfl dX1_byBasis_74 (fun r10 M9 hr => ?_)
            obtain ⟨hr, rfl⟩ := hr
            rw [hr]
            refine x_istore C dX1_byBasis_77 (gs1_6 rfl) rfl ?_
            refine x_iload_n C dX1_byBasis_79 rfl rfl ?_
            refine x_iconst C dX1_byBasis_80 kc_1 ?_
            refine x_icmp_neT (tgt := 109) C (by decide +kernel) dX1_byBasis_81 rfl ?_
            refine x_iload_n C dX1_byBasis_109 rfl rfl ?_
            refine x_iconst C dX1_byBasis_110 kc_1 ?_
            refine x_icmp_neT (tgt := 134) C (by decide +kernel) dX1_byBasis_111 rfl ?_
            have ef : pFr A (pQS B k_t k_q) (pHO B k_t) (pHA B k_t) k_t = pProv A B k_t k_q (nI 0) := by unfold pProv; rw [if_pos (show nI 0 = 0 from rfl)]
            rw [ef]
            refine x_aload C dX1_byBasis_134 rfl ?_
            refine x_iload C dX1_byBasis_136 rfl ?_
            refine x_aload_n C dX1_byBasis_138 rfl rfl ?_
            refine x_get C gcX1 hx 4 rfl q1256 rfl dX1_byBasis_139 ?_
            refine x_getN C gcX5 ht0 5 rfl q406 rfl dX1_byBasis_142 ?_
            refine x_aload_n C dX1_byBasis_145 rfl rfl ?_
            refine x_get C gcX1 hx 5 rfl q1257 rfl dX1_byBasis_146 ?_
            refine x_V0R C (met_X6_way l C.1 hBC hX hT hr4 hrx hrt hw hn hn6) mi_X6_way q2095 gcX6 hb0 ⟨rfl, rfl⟩ rfl ⟨Nat.le_of_ble_eq_true rfl, Nat.le_of_ble_eq_true rfl⟩ rfl dX1_byBasis_149 (fun r12 M11 hr => ?_)
            obtain ⟨hr, wk', hwk', hw3', rfl⟩ := hr
            rw [hr]
            have ew : wk = wk' := nI_inj (by omega) (by omega) (hwk.symm.trans hwk'); subst ew
            refine x_aload_n C dX1_byBasis_152 rfl rfl ?_
            refine x_get C gcX1 hx 4 rfl q1256 rfl dX1_byBasis_153 ?_
            refine x_getN C gcX5 ht0 6 rfl q410 rfl dX1_byBasis_156 ?_
            refine x_iconst C dX1_byBasis_159 kc_4 ?_
            refine x_idiv C dX1_byBasis_160 (by decide) ?_
            refine x_V4I C (met_X7_back l C.1 (hBC.2.2.2.2.2.1 k_t k_q (by omega) (by omega)) (hWY wk (by omega)) (hq.z (by omega) (by omega)) (pProv_fBg hw hq hh hrb (Or.inl rfl) (by omega) (by omega))) mi_X7_back q2148 gcX7 (hBC.2.2.2.2.2.1 k_t k_q (by omega) (by omega)).1 ⟨rfl, rfl⟩ rfl ⟨Nat.le_of_ble_eq_true rfl, Nat.le_of_ble_eq_true rfl⟩ rfl dX1_byBasis_161 (fun r14 M13 hr => ?_)
            obtain ⟨hr, rfl⟩ := hr
            rw [hr]
            exact x_iret C dX1_byBasis_164 ⟨Nat.le_of_ble_eq_true rfl, Nat.le_of_ble_eq_true rfl⟩ ⟨rfl, by unfold qBB; rw [if_pos p2, if_pos (show iI (nI k_q) (nI 0) (nI (pNow B) - nI 1) by rw [show pNow B = n by unfold pNow; rw [hn, dN_nI (by omega)]]; exact qn1.mp p21), if_pos (u1.mp p31), dN_nI (by omega), dN_nI (by omega)]; unfold pBk; rw [hwk]⟩
          · -- start False
            refine x_if_neT (tgt := 41) C (by decide) dX1_byBasis_34 rfl ?_
            refine x_aload_n C dX1_byBasis_41 rfl rfl ?_
            refine x_get C gcX1 hx 4 rfl q1256 rfl dX1_byBasis_42 ?_
            refine x_iload_n C dX1_byBasis_45 rfl rfl ?_
            refine x_V1R C (met_X5_trader l C.1 hT hk_t) mi_X5_trader q2170 gcX5 ht0 ⟨rfl, rfl⟩ rfl ⟨Nat.le_of_ble_eq_true rfl, Nat.le_of_ble_eq_true rfl⟩ rfl dX1_byBasis_46 (fun r16 M15 hr => ?_)
            obtain ⟨hr, rfl⟩ := hr
            rw [hr]
            have htr : M0 (it 1 k_t) = some ((rt, 21), .inr (26, [.int (trA A 1 k_t 0), .int (trA A 1 k_t 1), .int (trA A 1 k_t 2), .int (trA A 1 k_t 3), .int (trA A 1 k_t 4), .int (if A 2 (8 * k_t + 6) = nI 1 then A 2 (8 * k_t + 7) else -1)])) := hT.at1 hk_t
            rw [if_neg hst] at htr
            refine x_getN C gcX11 htr 5 rfl q1450 rfl dX1_byBasis_49 ?_
            refine x_istore C dX1_byBasis_52 (gs1_4 rfl) rfl ?_
            refine x_aload_n C dX1_byBasis_54 rfl rfl ?_
            refine x_get C gcX1 hx 5 rfl q1257 rfl dX1_byBasis_55 ?_
            refine x_getN C gcX6 hb0 0 rfl q514 rfl dX1_byBasis_58 ?_
            refine x_iload_n C dX1_byBasis_61 rfl rfl ?_
            refine y_aaldR (ty := .array (.object "ExemptDesk$Sums")) (i := k_t) (b := ba (20 + k_t)) C 5 rfl rfl hBC.2.1 rfl (by omega) rfl rfl dX1_byBasis_62 ?_
            refine x_iload_n C dX1_byBasis_63 rfl rfl ?_
            refine y_aaldR (ty := .object "ExemptDesk$Sums") (i := k_q) (b := ba (1000 + 64 * k_t + k_q)) C 4 rfl rfl (hBC.2.2.2.1 k_t (by omega)) rfl (by omega) rfl rfl dX1_byBasis_64 ?_
            refine x_astore C dX1_byBasis_65 (gs1_5 rfl) rfl ?_
            refine x_aload_n C dX1_byBasis_67 rfl rfl ?_
            refine x_get C gcX1 hx 5 rfl q1257 rfl dX1_byBasis_68 ?_
            refine x_iload_n C dX1_byBasis_71 rfl rfl ?_
            refine x_aload C dX1_byBasis_72 rfl ?_
            refine x_VN2I C (met_X6_fractionBy l C.1 hBC hX hT hr4 hrx hrt hw hn hn6 (by omega) (hBC.2.2.2.2.2.1 k_t k_q (by omega) (by omega)) (hq.z (by omega) (by omega)) (hh _ (by omega))) mi_X6_fractionBy q2186 gcX6 hb0 ⟨rfl, rfl⟩ rfl ⟨Nat.le_of_ble_eq_true rfl, Nat.le_of_ble_eq_true rfl⟩ rfl dX1_byBasis_74 (fun r18 M17 hr => ?_)
            obtain ⟨hr, rfl⟩ := hr
            rw [hr]
            refine x_istore C dX1_byBasis_77 (gs1_6 rfl) rfl ?_
            refine x_iload_n C dX1_byBasis_79 rfl rfl ?_
            refine x_iconst C dX1_byBasis_80 kc_1 ?_
            refine x_icmp_neT (tgt := 109) C (by decide +kernel) dX1_byBasis_81 rfl ?_
            refine x_iload_n C dX1_byBasis_109 rfl rfl ?_
            refine x_iconst C dX1_byBasis_110 kc_1 ?_
            refine x_icmp_neT (tgt := 134) C (by decide +kernel) dX1_byBasis_111 rfl ?_
            have ef : pFr A (pQS B k_t k_q) (pHO B k_t) (pHA B k_t) k_t = pProv A B k_t k_q (nI 0) := by unfold pProv; rw [if_pos (show nI 0 = 0 from rfl)]
            rw [ef]
            refine x_aload C dX1_byBasis_134 rfl ?_
            refine x_iload C dX1_byBasis_136 rfl ?_
            refine x_aload_n C dX1_byBasis_138 rfl rfl ?_
            refine x_get C gcX1 hx 4 rfl q1256 rfl dX1_byBasis_139 ?_
            refine x_getN C gcX5 ht0 5 rfl q406 rfl dX1_byBasis_142 ?_
            refine x_aload_n C dX1_byBasis_145 rfl rfl ?_
            refine x_get C gcX1 hx 5 rfl q1257 rfl dX1_byBasis_146 ?_
            refine x_V0R C (met_X6_way l C.1 hBC hX hT hr4 hrx hrt hw hn hn6) mi_X6_way q2095 gcX6 hb0 ⟨rfl, rfl⟩ rfl ⟨Nat.le_of_ble_eq_true rfl, Nat.le_of_ble_eq_true rfl⟩ rfl dX1_byBasis_149 (fun r20 M19 hr => ?_)
            obtain ⟨hr, wk', hwk', hw3', rfl⟩ := hr
            rw [hr]
            have ew : wk = wk' := nI_inj (by omega) (by omega) (hwk.symm.trans hwk'); subst ew
            refine x_aload_n C dX1_byBasis_152 rfl rfl ?_
            refine x_get C gcX1 hx 4 rfl q1256 rfl dX1_byBasis_153 ?_
            refine x_getN C gcX5 ht0 6 rfl q410 rfl dX1_byBasis_156 ?_
            refine x_iconst C dX1_byBasis_159 kc_4 ?_
            refine x_idiv C dX1_byBasis_160 (by decide) ?_
            refine x_V4I C (met_X7_back l C.1 (hBC.2.2.2.2.2.1 k_t k_q (by omega) (by omega)) (hWY wk (by omega)) (hq.z (by omega) (by omega)) (pProv_fBg hw hq hh hrb (Or.inl rfl) (by omega) (by omega))) mi_X7_back q2148 gcX7 (hBC.2.2.2.2.2.1 k_t k_q (by omega) (by omega)).1 ⟨rfl, rfl⟩ rfl ⟨Nat.le_of_ble_eq_true rfl, Nat.le_of_ble_eq_true rfl⟩ rfl dX1_byBasis_161 (fun r22 M21 hr => ?_)
            obtain ⟨hr, rfl⟩ := hr
            rw [hr]
            exact x_iret C dX1_byBasis_164 ⟨Nat.le_of_ble_eq_true rfl, Nat.le_of_ble_eq_true rfl⟩ ⟨rfl, by unfold qBB; rw [if_pos p2, if_pos (show iI (nI k_q) (nI 0) (nI (pNow B) - nI 1) by rw [show pNow B = n by unfold pNow; rw [hn, dN_nI (by omega)]]; exact qn1.mp p21), if_pos (u1.mp p31), dN_nI (by omega), dN_nI (by omega)]; unfold pBk; rw [hwk]⟩
        · -- basis 1
          by_cases hst : A 2 (8 * k_t + 6) = nI 1
          · -- start True
            refine x_if_neT (tgt := 41) C (by decide) dX1_byBasis_34 rfl ?_
            refine x_aload_n C dX1_byBasis_41 rfl rfl ?_
            refine x_get C gcX1 hx 4 rfl q1256 rfl dX1_byBasis_42 ?_
            refine x_iload_n C dX1_byBasis_45 rfl rfl ?_
            refine x_V1R C (met_X5_trader l C.1 hT hk_t) mi_X5_trader q2170 gcX5 ht0 ⟨rfl, rfl⟩ rfl ⟨Nat.le_of_ble_eq_true rfl, Nat.le_of_ble_eq_true rfl⟩ rfl dX1_byBasis_46 (fun r24 M23 hr => ?_)
            obtain ⟨hr, rfl⟩ := hr
            rw [hr]
            have htr : M0 (it 1 k_t) = some ((rt, 21), .inr (26, [.int (trA A 1 k_t 0), .int (trA A 1 k_t 1), .int (trA A 1 k_t 2), .int (trA A 1 k_t 3), .int (trA A 1 k_t 4), .int (if A 2 (8 * k_t + 6) = nI 1 then A 2 (8 * k_t + 7) else -1)])) := hT.at1 hk_t
            rw [if_pos hst] at htr
            have hsn : ¬ A 2 (8 * k_t + 7) = -1 := fun e9 => by have z9 := (hw.trader hk_t).2.2.2.2.2.2.2.int (by omega); rw [e9] at z9; exact absurd z9.1 (by decide)
            refine x_getN C gcX11 htr 5 rfl q1450 rfl dX1_byBasis_49 ?_
            refine x_istore C dX1_byBasis_52 (gs1_4 rfl) rfl ?_
            refine x_aload_n C dX1_byBasis_54 rfl rfl ?_
            refine x_get C gcX1 hx 5 rfl q1257 rfl dX1_byBasis_55 ?_
            refine x_getN C gcX6 hb0 0 rfl q514 rfl dX1_byBasis_58 ?_
            refine x_iload_n C dX1_byBasis_61 rfl rfl ?_
            refine y_aaldR (ty := .array (.object "ExemptDesk$Sums")) (i := k_t) (b := ba (20 + k_t)) C 5 rfl rfl hBC.2.1 rfl (by omega) rfl rfl dX1_byBasis_62 ?_
            refine x_iload_n C dX1_byBasis_63 rfl rfl ?_
            refine y_aaldR (ty := .object "ExemptDesk$Sums") (i := k_q) (b := ba (1000 + 64 * k_t + k_q)) C 4 rfl rfl (hBC.2.2.2.1 k_t (by omega)) rfl (by omega) rfl rfl dX1_byBasis_64 ?_
            refine x_astore C dX1_byBasis_65 (gs1_5 rfl) rfl ?_
            refine x_aload_n C dX1_byBasis_67 rfl rfl ?_
            refine x_get C gcX1 hx 5 rfl q1257 rfl dX1_byBasis_68 ?_
            refine x_iload_n C dX1_byBasis_71 rfl rfl ?_
            refine x_aload C dX1_byBasis_72 rfl ?_
            refine x_VN2I C (met_X6_fractionBy l C.1 hBC hX hT hr4 hrx hrt hw hn hn6 (by omega) (hBC.2.2.2.2.2.1 k_t k_q (by omega) (by omega)) (hq.z (by omega) (by omega)) (hh _ (by omega))) mi_X6_fractionBy q2186 gcX6 hb0 ⟨rfl, rfl⟩ rfl ⟨Nat.le_of_ble_eq_true rfl, Nat.le_of_ble_eq_true rfl⟩ rfl dX1_byBasis_74 (fun r26 M25 hr => ?_)
            obtain ⟨hr, rfl⟩ := hr
            rw [hr]
            refine x_istore C dX1_byBasis_77 (gs1_6 rfl) rfl ?_
            refine x_iload_n C dX1_byBasis_79 rfl rfl ?_
            refine x_iconst C dX1_byBasis_80 kc_1 ?_
            refine x_icmp_neF (tgt := 109) C (by decide +kernel) dX1_byBasis_81 rfl ?_
            refine x_iload_n C dX1_byBasis_84 rfl rfl ?_
            refine x_iconst C dX1_byBasis_85 kc_3 ?_
            refine x_icmp_leN (tgt := 109) C (by omega) (by omega) dX1_byBasis_86 rfl (fun c86 => ?_) (fun c86 => ?_)
            · -- 109
              refine x_iload_n C dX1_byBasis_109 rfl rfl ?_
              refine x_iconst C dX1_byBasis_110 kc_1 ?_
              refine x_icmp_neF (tgt := 134) C (by decide +kernel) dX1_byBasis_111 rfl ?_
              refine x_iload C dX1_byBasis_114 rfl ?_
              refine x_iconst C dX1_byBasis_116 kc_m1 ?_
              refine x_icmp_eqF (tgt := 134) C (hsn) dX1_byBasis_117 rfl ?_
              refine x_iload C dX1_byBasis_120 rfl ?_
              refine x_aload_n C dX1_byBasis_122 rfl rfl ?_
              refine x_get C gcX1 hx 4 rfl q1256 rfl dX1_byBasis_123 ?_
              refine x_getN C gcX5 ht0 5 rfl q406 rfl dX1_byBasis_126 ?_
              refine x_S2I C (met_J0_min l C.1) mi_J0_min q2187 ⟨rfl, rfl⟩ rfl ⟨Nat.le_of_ble_eq_true rfl, Nat.le_of_ble_eq_true rfl⟩ rfl dX1_byBasis_129 (fun r28 M27 hr => ?_)
              obtain ⟨hr, rfl⟩ := hr
              rw [hr]
              refine x_istore C dX1_byBasis_132 (gs1_6 rfl) rfl ?_
              have ef : pMin (A 2 (8 * k_t + 7)) (A 6 1) = pProv A B k_t k_q (nI 1) := by unfold pProv; rw [if_neg (by decide), if_pos (by omega), if_pos hst, pMin_fst]; rfl
              rw [ef]
              refine x_aload C dX1_byBasis_134 rfl ?_
              refine x_iload C dX1_byBasis_136 rfl ?_
              refine x_aload_n C dX1_byBasis_138 rfl rfl ?_
              refine x_get C gcX1 hx 4 rfl q1256 rfl dX1_byBasis_139 ?_
              refine x_getN C gcX5 ht0 5 rfl q406 rfl dX1_byBasis_142 ?_
              refine x_aload_n C dX1_byBasis_145 rfl rfl ?_
              refine x_get C gcX1 hx 5 rfl q1257 rfl dX1_byBasis_146 ?_
              refine x_V0R C (met_X6_way l C.1 hBC hX hT hr4 hrx hrt hw hn hn6) mi_X6_way q2095 gcX6 hb0 ⟨rfl, rfl⟩ rfl ⟨Nat.le_of_ble_eq_true rfl, Nat.le_of_ble_eq_true rfl⟩ rfl dX1_byBasis_149 (fun r30 M29 hr => ?_)
              obtain ⟨hr, wk', hwk', hw3', rfl⟩ := hr
              rw [hr]
              have ew : wk = wk' := nI_inj (by omega) (by omega) (hwk.symm.trans hwk'); subst ew
              refine x_aload_n C dX1_byBasis_152 rfl rfl ?_
              refine x_get C gcX1 hx 4 rfl q1256 rfl dX1_byBasis_153 ?_
              refine x_getN C gcX5 ht0 6 rfl q410 rfl dX1_byBasis_156 ?_
              refine x_iconst C dX1_byBasis_159 kc_4 ?_
              refine x_idiv C dX1_byBasis_160 (by decide) ?_
              refine x_V4I C (met_X7_back l C.1 (hBC.2.2.2.2.2.1 k_t k_q (by omega) (by omega)) (hWY wk (by omega)) (hq.z (by omega) (by omega)) (pProv_fBg hw hq hh hrb (Or.inr rfl) (by omega) (by omega))) mi_X7_back q2148 gcX7 (hBC.2.2.2.2.2.1 k_t k_q (by omega) (by omega)).1 ⟨rfl, rfl⟩ rfl ⟨Nat.le_of_ble_eq_true rfl, Nat.le_of_ble_eq_true rfl⟩ rfl dX1_byBasis_161 (fun r32 M31 hr => ?_)
              obtain ⟨hr, rfl⟩ := hr
              rw [hr]
              exact x_iret C dX1_byBasis_164 ⟨Nat.le_of_ble_eq_true rfl, Nat.le_of_ble_eq_true rfl⟩ ⟨rfl, by unfold qBB; rw [if_pos p2, if_pos (show iI (nI k_q) (nI 0) (nI (pNow B) - nI 1) by rw [show pNow B = n by unfold pNow; rw [hn, dN_nI (by omega)]]; exact qn1.mp p21), if_pos (u1.mp p31), dN_nI (by omega), dN_nI (by omega)]; unfold pBk; rw [hwk]⟩
            · -- 89
              refine x_aload_n C dX1_byBasis_89 rfl rfl ?_
              refine x_get C gcX1 hx 5 rfl q1257 rfl dX1_byBasis_90 ?_
              refine x_getN C gcX6 hb0 3 rfl q519 rfl dX1_byBasis_93 ?_
              refine x_iload_n C dX1_byBasis_96 rfl rfl ?_
              refine y_aaldR (ty := .array .int) (i := k_t) (b := ba (50 + k_t)) C 6 rfl rfl (hBC.2.2.1 2 (by omega)) rfl (by omega) rfl rfl dX1_byBasis_97 ?_
              refine x_iload_n C dX1_byBasis_98 rfl rfl ?_
              refine x_iconst C dX1_byBasis_99 kc_4 ?_
              refine x_idivN C (by omega) (by omega) (by omega) dX1_byBasis_100 ?_
              refine x_iconst C dX1_byBasis_101 kc_1 ?_
              refine x_isubN C (by omega) dX1_byBasis_102 ?_
              refine y_iald (i := (k_q / 4) - 1) C (hBC.r2 (t := k_t) (by omega)) rfl (by omega) rfl dX1_byBasis_103 ?_
              refine x_istore C dX1_byBasis_104 (gs1_6 rfl) rfl ?_
              refine x_goto (tgt := 134) C dX1_byBasis_106 rfl ?_
              have ef : (bf B D 2 k_t) ((k_q / 4) - 1) = pProv A B k_t k_q (nI 1) := by unfold pProv; rw [if_neg (by decide), if_neg (by omega), if_pos (show nI 1 = nI 1 from rfl), show 1801 + 16 * k_t + k_q / 4 - 1 = 1801 + 16 * k_t + (k_q / 4 - 1) by omega]; rfl
              rw [ef]
              refine x_aload C dX1_byBasis_134 rfl ?_
              refine x_iload C dX1_byBasis_136 rfl ?_
              refine x_aload_n C dX1_byBasis_138 rfl rfl ?_
              refine x_get C gcX1 hx 4 rfl q1256 rfl dX1_byBasis_139 ?_
              refine x_getN C gcX5 ht0 5 rfl q406 rfl dX1_byBasis_142 ?_
              refine x_aload_n C dX1_byBasis_145 rfl rfl ?_
              refine x_get C gcX1 hx 5 rfl q1257 rfl dX1_byBasis_146 ?_
              refine x_V0R C (met_X6_way l C.1 hBC hX hT hr4 hrx hrt hw hn hn6) mi_X6_way q2095 gcX6 hb0 ⟨rfl, rfl⟩ rfl ⟨Nat.le_of_ble_eq_true rfl, Nat.le_of_ble_eq_true rfl⟩ rfl dX1_byBasis_149 (fun r34 M33 hr => ?_)
              obtain ⟨hr, wk', hwk', hw3', rfl⟩ := hr
              rw [hr]
              have ew : wk = wk' := nI_inj (by omega) (by omega) (hwk.symm.trans hwk'); subst ew
              refine x_aload_n C dX1_byBasis_152 rfl rfl ?_
              refine x_get C gcX1 hx 4 rfl q1256 rfl dX1_byBasis_153 ?_
              refine x_getN C gcX5 ht0 6 rfl q410 rfl dX1_byBasis_156 ?_
              refine x_iconst C dX1_byBasis_159 kc_4 ?_
              refine x_idiv C dX1_byBasis_160 (by decide) ?_
              refine x_V4I C (met_X7_back l C.1 (hBC.2.2.2.2.2.1 k_t k_q (by omega) (by omega)) (hWY wk (by omega)) (hq.z (by omega) (by omega)) (pProv_fBg hw hq hh hrb (Or.inr rfl) (by omega) (by omega))) mi_X7_back q2148 gcX7 (hBC.2.2.2.2.2.1 k_t k_q (by omega) (by omega)).1 ⟨rfl, rfl⟩ rfl ⟨Nat.le_of_ble_eq_true rfl, Nat.le_of_ble_eq_true rfl⟩ rfl dX1_byBasis_161 (fun r36 M35 hr => ?_)
              obtain ⟨hr, rfl⟩ := hr
              rw [hr]
              exact x_iret C dX1_byBasis_164 ⟨Nat.le_of_ble_eq_true rfl, Nat.le_of_ble_eq_true rfl⟩ ⟨rfl, by unfold qBB; rw [if_pos p2, if_pos (show iI (nI k_q) (nI 0) (nI (pNow B) - nI 1) by rw [show pNow B = n by unfold pNow; rw [hn, dN_nI (by omega)]]; exact qn1.mp p21), if_pos (u1.mp p31), dN_nI (by omega), dN_nI (by omega)]; unfold pBk; rw [hwk]⟩
          · -- start False
            refine x_if_neT (tgt := 41) C (by decide) dX1_byBasis_34 rfl ?_
            refine x_aload_n C dX1_byBasis_41 rfl rfl ?_
            refine x_get C gcX1 hx 4 rfl q1256 rfl dX1_byBasis_42 ?_
            refine x_iload_n C dX1_byBasis_45 rfl rfl ?_
            refine x_V1R C (met_X5_trader l C.1 hT hk_t) mi_X5_trader q2170 gcX5 ht0 ⟨rfl, rfl⟩ rfl ⟨Nat.le_of_ble_eq_true rfl, Nat.le_of_ble_eq_true rfl⟩ rfl dX1_byBasis_46 (fun r38 M37 hr => ?_)
            obtain ⟨hr, rfl⟩ := hr
            rw [hr]
            have htr : M0 (it 1 k_t) = some ((rt, 21), .inr (26, [.int (trA A 1 k_t 0), .int (trA A 1 k_t 1), .int (trA A 1 k_t 2), .int (trA A 1 k_t 3), .int (trA A 1 k_t 4), .int (if A 2 (8 * k_t + 6) = nI 1 then A 2 (8 * k_t + 7) else -1)])) := hT.at1 hk_t
            rw [if_neg hst] at htr
            refine x_getN C gcX11 htr 5 rfl q1450 rfl dX1_byBasis_49 ?_
            refine x_istore C dX1_byBasis_52 (gs1_4 rfl) rfl ?_
            refine x_aload_n C dX1_byBasis_54 rfl rfl ?_
            refine x_get C gcX1 hx 5 rfl q1257 rfl dX1_byBasis_55 ?_
            refine x_getN C gcX6 hb0 0 rfl q514 rfl dX1_byBasis_58 ?_
            refine x_iload_n C dX1_byBasis_61 rfl rfl ?_
            refine y_aaldR (ty := .array (.object "ExemptDesk$Sums")) (i := k_t) (b := ba (20 + k_t)) C 5 rfl rfl hBC.2.1 rfl (by omega) rfl rfl dX1_byBasis_62 ?_
            refine x_iload_n C dX1_byBasis_63 rfl rfl ?_
            refine y_aaldR (ty := .object "ExemptDesk$Sums") (i := k_q) (b := ba (1000 + 64 * k_t + k_q)) C 4 rfl rfl (hBC.2.2.2.1 k_t (by omega)) rfl (by omega) rfl rfl dX1_byBasis_64 ?_
            refine x_astore C dX1_byBasis_65 (gs1_5 rfl) rfl ?_
            refine x_aload_n C dX1_byBasis_67 rfl rfl ?_
            refine x_get C gcX1 hx 5 rfl q1257 rfl dX1_byBasis_68 ?_
            refine x_iload_n C dX1_byBasis_71 rfl rfl ?_
            refine x_aload C dX1_byBasis_72 rfl ?_
            refine x_VN2I C (met_X6_fractionBy l C.1 hBC hX hT hr4 hrx hrt hw hn hn6 (by omega) (hBC.2.2.2.2.2.1 k_t k_q (by omega) (by omega)) (hq.z (by omega) (by omega)) (hh _ (by omega))) mi_X6_fractionBy q2186 gcX6 hb0 ⟨rfl, rfl⟩ rfl ⟨Nat.le_of_ble_eq_true rfl, Nat.le_of_ble_eq_true rfl⟩ rfl dX1_byBasis_74 (fun r40 M39 hr => ?_)
            obtain ⟨hr, rfl⟩ := hr
            rw [hr]
            refine x_istore C dX1_byBasis_77 (gs1_6 rfl) rfl ?_
            refine x_iload_n C dX1_byBasis_79 rfl rfl ?_
            refine x_iconst C dX1_byBasis_80 kc_1 ?_
            refine x_icmp_neF (tgt := 109) C (by decide +kernel) dX1_byBasis_81 rfl ?_
            refine x_iload_n C dX1_byBasis_84 rfl rfl ?_
            refine x_iconst C dX1_byBasis_85 kc_3 ?_
            refine x_icmp_leN (tgt := 109) C (by omega) (by omega) dX1_byBasis_86 rfl (fun c86 => ?_) (fun c86 => ?_)
            · -- 109
              refine x_iload_n C dX1_byBasis_109 rfl rfl ?_
              refine x_iconst C dX1_byBasis_110 kc_1 ?_
              refine x_icmp_neF (tgt := 134) C (by decide +kernel) dX1_byBasis_111 rfl ?_
              refine x_iload C dX1_byBasis_114 rfl ?_
              refine x_iconst C dX1_byBasis_116 kc_m1 ?_
              refine x_icmp_eqT (tgt := 134) C (rfl) dX1_byBasis_117 rfl ?_
              have ef : pFr A (pQS B k_t k_q) (pHO B k_t) (pHA B k_t) k_t = pProv A B k_t k_q (nI 1) := by unfold pProv; rw [if_neg (by decide), if_pos (by omega), if_neg hst]
              rw [ef]
              refine x_aload C dX1_byBasis_134 rfl ?_
              refine x_iload C dX1_byBasis_136 rfl ?_
              refine x_aload_n C dX1_byBasis_138 rfl rfl ?_
              refine x_get C gcX1 hx 4 rfl q1256 rfl dX1_byBasis_139 ?_
              refine x_getN C gcX5 ht0 5 rfl q406 rfl dX1_byBasis_142 ?_
              refine x_aload_n C dX1_byBasis_145 rfl rfl ?_
              refine x_get C gcX1 hx 5 rfl q1257 rfl dX1_byBasis_146 ?_
              refine x_V0R C (met_X6_way l C.1 hBC hX hT hr4 hrx hrt hw hn hn6) mi_X6_way q2095 gcX6 hb0 ⟨rfl, rfl⟩ rfl ⟨Nat.le_of_ble_eq_true rfl, Nat.le_of_ble_eq_true rfl⟩ rfl dX1_byBasis_149 (fun r42 M41 hr => ?_)
              obtain ⟨hr, wk', hwk', hw3', rfl⟩ := hr
              rw [hr]
              have ew : wk = wk' := nI_inj (by omega) (by omega) (hwk.symm.trans hwk'); subst ew
              refine x_aload_n C dX1_byBasis_152 rfl rfl ?_
              refine x_get C gcX1 hx 4 rfl q1256 rfl dX1_byBasis_153 ?_
              refine x_getN C gcX5 ht0 6 rfl q410 rfl dX1_byBasis_156 ?_
              refine x_iconst C dX1_byBasis_159 kc_4 ?_
              refine x_idiv C dX1_byBasis_160 (by decide) ?_
              refine x_V4I C (met_X7_back l C.1 (hBC.2.2.2.2.2.1 k_t k_q (by omega) (by omega)) (hWY wk (by omega)) (hq.z (by omega) (by omega)) (pProv_fBg hw hq hh hrb (Or.inr rfl) (by omega) (by omega))) mi_X7_back q2148 gcX7 (hBC.2.2.2.2.2.1 k_t k_q (by omega) (by omega)).1 ⟨rfl, rfl⟩ rfl ⟨Nat.le_of_ble_eq_true rfl, Nat.le_of_ble_eq_true rfl⟩ rfl dX1_byBasis_161 (fun r44 M43 hr => ?_)
              obtain ⟨hr, rfl⟩ := hr
              rw [hr]
              exact x_iret C dX1_byBasis_164 ⟨Nat.le_of_ble_eq_true rfl, Nat.le_of_ble_eq_true rfl⟩ ⟨rfl, by unfold qBB; rw [if_pos p2, if_pos (show iI (nI k_q) (nI 0) (nI (pNow B) - nI 1) by rw [show pNow B = n by unfold pNow; rw [hn, dN_nI (by omega)]]; exact qn1.mp p21), if_pos (u1.mp p31), dN_nI (by omega), dN_nI (by omega)]; unfold pBk; rw [hwk]⟩
            · -- 89
              refine x_aload_n C dX1_byBasis_89 rfl rfl ?_
              refine x_get C gcX1 hx 5 rfl q1257 rfl dX1_byBasis_90 ?_
              refine x_getN C gcX6 hb0 3 rfl q519 rfl dX1_byBasis_93 ?_
              refine x_iload_n C dX1_byBasis_96 rfl rfl ?_
              refine y_aaldR (ty := .array .int) (i := k_t) (b := ba (50 + k_t)) C 6 rfl rfl (hBC.2.2.1 2 (by omega)) rfl (by omega) rfl rfl dX1_byBasis_97 ?_
              refine x_iload_n C dX1_byBasis_98 rfl rfl ?_
              refine x_iconst C dX1_byBasis_99 kc_4 ?_
              refine x_idivN C (by omega) (by omega) (by omega) dX1_byBasis_100 ?_
              refine x_iconst C dX1_byBasis_101 kc_1 ?_
              refine x_isubN C (by omega) dX1_byBasis_102 ?_
              refine y_iald (i := (k_q / 4) - 1) C (hBC.r2 (t := k_t) (by omega)) rfl (by omega) rfl dX1_byBasis_103 ?_
              refine x_istore C dX1_byBasis_104 (gs1_6 rfl) rfl ?_
              refine x_goto (tgt := 134) C dX1_byBasis_106 rfl ?_
              have ef : (bf B D 2 k_t) ((k_q / 4) - 1) = pProv A B k_t k_q (nI 1) := by unfold pProv; rw [if_neg (by decide), if_neg (by omega), if_pos (show nI 1 = nI 1 from rfl), show 1801 + 16 * k_t + k_q / 4 - 1 = 1801 + 16 * k_t + (k_q / 4 - 1) by omega]; rfl
              rw [ef]
              refine x_aload C dX1_byBasis_134 rfl ?_
              refine x_iload C dX1_byBasis_136 rfl ?_
              refine x_aload_n C dX1_byBasis_138 rfl rfl ?_
              refine x_get C gcX1 hx 4 rfl q1256 rfl dX1_byBasis_139 ?_
              refine x_getN C gcX5 ht0 5 rfl q406 rfl dX1_byBasis_142 ?_
              refine x_aload_n C dX1_byBasis_145 rfl rfl ?_
              refine x_get C gcX1 hx 5 rfl q1257 rfl dX1_byBasis_146 ?_
              refine x_V0R C (met_X6_way l C.1 hBC hX hT hr4 hrx hrt hw hn hn6) mi_X6_way q2095 gcX6 hb0 ⟨rfl, rfl⟩ rfl ⟨Nat.le_of_ble_eq_true rfl, Nat.le_of_ble_eq_true rfl⟩ rfl dX1_byBasis_149 (fun r46 M45 hr => ?_)
              obtain ⟨hr, wk', hwk', hw3', rfl⟩ := hr
              rw [hr]
              have ew : wk = wk' := nI_inj (by omega) (by omega) (hwk.symm.trans hwk'); subst ew
              refine x_aload_n C dX1_byBasis_152 rfl rfl ?_
              refine x_get C gcX1 hx 4 rfl q1256 rfl dX1_byBasis_153 ?_
              refine x_getN C gcX5 ht0 6 rfl q410 rfl dX1_byBasis_156 ?_
              refine x_iconst C dX1_byBasis_159 kc_4 ?_
              refine x_idiv C dX1_byBasis_160 (by decide) ?_
              refine x_V4I C (met_X7_back l C.1 (hBC.2.2.2.2.2.1 k_t k_q (by omega) (by omega)) (hWY wk (by omega)) (hq.z (by omega) (by omega)) (pProv_fBg hw hq hh hrb (Or.inr rfl) (by omega) (by omega))) mi_X7_back q2148 gcX7 (hBC.2.2.2.2.2.1 k_t k_q (by omega) (by omega)).1 ⟨rfl, rfl⟩ rfl ⟨Nat.le_of_ble_eq_true rfl, Nat.le_of_ble_eq_true rfl⟩ rfl dX1_byBasis_161 (fun r48 M47 hr => ?_)
              obtain ⟨hr, rfl⟩ := hr
              rw [hr]
              exact x_iret C dX1_byBasis_164 ⟨Nat.le_of_ble_eq_true rfl, Nat.le_of_ble_eq_true rfl⟩ ⟨rfl, by unfold qBB; rw [if_pos p2, if_pos (show iI (nI k_q) (nI 0) (nI (pNow B) - nI 1) by rw [show pNow B = n by unfold pNow; rw [hn, dN_nI (by omega)]]; exact qn1.mp p21), if_pos (u1.mp p31), dN_nI (by omega), dN_nI (by omega)]; unfold pBk; rw [hwk]⟩
      · -- no
        rw [hr]
        refine x_if_neF (tgt := 41) C (by decide) dX1_byBasis_34 rfl ?_
        refine x_ldcw C dX1_byBasis_37 q2080 ?_
        exact x_iret C dX1_byBasis_40 ⟨Nat.le_of_ble_eq_true rfl, Nat.le_of_ble_eq_true rfl⟩ ⟨rfl, by unfold qBB; rw [if_pos p2, if_pos (show iI (nI k_q) (nI 0) (nI (pNow B) - nI 1) by rw [show pNow B = n by unfold pNow; rw [hn, dN_nI (by omega)]]; exact qn1.mp p21), if_neg (fun q => p31 (u1.mpr q))]⟩
    · -- 21 0
      rw [hr]
      refine x_if_eqT (tgt := 37) C (by decide) dX1_byBasis_24 rfl ?_
      refine x_ldcw C dX1_byBasis_37 q2080 ?_
      exact x_iret C dX1_byBasis_40 ⟨Nat.le_of_ble_eq_true rfl, Nat.le_of_ble_eq_true rfl⟩ ⟨rfl, by unfold qBB; rw [if_pos p2, if_neg (fun q => p21 (qn1.mpr (by rw [show pNow B = n by unfold pNow; rw [hn, dN_nI (by omega)]] at q; exact q)))]⟩
  · -- 2 0
    rw [hr]
    refine x_if_eqT (tgt := 37) C (by decide) dX1_byBasis_5 rfl ?_
    refine x_ldcw C dX1_byBasis_37 q2080 ?_
    exact x_iret C dX1_byBasis_40 ⟨Nat.le_of_ble_eq_true rfl, Nat.le_of_ble_eq_true rfl⟩ ⟨rfl, by unfold qBB; rw [if_neg p2]⟩
