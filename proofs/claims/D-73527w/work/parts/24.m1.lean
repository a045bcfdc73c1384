set_option maxRecDepth 100000
theorem pZero_0 (B : Nat → Int32) (a : Nat) : pZero B a 0 = B := by funext j; unfold pZero; rw [if_neg (by omega)]
theorem pZero_s (B : Nat → Int32) (a i : Nat) : upd (pZero B a i) (2084 + 48 * a + i) (nI 0) = pZero B a (i + 1) := by
  funext j
  unfold upd pZero
  by_cases h : j = 2084 + 48 * a + i
  · rw [if_pos h, if_pos (by omega)]; rfl
  · rw [if_neg h]
    by_cases h2 : 2084 + 48 * a ≤ j ∧ j < 2084 + 48 * a + i
    · rw [if_pos h2, if_pos (by omega)]
    · rw [if_neg h2, if_neg (by omega)]
theorem acq_z {B : Nat → Int32} {na t u w : Nat} {tax span : Int32} (hn : B 0 = nI w) : upd (upd (upd (upd (upd (pZero B na 48) (2084 + 48 * na + 0) (nI t)) (2084 + 48 * na + 1) (nI t)) (2084 + 48 * na + 2) (nI u)) (2084 + 48 * na + 3) tax) (2084 + 48 * na + 4) span 0 = nI w := by
  rw [pk_un (by omega), pk_un (by omega), pk_un (by omega), pk_un (by omega), pk_un (by omega)]
  unfold pZero
  rw [if_neg (by omega), hn]
theorem acq_y {B : Nat → Int32} {na t u w : Nat} {tax span : Int32} {v : Int32} (hn : B 0 = nI w) : upd (upd (upd (upd (upd (upd (pZero B na 48) (2084 + 48 * na + 0) (nI t)) (2084 + 48 * na + 1) (nI t)) (2084 + 48 * na + 2) (nI u)) (2084 + 48 * na + 3) tax) (2084 + 48 * na + 4) span) (2084 + 48 * na + 5) v 0 = nI w := by
  rw [pk_un (by omega)]
  exact acq_z hn
theorem pAcq_eq {B : Nat → Int32} {na t u w : Nat} {tax span : Int32} (hna : B 1865 = nI na) (hn : B 0 = nI w) (h8 : na < 8) (hw : w < 64) : pAcq B t u tax span = upd (pAdd (upd (upd (upd (upd (upd (upd (pZero B na 48) (2084 + 48 * na + 0) (nI t)) (2084 + 48 * na + 1) (nI t)) (2084 + 48 * na + 2) (nI u)) (2084 + 48 * na + 3) tax) (2084 + 48 * na + 4) span) (2084 + 48 * na + 5) (nI w)) (1 + 320 * t + 5 * w + (2 + u)) tax) 1865 (nI (na + 1)) := by
  have e1 : dN (B 1865) = na := by rw [hna]; exact dN_nI (by omega)
  have e2 : pNow B = w := by unfold pNow; rw [hn]; exact dN_nI (by omega)
  unfold pAcq pAcq1
  rw [e1, e2, hn]
theorem mi_X9_thrown : gMV RX9 yX9_thrown cX9_thrown 1 (some .int) 0 := ⟨q2498, q2499, q165, q2500, by decide +kernel⟩
set_option maxHeartbeats 4000000 in
set_option maxRecDepth 100000 in
theorem met_X9_thrown (l : Launch) {G : gG} (hG : gOK G) {ad : Nat → Nat} {σ : mS} {M0 : gM} (h : MR G ad σ M0) : Met l yX9_thrown (ws_ yX9_thrown cX9_thrown 1 (some .int)) ({ frames := 0, cells := 0, slots := 0, locals := 0 }) (gPre G M0 [.ref (ad 0)]) (gQ G (gI (fun r M1 => M0 = M1 ∧ mI σ 2 = r))) 0 0 (gA G) := by
  refine gMet (L0 := [some (.ref (ad 0))]) RX9 hG (by decide +kernel) rfl (Nat.le_of_ble_eq_true rfl) rfl ?_
  intro p e s m args below meth c C hnm
  have h := MF.rf h
  refine x_aload_n C dX9_thrown_0 rfl rfl ?_
  refine m_get C h 2 rfl q2411 rfl dX9_thrown_1 ?_
  exact x_iret C dX9_thrown_4 ⟨Nat.le_refl _, Nat.le_refl _⟩ ⟨rfl, rfl⟩
theorem mi_X9_isIn : gMS yX9_isIn cX9_isIn 3 (some .boolean) 3 := ⟨q2551, q165, q2552, by decide +kernel⟩
set_option maxHeartbeats 4000000 in
set_option maxRecDepth 100000 in
theorem met_X9_isIn (l : Launch) {G : gG} (hG : gOK G) {M0 : gM} {a lo hi : Int32} : Met l yX9_isIn (ws_ yX9_isIn cX9_isIn 3 (some .boolean)) ({ frames := 0, cells := 0, slots := 0, locals := 0 }) (gPre G M0 [.int (a), .int (lo), .int (hi)]) (gQ G (gI (fun r M1 => (M0 = M1 ∧ nI 1 = r ∧ (lo ≤ a ∧ a ≤ hi)) ∨ (M0 = M1 ∧ nI 0 = r ∧ ¬ (lo ≤ a ∧ a ≤ hi))))) 0 0 (gA G) := by
  refine gMet (L0 := [some (.int (a)), some (.int (lo)), some (.int (hi))]) RX9 hG (by decide +kernel) rfl (Nat.le_of_ble_eq_true rfl) rfl ?_
  intro p e s m args below meth c C hnm
  refine x_iload_n C dX9_isIn_0 rfl rfl ?_
  refine x_iload_n C dX9_isIn_1 rfl rfl ?_
  refine x_icmp_lt (tgt := 14) C dX9_isIn_2 rfl (fun c2 => ?_) (fun c2 => ?_)
  · -- 14
    refine x_iconst C dX9_isIn_14 kc_0 ?_
    exact x_zret C (by decide +kernel) dX9_isIn_15 ⟨Nat.le_refl _, Nat.le_refl _⟩ (Or.inr ⟨rfl, rfl, (by simp only [Int32.le_iff_toInt_le, Int32.lt_iff_toInt_lt] at *; omega)⟩)
  · -- 5
    refine x_iload_n C dX9_isIn_5 rfl rfl ?_
    refine x_iload_n C dX9_isIn_6 rfl rfl ?_
    refine x_icmp_gt (tgt := 14) C dX9_isIn_7 rfl (fun c7 => ?_) (fun c7 => ?_)
    · -- 14
      refine x_iconst C dX9_isIn_14 kc_0 ?_
      exact x_zret C (by decide +kernel) dX9_isIn_15 ⟨Nat.le_refl _, Nat.le_refl _⟩ (Or.inr ⟨rfl, rfl, (by simp only [Int32.le_iff_toInt_le, Int32.lt_iff_toInt_lt] at *; omega)⟩)
    · -- 10
      refine x_iconst C dX9_isIn_10 kc_1 ?_
      refine x_goto (tgt := 15) C dX9_isIn_11 rfl ?_
      exact x_zret C (by decide +kernel) dX9_isIn_15 ⟨Nat.le_refl _, Nat.le_refl _⟩ (Or.inl ⟨rfl, rfl, (by simp only [Int32.le_iff_toInt_le, Int32.lt_iff_toInt_lt] at *; omega)⟩)
theorem mi_X9_of : gMV RX9 yX9_of cX9_of 2 (some .int) 1 := ⟨q2391, qs58, q165, q2392, by decide +kernel⟩
set_option maxHeartbeats 4000000 in
set_option maxRecDepth 100000 in
theorem met_X9_of (l : Launch) {G : gG} (hG : gOK G) {ad : Nat → Nat} {σ : mS} {M0 : gM} {b : Nat} {B : Nat → Int32} {i : Nat} (h : MR G ad (sb σ b B) M0) (hb : mI σ 21 = nI b) (hb0_ : b < 23) (hb1_ : i < 2468) : Met l yX9_of (ws_ yX9_of cX9_of 2 (some .int)) ({ frames := 0, cells := 0, slots := 0, locals := 0 }) (gPre G M0 [.ref (ad 0), .int (nI i)]) (gQ G (gI (fun r M1 => M0 = M1 ∧ B i = r))) 0 0 (gA G) := by
  refine gMet (L0 := [some (.ref (ad 0)), some (.int (nI i))]) RX9 hG (by decide +kernel) rfl (Nat.le_of_ble_eq_true rfl) rfl ?_
  intro p e s m args below meth c C hnm
  have h := MF.rf h
  refine x_aload_n C dX9_of_0 rfl rfl ?_
  refine m_get C h 20 rfl q2429 rfl dX9_of_1 ?_
  refine x_sipush C dX9_of_4 ks_2468 ?_
  refine x_aload_n C dX9_of_7 rfl rfl ?_
  refine m_get C h 21 (v := .int (nI b)) rfl q2430 (m_v rfl hb) dX9_of_8 ?_
  refine x_imulN C dX9_of_11 ?_
  refine x_iload_n C dX9_of_12 rfl rfl ?_
  refine x_iaddN C dX9_of_13 ?_
  refine m_kld C h b i rfl (by omega) (by omega) dX9_of_14 ?_
  exact x_iret C dX9_of_15 ⟨Nat.le_refl _, Nat.le_refl _⟩ ⟨rfl, by rw [mK_sb]⟩
theorem mi_X9_lay : gMV RX9 yX9_lay cX9_lay 3 none 2 := ⟨q2379, qs55, q165, q2380, by decide +kernel⟩
set_option maxHeartbeats 4000000 in
set_option maxRecDepth 100000 in
theorem met_X9_lay (l : Launch) {G : gG} (hG : gOK G) {ad : Nat → Nat} {σ : mS} {M0 : gM} {b : Nat} {B : Nat → Int32} {i : Nat} {v : Int32} (h : MR G ad (sb σ b B) M0) (hb : mI σ 21 = nI b) (hb0_ : b < 23) (hb1_ : i < 2468) : Met l yX9_lay (ws_ yX9_lay cX9_lay 3 none) ({ frames := 0, cells := 0, slots := 0, locals := 0 }) (gPre G M0 [.ref (ad 0), .int (nI i), .int (v)]) (gQ G (gV (fun M1 => MF G ad M0 (sb σ b (upd B i v)) M1))) 0 0 (gA G) := by
  refine gMet (L0 := [some (.ref (ad 0)), some (.int (nI i)), some (.int (v))]) RX9 hG (by decide +kernel) rfl (Nat.le_of_ble_eq_true rfl) rfl ?_
  intro p e s m args below meth c C hnm
  have h := MF.rf h
  refine x_aload_n C dX9_lay_0 rfl rfl ?_
  refine m_get C h 20 rfl q2429 rfl dX9_lay_1 ?_
  refine x_sipush C dX9_lay_4 ks_2468 ?_
  refine x_aload_n C dX9_lay_7 rfl rfl ?_
  refine m_get C h 21 (v := .int (nI b)) rfl q2430 (m_v rfl hb) dX9_lay_8 ?_
  refine x_imulN C dX9_lay_11 ?_
  refine x_iload_n C dX9_lay_12 rfl rfl ?_
  refine x_iaddN C dX9_lay_13 ?_
  refine x_iload_n C dX9_lay_14 rfl rfl ?_
  refine m_kst C h b i rfl (by omega) (by omega) dX9_lay_15 (fun M h => ?_)
  exact x_vret C dX9_lay_16 ⟨Nat.le_refl _, Nat.le_refl _⟩ (by rw [sk_sb] at h; exact h)
theorem mi_X9_add : gMV RX9 yX9_add cX9_add 3 none 2 := ⟨q2399, qs60, q165, q2400, by decide +kernel⟩
set_option maxHeartbeats 4000000 in
set_option maxRecDepth 100000 in
theorem met_X9_add (l : Launch) {G : gG} (hG : gOK G) {ad : Nat → Nat} {σ : mS} {M0 : gM} {b : Nat} {B : Nat → Int32} {i : Nat} {v : Int32} (h : MR G ad (sb σ b B) M0) (hb : mI σ 21 = nI b) (hb0_ : b < 23) (hb1_ : i < 2468) : Met l yX9_add (ws_ yX9_add cX9_add 3 none) ({ frames := 1, cells := 0, slots := 0, locals := 22 }) (gPre G M0 [.ref (ad 0), .int (nI i), .int (v)]) (gQ G (gV (fun M1 => MF G ad M0 (sb σ b (pAdd B i v)) M1))) 0 0 (gA G) := by
  refine gMet (L0 := [some (.ref (ad 0)), some (.int (nI i)), some (.int (v))]) RX9 hG (by decide +kernel) rfl (Nat.le_of_ble_eq_true rfl) rfl ?_
  intro p e s m args below meth c C hnm
  have h := MF.rf h
  refine x_aload_n C dX9_add_0 rfl rfl ?_
  refine x_iload_n C dX9_add_1 rfl rfl ?_
  refine x_aload_n C dX9_add_2 rfl rfl ?_
  refine x_iload_n C dX9_add_3 rfl rfl ?_
  refine x_V1I C (met_X9_of l C.1 h.1 hb (by omega) (by omega)) mi_X9_of q2389 gcX9 h.1.1 ⟨rfl, rfl⟩ rfl ⟨Nat.le_refl _, Nat.le_refl _⟩ rfl dX9_add_4 (fun r M1 hr => ?_)
  obtain ⟨rfl, rfl⟩ := hr
  refine x_iload_n C dX9_add_7 rfl rfl ?_
  refine x_iadd C dX9_add_8 ?_
  refine x_V2V C (met_X9_lay l C.1 h.1 hb (by omega) (by omega)) mi_X9_lay q2377 gcX9 h.1.1 ⟨rfl, rfl⟩ rfl ⟨Nat.le_refl _, Nat.le_refl _⟩ rfl dX9_add_9 (fun M1 hr => ?_)
  have h := h.tr hr
  exact x_vret C dX9_add_12 ⟨Nat.le_refl _, Nat.le_refl _⟩ h
theorem mi_X9_at : gMV RX9 yX9_at cX9_at 3 (some .int) 2 := ⟨q2655, qs87, q165, q2656, by decide +kernel⟩
set_option maxHeartbeats 4000000 in
set_option maxRecDepth 100000 in
theorem met_X9_at (l : Launch) {G : gG} (hG : gOK G) {ad : Nat → Nat} {σ : mS} {M0 : gM} {b : Nat} {B : Nat → Int32} {a i : Nat} (h : MR G ad (sb σ b B) M0) (hb : mI σ 21 = nI b) (hb0_ : b < 23) (hb1_ : a < 8) (hb2_ : i < 48) : Met l yX9_at (ws_ yX9_at cX9_at 3 (some .int)) ({ frames := 1, cells := 0, slots := 0, locals := 21 }) (gPre G M0 [.ref (ad 0), .int (nI a), .int (nI i)]) (gQ G (gI (fun r M1 => M0 = M1 ∧ B (2084 + 48 * a + i) = r))) 0 0 (gA G) := by
  refine gMet (L0 := [some (.ref (ad 0)), some (.int (nI a)), some (.int (nI i))]) RX9 hG (by decide +kernel) rfl (Nat.le_of_ble_eq_true rfl) rfl ?_
  intro p e s m args below meth c C hnm
  have h := MF.rf h
  refine x_aload_n C dX9_at_0 rfl rfl ?_
  refine x_sipush C dX9_at_1 ks_2084 ?_
  refine x_bipush C dX9_at_4 kb_48 ?_
  refine x_iload_n C dX9_at_6 rfl rfl ?_
  refine x_imulN C dX9_at_7 ?_
  refine x_iaddN C dX9_at_8 ?_
  refine x_iload_n C dX9_at_9 rfl rfl ?_
  refine x_iaddN C dX9_at_10 ?_
  refine x_V1I C (met_X9_of l C.1 h.1 hb (by omega) (by omega)) mi_X9_of q2389 gcX9 h.1.1 ⟨rfl, rfl⟩ rfl ⟨Nat.le_refl _, Nat.le_refl _⟩ rfl dX9_at_11 (fun r M1 hr => ?_)
  obtain ⟨rfl, rfl⟩ := hr
  exact x_iret C dX9_at_14 ⟨Nat.le_refl _, Nat.le_refl _⟩ ⟨rfl, rfl⟩
theorem mi_X9_put : gMV RX9 yX9_put cX9_put 4 none 3 := ⟨q2407, qs62, q165, q2408, by decide +kernel⟩
set_option maxHeartbeats 4000000 in
set_option maxRecDepth 100000 in
theorem met_X9_put (l : Launch) {G : gG} (hG : gOK G) {ad : Nat → Nat} {σ : mS} {M0 : gM} {b : Nat} {B : Nat → Int32} {a i : Nat} {v : Int32} (h : MR G ad (sb σ b B) M0) (hb : mI σ 21 = nI b) (hb0_ : b < 23) (hb1_ : a < 8) (hb2_ : i < 48) : Met l yX9_put (ws_ yX9_put cX9_put 4 none) ({ frames := 1, cells := 0, slots := 0, locals := 22 }) (gPre G M0 [.ref (ad 0), .int (nI a), .int (nI i), .int (v)]) (gQ G (gV (fun M1 => MF G ad M0 (sb σ b (upd B (2084 + 48 * a + i) v)) M1))) 0 0 (gA G) := by
  refine gMet (L0 := [some (.ref (ad 0)), some (.int (nI a)), some (.int (nI i)), some (.int (v))]) RX9 hG (by decide +kernel) rfl (Nat.le_of_ble_eq_true rfl) rfl ?_
  intro p e s m args below meth c C hnm
  have h := MF.rf h
  refine x_aload_n C dX9_put_0 rfl rfl ?_
  refine x_sipush C dX9_put_1 ks_2084 ?_
  refine x_bipush C dX9_put_4 kb_48 ?_
  refine x_iload_n C dX9_put_6 rfl rfl ?_
  refine x_imulN C dX9_put_7 ?_
  refine x_iaddN C dX9_put_8 ?_
  refine x_iload_n C dX9_put_9 rfl rfl ?_
  refine x_iaddN C dX9_put_10 ?_
  refine x_iload_n C dX9_put_11 rfl rfl ?_
  refine x_V2V C (met_X9_lay l C.1 h.1 hb (by omega) (by omega)) mi_X9_lay q2377 gcX9 h.1.1 ⟨rfl, rfl⟩ rfl ⟨Nat.le_refl _, Nat.le_refl _⟩ rfl dX9_put_12 (fun M1 hr => ?_)
  have h := h.tr hr
  exact x_vret C dX9_put_15 ⟨Nat.le_refl _, Nat.le_refl _⟩ h
theorem mi_X9_sumAt : gMV RX9 yX9_sumAt cX9_sumAt 4 (some .int) 3 := ⟨q2395, qs59, q165, q2396, by decide +kernel⟩
set_option maxHeartbeats 4000000 in
set_option maxRecDepth 100000 in
theorem met_X9_sumAt (l : Launch) {G : gG} (hG : gOK G) {ad : Nat → Nat} {σ : mS} {M0 : gM} {t q u : Nat} (h : MR G ad σ M0) : Met l yX9_sumAt (ws_ yX9_sumAt cX9_sumAt 4 (some .int)) ({ frames := 0, cells := 0, slots := 0, locals := 0 }) (gPre G M0 [.ref (ad 0), .int (nI t), .int (nI q), .int (nI u)]) (gQ G (gI (fun r M1 => M0 = M1 ∧ nI (1 + 320 * t + 5 * q + u) = r))) 0 0 (gA G) := by
  refine gMet (L0 := [some (.ref (ad 0)), some (.int (nI t)), some (.int (nI q)), some (.int (nI u))]) RX9 hG (by decide +kernel) rfl (Nat.le_of_ble_eq_true rfl) rfl ?_
  intro p e s m args below meth c C hnm
  have h := MF.rf h
  refine x_iconst C dX9_sumAt_0 kc_1 ?_
  refine x_sipush C dX9_sumAt_1 ks_320 ?_
  refine x_iload_n C dX9_sumAt_4 rfl rfl ?_
  refine x_imulN C dX9_sumAt_5 ?_
  refine x_iaddN C dX9_sumAt_6 ?_
  refine x_iconst C dX9_sumAt_7 kc_5 ?_
  refine x_iload_n C dX9_sumAt_8 rfl rfl ?_
  refine x_imulN C dX9_sumAt_9 ?_
  refine x_iaddN C dX9_sumAt_10 ?_
  refine x_iload_n C dX9_sumAt_11 rfl rfl ?_
  refine x_iaddN C dX9_sumAt_12 ?_
  exact x_iret C dX9_sumAt_13 ⟨Nat.le_refl _, Nat.le_refl _⟩ ⟨rfl, rfl⟩
theorem mi_X9_year : gMV RX9 yX9_year cX9_year 1 (some .int) 0 := ⟨q2631, qs84, q165, q2632, by decide +kernel⟩
set_option maxHeartbeats 4000000 in
set_option maxRecDepth 100000 in
theorem met_X9_year (l : Launch) {G : gG} (hG : gOK G) {ad : Nat → Nat} {σ : mS} {M0 : gM} {b : Nat} {B : Nat → Int32} {w : Nat} (h : MR G ad (sb σ b B) M0) (hb : mI σ 21 = nI b) (hn : B 0 = nI w) (hb0_ : b < 23) (hb1_ : w < 64) : Met l yX9_year (ws_ yX9_year cX9_year 1 (some .int)) ({ frames := 1, cells := 0, slots := 0, locals := 21 }) (gPre G M0 [.ref (ad 0)]) (gQ G (gI (fun r M1 => M0 = M1 ∧ nI (w / 4) = r))) 0 0 (gA G) := by
  refine gMet (L0 := [some (.ref (ad 0))]) RX9 hG (by decide +kernel) rfl (Nat.le_of_ble_eq_true rfl) rfl ?_
  intro p e s m args below meth c C hnm
  have h := MF.rf h
  refine x_aload_n C dX9_year_0 rfl rfl ?_
  refine x_iconst C dX9_year_1 kc_0 ?_
  refine x_V1I C (met_X9_of l C.1 h.1 hb (by omega) (by omega)) mi_X9_of q2389 gcX9 h.1.1 ⟨rfl, rfl⟩ rfl ⟨Nat.le_refl _, Nat.le_refl _⟩ rfl dX9_year_2 (fun r M1 hr => ?_)
  obtain ⟨rfl, hr⟩ := hr
  have hr := hr.symm.trans (show _ = nI w from hn)
  subst hr
  refine x_iconst C dX9_year_5 kc_4 ?_
  refine x_idivN C (by omega) (by omega) (by omega) dX9_year_6 ?_
  exact x_iret C dX9_year_7 ⟨Nat.le_refl _, Nat.le_refl _⟩ ⟨rfl, rfl⟩
theorem mi_X9_acquires : gMV RX9 yX9_acquires cX9_acquires 7 (some .int) 4 := ⟨q2403, qs61, q165, q2404, by decide +kernel⟩
set_option maxHeartbeats 4000000 in
set_option maxRecDepth 100000 in
theorem met_X9_acquires (l : Launch) {G : gG} (hG : gOK G) {ad : Nat → Nat} {σ : mS} {M0 : gM} {b : Nat} {B : Nat → Int32} {t u na w : Nat} {tax span : Int32} (h : MR G ad (sb σ b B) M0) (hb : mI σ 21 = nI b) (hna : B 1865 = nI na) (hn : B 0 = nI w) (hb0_ : b < 23) (hb1_ : na < 8) (hb2_ : w < 64) (hb3_ : t < 4) (hb4_ : u < 3) : Met l yX9_acquires (ws_ yX9_acquires cX9_acquires 7 (some .int)) ({ frames := 2, cells := 0, slots := 0, locals := 45 }) (gPre G M0 [.ref (ad 0), .int (nI t), .int (nI u), .int (tax), .int (span)]) (gQ G (gI (fun r M1 => nI na = r ∧ MF G ad M0 (sb σ b (pAcq B t u tax span)) M1))) 0 0 (gA G) := by
  refine gMet (L0 := [some (.ref (ad 0)), some (.int (nI t)), some (.int (nI u)), some (.int (tax)), some (.int (span)), none, none]) RX9 hG (by decide +kernel) rfl (Nat.le_of_ble_eq_true rfl) rfl ?_
  intro p e s m args below meth c C hnm
  have h := MF.rf h
  refine x_aload_n C dX9_acquires_0 rfl rfl ?_
  refine x_sipush C dX9_acquires_1 ks_1865 ?_
  refine x_V1I C (met_X9_of l C.1 h.1 hb (by omega) (by omega)) mi_X9_of q2389 gcX9 h.1.1 ⟨rfl, rfl⟩ rfl ⟨Nat.le_refl _, Nat.le_refl _⟩ rfl dX9_acquires_4 (fun r M1 hr => ?_)
  obtain ⟨rfl, hr⟩ := hr
  have hr := hr.symm.trans (show _ = nI na from hna)
  subst hr
  refine x_istore C dX9_acquires_7 (gs1_5 rfl) rfl ?_
  refine x_iconst C dX9_acquires_9 kc_0 ?_
  refine x_istore C dX9_acquires_10 (gs1_6 rfl) rfl ?_
  refine x_loop (head := 12) (E := 48) (fun i M => MF G ad M0 (sb σ b (pZero B na i)) M) (fun i => [some (.ref (ad 0)), some (.int (nI t)), some (.int (nI u)), some (.int tax), some (.int span), some (.int (nI na)), some (.int (nI i))]) (by rw [pZero_0]; exact h) (fun i M hi h ih => ?_)
  refine x_iload C dX9_acquires_12 rfl ?_
  refine x_bipush C dX9_acquires_14 kb_48 ?_
  refine x_icmp_geN (tgt := 34) C (by omega) (by omega) dX9_acquires_16 rfl (fun c16 => ?_) (fun c16 => ?_)
  · -- 34
    obtain rfl : i = 48 := by omega
    refine x_aload_n C dX9_acquires_34 rfl rfl ?_
    refine x_iload C dX9_acquires_35 rfl ?_
    refine x_iconst C dX9_acquires_37 kc_0 ?_
    refine x_iload_n C dX9_acquires_38 rfl rfl ?_
    refine x_V3V C (met_X9_put l C.1 h.1 hb (by omega) (by omega) (by omega)) mi_X9_put q2405 gcX9 h.1.1 ⟨rfl, rfl⟩ rfl ⟨Nat.le_refl _, Nat.le_refl _⟩ rfl dX9_acquires_39 (fun M1 hr => ?_)
    have h := h.tr hr
    refine x_aload_n C dX9_acquires_42 rfl rfl ?_
    refine x_iload C dX9_acquires_43 rfl ?_
    refine x_iconst C dX9_acquires_45 kc_1 ?_
    refine x_iload_n C dX9_acquires_46 rfl rfl ?_
    refine x_V3V C (met_X9_put l C.1 h.1 hb (by omega) (by omega) (by omega)) mi_X9_put q2405 gcX9 h.1.1 ⟨rfl, rfl⟩ rfl ⟨Nat.le_refl _, Nat.le_refl _⟩ rfl dX9_acquires_47 (fun M1 hr => ?_)
    have h := h.tr hr
    refine x_aload_n C dX9_acquires_50 rfl rfl ?_
    refine x_iload C dX9_acquires_51 rfl ?_
    refine x_iconst C dX9_acquires_53 kc_2 ?_
    refine x_iload_n C dX9_acquires_54 rfl rfl ?_
    refine x_V3V C (met_X9_put l C.1 h.1 hb (by omega) (by omega) (by omega)) mi_X9_put q2405 gcX9 h.1.1 ⟨rfl, rfl⟩ rfl ⟨Nat.le_refl _, Nat.le_refl _⟩ rfl dX9_acquires_55 (fun M1 hr => ?_)
    have h := h.tr hr
    refine x_aload_n C dX9_acquires_58 rfl rfl ?_
    refine x_iload C dX9_acquires_59 rfl ?_
    refine x_iconst C dX9_acquires_61 kc_3 ?_
    refine x_iload_n C dX9_acquires_62 rfl rfl ?_
    refine x_V3V C (met_X9_put l C.1 h.1 hb (by omega) (by omega) (by omega)) mi_X9_put q2405 gcX9 h.1.1 ⟨rfl, rfl⟩ rfl ⟨Nat.le_refl _, Nat.le_refl _⟩ rfl dX9_acquires_63 (fun M1 hr => ?_)
    have h := h.tr hr
    refine x_aload_n C dX9_acquires_66 rfl rfl ?_
    refine x_iload C dX9_acquires_67 rfl ?_
    refine x_iconst C dX9_acquires_69 kc_4 ?_
    refine x_iload C dX9_acquires_70 rfl ?_
    refine x_V3V C (met_X9_put l C.1 h.1 hb (by omega) (by omega) (by omega)) mi_X9_put q2405 gcX9 h.1.1 ⟨rfl, rfl⟩ rfl ⟨Nat.le_refl _, Nat.le_refl _⟩ rfl dX9_acquires_72 (fun M1 hr => ?_)
    have h := h.tr hr
    refine x_aload_n C dX9_acquires_75 rfl rfl ?_
    refine x_iload C dX9_acquires_76 rfl ?_
    refine x_iconst C dX9_acquires_78 kc_5 ?_
    refine x_aload_n C dX9_acquires_79 rfl rfl ?_
    refine x_iconst C dX9_acquires_80 kc_0 ?_
    refine x_V1I C (met_X9_of l C.1 h.1 hb (by omega) (by omega)) mi_X9_of q2389 gcX9 h.1.1 ⟨rfl, rfl⟩ rfl ⟨Nat.le_refl _, Nat.le_refl _⟩ rfl dX9_acquires_81 (fun r M1 hr => ?_)
    obtain ⟨rfl, hr⟩ := hr
    have hr := hr.symm.trans (show _ = nI w from (acq_z hn))
    subst hr
    refine x_V3V C (met_X9_put l C.1 h.1 hb (by omega) (by omega) (by omega)) mi_X9_put q2405 gcX9 h.1.1 ⟨rfl, rfl⟩ rfl ⟨Nat.le_refl _, Nat.le_refl _⟩ rfl dX9_acquires_84 (fun M1 hr => ?_)
    have h := h.tr hr
    refine x_aload_n C dX9_acquires_87 rfl rfl ?_
    refine x_aload_n C dX9_acquires_88 rfl rfl ?_
    refine x_iload_n C dX9_acquires_89 rfl rfl ?_
    refine x_aload_n C dX9_acquires_90 rfl rfl ?_
    refine x_iconst C dX9_acquires_91 kc_0 ?_
    refine x_V1I C (met_X9_of l C.1 h.1 hb (by omega) (by omega)) mi_X9_of q2389 gcX9 h.1.1 ⟨rfl, rfl⟩ rfl ⟨Nat.le_refl _, Nat.le_refl _⟩ rfl dX9_acquires_92 (fun r M1 hr => ?_)
    obtain ⟨rfl, hr⟩ := hr
    have hr := hr.symm.trans (show _ = nI w from (acq_y hn))
    subst hr
    refine x_iconst C dX9_acquires_95 kc_2 ?_
    refine x_iload_n C dX9_acquires_96 rfl rfl ?_
    refine x_iaddN C dX9_acquires_97 ?_
    refine x_V3I C (met_X9_sumAt l C.1 h.1) mi_X9_sumAt q2393 gcX9 h.1.1 ⟨rfl, rfl⟩ rfl ⟨Nat.le_refl _, Nat.le_refl _⟩ rfl dX9_acquires_98 (fun r M1 hr => ?_)
    obtain ⟨rfl, rfl⟩ := hr
    refine x_iload_n C dX9_acquires_101 rfl rfl ?_
    refine x_V2V C (met_X9_add l C.1 h.1 hb (by omega) (by omega)) mi_X9_add q2397 gcX9 h.1.1 ⟨rfl, rfl⟩ rfl ⟨Nat.le_refl _, Nat.le_refl _⟩ rfl dX9_acquires_102 (fun M1 hr => ?_)
    have h := h.tr hr
    refine x_aload_n C dX9_acquires_105 rfl rfl ?_
    refine x_sipush C dX9_acquires_106 ks_1865 ?_
    refine x_iload C dX9_acquires_109 rfl ?_
    refine x_iconst C dX9_acquires_111 kc_1 ?_
    refine x_iaddN C dX9_acquires_112 ?_
    refine x_V2V C (met_X9_lay l C.1 h.1 hb (by omega) (by omega)) mi_X9_lay q2377 gcX9 h.1.1 ⟨rfl, rfl⟩ rfl ⟨Nat.le_refl _, Nat.le_refl _⟩ rfl dX9_acquires_113 (fun M1 hr => ?_)
    have h := h.tr hr
    refine x_iload C dX9_acquires_116 rfl ?_
    exact x_iret C dX9_acquires_118 ⟨Nat.le_refl _, Nat.le_refl _⟩ ⟨rfl, (by rw [pAcq_eq hna hn (by omega) (by omega)]; exact h)⟩
  · -- 19
    refine x_aload_n C dX9_acquires_19 rfl rfl ?_
    refine x_iload C dX9_acquires_20 rfl ?_
    refine x_iload C dX9_acquires_22 rfl ?_
    refine x_iconst C dX9_acquires_24 kc_0 ?_
    refine x_V3V C (met_X9_put l C.1 h.1 hb (by omega) (by omega) (by omega)) mi_X9_put q2405 gcX9 h.1.1 ⟨rfl, rfl⟩ rfl ⟨Nat.le_refl _, Nat.le_refl _⟩ rfl dX9_acquires_25 (fun M1 hr => ?_)
    have h := h.tr hr
    refine x_iincN C dX9_acquires_28 rfl (gs1_6 rfl) rfl ?_
    refine x_goto (tgt := 12) C dX9_acquires_31 rfl ?_
    rw [pZero_s] at h
    exact (ih c16 _ h)
