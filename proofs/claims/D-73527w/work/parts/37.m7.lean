set_option maxRecDepth 100000
theorem mi_X9_isTrader : gMV RX9 yX9_isTrader cX9_isTrader 2 (some .boolean) 1 := ⟨q2615, qs82, q165, q2616, by decide +kernel⟩
set_option maxHeartbeats 4000000 in
set_option maxRecDepth 100000 in
theorem met_X9_isTrader (l : Launch) {G : gG} (hG : gOK G) {ad : Nat → Nat} {σ : mS} {M0 : gM} {t : Int32} {T : Nat} (h : MR G ad σ M0) (hT : mI σ 11 = nI T) : Met l yX9_isTrader (ws_ yX9_isTrader cX9_isTrader 2 (some .boolean)) ({ frames := 0, cells := 0, slots := 0, locals := 0 }) (gPre G M0 [.ref (ad 0), .int (t)]) (gQ G (gI (fun r M1 => (M0 = M1 ∧ nI 1 = r ∧ (iT T t)) ∨ (M0 = M1 ∧ nI 0 = r ∧ ¬ (iT T t))))) 0 0 (gA G) := by
  refine gMet (L0 := [some (.ref (ad 0)), some (.int (t))]) RX9 hG (by decide +kernel) rfl (Nat.le_of_ble_eq_true rfl) rfl ?_
  intro p e s m args below meth c C hnm
  have h := MF.rf h
  refine x_iload_n C dX9_isTrader_0 rfl rfl ?_
  refine x_if_lt (tgt := 16) C dX9_isTrader_1 rfl (fun c1 => ?_) (fun c1 => ?_)
  · -- 16
    refine x_iconst C dX9_isTrader_16 kc_0 ?_
    exact x_zret C (by decide +kernel) dX9_isTrader_17 ⟨Nat.le_refl _, Nat.le_refl _⟩ (Or.inr ⟨rfl, rfl, iT_n1 c1⟩)
  · -- 4
    refine x_iload_n C dX9_isTrader_4 rfl rfl ?_
    refine x_aload_n C dX9_isTrader_5 rfl rfl ?_
    refine m_get C h 11 (v := .int (nI T)) rfl q2420 (m_v rfl hT) dX9_isTrader_6 ?_
    refine x_icmp_ge (tgt := 16) C dX9_isTrader_9 rfl (fun c9 => ?_) (fun c9 => ?_)
    · -- 16
      refine x_iconst C dX9_isTrader_16 kc_0 ?_
      exact x_zret C (by decide +kernel) dX9_isTrader_17 ⟨Nat.le_refl _, Nat.le_refl _⟩ (Or.inr ⟨rfl, rfl, iT_n2 c9⟩)
    · -- 12
      refine x_iconst C dX9_isTrader_12 kc_1 ?_
      refine x_goto (tgt := 17) C dX9_isTrader_13 rfl ?_
      exact x_zret C (by decide +kernel) dX9_isTrader_17 ⟨Nat.le_refl _, Nat.le_refl _⟩ (Or.inl ⟨rfl, rfl, iT_y c1 c9⟩)
theorem mi_X9_isQuarter : gMV RX9 yX9_isQuarter cX9_isQuarter 2 (some .boolean) 1 := ⟨q2799, qs115, q165, q2800, by decide +kernel⟩
set_option maxHeartbeats 4000000 in
set_option maxRecDepth 100000 in
theorem met_X9_isQuarter (l : Launch) {G : gG} (hG : gOK G) {ad : Nat → Nat} {σ : mS} {M0 : gM} {q : Int32} (h : MR G ad σ M0) : Met l yX9_isQuarter (ws_ yX9_isQuarter cX9_isQuarter 2 (some .boolean)) ({ frames := 0, cells := 0, slots := 0, locals := 0 }) (gPre G M0 [.ref (ad 0), .int (q)]) (gQ G (gI (fun r M1 => (M0 = M1 ∧ nI 1 = r ∧ (iT 64 q)) ∨ (M0 = M1 ∧ nI 0 = r ∧ ¬ (iT 64 q))))) 0 0 (gA G) := by
  refine gMet (L0 := [some (.ref (ad 0)), some (.int (q))]) RX9 hG (by decide +kernel) rfl (Nat.le_of_ble_eq_true rfl) rfl ?_
  intro p e s m args below meth c C hnm
  have h := MF.rf h
  refine x_iload_n C dX9_isQuarter_0 rfl rfl ?_
  refine x_if_lt (tgt := 14) C dX9_isQuarter_1 rfl (fun c1 => ?_) (fun c1 => ?_)
  · -- 14
    refine x_iconst C dX9_isQuarter_14 kc_0 ?_
    exact x_zret C (by decide +kernel) dX9_isQuarter_15 ⟨Nat.le_refl _, Nat.le_refl _⟩ (Or.inr ⟨rfl, rfl, iT_n1 c1⟩)
  · -- 4
    refine x_iload_n C dX9_isQuarter_4 rfl rfl ?_
    refine x_bipush C dX9_isQuarter_5 kb_64 ?_
    refine x_icmp_ge (tgt := 14) C dX9_isQuarter_7 rfl (fun c7 => ?_) (fun c7 => ?_)
    · -- 14
      refine x_iconst C dX9_isQuarter_14 kc_0 ?_
      exact x_zret C (by decide +kernel) dX9_isQuarter_15 ⟨Nat.le_refl _, Nat.le_refl _⟩ (Or.inr ⟨rfl, rfl, iT_n2 c7⟩)
    · -- 10
      refine x_iconst C dX9_isQuarter_10 kc_1 ?_
      refine x_goto (tgt := 15) C dX9_isQuarter_11 rfl ?_
      exact x_zret C (by decide +kernel) dX9_isQuarter_15 ⟨Nat.le_refl _, Nat.le_refl _⟩ (Or.inl ⟨rfl, rfl, iT_y c1 c7⟩)
theorem mi_X9_isAsset : gMV RX9 yX9_isAsset cX9_isAsset 2 (some .boolean) 1 := ⟨q2647, qs85, q165, q2648, by decide +kernel⟩
set_option maxHeartbeats 4000000 in
set_option maxRecDepth 100000 in
theorem met_X9_isAsset (l : Launch) {G : gG} (hG : gOK G) {ad : Nat → Nat} {σ : mS} {M0 : gM} {b : Nat} {B : Nat → Int32} {a : Int32} (h : MR G ad (sb σ b B) M0) (hb : mI σ 21 = nI b) (hna : B 1865 = nI (dN (B 1865))) (hb0_ : b < 23) : Met l yX9_isAsset (ws_ yX9_isAsset cX9_isAsset 2 (some .boolean)) ({ frames := 1, cells := 0, slots := 0, locals := 21 }) (gPre G M0 [.ref (ad 0), .int (a)]) (gQ G (gI (fun r M1 => (M0 = M1 ∧ nI 1 = r ∧ (iA B a)) ∨ (M0 = M1 ∧ nI 0 = r ∧ ¬ (iA B a))))) 0 0 (gA G) := by
  refine gMet (L0 := [some (.ref (ad 0)), some (.int (a))]) RX9 hG (by decide +kernel) rfl (Nat.le_of_ble_eq_true rfl) rfl ?_
  intro p e s m args below meth c C hnm
  have h := MF.rf h
  refine x_iload_n C dX9_isAsset_0 rfl rfl ?_
  refine x_if_lt (tgt := 19) C dX9_isAsset_1 rfl (fun c1 => ?_) (fun c1 => ?_)
  · -- 19
    refine x_iconst C dX9_isAsset_19 kc_0 ?_
    exact x_zret C (by decide +kernel) dX9_isAsset_20 ⟨Nat.le_refl _, Nat.le_refl _⟩ (Or.inr ⟨rfl, rfl, iT_n1 c1⟩)
  · -- 4
    refine x_iload_n C dX9_isAsset_4 rfl rfl ?_
    refine x_aload_n C dX9_isAsset_5 rfl rfl ?_
    refine x_sipush C dX9_isAsset_6 ks_1865 ?_
    refine x_V1I C (met_X9_of l C.1 h.1 hb (by omega) (by omega)) mi_X9_of q2389 gcX9 h.1.1 ⟨rfl, rfl⟩ rfl ⟨Nat.le_refl _, Nat.le_refl _⟩ rfl dX9_isAsset_9 (fun r M1 hr => ?_)
    obtain ⟨rfl, hr⟩ := hr
    have hr := hr.symm.trans (show _ = nI (dN (B 1865)) from hna)
    subst hr
    refine x_icmp_ge (tgt := 19) C dX9_isAsset_12 rfl (fun c12 => ?_) (fun c12 => ?_)
    · -- 19
      refine x_iconst C dX9_isAsset_19 kc_0 ?_
      exact x_zret C (by decide +kernel) dX9_isAsset_20 ⟨Nat.le_refl _, Nat.le_refl _⟩ (Or.inr ⟨rfl, rfl, iT_n2 c12⟩)
    · -- 15
      refine x_iconst C dX9_isAsset_15 kc_1 ?_
      refine x_goto (tgt := 20) C dX9_isAsset_16 rfl ?_
      exact x_zret C (by decide +kernel) dX9_isAsset_20 ⟨Nat.le_refl _, Nat.le_refl _⟩ (Or.inl ⟨rfl, rfl, iT_y c1 c12⟩)
theorem mi_X9_isGone : gMV RX9 yX9_isGone cX9_isGone 2 (some .boolean) 1 := ⟨q2651, qs86, q165, q2652, by decide +kernel⟩
set_option maxHeartbeats 4000000 in
set_option maxRecDepth 100000 in
theorem met_X9_isGone (l : Launch) {G : gG} (hG : gOK G) {ad : Nat → Nat} {σ : mS} {M0 : gM} {b : Nat} {B : Nat → Int32} {a s7 : Nat} (h : MR G ad (sb σ b B) M0) (hb : mI σ 21 = nI b) (h7 : B (2084 + 48 * a + 7) = nI s7) (hb0_ : b < 23) (hb1_ : a < 8) (hb2_ : s7 ≤ 3) : Met l yX9_isGone (ws_ yX9_isGone cX9_isGone 2 (some .boolean)) ({ frames := 2, cells := 0, slots := 0, locals := 43 }) (gPre G M0 [.ref (ad 0), .int (nI a)]) (gQ G (gI (fun r M1 => (M0 = M1 ∧ nI 1 = r ∧ (B (2084 + 48 * a + 9) = nI 1 ∨ 0 < s7)) ∨ (M0 = M1 ∧ nI 0 = r ∧ ¬ (B (2084 + 48 * a + 9) = nI 1 ∨ 0 < s7))))) 0 0 (gA G) := by
  refine gMet (L0 := [some (.ref (ad 0)), some (.int (nI a))]) RX9 hG (by decide +kernel) rfl (Nat.le_of_ble_eq_true rfl) rfl ?_
  intro p e s m args below meth c C hnm
  have h := MF.rf h
  refine x_aload_n C dX9_isGone_0 rfl rfl ?_
  refine x_iload_n C dX9_isGone_1 rfl rfl ?_
  refine x_bipush C dX9_isGone_2 kb_9 ?_
  refine x_V2I C (met_X9_at l C.1 h.1 hb (by omega) (by omega) (by omega)) mi_X9_at q2653 gcX9 h.1.1 ⟨rfl, rfl⟩ rfl ⟨Nat.le_refl _, Nat.le_refl _⟩ rfl dX9_isGone_4 (fun r M1 hr => ?_)
  obtain ⟨rfl, rfl⟩ := hr
  refine x_iconst C dX9_isGone_7 kc_1 ?_
  refine x_icmp_eq (tgt := 21) C dX9_isGone_8 rfl (fun c8 => ?_) (fun c8 => ?_)
  · -- 21
    refine x_iconst C dX9_isGone_21 kc_1 ?_
    refine x_goto (tgt := 26) C dX9_isGone_22 rfl ?_
    exact x_zret C (by decide +kernel) dX9_isGone_26 ⟨Nat.le_refl _, Nat.le_refl _⟩ (Or.inl ⟨rfl, rfl, Or.inl c8⟩)
  · -- 11
    refine x_aload_n C dX9_isGone_11 rfl rfl ?_
    refine x_iload_n C dX9_isGone_12 rfl rfl ?_
    refine x_bipush C dX9_isGone_13 kb_7 ?_
    refine x_V2I C (met_X9_at l C.1 h.1 hb (by omega) (by omega) (by omega)) mi_X9_at q2653 gcX9 h.1.1 ⟨rfl, rfl⟩ rfl ⟨Nat.le_refl _, Nat.le_refl _⟩ rfl dX9_isGone_15 (fun r M1 hr => ?_)
    obtain ⟨rfl, hr⟩ := hr
    have hr := hr.symm.trans (show _ = nI s7 from h7)
    subst hr
    refine x_if_leN (tgt := 25) C (by omega) dX9_isGone_18 rfl (fun c18 => ?_) (fun c18 => ?_)
    · -- 25
      refine x_iconst C dX9_isGone_25 kc_0 ?_
      exact x_zret C (by decide +kernel) dX9_isGone_26 ⟨Nat.le_refl _, Nat.le_refl _⟩ (Or.inr ⟨rfl, rfl, fun q => q.elim c8 (by omega)⟩)
    · -- 21
      refine x_iconst C dX9_isGone_21 kc_1 ?_
      refine x_goto (tgt := 26) C dX9_isGone_22 rfl ?_
      exact x_zret C (by decide +kernel) dX9_isGone_26 ⟨Nat.le_refl _, Nat.le_refl _⟩ (Or.inl ⟨rfl, rfl, Or.inr (by omega)⟩)
theorem mi_X9_isThrough : gMV RX9 yX9_isThrough cX9_isThrough 2 (some .boolean) 1 := ⟨q2791, qs114, q165, q2792, by decide +kernel⟩
set_option maxHeartbeats 4000000 in
set_option maxRecDepth 100000 in
theorem met_X9_isThrough (l : Launch) {G : gG} (hG : gOK G) {ad : Nat → Nat} {σ : mS} {M0 : gM} {b : Nat} {B : Nat → Int32} {a s47 : Nat} (h : MR G ad (sb σ b B) M0) (hb : mI σ 21 = nI b) (h47 : B (2084 + 48 * a + 47) = nI s47) (hb0_ : b < 23) (hb1_ : a < 8) (hb2_ : s47 ≤ 10) : Met l yX9_isThrough (ws_ yX9_isThrough cX9_isThrough 2 (some .boolean)) ({ frames := 2, cells := 0, slots := 0, locals := 43 }) (gPre G M0 [.ref (ad 0), .int (nI a)]) (gQ G (gI (fun r M1 => (M0 = M1 ∧ nI 1 = r ∧ (0 < s47)) ∨ (M0 = M1 ∧ nI 0 = r ∧ ¬ (0 < s47))))) 0 0 (gA G) := by
  refine gMet (L0 := [some (.ref (ad 0)), some (.int (nI a))]) RX9 hG (by decide +kernel) rfl (Nat.le_of_ble_eq_true rfl) rfl ?_
  intro p e s m args below meth c C hnm
  have h := MF.rf h
  refine x_aload_n C dX9_isThrough_0 rfl rfl ?_
  refine x_iload_n C dX9_isThrough_1 rfl rfl ?_
  refine x_bipush C dX9_isThrough_2 kb_47 ?_
  refine x_V2I C (met_X9_at l C.1 h.1 hb (by omega) (by omega) (by omega)) mi_X9_at q2653 gcX9 h.1.1 ⟨rfl, rfl⟩ rfl ⟨Nat.le_refl _, Nat.le_refl _⟩ rfl dX9_isThrough_4 (fun r M1 hr => ?_)
  obtain ⟨rfl, hr⟩ := hr
  have hr := hr.symm.trans (show _ = nI s47 from h47)
  subst hr
  refine x_if_leN (tgt := 14) C (by omega) dX9_isThrough_7 rfl (fun c7 => ?_) (fun c7 => ?_)
  · -- 14
    refine x_iconst C dX9_isThrough_14 kc_0 ?_
    exact x_zret C (by decide +kernel) dX9_isThrough_15 ⟨Nat.le_refl _, Nat.le_refl _⟩ (Or.inr ⟨rfl, rfl, by omega⟩)
  · -- 10
    refine x_iconst C dX9_isThrough_10 kc_1 ?_
    refine x_goto (tgt := 15) C dX9_isThrough_11 rfl ?_
    exact x_zret C (by decide +kernel) dX9_isThrough_15 ⟨Nat.le_refl _, Nat.le_refl _⟩ (Or.inl ⟨rfl, rfl, by omega⟩)
theorem mi_X9_isYear : gMV RX9 yX9_isYear cX9_isYear 3 (some .boolean) 2 := ⟨q2815, qs116, q165, q2816, by decide +kernel⟩
set_option maxHeartbeats 4000000 in
set_option maxRecDepth 100000 in
theorem met_X9_isYear (l : Launch) {G : gG} (hG : gOK G) {ad : Nat → Nat} {σ : mS} {M0 : gM} {b : Nat} {B : Nat → Int32} {t y : Int32} {w T : Nat} (h : MR G ad (sb σ b B) M0) (hb : mI σ 21 = nI b) (hn : B 0 = nI w) (hT : mI σ 11 = nI T) (hb0_ : b < 23) (hb1_ : w < 64) (hb2_ : T < 5) : Met l yX9_isYear (ws_ yX9_isYear cX9_isYear 3 (some .boolean)) ({ frames := 2, cells := 0, slots := 0, locals := 41 }) (gPre G M0 [.ref (ad 0), .int (t), .int (y)]) (gQ G (gI (fun r M1 => (M0 = M1 ∧ nI 1 = r ∧ (iT T t ∧ iT (w / 4 + 1) y)) ∨ (M0 = M1 ∧ nI 0 = r ∧ ¬ (iT T t ∧ iT (w / 4 + 1) y))))) 0 0 (gA G) := by
  refine gMet (L0 := [some (.ref (ad 0)), some (.int (t)), some (.int (y))]) RX9 hG (by decide +kernel) rfl (Nat.le_of_ble_eq_true rfl) rfl ?_
  intro p e s m args below meth c C hnm
  have h := MF.rf h
  refine x_aload_n C dX9_isYear_0 rfl rfl ?_
  refine x_iload_n C dX9_isYear_1 rfl rfl ?_
  refine x_V1I C (met_X9_isTrader l C.1 h.1 hT) mi_X9_isTrader q2613 gcX9 h.1.1 ⟨rfl, rfl⟩ rfl ⟨Nat.le_refl _, Nat.le_refl _⟩ rfl dX9_isYear_2 (fun r M1 hr => ?_)
  rcases hr with ⟨rfl, rfl, b2⟩ | ⟨rfl, rfl, b2⟩
  · -- true
    refine x_if_eqF (tgt := 24) C (by decide) dX9_isYear_5 rfl ?_
    refine x_iload_n C dX9_isYear_8 rfl rfl ?_
    refine x_if_lt (tgt := 24) C dX9_isYear_9 rfl (fun c9 => ?_) (fun c9 => ?_)
    · -- 24
      refine x_iconst C dX9_isYear_24 kc_0 ?_
      exact x_zret C (by decide +kernel) dX9_isYear_25 ⟨Nat.le_refl _, Nat.le_refl _⟩ (Or.inr ⟨rfl, rfl, fun q => iT_nle (by omega) (Or.inl c9) q.2⟩)
    · -- 12
      refine x_iload_n C dX9_isYear_12 rfl rfl ?_
      refine x_aload_n C dX9_isYear_13 rfl rfl ?_
      refine x_V0I C (met_X9_year l C.1 h.1 hb hn (by omega) (by omega)) mi_X9_year q2629 gcX9 h.1.1 ⟨rfl, rfl⟩ rfl ⟨Nat.le_refl _, Nat.le_refl _⟩ rfl dX9_isYear_14 (fun r M1 hr => ?_)
      obtain ⟨rfl, rfl⟩ := hr
      refine x_icmp_gt (tgt := 24) C dX9_isYear_17 rfl (fun c17 => ?_) (fun c17 => ?_)
      · -- 24
        refine x_iconst C dX9_isYear_24 kc_0 ?_
        exact x_zret C (by decide +kernel) dX9_isYear_25 ⟨Nat.le_refl _, Nat.le_refl _⟩ (Or.inr ⟨rfl, rfl, fun q => iT_nle (by omega) (Or.inr c17) q.2⟩)
      · -- 20
        refine x_iconst C dX9_isYear_20 kc_1 ?_
        refine x_goto (tgt := 25) C dX9_isYear_21 rfl ?_
        exact x_zret C (by decide +kernel) dX9_isYear_25 ⟨Nat.le_refl _, Nat.le_refl _⟩ (Or.inl ⟨rfl, rfl, b2, iT_le (by omega) c9 c17⟩)
  · -- false
    refine x_if_eqT (tgt := 24) C (by decide) dX9_isYear_5 rfl ?_
    refine x_iconst C dX9_isYear_24 kc_0 ?_
    exact x_zret C (by decide +kernel) dX9_isYear_25 ⟨Nat.le_refl _, Nat.le_refl _⟩ (Or.inr ⟨rfl, rfl, fun q => b2 q.1⟩)
