set_option maxRecDepth 100000
theorem mi_X9_wrong : gMV RX9 yX9_wrong cX9_wrong 2 (some .boolean) 1 := ⟨q2536, qs69, q165, q2537, by decide +kernel⟩
set_option maxHeartbeats 4000000 in
set_option maxRecDepth 100000 in
theorem met_X9_wrong (l : Launch) {G : gG} (hG : gOK G) {ad : Nat → Nat} {σ : mS} {M0 : gM} {k : Nat} (h : MR G ad σ M0) : Met l yX9_wrong (ws_ yX9_wrong cX9_wrong 2 (some .boolean)) ({ frames := 0, cells := 0, slots := 0, locals := 0 }) (gPre G M0 [.ref (ad 0), .int (nI k)]) (gQ G (gI (fun r M1 => MF G ad M0 (gWr σ k) M1 ∧ nI 0 = r))) 0 0 (gA G) := by
  refine gMet (L0 := [some (.ref (ad 0)), some (.int (nI k))]) RX9 hG (by decide +kernel) rfl (Nat.le_of_ble_eq_true rfl) rfl ?_
  intro p e s m args below meth c C hnm
  have h := MF.rf h
  refine x_aload_n C dX9_wrong_0 rfl rfl ?_
  refine x_iload_n C dX9_wrong_1 rfl rfl ?_
  refine m_put C h 4 rfl q2413 rfl rfl rfl rfl dX9_wrong_2 (fun M h => ?_)
  refine x_aload_n C dX9_wrong_5 rfl rfl ?_
  refine x_aload_n C dX9_wrong_6 rfl rfl ?_
  refine m_get C h 10 rfl q2419 rfl dX9_wrong_7 ?_
  refine m_put C h 5 rfl q2414 rfl rfl rfl rfl dX9_wrong_10 (fun M h => ?_)
  refine x_iconst C dX9_wrong_13 kc_0 ?_
  exact x_zret C (by decide +kernel) dX9_wrong_14 ⟨Nat.le_refl _, Nat.le_refl _⟩ ⟨h, rfl⟩
theorem mi_X9_number : gMV RX9 yX9_number cX9_number 3 (some .boolean) 2 := ⟨q2548, qs72, q165, q2549, by decide +kernel⟩
set_option maxHeartbeats 4000000 in
set_option maxRecDepth 100000 in
theorem met_X9_number (l : Launch) {G : gG} (hG : gOK G) {ad : Nat → Nat} {σ : mS} {M0 : gM} {lo hi : Int32} (h : MR G ad σ M0) (hN : wN σ) : Met l yX9_number (ws_ yX9_number cX9_number 3 (some .boolean)) ({ frames := 2, cells := 0, slots := 0, locals := 47 }) (gPre G M0 [.ref (ad 0), .int (lo), .int (hi)]) (gQ G (gI (gP G ad M0 (gNum lo hi σ)))) 0 0 (gA G) := by
  refine gMet (L0 := [some (.ref (ad 0)), some (.int (lo)), some (.int (hi))]) RX9 hG (by decide +kernel) rfl (Nat.le_of_ble_eq_true rfl) rfl ?_
  intro p e s m args below meth c C hnm
  have h := MF.rf h
  refine x_aload_n C dX9_number_0 rfl rfl ?_
  refine m_get C h 8 rfl q2417 rfl dX9_number_1 ?_
  refine x_iconst C dX9_number_4 kc_3 ?_
  refine x_icmp_eq (tgt := 14) C dX9_number_5 rfl (fun c5 => ?_) (fun c5 => ?_)
  · -- 14
    refine x_aload_n C dX9_number_14 rfl rfl ?_
    refine m_get C h 9 rfl q2418 rfl dX9_number_15 ?_
    refine x_iload_n C dX9_number_18 rfl rfl ?_
    refine x_iload_n C dX9_number_19 rfl rfl ?_
    refine x_S3I C (met_X9_isIn l C.1) mi_X9_isIn q2550 ⟨rfl, rfl⟩ rfl ⟨Nat.le_refl _, Nat.le_refl _⟩ rfl dX9_number_20 (fun r M1 hr => ?_)
    rcases hr with ⟨rfl, rfl, b20⟩ | ⟨rfl, rfl, b20⟩
    · -- true
      refine x_if_neT (tgt := 32) C (by decide) dX9_number_23 rfl ?_
      refine x_aload_n C dX9_number_32 rfl rfl ?_
      refine x_aload_n C dX9_number_33 rfl rfl ?_
      refine m_get C h 9 rfl q2418 rfl dX9_number_34 ?_
      refine m_put C h 19 rfl q2428 rfl rfl rfl rfl dX9_number_37 (fun M h => ?_)
      refine x_aload_n C dX9_number_40 rfl rfl ?_
      refine x_V0V C (met_tok l C.1 h.1 (hN.si (by decide) (by decide))) mi_X9_token q2509 gcX9 h.1.1 ⟨rfl, rfl⟩ rfl ⟨Nat.le_refl _, Nat.le_refl _⟩ rfl dX9_number_41 (fun M1 hr => ?_)
      have h := h.tr hr
      refine x_iconst C dX9_number_44 kc_1 ?_
      exact x_zret C (by decide +kernel) dX9_number_45 ⟨Nat.le_refl _, Nat.le_refl _⟩ (gP_t h (by unfold gNum; rw [if_pos c5, if_pos b20]))
    · -- false
      refine x_if_neF (tgt := 32) C (by decide) dX9_number_23 rfl ?_
      refine x_aload_n C dX9_number_26 rfl rfl ?_
      refine x_iconst C dX9_number_27 kc_2 ?_
      refine x_V1I C (met_X9_wrong l C.1 h.1) mi_X9_wrong q2534 gcX9 h.1.1 ⟨rfl, rfl⟩ rfl ⟨Nat.le_refl _, Nat.le_refl _⟩ rfl dX9_number_28 (fun r M1 hr => ?_)
      obtain ⟨hr, rfl⟩ := hr
      have h := h.tr hr
      exact x_zret C (by decide +kernel) dX9_number_31 ⟨Nat.le_refl _, Nat.le_refl _⟩ (gP_f h (by unfold gNum; rw [if_pos c5, if_neg b20]))
  · -- 8
    refine x_aload_n C dX9_number_8 rfl rfl ?_
    refine x_iconst C dX9_number_9 kc_1 ?_
    refine x_V1I C (met_X9_wrong l C.1 h.1) mi_X9_wrong q2534 gcX9 h.1.1 ⟨rfl, rfl⟩ rfl ⟨Nat.le_refl _, Nat.le_refl _⟩ rfl dX9_number_10 (fun r M1 hr => ?_)
    obtain ⟨hr, rfl⟩ := hr
    have h := h.tr hr
    exact x_zret C (by decide +kernel) dX9_number_13 ⟨Nat.le_refl _, Nat.le_refl _⟩ (gP_f h (by unfold gNum; rw [if_neg c5]))
