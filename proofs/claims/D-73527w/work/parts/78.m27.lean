set_option maxRecDepth 100000
theorem mi_X9_text : gMV RX9 yX9_text cX9_text 3 (some .int) 1 := ⟨q2506, q2507, q165, q2508, by decide +kernel⟩
set_option maxHeartbeats 4000000 in
set_option maxRecDepth 100000 in
theorem met_X9_text (l : Launch) {G : gG} (hG : gOK G) {ad : Nat → Nat} {σ : mS} {M0 : gM} {n : Int32} {ts : Nat} (h : MR G ad σ M0) (h1_ : mI σ 1 = nI ts) (hb0_ : ts ≤ 700) (hwd : mA σ 1 = wdA) : Met l yX9_text (ws_ yX9_text cX9_text 3 (some .int)) ({ frames := 6, cells := 0, slots := 0, locals := 136 }) (gPre G M0 [.ref (ad 0), .int (n)]) (gQ G (gI (fun r M1 => MF G ad M0 (qText σ ts n).1 M1 ∧ (qText σ ts n).2 = r))) 0 0 (gA G) := by
  refine gMet (L0 := [some (.ref (ad 0)), some (.int (n)), none]) RX9 hG (by decide +kernel) rfl (Nat.le_of_ble_eq_true rfl) rfl ?_
  intro p e s m args below meth c C hnm
  have h := MF.rf h
  refine x_aload_n C dX9_text_0 rfl rfl ?_
  refine x_iconst C dX9_text_1 kc_0 ?_
  refine m_put C h 2 rfl q2411 rfl rfl rfl rfl dX9_text_2 (fun M h => ?_)
  refine x_iload_n C dX9_text_5 rfl rfl ?_
  refine x_if_lt (tgt := 17) C dX9_text_6 rfl (fun c6 => ?_) (fun c6 => ?_)
  · -- 17
    refine x_bipush C dX9_text_17 kb_m2 ?_
    exact x_iret C dX9_text_19 ⟨Nat.le_refl _, Nat.le_refl _⟩ (gtx h (by unfold qText; rw [if_neg (iT_n1 c6)]))
  · -- 9
    refine x_iload_n C dX9_text_9 rfl rfl ?_
    refine x_aload_n C dX9_text_10 rfl rfl ?_
    refine m_get C h 1 (v := .int (nI ts)) rfl q2410 (m_v rfl h1_) dX9_text_11 ?_
    refine x_icmp_le (tgt := 20) C dX9_text_14 rfl (fun c14 => ?_) (fun c14 => ?_)
    · -- 20
      have bn := iT_le2 (by omega) c6 c14
      obtain ⟨nn, rfl, hnn⟩ := iT.ex bn (by omega)
      have enn : dN (nI nn) = nn := dN_nI (by omega)
      have hC0 : wC (tRd0 (si σ 2 (nI 0)) nn) := wC_0 (by omega) hwd
      refine x_aload_n C dX9_text_20 rfl rfl ?_
      refine x_iload_n C dX9_text_21 rfl rfl ?_
      refine m_put C h 6 rfl q2415 rfl rfl rfl rfl dX9_text_22 (fun M h => ?_)
      refine x_aload_n C dX9_text_25 rfl rfl ?_
      refine x_iconst C dX9_text_26 kc_0 ?_
      refine m_put C h 1 rfl q2410 rfl rfl rfl rfl dX9_text_27 (fun M h => ?_)
      refine x_aload_n C dX9_text_30 rfl rfl ?_
      refine x_iconst C dX9_text_31 kc_0 ?_
      refine m_put C h 4 rfl q2413 rfl rfl rfl rfl dX9_text_32 (fun M h => ?_)
      refine x_aload_n C dX9_text_35 rfl rfl ?_
      refine x_iconst C dX9_text_36 kc_m1 ?_
      refine m_put C h 5 rfl q2414 rfl rfl rfl rfl dX9_text_37 (fun M h => ?_)
      refine x_aload_n C dX9_text_40 rfl rfl ?_
      refine x_iconst C dX9_text_41 kc_0 ?_
      refine m_put C h 7 rfl q2416 rfl rfl rfl rfl dX9_text_42 (fun M h => ?_)
      refine x_aload_n C dX9_text_45 rfl rfl ?_
      refine x_V0V C (met_X9_plain l C.1 h.1) mi_X9_plain q2366 gcX9 h.1.1 ⟨rfl, rfl⟩ rfl ⟨Nat.le_refl _, Nat.le_refl _⟩ rfl dX9_text_46 (fun M1 hr => ?_)
      have h := h.tr hr
      refine x_aload_n C dX9_text_49 rfl rfl ?_
      refine x_V0V C (met_tok l C.1 h.1 hC0.1) mi_X9_token q2509 gcX9 h.1.1 ⟨rfl, rfl⟩ rfl ⟨Nat.le_refl _, Nat.le_refl _⟩ rfl dX9_text_50 (fun M1 hr => ?_)
      have h := h.tr hr
      have hC1 := hC0.tok
      refine x_iconst C dX9_text_53 kc_0 ?_
      refine x_istore_n C dX9_text_54 rfl (gs1_2 rfl) rfl ?_
      refine x_loopM (head := 55) (S := mS × Nat) (fun x M => wC x.1 ∧ gRd (tTok (tRd0 (si σ 2 (nI 0)) nn)) 0 = gRd x.1 x.2 ∧ MF G ad M0 x.1 M) (fun x => [some (.ref (ad 0)), some (.int (nI nn)), some (.int (nI x.2))]) (fun x => mu x.1) (tTok (tRd0 (si σ 2 (nI 0)) nn), 0) ⟨hC1, rfl, h⟩ (fun x M hx ih => ?_)
      obtain ⟨hx1, hx2, h⟩ := hx
      obtain ⟨hy1, hy2, hy3⟩ := hx1.2.2.1
      have hy12 := hx1.2.1
      obtain ⟨hz1, hz2, hz3, hz4⟩ : dN (mI x.1 12) ≤ 4 ∧ dN (mA x.1 6 11) ≤ 12 ∧ dN (mA x.1 6 12) ≤ 12 ∧ dN (mA x.1 6 13) ≤ 4 := ⟨hy12.2, hy1.2, hy2.2, hy3.2⟩
      refine x_aload_n C dX9_text_55 rfl rfl ?_
      refine m_get C h 8 rfl q2417 rfl dX9_text_56 ?_
      refine x_if_eq (tgt := 77) C dX9_text_59 rfl (fun c59 => ?_) (fun c59 => ?_)
      · -- 77
        refine x_aload_n C dX9_text_77 rfl rfl ?_
        refine x_V0V C (met_X9_keepText l C.1 h.1 hy12.1 hz1 (wT_tx hx1 hy12.1 hz1)) mi_X9_keepText q2370 gcX9 h.1.1 ⟨rfl, rfl⟩ rfl ⟨Nat.le_refl _, Nat.le_refl _⟩ rfl dX9_text_78 (fun M1 hr => ?_)
        have h := h.tr hr
        refine x_iload_n C dX9_text_81 rfl rfl ?_
        exact x_iret C dX9_text_82 ⟨Nat.le_refl _, Nat.le_refl _⟩ (gtx h (by unfold qText tText; rw [if_pos bn, enn, hx2, gRd_0 c59]; rfl))
      · -- 62
        refine x_aload_n C dX9_text_62 rfl rfl ?_
        refine x_V0I C (met_X9_lineRead l C.1 h.1 hy12.1 hz1 hz2 hz3 hz4 hy1.1 hy2.1 hy3.1 hx1.1) mi_X9_lineRead q2530 gcX9 h.1.1 ⟨rfl, rfl⟩ rfl ⟨Nat.le_refl _, Nat.le_refl _⟩ rfl dX9_text_63 (fun r M1 hr => ?_)
        rcases gP_c hr with ⟨s1, e1, hq, rfl⟩ | ⟨s1, e1, hq, rfl⟩
        · -- right
          have h := h.tr hq
          obtain ⟨hC2, hm1⟩ := wC_Ln hx1 (show gLine x.1 = (true, s1) from e1)
          refine x_if_neT (tgt := 71) C (by decide) dX9_text_66 rfl ?_
          refine x_iincN C dX9_text_71 rfl (gs1_2 rfl) rfl ?_
          refine x_goto (tgt := 55) C dX9_text_74 rfl ?_
          exact (ih (s1, x.2 + 1) _ hm1 ⟨hC2, hx2.trans (gRd_t hx1 c59 e1), h⟩)
        · -- wrong
          have h := h.tr hq
          refine x_if_neF (tgt := 71) C (by decide) dX9_text_66 rfl ?_
          refine x_iconst C dX9_text_69 kc_m1 ?_
          exact x_iret C dX9_text_70 ⟨Nat.le_refl _, Nat.le_refl _⟩ (gtx h (by unfold qText tText; rw [if_pos bn, enn, hx2, gRd_f c59 (show gLine x.1 = (false, s1) from e1)]; rfl))
    · -- 17
      refine x_bipush C dX9_text_17 kb_m2 ?_
      exact x_iret C dX9_text_19 ⟨Nat.le_refl _, Nat.le_refl _⟩ (gtx h (by unfold qText; rw [if_neg (iT_nle2 (by omega) c14)]))
