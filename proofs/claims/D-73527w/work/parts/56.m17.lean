set_option maxRecDepth 100000
theorem mi_X9_wordAt : gMV RX9 yX9_wordAt cX9_wordAt 8 (some .int) 2 := ⟨q2519, qs65, q165, q2520, by decide +kernel⟩
set_option maxHeartbeats 4000000 in
set_option maxRecDepth 100000 in
theorem met_X9_wordAt (l : Launch) {G : gG} (hG : gOK G) {ad : Nat → Nat} {σ : mS} {M0 : gM} {a b : Nat} {tp : Nat → Int32} (h : MR G ad σ M0) (hb0_ : a ≤ b) (hb1_ : b ≤ 700) (htp : mA σ 0 = tp) (hwd : mA σ 1 = wdA) : Met l yX9_wordAt (ws_ yX9_wordAt cX9_wordAt 8 (some .int)) ({ frames := 0, cells := 0, slots := 0, locals := 0 }) (gPre G M0 [.ref (ad 0), .int (nI a), .int (nI b)]) (gQ G (gI (fun r M1 => M0 = M1 ∧ pWord tp a b = r))) 0 0 (gA G) := by
  refine gMet (L0 := [some (.ref (ad 0)), some (.int (nI a)), some (.int (nI b)), none, none, none, none, none]) RX9 hG (by decide +kernel) rfl (Nat.le_of_ble_eq_true rfl) rfl ?_
  intro p e s m args below meth c C hnm
  have h := MF.rf h
  refine x_iconst C dX9_wordAt_0 kc_0 ?_
  refine x_istore_n C dX9_wordAt_1 rfl (gs1_3 rfl) rfl ?_
  refine x_iconst C dX9_wordAt_2 kc_0 ?_
  refine x_istore C dX9_wordAt_3 (gs1_4 rfl) rfl ?_
  refine x_loop (head := 5) (E := 13) (fun i M => M0 = M ∧ pFind (pWd tp a b) i = i ∧ MF G ad M0 σ M) (fun i => [some (.ref (ad 0)), some (.int (nI a)), some (.int (nI b)), some (.int (nI i)), some (.int (nI (wFr i))), none, none, none]) ⟨rfl, rfl, h⟩ (fun i M hi h ih => ?_)
  obtain ⟨rfl, hf, h⟩ := h
  have hw68 := wFr_le i hi
  refine x_iload C dX9_wordAt_5 rfl ?_
  refine x_aload_n C dX9_wordAt_7 rfl rfl ?_
  refine m_get C h 3 rfl q2412 rfl dX9_wordAt_8 ?_
  refine m_alen C h 1 (N := 68) (by decide) rfl dX9_wordAt_11 ?_
  refine x_icmp_geN (tgt := 126) C (by omega) (by omega) dX9_wordAt_12 rfl (fun c12 => ?_) (fun c12 => ?_)
  · -- 126
    obtain rfl : i = 13 := by
      rcases Nat.lt_or_ge i 13 with q | q
      · have := (wFr_s i q).2; omega
      · omega
    refine x_iconst C dX9_wordAt_126 kc_m1 ?_
    exact x_iret C dX9_wordAt_127 ⟨Nat.le_refl _, Nat.le_refl _⟩ ⟨rfl, (by unfold pWord; rw [hf, if_neg (by decide)])⟩
  · -- 15
    have hi13 : i < 13 := by
      rcases Nat.lt_or_ge i 13 with q | q
      · exact q
      · obtain rfl : i = 13 := by omega
        rw [wFr_13] at c12; omega
    obtain ⟨hfs0, hf68⟩ := wFr_s i hi13
    refine x_iconst C dX9_wordAt_15 kc_0 ?_
    refine x_istore C dX9_wordAt_16 (gs1_5 rfl) rfl ?_
    refine x_loop (head := 18) (E := wLn i) (fun i2 M => M0 = M ∧ MF G ad M0 σ M) (fun i2 => [some (.ref (ad 0)), some (.int (nI a)), some (.int (nI b)), some (.int (nI i)), some (.int (nI (wFr i))), some (.int (nI i2)), none, none]) ⟨rfl, h⟩ (fun i2 M hi2 h ih2 => ?_)
    obtain ⟨rfl, h⟩ := h
    refine x_aload_n C dX9_wordAt_18 rfl rfl ?_
    refine m_get C h 3 rfl q2412 rfl dX9_wordAt_19 ?_
    refine x_iload C dX9_wordAt_22 rfl ?_
    refine x_iload C dX9_wordAt_24 rfl ?_
    refine x_iaddN C dX9_wordAt_26 ?_
    refine m_ald C h 1 (N := 68) (by decide) rfl rfl (by omega) (congrFun hwd _) dX9_wordAt_27 ?_
    refine x_bipush C dX9_wordAt_28 kb_32 ?_
    refine x_icmp_eq (tgt := 39) C dX9_wordAt_30 rfl (fun c30 => ?_) (fun c30 => ?_)
    · -- 39
      refine x_join (α := Nat) (P := fun v => (v = 1 ∧ wLn i = b - a) ∨ (v = 0 ∧ ¬ wLn i = b - a)) (LL := fun v => [some (.ref (ad 0)), some (.int (nI a)), some (.int (nI b)), some (.int (nI i)), some (.int (nI (wFr i))), some (.int (nI (wLn i))), none, none]) (ss := fun v => [.int (nI v)]) 52 (fun v hv => ?_) (fun J52 => ?_)
      · -- join 52
        refine x_istore C dX9_wordAt_52 (gs1_6 rfl) rfl ?_
        refine x_iconst C dX9_wordAt_54 kc_0 ?_
        refine x_istore C dX9_wordAt_55 (gs1_7 rfl) rfl ?_
        refine x_loopS (head := 57) (E := wLn i) (α := Nat) (β := Unit) 0 (by omega) (fun i3 sm_ u_ M => M0 = M ∧ ((sm_ = 1 ∧ wLn i = b - a ∧ ∀ z, z < i3 → wdA (wFr i + z) = tp (a + z)) ∨ (sm_ = 0 ∧ ¬ pWd tp a b i)) ∧ MF G ad M0 σ M) (fun i3 sm_ u_ => [some (.ref (ad 0)), some (.int (nI a)), some (.int (nI b)), some (.int (nI i)), some (.int (nI (wFr i))), some (.int (nI (wLn i))), some (.int (nI sm_)), some (.int (nI i3))]) v () ⟨rfl, hv.elim (fun q => Or.inl ⟨q.1, q.2, fun z hz => absurd hz (by omega)⟩) (fun q => Or.inr ⟨q.1, fun q2 => q.2 q2.1⟩), h⟩ (fun i3 sm_ u_ M ha3 hi3 h ih3 => ?_)
        obtain ⟨rfl, hs, h⟩ := h
        refine x_iload C dX9_wordAt_57 rfl ?_
        refine x_iload C dX9_wordAt_59 rfl ?_
        refine x_icmp_geN (tgt := 104) C (by omega) (by omega) dX9_wordAt_61 rfl (fun c61 => ?_) (fun c61 => ?_)
        · -- 104
          refine x_iload C dX9_wordAt_104 rfl ?_
          refine x_if_eqN (tgt := 111) C (by omega) dX9_wordAt_106 rfl (fun c106 => ?_) (fun c106 => ?_)
          · -- 111
            have hno : ¬ pWd tp a b i := by
              rcases hs with ⟨q, -, -⟩ | ⟨-, q⟩
              · omega
              · exact q
            have hfs := (wFr_s i hi13).1
            refine x_iload C dX9_wordAt_111 rfl ?_
            refine x_iload C dX9_wordAt_113 rfl ?_
            refine x_iconst C dX9_wordAt_115 kc_1 ?_
            refine x_iaddN C dX9_wordAt_116 ?_
            refine x_iaddN C dX9_wordAt_117 ?_
            refine x_istore C dX9_wordAt_118 (gs1_4 rfl) rfl ?_
            refine x_iincN C dX9_wordAt_120 rfl (gs1_3 rfl) rfl ?_
            refine x_goto (tgt := 5) C dX9_wordAt_123 rfl ?_
            rw [← hfs0]
            exact x_wk [true, true, true, true, true, false, false, false] rfl (ih hi13 _ ⟨rfl, pFind_s hf hno, h⟩)
          · -- 109
            refine x_iload_n C dX9_wordAt_109 rfl rfl ?_
            exact x_iret C dX9_wordAt_110 ⟨Nat.le_refl _, Nat.le_refl _⟩ ⟨rfl, (by unfold pWord; rw [pFind_h hf (by rcases hs with ⟨-, q, q2⟩ | ⟨q, -⟩; exact ⟨q, fun z hz => q2 z (by omega)⟩; omega) hi13, if_pos hi13])⟩
        · -- 64
          refine x_iload C dX9_wordAt_64 rfl ?_
          refine x_if_eqN (tgt := 104) C (by omega) dX9_wordAt_66 rfl (fun c66 => ?_) (fun c66 => ?_)
          · -- 104
            refine x_iload C dX9_wordAt_104 rfl ?_
            refine x_if_eqN (tgt := 111) C (by omega) dX9_wordAt_106 rfl (fun _ => ?_) (fun _ => by exfalso; omega)
            have hno : ¬ pWd tp a b i := by
              rcases hs with ⟨q, -, -⟩ | ⟨-, q⟩
              · omega
              · exact q
            have hfs := (wFr_s i hi13).1
            refine x_iload C dX9_wordAt_111 rfl ?_
            refine x_iload C dX9_wordAt_113 rfl ?_
            refine x_iconst C dX9_wordAt_115 kc_1 ?_
            refine x_iaddN C dX9_wordAt_116 ?_
            refine x_iaddN C dX9_wordAt_117 ?_
            refine x_istore C dX9_wordAt_118 (gs1_4 rfl) rfl ?_
            refine x_iincN C dX9_wordAt_120 rfl (gs1_3 rfl) rfl ?_
            refine x_goto (tgt := 5) C dX9_wordAt_123 rfl ?_
            rw [← hfs0]
            exact x_wk [true, true, true, true, true, false, false, false] rfl (ih hi13 _ ⟨rfl, pFind_s hf hno, h⟩)
          · -- 69
            have hs1 : wLn i = b - a ∧ ∀ z, z < i3 → wdA (wFr i + z) = tp (a + z) := by
              rcases hs with ⟨-, q, q2⟩ | ⟨q, -⟩
              · exact ⟨q, q2⟩
              · omega
            have hs1a := hs1.1
            refine x_aload_n C dX9_wordAt_69 rfl rfl ?_
            refine m_get C h 3 rfl q2412 rfl dX9_wordAt_70 ?_
            refine x_iload C dX9_wordAt_73 rfl ?_
            refine x_iload C dX9_wordAt_75 rfl ?_
            refine x_iaddN C dX9_wordAt_77 ?_
            refine m_ald C h 1 (N := 68) (by decide) rfl rfl (by omega) (congrFun hwd _) dX9_wordAt_78 ?_
            refine x_aload_n C dX9_wordAt_79 rfl rfl ?_
            refine m_get C h 0 rfl q2409 rfl dX9_wordAt_80 ?_
            refine x_iload_n C dX9_wordAt_83 rfl rfl ?_
            refine x_iload C dX9_wordAt_84 rfl ?_
            refine x_iaddN C dX9_wordAt_86 ?_
            refine m_ald C h 0 (N := 700) (by decide) rfl rfl (by omega) (congrFun htp _) dX9_wordAt_87 ?_
            refine x_icmp_ne (tgt := 95) C dX9_wordAt_88 rfl (fun c88 => ?_) (fun c88 => ?_)
            · -- 95
              refine x_iconst C dX9_wordAt_95 kc_0 ?_
              refine x_istore C dX9_wordAt_96 (gs1_6 rfl) rfl ?_
              refine x_iincN C dX9_wordAt_98 rfl (gs1_7 rfl) rfl ?_
              refine x_goto (tgt := 57) C dX9_wordAt_101 rfl ?_
              exact (ih3 (by omega) _ () _ ⟨rfl, Or.inr ⟨rfl, fun q => c88 (q.2 i3 (by omega))⟩, h⟩)
            · -- 91
              refine x_iconst C dX9_wordAt_91 kc_1 ?_
              refine x_goto (tgt := 96) C dX9_wordAt_92 rfl ?_
              refine x_istore C dX9_wordAt_96 (gs1_6 rfl) rfl ?_
              refine x_iincN C dX9_wordAt_98 rfl (gs1_7 rfl) rfl ?_
              refine x_goto (tgt := 57) C dX9_wordAt_101 rfl ?_
              exact (ih3 (by omega) _ () _ ⟨rfl, Or.inl ⟨rfl, hs1.1, fun z hz => (by rcases Nat.lt_or_eq_of_le (Nat.lt_succ_iff.mp hz) with q | rfl; exact hs1.2 z q; exact c88)⟩, h⟩)
      · -- to the join
        obtain rfl : i2 = wLn i := by
          rcases Nat.lt_or_ge i2 (wLn i) with q | q
          · exact absurd c30 (wd_n32 i hi13 i2 q)
          · omega
        refine x_iload C dX9_wordAt_39 rfl ?_
        refine x_iload_n C dX9_wordAt_41 rfl rfl ?_
        refine x_iload_n C dX9_wordAt_42 rfl rfl ?_
        refine x_isubN C (by omega) dX9_wordAt_43 ?_
        refine x_icmp_neN (tgt := 51) C (by omega) (by omega) dX9_wordAt_44 rfl (fun c44 => ?_) (fun c44 => ?_)
        · -- 51
          refine x_iconst C dX9_wordAt_51 kc_0 ?_
          exact (J52 _ (Or.inr ⟨rfl, by omega⟩))
        · -- 47
          refine x_iconst C dX9_wordAt_47 kc_1 ?_
          refine x_goto (tgt := 52) C dX9_wordAt_48 rfl ?_
          exact (J52 _ (Or.inl ⟨rfl, c44⟩))
    · -- 33
      refine x_iincN C dX9_wordAt_33 rfl (gs1_5 rfl) rfl ?_
      refine x_goto (tgt := 18) C dX9_wordAt_36 rfl ?_
      exact (ih2 (Nat.lt_of_le_of_ne hi2 (fun q => c30 (by rw [q]; exact wd_32 i hi13))) _ ⟨rfl, h⟩)
