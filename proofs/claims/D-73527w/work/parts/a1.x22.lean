set_option maxRecDepth 100000
theorem mi_X1_bestStep : gMV RX1 yX1_bestStep cX1_bestStep 8 (some .int) 2 := ⟨q2167, q2168, q123, q2169, by decide +kernel⟩
set_option maxHeartbeats 4000000 in
set_option maxRecDepth 100000 in
theorem met_X1_bestStep (l : Launch) {G : gG} (hG : gOK G) {M0 : gM} {r x : Nat} {ba : Nat → Nat} {B : Nat → Int32} {D : Nat → Nat → Int32} {Z : Nat → Int64} {tx wl ml : Nat} {wf mf : Nat → Nat} {rt : Nat} {ta : Nat → Nat} {mc : Nat → Int32} {nd it : Nat → Nat → Nat} {A : Nat → Nat → Int32} {ln : Int32} {T n : Nat} {xv : Nat → Value} {t y : Int32} (hBC : BC G r ba x (pQS B) (bf B D) (bo B) (B 0) (B 1866) Z M0) (hX : XW G x tx wl ml wf mf M0) (hT : TR G rt tx ta mc nd it (cA T A) (trA A) (wA A ln) M0) (hr4 : 4 ≤ r) (hrx : r ≠ x + 4) (hrt : r ≠ rt) (hw : wT T A) (hn : B 0 = nI n) (hn6 : n < 64) (hx : M0 x = some ((x + 4, 0), .inr (16, [.ref wl, .ref ml, xv 2, xv 3, .ref tx, .ref (ba 0), xv 6, xv 7, xv 8, xv 9, xv 10, xv 11, xv 12, xv 13]))) (hq : qB B) (hh : hdB B) : Met l yX1_bestStep (ws_ yX1_bestStep cX1_bestStep 8 (some .int)) ({ frames := 7, cells := 0, slots := 0, locals := 171 }) (gPre G M0 [.ref (x), .int (t), .int (y)]) (gQ G (gI (fun r9 M1 => (∃ Z', BC G r ba x (pQS B) (bf B D) (bo B) (B 0) (B 1866) Z' M1) ∧ (∀ z, z ≠ ba 10 → M1 z = M0 z) ∧ qBS A T B t y = r9))) 0 0 (gA G) := by
  refine gMet (L0 := [some (.ref (x)), some (.int (t)), some (.int (y)), none, none, none, none, none]) RX1 hG (by decide +kernel) rfl (Nat.le_of_ble_eq_true rfl) rfl ?_
  intro p e s m args below meth c C hnm
  obtain ⟨wk, hwk, hwk3⟩ := isN_to hw.way
  have hsI := hw.stepI
  obtain ⟨⟨vs, hx0⟩, ⟨wq, hwl, hwq⟩, ⟨mq, hml, hmq⟩, hWY, hMT⟩ := id hX
  have ht0 : M0 tx = some ((rt, 0), .inr (20, [.ref (ta 1), .ref (ta 2), .ref (ta 3), .ref (ta 4), .int (A 6 0), .int (A 6 1), .int (A 6 2), .int (A 6 3), .int ln])) := hT.1
  rw [hwk] at ht0
  have hb0 := hBC.1
  rw [hn] at hb0
  obtain ⟨jw, aw, hwc, -⟩ := hWY wk (by omega)
  have hT4 := hw.T4
  refine x_aload_n C dX1_bestStep_0 rfl rfl ?_
  refine x_iload_n C dX1_bestStep_1 rfl rfl ?_
  refine x_V1I C (met_X1_isTrader l C.1 hBC hX hT hr4 hrx hrt hw hn hn6 hx) mi_X1_isTrader q1648 gcX1 hx ⟨rfl, rfl⟩ rfl ⟨Nat.le_of_ble_eq_true rfl, Nat.le_of_ble_eq_true rfl⟩ rfl dX1_bestStep_2 (fun r2 M1 hr => ?_)
  rcases hr with ⟨hr, rfl, p2⟩ | ⟨hr, rfl, p2⟩
  · -- 2 1
    rw [hr]
    obtain ⟨k_t, rfl, hk_t⟩ := iT_ex (by omega) p2
    refine x_if_eqF (tgt := 15) C (by decide) dX1_bestStep_5 rfl ?_
    refine x_iload_n C dX1_bestStep_8 rfl rfl ?_
    refine x_S1I C (met_X1_isYear l C.1) mi_X1_isYear q2076 ⟨rfl, rfl⟩ rfl ⟨Nat.le_of_ble_eq_true rfl, Nat.le_of_ble_eq_true rfl⟩ rfl dX1_bestStep_9 (fun r4 M3 hr => ?_)
    rcases hr with ⟨hr, rfl, p9⟩ | ⟨hr, rfl, p9⟩
    · -- 9 1
      rw [hr]
      obtain ⟨k_y, rfl, lk_y, hk_y⟩ := iI_ex (by omega) (by omega) (y16.mp p9)
      refine x_if_neT (tgt := 17) C (by decide) dX1_bestStep_12 rfl ?_
      refine x_iload_n C dX1_bestStep_17 rfl rfl ?_
      refine x_aload_n C dX1_bestStep_18 rfl rfl ?_
      refine x_V0I C (met_X1_year l C.1 hBC hX hT hr4 hrx hrt hw hn hn6 hx) mi_X1_year q1580 gcX1 hx ⟨rfl, rfl⟩ rfl ⟨Nat.le_of_ble_eq_true rfl, Nat.le_of_ble_eq_true rfl⟩ rfl dX1_bestStep_19 (fun r6 M5 hr => ?_)
      obtain ⟨hr, rfl⟩ := hr
      rw [hr]
      refine x_icmp_leN (tgt := 28) C (by omega) (by omega) dX1_bestStep_22 rfl (fun c22 => ?_) (fun c22 => ?_)
      · -- 28
        refine x_aload_n C dX1_bestStep_28 rfl rfl ?_
        refine x_get C gcX1 hx 4 rfl q1256 rfl dX1_bestStep_29 ?_
        refine x_iload_n C dX1_bestStep_32 rfl rfl ?_
        refine x_V1R C (met_X5_trader l C.1 hT hk_t) mi_X5_trader q2170 gcX5 ht0 ⟨rfl, rfl⟩ rfl ⟨Nat.le_of_ble_eq_true rfl, Nat.le_of_ble_eq_true rfl⟩ rfl dX1_bestStep_33 (fun r8 M7 hr => ?_)
        obtain ⟨hr, rfl⟩ := hr
        rw [hr]
        obtain ⟨mk, hmk, hmk3⟩ := isN_to (hw.trader hk_t).1
        have htr : M0 (it 1 k_t) = some ((rt, 21), .inr (26, [.int (trA A 1 k_t 0), .int (A 2 (8 * k_t + 1)), .int (trA A 1 k_t 2), .int (trA A 1 k_t 3), .int (trA A 1 k_t 4), .int (trA A 1 k_t 5)])) := hT.at1 hk_t
        rw [hmk] at htr
        refine x_getN C gcX11 htr 1 rfl q1438 rfl dX1_bestStep_36 ?_
        refine x_istore_n C dX1_bestStep_39 rfl (gs1_3 rfl) rfl ?_
        refine x_bipush C dX1_bestStep_40 kb_10 ?_
        refine x_istore C dX1_bestStep_42 (gs1_4 rfl) rfl ?_
        refine x_aload_n C dX1_bestStep_44 rfl rfl ?_
        refine x_iload_n C dX1_bestStep_45 rfl rfl ?_
        refine x_iload_n C dX1_bestStep_46 rfl rfl ?_
        refine x_aload_n C dX1_bestStep_47 rfl rfl ?_
        refine x_get C gcX1 hx 5 rfl q1257 rfl dX1_bestStep_48 ?_
        refine x_V0R C (met_X6_way l C.1 hBC hX hT hr4 hrx hrt hw hn hn6) mi_X6_way q2095 gcX6 hb0 ⟨rfl, rfl⟩ rfl ⟨Nat.le_of_ble_eq_true rfl, Nat.le_of_ble_eq_true rfl⟩ rfl dX1_bestStep_51 (fun r10 M9 hr => ?_)
        obtain ⟨hr, wk', hwk', hw3', rfl⟩ := hr
        rw [hr]
        have ew : wk = wk' := nI_inj (by omega) (by omega) (hwk.symm.trans hwk'); subst ew
        refine x_iload_n C dX1_bestStep_54 rfl rfl ?_
        refine x_bipush C dX1_bestStep_55 kb_10 ?_
        refine x_V5I C (met_X1_backBy l C.1 hBC hX hT hr4 hrx hrt hw hn hn6 hx (by omega) (by omega) (by omega) (hWY wk (by omega)) ⟨by rw [nI_int (by omega)]; omega, by rw [nI_int (by omega)]; omega⟩ hq hh) mi_X1_backBy q2143 gcX1 hx ⟨rfl, rfl⟩ rfl ⟨Nat.le_of_ble_eq_true rfl, Nat.le_of_ble_eq_true rfl⟩ rfl dX1_bestStep_57 (fun r12 M11 hr => ?_)
        obtain ⟨hb13, k14, rfl⟩ := hr
        have hBc16 := hBC.year (Z' := (pYS B k_t k_y)) hb13.2.2.2.2.2.2.2 k14
        have hf19 := hBC.fl10 ⟨_, hBc16⟩ k14
        have hXc17 := hX.k10 hf19 hr4 hrx
        have hTc18 := hT.k10 hf19 hrt
        obtain ⟨⟨vshBc16, hx0hBc16⟩, ⟨wqhBc16, hwlhBc16, hwqhBc16⟩, ⟨mqhBc16, hmlhBc16, hmqhBc16⟩, hWYhBc16, hMThBc16⟩ := id hXc17
        have ht0hBc16 : M11 tx = some ((rt, 0), .inr (20, [.ref (ta 1), .ref (ta 2), .ref (ta 3), .ref (ta 4), .int (A 6 0), .int (A 6 1), .int (A 6 2), .int (A 6 3), .int ln])) := hTc18.1
        rw [hwk] at ht0hBc16
        have hb0hBc16 := hBc16.1
        rw [hn] at hb0hBc16
        obtain ⟨jwhBc16, awhBc16, hwchBc16, -⟩ := hWYhBc16 wk (by omega)
        have hxd20 := hf19.keep hx (fun e => hrx (congrArg Prod.fst e).symm)
        refine x_istore C dX1_bestStep_60 (gs1_5 rfl) rfl ?_
        refine x_bipush C dX1_bestStep_62 kb_11 ?_
        refine x_istore C dX1_bestStep_64 (gs1_6 rfl) rfl ?_
        have e0 : (pTop (nI 0) (fun k => nI (10 + k)) (fBS A B k_t k_y) (0 + 1)) = (nI 10, pBack (nI wk) (nI (10)) (pFrac (nI mk) (nI wk) (nI (10)) (pYS B k_t k_y) (pHO B k_t) (pHA B k_t)) (A 6 2) (pYS B k_t k_y)) := by rw [pTop_y (init := nI 0) (nm := fun k => nI (10 + k)) (f := (fBS A B k_t k_y)) (n := 0) (m := nI 0) rfl (Or.inl rfl)]; show (nI (10 + 0), fBS A B k_t k_y 0) = _; unfold fBS; rw [hwk, hmk]
        refine x_wk [true, true, true, true, true, true, true, false] rfl ?_
        suffices hs9 : gX G p l e _ s m args below meth c 8 _ M11 _ _ 66 [some (.ref x), some (.int (nI k_t)), some (.int (nI k_y)), some (.int (nI mk)), some (.int (pTop (nI 0) (fun k => nI (10 + k)) (fBS A B k_t k_y) (0 + 1)).1), some (.int (pTop (nI 0) (fun k => nI (10 + k)) (fBS A B k_t k_y) (0 + 1)).2), some (.int (nI (11 + 0))), none] [] by rw [e0] at hs9; exact hs9
        refine x_loop (head := 66) (E := 990) (fun i M => (∃ Z', BC G r ba x (pQS B) (bf B D) (bo B) (B 0) (B 1866) Z' M) ∧ ∀ z, z ≠ ba 10 → M z = M0 z) (fun i => [some (.ref x), some (.int (nI k_t)), some (.int (nI k_y)), some (.int (nI mk)), some (.int (pTop (nI 0) (fun k => nI (10 + k)) (fBS A B k_t k_y) (i + 1)).1), some (.int (pTop (nI 0) (fun k => nI (10 + k)) (fBS A B k_t k_y) (i + 1)).2), some (.int (nI (11 + i))), none]) ⟨⟨_, hBc16⟩, k14⟩ (fun i M hi hI ih => ?_)
        obtain ⟨⟨Z9, hB9⟩, hK9⟩ := hI
        show gX G p l e _ s m args below meth c 8 _ M _ _ 66 [some (.ref x), some (.int (nI k_t)), some (.int (nI k_y)), some (.int (nI mk)), some (.int (pTop (nI 0) (fun k => nI (10 + k)) (fBS A B k_t k_y) (i + 1)).1), some (.int (pTop (nI 0) (fun k => nI (10 + k)) (fBS A B k_t k_y) (i + 1)).2), some (.int (nI (11 + i))), none] []
        have hBc21 := hBC.year (Z' := Z9) hB9.2.2.2.2.2.2.2 hK9
        have hf24 := hBC.fl10 ⟨_, hBc21⟩ hK9
        have hXc22 := hX.k10 hf24 hr4 hrx
        have hTc23 := hT.k10 hf24 hrt
        obtain ⟨⟨vshBc21, hx0hBc21⟩, ⟨wqhBc21, hwlhBc21, hwqhBc21⟩, ⟨mqhBc21, hmlhBc21, hmqhBc21⟩, hWYhBc21, hMThBc21⟩ := id hXc22
        have ht0hBc21 : M tx = some ((rt, 0), .inr (20, [.ref (ta 1), .ref (ta 2), .ref (ta 3), .ref (ta 4), .int (A 6 0), .int (A 6 1), .int (A 6 2), .int (A 6 3), .int ln])) := hTc23.1
        rw [hwk] at ht0hBc21
        have hb0hBc21 := hBc21.1
        rw [hn] at hb0hBc21
        obtain ⟨jwhBc21, awhBc21, hwchBc21, -⟩ := hWYhBc21 wk (by omega)
        have hxd25 := hf24.keep hx (fun e => hrx (congrArg Prod.fst e).symm)
        rcases Nat.lt_or_ge i 990 with ht | ht
        · -- True
          refine x_iload C dX1_bestStep_66 rfl ?_
          refine x_sipush C dX1_bestStep_68 ks_1000 ?_
          refine x_icmp_gtN (tgt := 116) C (by omega) (by omega) dX1_bestStep_71 rfl (fun _ => by exfalso; omega) (fun _ => ?_)
          refine x_aload_n C dX1_bestStep_74 rfl rfl ?_
          refine x_iload_n C dX1_bestStep_75 rfl rfl ?_
          refine x_iload_n C dX1_bestStep_76 rfl rfl ?_
          refine x_aload_n C dX1_bestStep_77 rfl rfl ?_
          refine x_get C gcX1 hxd25 5 rfl q1257 rfl dX1_bestStep_78 ?_
          refine x_V0R C (met_X6_way l C.1 hBc21 hXc22 hTc23 hr4 hrx hrt hw hn hn6) mi_X6_way q2095 gcX6 hb0hBc21 ⟨rfl, rfl⟩ rfl ⟨Nat.le_of_ble_eq_true rfl, Nat.le_of_ble_eq_true rfl⟩ rfl dX1_bestStep_81 (fun r27 M26 hr => ?_)
          obtain ⟨hr, wk', hwk', hw3', rfl⟩ := hr
          rw [hr]
          have ew : wk = wk' := nI_inj (by omega) (by omega) (hwk.symm.trans hwk'); subst ew
          refine x_iload_n C dX1_bestStep_84 rfl rfl ?_
          refine x_iload C dX1_bestStep_85 rfl ?_
          refine x_V5I C (met_X1_backBy l C.1 hBc21 hXc22 hTc23 hr4 hrx hrt hw hn hn6 hxd25 (by omega) (by omega) (by omega) (hWYhBc21 wk (by omega)) ⟨by rw [nI_int (by omega)]; omega, by rw [nI_int (by omega)]; omega⟩ hq hh) mi_X1_backBy q2143 gcX1 hxd25 ⟨rfl, rfl⟩ rfl ⟨Nat.le_of_ble_eq_true rfl, Nat.le_of_ble_eq_true rfl⟩ rfl dX1_bestStep_87 (fun r29 M28 hr => ?_)
          obtain ⟨hb30, k31, rfl⟩ := hr
          have hBc33 := hBc21.year (Z' := (pYS B k_t k_y)) hb30.2.2.2.2.2.2.2 k31
          have hf36 := hBc21.fl10 ⟨_, hBc33⟩ k31
          have hXc34 := hXc22.k10 hf36 hr4 hrx
          have hTc35 := hTc23.k10 hf36 hrt
          have k37 : ∀ zz : Nat, zz ≠ ba 10 → M28 zz = M0 zz := fun zz hz => (k31 zz hz).trans (hK9 zz hz)
          obtain ⟨⟨vshBc33, hx0hBc33⟩, ⟨wqhBc33, hwlhBc33, hwqhBc33⟩, ⟨mqhBc33, hmlhBc33, hmqhBc33⟩, hWYhBc33, hMThBc33⟩ := id hXc34
          have ht0hBc33 : M28 tx = some ((rt, 0), .inr (20, [.ref (ta 1), .ref (ta 2), .ref (ta 3), .ref (ta 4), .int (A 6 0), .int (A 6 1), .int (A 6 2), .int (A 6 3), .int ln])) := hTc35.1
          rw [hwk] at ht0hBc33
          have hb0hBc33 := hBc33.1
          rw [hn] at hb0hBc33
          obtain ⟨jwhBc33, awhBc33, hwchBc33, -⟩ := hWYhBc33 wk (by omega)
          have hxd38 := hf36.keep hxd25 (fun e => hrx (congrArg Prod.fst e).symm)
          refine x_istore C dX1_bestStep_90 (gs1_7 rfl) rfl ?_
          refine x_iload C dX1_bestStep_92 rfl ?_
          refine x_iload C dX1_bestStep_94 rfl ?_
          refine x_icmp_gt (tgt := 102) C dX1_bestStep_96 rfl (fun c96 => ?_) (fun c96 => ?_)
          · -- 102
            refine x_iload C dX1_bestStep_102 rfl ?_
            refine x_istore C dX1_bestStep_104 (gs1_4 rfl) rfl ?_
            refine x_iload C dX1_bestStep_106 rfl ?_
            refine x_istore C dX1_bestStep_108 (gs1_5 rfl) rfl ?_
            refine x_iincN (z := 1) C dX1_bestStep_110 rfl (gs1_6 rfl) rfl ?_
            refine x_goto (tgt := 66) C dX1_bestStep_113 rfl ?_
            have ef : fBS A B k_t k_y (i + 1) = pBack (nI wk) (nI (11 + i)) (pFrac (nI mk) (nI wk) (nI (11 + i)) (pYS B k_t k_y) (pHO B k_t) (pHA B k_t)) (A 6 2) (pYS B k_t k_y) := by unfold fBS; rw [hwk, hmk, show 10 + (i + 1) = 11 + i by omega]
            have ep : (pTop (nI 0) (fun k => nI (10 + k)) (fBS A B k_t k_y) (i + 1 + 1)) = (nI (11 + i), pBack (nI wk) (nI (11 + i)) (pFrac (nI mk) (nI wk) (nI (11 + i)) (pYS B k_t k_y) (pHO B k_t) (pHA B k_t)) (A 6 2) (pYS B k_t k_y)) := by rw [pTop_y (init := nI 0) (nm := fun k => nI (10 + k)) (f := (fBS A B k_t k_y)) (n := i + 1) (m := (pTop (nI 0) (fun k => nI (10 + k)) (fBS A B k_t k_y) (i + 1)).2) rfl (Or.inr (by rw [ef]; exact c96)), ef, show 10 + (i + 1) = 11 + i by omega]
            refine x_wk [true, true, true, true, true, true, true, false] rfl ?_
            have h9 := ih ht _ ⟨⟨_, hBc33⟩, k37⟩
            rw [ep] at h9
            exact h9
          · -- 99
            refine x_goto (tgt := 110) C dX1_bestStep_99 rfl ?_
            refine x_iincN (z := 1) C dX1_bestStep_110 rfl (gs1_6 rfl) rfl ?_
            refine x_goto (tgt := 66) C dX1_bestStep_113 rfl ?_
            have ef : fBS A B k_t k_y (i + 1) = pBack (nI wk) (nI (11 + i)) (pFrac (nI mk) (nI wk) (nI (11 + i)) (pYS B k_t k_y) (pHO B k_t) (pHA B k_t)) (A 6 2) (pYS B k_t k_y) := by unfold fBS; rw [hwk, hmk, show 10 + (i + 1) = 11 + i by omega]
            have ep : (pTop (nI 0) (fun k => nI (10 + k)) (fBS A B k_t k_y) (i + 1 + 1)) = (pTop (nI 0) (fun k => nI (10 + k)) (fBS A B k_t k_y) (i + 1)) := by rw [pTop_n (init := nI 0) (nm := fun k => nI (10 + k)) (f := (fBS A B k_t k_y)) (n := i + 1) (m := (pTop (nI 0) (fun k => nI (10 + k)) (fBS A B k_t k_y) (i + 1)).2) rfl (by omega) (by rw [ef]; exact c96)]
            refine x_wk [true, true, true, true, true, true, true, false] rfl ?_
            have h9 := ih ht _ ⟨⟨_, hBc33⟩, k37⟩
            rw [ep] at h9
            exact h9
        · -- False
          refine x_iload C dX1_bestStep_66 rfl ?_
          refine x_sipush C dX1_bestStep_68 ks_1000 ?_
          refine x_icmp_gtN (tgt := 116) C (by omega) (by omega) dX1_bestStep_71 rfl (fun _ => ?_) (fun _ => by exfalso; omega)
          refine x_iload C dX1_bestStep_116 rfl ?_
          exact x_iret C dX1_bestStep_118 ⟨Nat.le_of_ble_eq_true rfl, Nat.le_of_ble_eq_true rfl⟩ ⟨⟨_, hBc21⟩, hK9, by unfold qBS; rw [if_pos p2, if_pos (y16.mp p9), dN_nI (by omega), dN_nI (by omega), show pNow B = n by unfold pNow; rw [hn, dN_nI (by omega)], if_pos (by omega), show 991 = i + 1 by omega]⟩
      · -- 25
        refine x_bipush C dX1_bestStep_25 kb_m2 ?_
        exact x_iret C dX1_bestStep_27 ⟨Nat.le_of_ble_eq_true rfl, Nat.le_of_ble_eq_true rfl⟩ ⟨⟨_, hBC⟩, fun _ _ => rfl, by unfold qBS; rw [if_pos p2, if_pos (y16.mp p9), dN_nI (by omega), dN_nI (by omega), show pNow B = n by unfold pNow; rw [hn, dN_nI (by omega)], if_neg (by omega)]⟩
    · -- 9 0
      rw [hr]
      refine x_if_neF (tgt := 17) C (by decide) dX1_bestStep_12 rfl ?_
      refine x_iconst C dX1_bestStep_15 kc_m1 ?_
      exact x_iret C dX1_bestStep_16 ⟨Nat.le_of_ble_eq_true rfl, Nat.le_of_ble_eq_true rfl⟩ ⟨⟨_, hBC⟩, fun _ _ => rfl, by unfold qBS; rw [if_pos p2, if_neg (fun q => p9 (y16.mpr q))]⟩
  · -- 2 0
    rw [hr]
    refine x_if_eqT (tgt := 15) C (by decide) dX1_bestStep_5 rfl ?_
    refine x_iconst C dX1_bestStep_15 kc_m1 ?_
    exact x_iret C dX1_bestStep_16 ⟨Nat.le_of_ble_eq_true rfl, Nat.le_of_ble_eq_true rfl⟩ ⟨⟨_, hBC⟩, fun _ _ => rfl, by unfold qBS; rw [if_neg p2]⟩
