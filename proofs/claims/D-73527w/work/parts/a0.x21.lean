set_option maxRecDepth 100000
theorem mf_J8_J8_size_List : gMF RJ8 ⟨"java/util/List", "size", "()I"⟩ yJ8_size cJ8_size 1 (some .int) 0 := ⟨q2160, q1621, q133, q1622, ⟨q2156, q2155, q2162, q2161, q1625⟩, by decide +kernel⟩
theorem mi_X1_bestMethod : gMV RX1 yX1_bestMethod cX1_bestMethod 5 (some .int) 2 := ⟨q2150, q2151, q123, q2152, by decide +kernel⟩
set_option maxHeartbeats 4000000 in
set_option maxRecDepth 100000 in
theorem met_X1_bestMethod (l : Launch) {G : gG} (hG : gOK G) {M0 : gM} {r x : Nat} {ba : Nat → Nat} {B : Nat → Int32} {D : Nat → Nat → Int32} {Z : Nat → Int64} {tx wl ml : Nat} {wf mf : Nat → Nat} {rt : Nat} {ta : Nat → Nat} {mc : Nat → Int32} {nd it : Nat → Nat → Nat} {A : Nat → Nat → Int32} {ln : Int32} {T n : Nat} {xv : Nat → Value} {t y : Int32} (hBC : BC G r ba x (pQS B) (bf B D) (bo B) (B 0) (B 1866) Z M0) (hX : XW G x tx wl ml wf mf M0) (hT : TR G rt tx ta mc nd it (cA T A) (trA A) (wA A ln) M0) (hr4 : 4 ≤ r) (hrx : r ≠ x + 4) (hrt : r ≠ rt) (hw : wT T A) (hn : B 0 = nI n) (hn6 : n < 64) (hx : M0 x = some ((x + 4, 0), .inr (16, [.ref wl, .ref ml, xv 2, xv 3, .ref tx, .ref (ba 0), xv 6, xv 7, xv 8, xv 9, xv 10, xv 11, xv 12, xv 13]))) (hq : qB B) (hh : hdB B) : Met l yX1_bestMethod (ws_ yX1_bestMethod cX1_bestMethod 5 (some .int)) ({ frames := 7, cells := 0, slots := 0, locals := 171 }) (gPre G M0 [.ref (x), .int (t), .int (y)]) (gQ G (gI (fun r9 M1 => (∃ Z', BC G r ba x (pQS B) (bf B D) (bo B) (B 0) (B 1866) Z' M1) ∧ (∀ z, z ≠ ba 10 → M1 z = M0 z) ∧ qBM A T B t y = r9))) 0 0 (gA G) := by
  refine gMet (L0 := [some (.ref (x)), some (.int (t)), some (.int (y)), none, none]) RX1 hG (by decide +kernel) rfl (Nat.le_of_ble_eq_true rfl) rfl ?_
  intro p e s m args below meth c C hnm
  obtain ⟨wk, hwk, hwk3⟩ := isN_to hw.way
  have hsI := hw.stepI
  obtain ⟨⟨vs, hx0⟩, ⟨wq, hwl, hwq⟩, ⟨mq, hml, hmq⟩, hWY, hMT⟩ := id hX
  have ht0 : M0 tx = some ((rt, 0), .inr (20, [.ref (ta 1), .ref (ta 2), .ref (ta 3), .ref (ta 4), .int (A 6 0), .int (A 6 1), .int (A 6 2), .int (A 6 3), .int ln])) := hT.1
  rw [hwk] at ht0
  have hb0 := hBC.1
  rw [hn] at hb0
  obtain ⟨jw, aw, hwc, -⟩ := hWY wk (by omega)
  have hT4 := hw.T4
  refine x_aload_n C dX1_bestMethod_0 rfl rfl ?_
  refine x_iload_n C dX1_bestMethod_1 rfl rfl ?_
  refine x_V1I C (met_X1_isTrader l C.1 hBC hX hT hr4 hrx hrt hw hn hn6 hx) mi_X1_isTrader q1648 gcX1 hx ⟨rfl, rfl⟩ rfl ⟨Nat.le_of_ble_eq_true rfl, Nat.le_of_ble_eq_true rfl⟩ rfl dX1_bestMethod_2 (fun r2 M1 hr => ?_)
  rcases hr with ⟨hr, rfl, p2⟩ | ⟨hr, rfl, p2⟩
  · -- 2 1
    rw [hr]
    obtain ⟨k_t, rfl, hk_t⟩ := iT_ex (by omega) p2
    refine x_if_eqF (tgt := 15) C (by decide) dX1_bestMethod_5 rfl ?_
    refine x_iload_n C dX1_bestMethod_8 rfl rfl ?_
    refine x_S1I C (met_X1_isYear l C.1) mi_X1_isYear q2076 ⟨rfl, rfl⟩ rfl ⟨Nat.le_of_ble_eq_true rfl, Nat.le_of_ble_eq_true rfl⟩ rfl dX1_bestMethod_9 (fun r4 M3 hr => ?_)
    rcases hr with ⟨hr, rfl, p9⟩ | ⟨hr, rfl, p9⟩
    · -- 9 1
      rw [hr]
      obtain ⟨k_y, rfl, lk_y, hk_y⟩ := iI_ex (by omega) (by omega) (y16.mp p9)
      refine x_if_neT (tgt := 17) C (by decide) dX1_bestMethod_12 rfl ?_
      refine x_iload_n C dX1_bestMethod_17 rfl rfl ?_
      refine x_aload_n C dX1_bestMethod_18 rfl rfl ?_
      refine x_V0I C (met_X1_year l C.1 hBC hX hT hr4 hrx hrt hw hn hn6 hx) mi_X1_year q1580 gcX1 hx ⟨rfl, rfl⟩ rfl ⟨Nat.le_of_ble_eq_true rfl, Nat.le_of_ble_eq_true rfl⟩ rfl dX1_bestMethod_19 (fun r6 M5 hr => ?_)
      obtain ⟨hr, rfl⟩ := hr
      rw [hr]
      refine x_icmp_leN (tgt := 28) C (by omega) (by omega) dX1_bestMethod_22 rfl (fun c22 => ?_) (fun c22 => ?_)
      · -- 28
        refine x_iconst C dX1_bestMethod_28 kc_0 ?_
        refine x_istore_n C dX1_bestMethod_29 rfl (gs1_3 rfl) rfl ?_
        refine x_iconst C dX1_bestMethod_30 kc_1 ?_
        refine x_istore C dX1_bestMethod_31 (gs1_4 rfl) rfl ?_
        refine x_loop (head := 33) (E := 2) (fun i M => (∃ Z', BC G r ba x (pQS B) (bf B D) (bo B) (B 0) (B 1866) Z' M) ∧ ∀ z, z ≠ ba 10 → M z = M0 z) (fun i => [some (.ref x), some (.int (nI k_t)), some (.int (nI k_y)), some (.int (pTop (nI 0) nI (fBM A B k_t k_y) (i + 1)).1), some (.int (nI (i + 1)))]) ⟨⟨_, hBC⟩, fun _ _ => rfl⟩ (fun i M hi hI ih => ?_)
        obtain ⟨⟨Z9, hB9⟩, hK9⟩ := hI
        show gX G p l e _ s m args below meth c 5 _ M _ _ 33 [some (.ref x), some (.int (nI k_t)), some (.int (nI k_y)), some (.int (pTop (nI 0) nI (fBM A B k_t k_y) (i + 1)).1), some (.int (nI (i + 1)))] []
        have hBc7 := hBC.year (Z' := Z9) hB9.2.2.2.2.2.2.2 hK9
        have hf10 := hBC.fl10 ⟨_, hBc7⟩ hK9
        have hXc8 := hX.k10 hf10 hr4 hrx
        have hTc9 := hT.k10 hf10 hrt
        obtain ⟨⟨vshBc7, hx0hBc7⟩, ⟨wqhBc7, hwlhBc7, hwqhBc7⟩, ⟨mqhBc7, hmlhBc7, hmqhBc7⟩, hWYhBc7, hMThBc7⟩ := id hXc8
        have ht0hBc7 : M tx = some ((rt, 0), .inr (20, [.ref (ta 1), .ref (ta 2), .ref (ta 3), .ref (ta 4), .int (A 6 0), .int (A 6 1), .int (A 6 2), .int (A 6 3), .int ln])) := hTc9.1
        rw [hwk] at ht0hBc7
        have hb0hBc7 := hBc7.1
        rw [hn] at hb0hBc7
        obtain ⟨jwhBc7, awhBc7, hwchBc7, -⟩ := hWYhBc7 wk (by omega)
        have hxd11 := hf10.keep hx (fun e => hrx (congrArg Prod.fst e).symm)
        obtain ⟨b9, hb9, hbi⟩ := pTop_ix (init := nI 0) (f := (fBM A B k_t k_y)) (show 0 < i + 1 by omega)
        rw [show (pTop (nI 0) nI (fBM A B k_t k_y) (i + 1)).1 = nI b9 by rw [hb9]]
        rcases Nat.lt_or_ge i 2 with ht | ht
        · -- True
          refine x_iload C dX1_bestMethod_33 rfl ?_
          refine x_aload_n C dX1_bestMethod_35 rfl rfl ?_
          refine x_get C gcX1 hxd11 1 rfl q1250 rfl dX1_bestMethod_36 ?_
          refine x_F0I C (met_J8_size l C.1 hmlhBc7 hmqhBc7) mf_J8_J8_size_List q2154 gcJ8 hmlhBc7 ⟨rfl, rfl⟩ rfl ⟨Nat.le_of_ble_eq_true rfl, Nat.le_of_ble_eq_true rfl⟩ rfl dX1_bestMethod_39 (fun r13 M12 hr => ?_)
          obtain ⟨hr, rfl⟩ := hr
          rw [hr]
          refine x_icmp_geN (tgt := 102) C (by omega) (by omega) dX1_bestMethod_44 rfl (fun _ => by exfalso; omega) (fun _ => ?_)
          refine x_aload_n C dX1_bestMethod_47 rfl rfl ?_
          refine x_iload_n C dX1_bestMethod_48 rfl rfl ?_
          refine x_iload_n C dX1_bestMethod_49 rfl rfl ?_
          refine x_aload_n C dX1_bestMethod_50 rfl rfl ?_
          refine x_get C gcX1 hxd11 5 rfl q1257 rfl dX1_bestMethod_51 ?_
          refine x_V0R C (met_X6_way l C.1 hBc7 hXc8 hTc9 hr4 hrx hrt hw hn hn6) mi_X6_way q2095 gcX6 hb0hBc7 ⟨rfl, rfl⟩ rfl ⟨Nat.le_of_ble_eq_true rfl, Nat.le_of_ble_eq_true rfl⟩ rfl dX1_bestMethod_54 (fun r15 M14 hr => ?_)
          obtain ⟨hr, wk', hwk', hw3', rfl⟩ := hr
          rw [hr]
          have ew : wk = wk' := nI_inj (by omega) (by omega) (hwk.symm.trans hwk'); subst ew
          refine x_iload C dX1_bestMethod_57 rfl ?_
          refine x_aload_n C dX1_bestMethod_59 rfl rfl ?_
          refine x_get C gcX1 hxd11 4 rfl q1256 rfl dX1_bestMethod_60 ?_
          refine x_getN C gcX5 ht0hBc7 5 rfl q406 rfl dX1_bestMethod_63 ?_
          refine x_V5I C (met_X1_backBy l C.1 hBc7 hXc8 hTc9 hr4 hrx hrt hw hn hn6 hxd11 (by omega) (by omega) (by omega) (hWYhBc7 wk (by omega)) hsI hq hh) mi_X1_backBy q2143 gcX1 hxd11 ⟨rfl, rfl⟩ rfl ⟨Nat.le_of_ble_eq_true rfl, Nat.le_of_ble_eq_true rfl⟩ rfl dX1_bestMethod_66 (fun r17 M16 hr => ?_)
          obtain ⟨hb18, k19, rfl⟩ := hr
          have hBc21 := hBc7.year (Z' := (pYS B k_t k_y)) hb18.2.2.2.2.2.2.2 k19
          have hf24 := hBc7.fl10 ⟨_, hBc21⟩ k19
          have hXc22 := hXc8.k10 hf24 hr4 hrx
          have hTc23 := hTc9.k10 hf24 hrt
          have k25 : ∀ zz : Nat, zz ≠ ba 10 → M16 zz = M0 zz := fun zz hz => (k19 zz hz).trans (hK9 zz hz)
          obtain ⟨⟨vshBc21, hx0hBc21⟩, ⟨wqhBc21, hwlhBc21, hwqhBc21⟩, ⟨mqhBc21, hmlhBc21, hmqhBc21⟩, hWYhBc21, hMThBc21⟩ := id hXc22
          have ht0hBc21 : M16 tx = some ((rt, 0), .inr (20, [.ref (ta 1), .ref (ta 2), .ref (ta 3), .ref (ta 4), .int (A 6 0), .int (A 6 1), .int (A 6 2), .int (A 6 3), .int ln])) := hTc23.1
          rw [hwk] at ht0hBc21
          have hb0hBc21 := hBc21.1
          rw [hn] at hb0hBc21
          obtain ⟨jwhBc21, awhBc21, hwchBc21, -⟩ := hWYhBc21 wk (by omega)
          have hxd26 := hf24.keep hxd11 (fun e => hrx (congrArg Prod.fst e).symm)
          refine x_aload_n C dX1_bestMethod_69 rfl rfl ?_
          refine x_iload_n C dX1_bestMethod_70 rfl rfl ?_
          refine x_iload_n C dX1_bestMethod_71 rfl rfl ?_
          refine x_aload_n C dX1_bestMethod_72 rfl rfl ?_
          refine x_get C gcX1 hxd26 5 rfl q1257 rfl dX1_bestMethod_73 ?_
          refine x_V0R C (met_X6_way l C.1 hBc21 hXc22 hTc23 hr4 hrx hrt hw hn hn6) mi_X6_way q2095 gcX6 hb0hBc21 ⟨rfl, rfl⟩ rfl ⟨Nat.le_of_ble_eq_true rfl, Nat.le_of_ble_eq_true rfl⟩ rfl dX1_bestMethod_76 (fun r28 M27 hr => ?_)
          obtain ⟨hr, wk', hwk', hw3', rfl⟩ := hr
          rw [hr]
          have ew : wk = wk' := nI_inj (by omega) (by omega) (hwk.symm.trans hwk'); subst ew
          refine x_iload_n C dX1_bestMethod_79 rfl rfl ?_
          refine x_aload_n C dX1_bestMethod_80 rfl rfl ?_
          refine x_get C gcX1 hxd26 4 rfl q1256 rfl dX1_bestMethod_81 ?_
          refine x_getN C gcX5 ht0hBc21 5 rfl q406 rfl dX1_bestMethod_84 ?_
          refine x_V5I C (met_X1_backBy l C.1 hBc21 hXc22 hTc23 hr4 hrx hrt hw hn hn6 hxd26 (by omega) (by omega) (by omega) (hWYhBc21 wk (by omega)) hsI hq hh) mi_X1_backBy q2143 gcX1 hxd26 ⟨rfl, rfl⟩ rfl ⟨Nat.le_of_ble_eq_true rfl, Nat.le_of_ble_eq_true rfl⟩ rfl dX1_bestMethod_87 (fun r30 M29 hr => ?_)
          obtain ⟨hb31, k32, rfl⟩ := hr
          have hBc34 := hBc21.year (Z' := (pYS B k_t k_y)) hb31.2.2.2.2.2.2.2 k32
          have hf37 := hBc21.fl10 ⟨_, hBc34⟩ k32
          have hXc35 := hXc22.k10 hf37 hr4 hrx
          have hTc36 := hTc23.k10 hf37 hrt
          have k38 : ∀ zz : Nat, zz ≠ ba 10 → M29 zz = M0 zz := fun zz hz => (k32 zz hz).trans (k25 zz hz)
          obtain ⟨⟨vshBc34, hx0hBc34⟩, ⟨wqhBc34, hwlhBc34, hwqhBc34⟩, ⟨mqhBc34, hmlhBc34, hmqhBc34⟩, hWYhBc34, hMThBc34⟩ := id hXc35
          have ht0hBc34 : M29 tx = some ((rt, 0), .inr (20, [.ref (ta 1), .ref (ta 2), .ref (ta 3), .ref (ta 4), .int (A 6 0), .int (A 6 1), .int (A 6 2), .int (A 6 3), .int ln])) := hTc36.1
          rw [hwk] at ht0hBc34
          have hb0hBc34 := hBc34.1
          rw [hn] at hb0hBc34
          obtain ⟨jwhBc34, awhBc34, hwchBc34, -⟩ := hWYhBc34 wk (by omega)
          have hxd39 := hf37.keep hxd26 (fun e => hrx (congrArg Prod.fst e).symm)
          refine x_icmp_le (tgt := 96) C dX1_bestMethod_90 rfl (fun c90 => ?_) (fun c90 => ?_)
          · -- 96
            refine x_iincN (z := 1) C dX1_bestMethod_96 rfl (gs1_4 rfl) rfl ?_
            refine x_goto (tgt := 33) C dX1_bestMethod_99 rfl ?_
            rw [show nI b9 = (pTop (nI 0) nI (fBM A B k_t k_y) (i + 1 + 1)).1 by rw [pTop_n (init := nI 0) (nm := nI) (f := (fBM A B k_t k_y)) (n := i + 1) (m := (fBM A B k_t k_y) b9) (by rw [hb9]) (by omega) (by show ¬ fBM A B k_t k_y b9 < fBM A B k_t k_y (i + 1); unfold fBM pBk; rw [hwk]; exact Int32.not_lt.mpr c90), hb9]]
            exact ih ht _ ⟨⟨_, hBc34⟩, k38⟩
          · -- 93
            refine x_iload C dX1_bestMethod_93 rfl ?_
            refine x_istore_n C dX1_bestMethod_95 rfl (gs1_3 rfl) rfl ?_
            refine x_iincN (z := 1) C dX1_bestMethod_96 rfl (gs1_4 rfl) rfl ?_
            refine x_goto (tgt := 33) C dX1_bestMethod_99 rfl ?_
            rw [show nI (i + 1) = (pTop (nI 0) nI (fBM A B k_t k_y) (i + 1 + 1)).1 by rw [pTop_y (init := nI 0) (nm := nI) (f := (fBM A B k_t k_y)) (n := i + 1) (m := (fBM A B k_t k_y) b9) (by rw [hb9]) (Or.inr (by show fBM A B k_t k_y b9 < fBM A B k_t k_y (i + 1); unfold fBM pBk; rw [hwk]; exact Int32.not_le.mp c90))]]
            exact ih ht _ ⟨⟨_, hBc34⟩, k38⟩
        · -- False
          refine x_iload C dX1_bestMethod_33 rfl ?_
          refine x_aload_n C dX1_bestMethod_35 rfl rfl ?_
          refine x_get C gcX1 hxd11 1 rfl q1250 rfl dX1_bestMethod_36 ?_
          refine x_F0I C (met_J8_size l C.1 hmlhBc7 hmqhBc7) mf_J8_J8_size_List q2154 gcJ8 hmlhBc7 ⟨rfl, rfl⟩ rfl ⟨Nat.le_of_ble_eq_true rfl, Nat.le_of_ble_eq_true rfl⟩ rfl dX1_bestMethod_39 (fun r41 M40 hr => ?_)
          obtain ⟨hr, rfl⟩ := hr
          rw [hr]
          refine x_icmp_geN (tgt := 102) C (by omega) (by omega) dX1_bestMethod_44 rfl (fun _ => ?_) (fun _ => by exfalso; omega)
          refine x_iload_n C dX1_bestMethod_102 rfl rfl ?_
          exact x_iret C dX1_bestMethod_103 ⟨Nat.le_of_ble_eq_true rfl, Nat.le_of_ble_eq_true rfl⟩ ⟨⟨_, hBc7⟩, hK9, by unfold qBM; rw [if_pos p2, if_pos (y16.mp p9), dN_nI (by omega), dN_nI (by omega), show pNow B = n by unfold pNow; rw [hn, dN_nI (by omega)], if_pos (by omega), show 3 = i + 1 by omega, hb9]⟩
      · -- 25
        refine x_bipush C dX1_bestMethod_25 kb_m2 ?_
        exact x_iret C dX1_bestMethod_27 ⟨Nat.le_of_ble_eq_true rfl, Nat.le_of_ble_eq_true rfl⟩ ⟨⟨_, hBC⟩, fun _ _ => rfl, by unfold qBM; rw [if_pos p2, if_pos (y16.mp p9), dN_nI (by omega), dN_nI (by omega), show pNow B = n by unfold pNow; rw [hn, dN_nI (by omega)], if_neg (by omega)]⟩
    · -- 9 0
      rw [hr]
      refine x_if_neF (tgt := 17) C (by decide) dX1_bestMethod_12 rfl ?_
      refine x_iconst C dX1_bestMethod_15 kc_m1 ?_
      exact x_iret C dX1_bestMethod_16 ⟨Nat.le_of_ble_eq_true rfl, Nat.le_of_ble_eq_true rfl⟩ ⟨⟨_, hBC⟩, fun _ _ => rfl, by unfold qBM; rw [if_pos p2, if_neg (fun q => p9 (y16.mpr q))]⟩
  · -- 2 0
    rw [hr]
    refine x_if_eqT (tgt := 15) C (by decide) dX1_bestMethod_5 rfl ?_
    refine x_iconst C dX1_bestMethod_15 kc_m1 ?_
    exact x_iret C dX1_bestMethod_16 ⟨Nat.le_of_ble_eq_true rfl, Nat.le_of_ble_eq_true rfl⟩ ⟨⟨_, hBC⟩, fun _ _ => rfl, by unfold qBM; rw [if_neg p2]⟩
