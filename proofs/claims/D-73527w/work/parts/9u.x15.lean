set_option maxRecDepth 100000
theorem i64_gt {x y : Int64} (h : y < x) : ¬ x ≤ y := Int64.not_le.mpr h
theorem lim_eq {T : Nat} {A : Nat → Nat → Int32} {B : Nat → Int32} (hw : wT T A) (hq : qB B) (hh : hdB B) (hr : rB A B) {t y : Nat} (ht : t < 4) (hy : y < 16) : pLim A B t y = if (2 : Int64) * (pWh (pYS B t y) - pIts (A 6 0) (A 6 1) (pAnn A B t y) (pYS B t y)) ≤ pWh (pYS B t y) then (pWh (pYS B t y) - pIts (A 6 0) (A 6 1) (pAnn A B t y) (pYS B t y)).toInt32 else (-2) := by
  have hz := hq.y ht hy
  have hf := pAnn_fB hw hq hh hr ht hy
  have hi := pIts_rng (way := A 6 0) hz hf
  have z2 := hz.at (k := 2) (by omega)
  have z3 := hz.at (k := 3) (by omega)
  have z4 := hz.at (k := 4) (by omega)
  have hwh : (pWh (pYS B t y)).toInt = (pYS B t y 2).toInt + (pYS B t y 3).toInt + (pYS B t y 4).toInt := by
    unfold pWh
    have e := hz.add (j := 2) (k := 3) (by omega) (by omega)
    rw [i64_add (by rw [e]; omega) (by omega), e]
  have hneg : ¬ pWh (pYS B t y) - pIts (A 6 0) (A 6 1) (pAnn A B t y) (pYS B t y) ≤ (-1 : Int32).toInt64 := by
    rw [Int64.le_iff_toInt_le, i64_sub (by omega) (by omega), Int32.toInt_toInt64, show (-1 : Int32).toInt = -1 from by decide]
    omega
  have hb : (pBk A (pAnn A B t y) (-1) (pYS B t y)).toInt64 = pIts (A 6 0) (A 6 1) (pAnn A B t y) (pYS B t y) := by
    unfold pBk pBack
    rw [if_neg (fun q => hneg q.1), i32_64 (by omega)]
  unfold pLim
  rw [hb]
theorem mi_X1_backBy : gMV RX1 yX1_backBy cX1_backBy 7 (some .int) 5 := ⟨q2145, qs48, q123, q2146, by decide +kernel⟩
set_option maxHeartbeats 4000000 in
set_option maxRecDepth 100000 in
theorem met_X1_backBy (l : Launch) {G : gG} (hG : gOK G) {M0 : gM} {r x : Nat} {ba : Nat → Nat} {B : Nat → Int32} {D : Nat → Nat → Int32} {Z : Nat → Int64} {tx wl ml : Nat} {wf mf : Nat → Nat} {rt : Nat} {ta : Nat → Nat} {mc : Nat → Int32} {nd it : Nat → Nat → Nat} {A : Nat → Nat → Int32} {ln : Int32} {T n : Nat} {xv : Nat → Value} {t y wv kw mk : Nat} {step : Int32} (hBC : BC G r ba x (pQS B) (bf B D) (bo B) (B 0) (B 1866) Z M0) (hX : XW G x tx wl ml wf mf M0) (hT : TR G rt tx ta mc nd it (cA T A) (trA A) (wA A ln) M0) (hr4 : 4 ≤ r) (hrx : r ≠ x + 4) (hrt : r ≠ rt) (hw : wT T A) (hn : B 0 = nI n) (hn6 : n < 64) (hx : M0 x = some ((x + 4, 0), .inr (16, [.ref wl, .ref ml, xv 2, xv 3, .ref tx, .ref (ba 0), xv 6, xv 7, xv 8, xv 9, xv 10, xv 11, xv 12, xv 13]))) (htT : t < T) (hy16 : y < 16) (hm3 : mk < 3) (hwv : WY G kw wv M0) (hst : 10 ≤ step.toInt ∧ step.toInt ≤ 1000) (hq : qB B) (hh : hdB B) : Met l yX1_backBy (ws_ yX1_backBy cX1_backBy 7 (some .int)) ({ frames := 6, cells := 0, slots := 0, locals := 145 }) (gPre G M0 [.ref (x), .int (nI t), .int (nI y), .ref (wv), .int (nI mk), .int (step)]) (gQ G (gI (fun r9 M1 => BC G r ba x (pQS B) (bf B D) (bo B) (B 0) (B 1866) (pYS B t y) M1 ∧ (∀ z, z ≠ ba 10 → M1 z = M0 z) ∧ pBack (nI kw) step (pFrac (nI mk) (nI kw) step (pYS B t y) (pHO B t) (pHA B t)) (A 6 2) (pYS B t y) = r9))) 0 0 (gA G) := by
  refine gMet (L0 := [some (.ref (x)), some (.int (nI t)), some (.int (nI y)), some (.ref (wv)), some (.int (nI mk)), some (.int (step)), none]) RX1 hG (by decide +kernel) rfl (Nat.le_of_ble_eq_true rfl) rfl ?_
  intro p e s m args below meth c C hnm
  obtain ⟨wk, hwk, hwk3⟩ := isN_to hw.way
  have hsI := hw.stepI
  obtain ⟨⟨vs, hx0⟩, ⟨wq, hwl, hwq⟩, ⟨mq, hml, hmq⟩, hWY, hMT⟩ := id hX
  have ht0 : M0 tx = some ((rt, 0), .inr (20, [.ref (ta 1), .ref (ta 2), .ref (ta 3), .ref (ta 4), .int (A 6 0), .int (A 6 1), .int (A 6 2), .int (A 6 3), .int ln])) := hT.1
  rw [hwk] at ht0
  have hb0 := hBC.1
  rw [hn] at hb0
  obtain ⟨jw, aw, hwc, -⟩ := hWY wk (by omega)
  have hT4 := hw.T4
  refine x_aload_n C dX1_backBy_0 rfl rfl ?_
  refine x_get C gcX1 hx 5 rfl q1257 rfl dX1_backBy_1 ?_
  refine x_iload_n C dX1_backBy_4 rfl rfl ?_
  refine x_iload_n C dX1_backBy_5 rfl rfl ?_
  refine x_V2R C (met_X6_ofYear l C.1 hBC hX hT hr4 hrx hrt hw hn hn6 (by omega) (by omega)) mi_X6_ofYear q2094 gcX6 hb0 ⟨rfl, rfl⟩ rfl ⟨Nat.le_of_ble_eq_true rfl, Nat.le_of_ble_eq_true rfl⟩ rfl dX1_backBy_6 (fun r2 M1 hr => ?_)
  obtain ⟨rfl, hb3, k4⟩ := hr
  have hBc6 := hBC.year (Z' := (pYS B t y)) hb3.2.2.2.2.2.2.2 k4
  have hf9 := hBC.fl10 ⟨_, hBc6⟩ k4
  have hXc7 := hX.k10 hf9 hr4 hrx
  have hTc8 := hT.k10 hf9 hrt
  obtain ⟨⟨vshBc6, hx0hBc6⟩, ⟨wqhBc6, hwlhBc6, hwqhBc6⟩, ⟨mqhBc6, hmlhBc6, hmqhBc6⟩, hWYhBc6, hMThBc6⟩ := id hXc7
  have ht0hBc6 : M1 tx = some ((rt, 0), .inr (20, [.ref (ta 1), .ref (ta 2), .ref (ta 3), .ref (ta 4), .int (A 6 0), .int (A 6 1), .int (A 6 2), .int (A 6 3), .int ln])) := hTc8.1
  rw [hwk] at ht0hBc6
  have hb0hBc6 := hBc6.1
  rw [hn] at hb0hBc6
  obtain ⟨jwhBc6, awhBc6, hwchBc6, -⟩ := hWYhBc6 wk (by omega)
  have hxd10 := hf9.keep hx (fun e => hrx (congrArg Prod.fst e).symm)
  refine x_astore C dX1_backBy_9 (gs1_6 rfl) rfl ?_
  refine x_aload C dX1_backBy_11 rfl ?_
  refine x_aload_n C dX1_backBy_13 rfl rfl ?_
  refine x_get C gcX1 hxd10 1 rfl q1250 rfl dX1_backBy_14 ?_
  refine x_iload C dX1_backBy_17 rfl ?_
  refine x_F1R C (met_J8_get l C.1 hmlhBc6 hmqhBc6 (by omega) rfl) mf_J8_J8_get_List q2142 gcJ8 hmlhBc6 ⟨rfl, rfl⟩ rfl ⟨Nat.le_of_ble_eq_true rfl, Nat.le_of_ble_eq_true rfl⟩ rfl dX1_backBy_19 (fun r12 M11 hr => ?_)
  obtain ⟨hr, rfl⟩ := hr
  rw [hr]
  have hwv2 := hwv.keep hf9 (fun j e => by have := congrArg Prod.fst e; dsimp only at this; omega)
  obtain ⟨jm, a1m, a2m, hmc, -⟩ := hMThBc6 mk (by omega)
  refine x_castS C gcX3 hmc q295 dX1_backBy_24 ?_
  refine x_aload C dX1_backBy_27 rfl ?_
  refine x_aload_n C dX1_backBy_29 rfl rfl ?_
  refine x_get C gcX1 hxd10 5 rfl q1257 rfl dX1_backBy_30 ?_
  refine x_getN C gcX6 hb0hBc6 5 rfl q523 rfl dX1_backBy_33 ?_
  refine x_iload_n C dX1_backBy_36 rfl rfl ?_
  refine y_iald (i := t) C (hBc6.2.2.2.2.2.2.1 0 (by omega)) rfl (by omega) rfl dX1_backBy_37 ?_
  refine x_aload_n C dX1_backBy_38 rfl rfl ?_
  refine x_get C gcX1 hxd10 5 rfl q1257 rfl dX1_backBy_39 ?_
  refine x_getN C gcX6 hb0hBc6 6 rfl q525 rfl dX1_backBy_42 ?_
  refine x_iload_n C dX1_backBy_45 rfl rfl ?_
  refine y_iald (i := t) C (hBc6.2.2.2.2.2.2.1 1 (by omega)) rfl (by omega) rfl dX1_backBy_46 ?_
  refine x_iload C dX1_backBy_47 rfl ?_
  refine x_aload_n C dX1_backBy_49 rfl rfl ?_
  refine x_V5I C (met_X3_fraction l C.1 hBc6.2.2.2.2.2.2.2 (hMThBc6 mk (by omega)) hwv2 hst (hq.y (by omega) (by omega)) (hh _ (by omega))) mi_X3_fraction q2147 gcX3 hmc ⟨rfl, rfl⟩ rfl ⟨Nat.le_of_ble_eq_true rfl, Nat.le_of_ble_eq_true rfl⟩ rfl dX1_backBy_50 (fun r14 M13 hr => ?_)
  obtain ⟨hr, rfl⟩ := hr
  rw [hr]
  refine x_iload C dX1_backBy_53 rfl ?_
  refine x_aload_n C dX1_backBy_55 rfl rfl ?_
  refine x_aload_n C dX1_backBy_56 rfl rfl ?_
  refine x_get C gcX1 hxd10 4 rfl q1256 rfl dX1_backBy_57 ?_
  refine x_getN C gcX5 ht0hBc6 6 rfl q410 rfl dX1_backBy_60 ?_
  refine x_V4I C (met_X7_back l C.1 hBc6.2.2.2.2.2.2.2 hwv2 (hq.y (by omega) (by omega)) (pFrac_fB hst (hq.y (by omega) (by omega)) (hh t (by omega)))) mi_X7_back q2148 gcX7 hBc6.2.2.2.2.2.2.2.1 ⟨rfl, rfl⟩ rfl ⟨Nat.le_of_ble_eq_true rfl, Nat.le_of_ble_eq_true rfl⟩ rfl dX1_backBy_63 (fun r16 M15 hr => ?_)
  obtain ⟨hr, rfl⟩ := hr
  rw [hr]
  exact x_iret C dX1_backBy_66 ⟨Nat.le_of_ble_eq_true rfl, Nat.le_of_ble_eq_true rfl⟩ ⟨hBc6, k4, rfl⟩
theorem mi_X1_by : gMV RX1 yX1_by cX1_by 6 (some .int) 5 := ⟨q2136, q2137, q123, q2138, by decide +kernel⟩
set_option maxHeartbeats 4000000 in
set_option maxRecDepth 100000 in
theorem met_X1_by (l : Launch) {G : gG} (hG : gOK G) {M0 : gM} {r x : Nat} {ba : Nat → Nat} {B : Nat → Int32} {D : Nat → Nat → Int32} {Z : Nat → Int64} {tx wl ml : Nat} {wf mf : Nat → Nat} {rt : Nat} {ta : Nat → Nat} {mc : Nat → Int32} {nd it : Nat → Nat → Nat} {A : Nat → Nat → Int32} {ln : Int32} {T n : Nat} {xv : Nat → Value} {t y way mth step : Int32} (hBC : BC G r ba x (pQS B) (bf B D) (bo B) (B 0) (B 1866) Z M0) (hX : XW G x tx wl ml wf mf M0) (hT : TR G rt tx ta mc nd it (cA T A) (trA A) (wA A ln) M0) (hr4 : 4 ≤ r) (hrx : r ≠ x + 4) (hrt : r ≠ rt) (hw : wT T A) (hn : B 0 = nI n) (hn6 : n < 64) (hx : M0 x = some ((x + 4, 0), .inr (16, [.ref wl, .ref ml, xv 2, xv 3, .ref tx, .ref (ba 0), xv 6, xv 7, xv 8, xv 9, xv 10, xv 11, xv 12, xv 13]))) (hq : qB B) (hh : hdB B) : Met l yX1_by (ws_ yX1_by cX1_by 6 (some .int)) ({ frames := 7, cells := 0, slots := 0, locals := 171 }) (gPre G M0 [.ref (x), .int (t), .int (y), .int (way), .int (mth), .int (step)]) (gQ G (gI (fun r9 M1 => (∃ Z', BC G r ba x (pQS B) (bf B D) (bo B) (B 0) (B 1866) Z' M1) ∧ (∀ z, z ≠ ba 10 → M1 z = M0 z) ∧ qBy A T B t y way mth step = r9))) 0 0 (gA G) := by
  refine gMet (L0 := [some (.ref (x)), some (.int (t)), some (.int (y)), some (.int (way)), some (.int (mth)), some (.int (step))]) RX1 hG (by decide +kernel) rfl (Nat.le_of_ble_eq_true rfl) rfl ?_
  intro p e s m args below meth c C hnm
  obtain ⟨wk, hwk, hwk3⟩ := isN_to hw.way
  have hsI := hw.stepI
  obtain ⟨⟨vs, hx0⟩, ⟨wq, hwl, hwq⟩, ⟨mq, hml, hmq⟩, hWY, hMT⟩ := id hX
  have ht0 : M0 tx = some ((rt, 0), .inr (20, [.ref (ta 1), .ref (ta 2), .ref (ta 3), .ref (ta 4), .int (A 6 0), .int (A 6 1), .int (A 6 2), .int (A 6 3), .int ln])) := hT.1
  rw [hwk] at ht0
  have hb0 := hBC.1
  rw [hn] at hb0
  obtain ⟨jw, aw, hwc, -⟩ := hWY wk (by omega)
  have hT4 := hw.T4
  refine x_aload_n C dX1_by_0 rfl rfl ?_
  refine x_iload_n C dX1_by_1 rfl rfl ?_
  refine x_iload_n C dX1_by_2 rfl rfl ?_
  refine x_V2I C (met_X1_isThere l C.1 hBC hX hT hr4 hrx hrt hw hn hn6 hx) mi_X1_isThere q2072 gcX1 hx ⟨rfl, rfl⟩ rfl ⟨Nat.le_of_ble_eq_true rfl, Nat.le_of_ble_eq_true rfl⟩ rfl dX1_by_3 (fun r2 M1 hr => ?_)
  rcases hr with ⟨hr, rfl, p3⟩ | ⟨hr, rfl, p3⟩
  · -- 3 1
    rw [hr]
    obtain ⟨k_t, rfl, hk_t⟩ := iT_ex (by omega) p3.1
    obtain ⟨k_y, rfl, hk_y⟩ := iT_ex (by omega) p3.2
    refine x_if_eqF (tgt := 49) C (by decide) dX1_by_6 rfl ?_
    refine x_iload_n C dX1_by_9 rfl rfl ?_
    refine x_i2l C dX1_by_10 ?_
    refine x_lconst (v := 0) C dX1_by_11 rfl ?_
    refine x_ldc2 C dX1_by_12 q1783 ?_
    refine x_S3I C (met_X1_in l C.1) mi_X1_in q1308 ⟨rfl, rfl⟩ rfl ⟨Nat.le_of_ble_eq_true rfl, Nat.le_of_ble_eq_true rfl⟩ rfl dX1_by_15 (fun r4 M3 hr => ?_)
    rcases hr with ⟨hr, rfl, p15⟩ | ⟨hr, rfl, p15⟩
    · -- 15 1
      rw [hr]
      obtain ⟨k_way, rfl, lk_way, hk_way⟩ := iI_ex (by omega) (by omega) (u2.mp p15)
      refine x_if_eqF (tgt := 49) C (by decide) dX1_by_18 rfl ?_
      refine x_iload C dX1_by_21 rfl ?_
      refine x_i2l C dX1_by_23 ?_
      refine x_lconst (v := 0) C dX1_by_24 rfl ?_
      refine x_ldc2 C dX1_by_25 q1783 ?_
      refine x_S3I C (met_X1_in l C.1) mi_X1_in q1308 ⟨rfl, rfl⟩ rfl ⟨Nat.le_of_ble_eq_true rfl, Nat.le_of_ble_eq_true rfl⟩ rfl dX1_by_28 (fun r6 M5 hr => ?_)
      rcases hr with ⟨hr, rfl, p28⟩ | ⟨hr, rfl, p28⟩
      · -- 28 1
        rw [hr]
        obtain ⟨k_mth, rfl, lk_mth, hk_mth⟩ := iI_ex (by omega) (by omega) (u2.mp p28)
        refine x_if_eqF (tgt := 49) C (by decide) dX1_by_31 rfl ?_
        refine x_iload C dX1_by_34 rfl ?_
        refine x_i2l C dX1_by_36 ?_
        refine x_ldc2 C dX1_by_37 q2139 ?_
        refine x_ldc2 C dX1_by_40 q2140 ?_
        refine x_S3I C (met_X1_in l C.1) mi_X1_in q1308 ⟨rfl, rfl⟩ rfl ⟨Nat.le_of_ble_eq_true rfl, Nat.le_of_ble_eq_true rfl⟩ rfl dX1_by_43 (fun r8 M7 hr => ?_)
        rcases hr with ⟨hr, rfl, p43⟩ | ⟨hr, rfl, p43⟩
        · -- 43 1
          rw [hr]
          refine x_if_neT (tgt := 53) C (by decide) dX1_by_46 rfl ?_
          refine x_aload_n C dX1_by_53 rfl rfl ?_
          refine x_iload_n C dX1_by_54 rfl rfl ?_
          refine x_iload_n C dX1_by_55 rfl rfl ?_
          refine x_aload_n C dX1_by_56 rfl rfl ?_
          refine x_get C gcX1 hx 0 rfl q1248 rfl dX1_by_57 ?_
          refine x_iload_n C dX1_by_60 rfl rfl ?_
          refine x_F1R C (met_J8_get l C.1 hwl hwq (by omega) rfl) mf_J8_J8_get_List q2142 gcJ8 hwl ⟨rfl, rfl⟩ rfl ⟨Nat.le_of_ble_eq_true rfl, Nat.le_of_ble_eq_true rfl⟩ rfl dX1_by_61 (fun r10 M9 hr => ?_)
          obtain ⟨hr, rfl⟩ := hr
          rw [hr]
          obtain ⟨jw9, aw9, hwc9, -⟩ := hWY k_way (by omega)
          refine x_castS C gcX2 hwc9 q184 dX1_by_66 ?_
          refine x_iload C dX1_by_69 rfl ?_
          refine x_iload C dX1_by_71 rfl ?_
          refine x_V5I C (met_X1_backBy l C.1 hBC hX hT hr4 hrx hrt hw hn hn6 hx (by omega) (by omega) (by omega) (hWY k_way (by omega)) (s10i p43) hq hh) mi_X1_backBy q2143 gcX1 hx ⟨rfl, rfl⟩ rfl ⟨Nat.le_of_ble_eq_true rfl, Nat.le_of_ble_eq_true rfl⟩ rfl dX1_by_73 (fun r12 M11 hr => ?_)
          obtain ⟨hb13, k14, rfl⟩ := hr
          have hBc16 := hBC.year (Z' := (pYS B k_t k_y)) hb13.2.2.2.2.2.2.2 k14
          have hf19 := hBC.fl10 ⟨_, hBc16⟩ k14
          have hXc17 := hX.k10 hf19 hr4 hrx
          have hTc18 := hT.k10 hf19 hrt
          obtain ⟨⟨vshBc16, hx0hBc16⟩, ⟨wqhBc16, hwlhBc16, hwqhBc16⟩, ⟨mqhBc16, hmlhBc16, hmqhBc16⟩, hWYhBc16, hMThBc16⟩ := id hXc17
          have ht0hBc16 : M11 tx = some ((rt, 0), .inr (20, [.ref (ta 1), .ref (ta 2), .ref (ta 3), .ref (ta 4), .int (A 6 0), .int (A 6 1), .int (A 6 2), .int (A 6 3), .int ln])) := hTc18.1
          rw [hwk] at ht0hBc16
          have hb0hBc16 := hBc16.1
          rw [hn] at hb0hBc16
          obtain ⟨jwhBc16, awhBc16, hwchBc16, -⟩ := hWYhBc16 wk (by omega)
          have hxd20 := hf19.keep hx (fun e => hrx (congrArg Prod.fst e).symm)
          exact x_iret C dX1_by_76 ⟨Nat.le_of_ble_eq_true rfl, Nat.le_of_ble_eq_true rfl⟩ ⟨⟨_, hBc16⟩, k14, by unfold qBy; rw [if_pos (by unfold iY; rw [show pNow B = n by unfold pNow; rw [hn, dN_nI (by omega)]]; exact p3), if_pos (u2.mp p15), if_pos (u2.mp p28), if_pos (s10.mp p43), dN_nI (by omega), dN_nI (by omega)]⟩
        · -- 43 0
          rw [hr]
          refine x_if_neF (tgt := 53) C (by decide) dX1_by_46 rfl ?_
          refine x_ldcw C dX1_by_49 q2080 ?_
          exact x_iret C dX1_by_52 ⟨Nat.le_of_ble_eq_true rfl, Nat.le_of_ble_eq_true rfl⟩ ⟨⟨_, hBC⟩, fun _ _ => rfl, by unfold qBy; rw [if_pos (by unfold iY; rw [show pNow B = n by unfold pNow; rw [hn, dN_nI (by omega)]]; exact p3), if_pos (u2.mp p15), if_pos (u2.mp p28), if_neg (fun q => p43 (s10.mpr q))]⟩
      · -- 28 0
        rw [hr]
        refine x_if_eqT (tgt := 49) C (by decide) dX1_by_31 rfl ?_
        refine x_ldcw C dX1_by_49 q2080 ?_
        exact x_iret C dX1_by_52 ⟨Nat.le_of_ble_eq_true rfl, Nat.le_of_ble_eq_true rfl⟩ ⟨⟨_, hBC⟩, fun _ _ => rfl, by unfold qBy; rw [if_pos (by unfold iY; rw [show pNow B = n by unfold pNow; rw [hn, dN_nI (by omega)]]; exact p3), if_pos (u2.mp p15), if_neg (fun q => p28 (u2.mpr q))]⟩
    · -- 15 0
      rw [hr]
      refine x_if_eqT (tgt := 49) C (by decide) dX1_by_18 rfl ?_
      refine x_ldcw C dX1_by_49 q2080 ?_
      exact x_iret C dX1_by_52 ⟨Nat.le_of_ble_eq_true rfl, Nat.le_of_ble_eq_true rfl⟩ ⟨⟨_, hBC⟩, fun _ _ => rfl, by unfold qBy; rw [if_pos (by unfold iY; rw [show pNow B = n by unfold pNow; rw [hn, dN_nI (by omega)]]; exact p3), if_neg (fun q => p15 (u2.mpr q))]⟩
  · -- 3 0
    rw [hr]
    refine x_if_eqT (tgt := 49) C (by decide) dX1_by_6 rfl ?_
    refine x_ldcw C dX1_by_49 q2080 ?_
    exact x_iret C dX1_by_52 ⟨Nat.le_of_ble_eq_true rfl, Nat.le_of_ble_eq_true rfl⟩ ⟨⟨_, hBC⟩, fun _ _ => rfl, by unfold qBy; rw [if_neg (by unfold iY; rw [show pNow B = n by unfold pNow; rw [hn, dN_nI (by omega)]]; exact p3)]⟩
theorem mi_X1_limitFor : gMV RX1 yX1_limitFor cX1_limitFor 7 (some .int) 2 := ⟨q2178, q2179, q123, q2180, by decide +kernel⟩
set_option maxHeartbeats 4000000 in
set_option maxRecDepth 100000 in
theorem met_X1_limitFor (l : Launch) {G : gG} (hG : gOK G) {M0 : gM} {r x : Nat} {ba : Nat → Nat} {B : Nat → Int32} {D : Nat → Nat → Int32} {Z : Nat → Int64} {tx wl ml : Nat} {wf mf : Nat → Nat} {rt : Nat} {ta : Nat → Nat} {mc : Nat → Int32} {nd it : Nat → Nat → Nat} {A : Nat → Nat → Int32} {ln : Int32} {T n : Nat} {xv : Nat → Value} {t y : Int32} (hBC : BC G r ba x (pQS B) (bf B D) (bo B) (B 0) (B 1866) Z M0) (hX : XW G x tx wl ml wf mf M0) (hT : TR G rt tx ta mc nd it (cA T A) (trA A) (wA A ln) M0) (hr4 : 4 ≤ r) (hrx : r ≠ x + 4) (hrt : r ≠ rt) (hw : wT T A) (hn : B 0 = nI n) (hn6 : n < 64) (hx : M0 x = some ((x + 4, 0), .inr (16, [.ref wl, .ref ml, xv 2, xv 3, .ref tx, .ref (ba 0), xv 6, xv 7, xv 8, xv 9, xv 10, xv 11, xv 12, xv 13]))) (hq : qB B) (hh : hdB B) (hrb : rB A B) : Met l yX1_limitFor (ws_ yX1_limitFor cX1_limitFor 7 (some .int)) ({ frames := 7, cells := 0, slots := 0, locals := 167 }) (gPre G M0 [.ref (x), .int (t), .int (y)]) (gQ G (gI (fun r9 M1 => (∃ Z', BC G r ba x (pQS B) (bf B D) (bo B) (B 0) (B 1866) Z' M1) ∧ (∀ z, z ≠ ba 10 → M1 z = M0 z) ∧ qLim A T B t y = r9))) 0 0 (gA G) := by
  refine gMet (L0 := [some (.ref (x)), some (.int (t)), some (.int (y)), none, none, none, none]) RX1 hG (by decide +kernel) rfl (Nat.le_of_ble_eq_true rfl) rfl ?_
  intro p e s m args below meth c C hnm
  obtain ⟨wk, hwk, hwk3⟩ := isN_to hw.way
  have hsI := hw.stepI
  obtain ⟨⟨vs, hx0⟩, ⟨wq, hwl, hwq⟩, ⟨mq, hml, hmq⟩, hWY, hMT⟩ := id hX
  have ht0 : M0 tx = some ((rt, 0), .inr (20, [.ref (ta 1), .ref (ta 2), .ref (ta 3), .ref (ta 4), .int (A 6 0), .int (A 6 1), .int (A 6 2), .int (A 6 3), .int ln])) := hT.1
  rw [hwk] at ht0
  have hb0 := hBC.1
  rw [hn] at hb0
  obtain ⟨jw, aw, hwc, -⟩ := hWY wk (by omega)
  have hT4 := hw.T4
  refine x_aload_n C dX1_limitFor_0 rfl rfl ?_
  refine x_iload_n C dX1_limitFor_1 rfl rfl ?_
  refine x_V1I C (met_X1_isTrader l C.1 hBC hX hT hr4 hrx hrt hw hn hn6 hx) mi_X1_isTrader q1648 gcX1 hx ⟨rfl, rfl⟩ rfl ⟨Nat.le_of_ble_eq_true rfl, Nat.le_of_ble_eq_true rfl⟩ rfl dX1_limitFor_2 (fun r2 M1 hr => ?_)
  rcases hr with ⟨hr, rfl, p2⟩ | ⟨hr, rfl, p2⟩
  · -- 2 1
    rw [hr]
    obtain ⟨k_t, rfl, hk_t⟩ := iT_ex (by omega) p2
    refine x_if_eqF (tgt := 15) C (by decide) dX1_limitFor_5 rfl ?_
    refine x_iload_n C dX1_limitFor_8 rfl rfl ?_
    refine x_S1I C (met_X1_isYear l C.1) mi_X1_isYear q2076 ⟨rfl, rfl⟩ rfl ⟨Nat.le_of_ble_eq_true rfl, Nat.le_of_ble_eq_true rfl⟩ rfl dX1_limitFor_9 (fun r4 M3 hr => ?_)
    rcases hr with ⟨hr, rfl, p9⟩ | ⟨hr, rfl, p9⟩
    · -- 9 1
      rw [hr]
      obtain ⟨k_y, rfl, lk_y, hk_y⟩ := iI_ex (by omega) (by omega) (y16.mp p9)
      refine x_if_neT (tgt := 17) C (by decide) dX1_limitFor_12 rfl ?_
      refine x_iload_n C dX1_limitFor_17 rfl rfl ?_
      refine x_aload_n C dX1_limitFor_18 rfl rfl ?_
      refine x_V0I C (met_X1_year l C.1 hBC hX hT hr4 hrx hrt hw hn hn6 hx) mi_X1_year q1580 gcX1 hx ⟨rfl, rfl⟩ rfl ⟨Nat.le_of_ble_eq_true rfl, Nat.le_of_ble_eq_true rfl⟩ rfl dX1_limitFor_19 (fun r6 M5 hr => ?_)
      obtain ⟨hr, rfl⟩ := hr
      rw [hr]
      refine x_icmp_leN (tgt := 28) C (by omega) (by omega) dX1_limitFor_22 rfl (fun c22 => ?_) (fun c22 => ?_)
      · -- 28
        refine x_aload_n C dX1_limitFor_28 rfl rfl ?_
        refine x_get C gcX1 hx 5 rfl q1257 rfl dX1_limitFor_29 ?_
        refine x_iload_n C dX1_limitFor_32 rfl rfl ?_
        refine x_iload_n C dX1_limitFor_33 rfl rfl ?_
        refine x_V2I C (met_X6_annualOf l C.1 hBC hX hT hr4 hrx hrt hw hn hn6 (by omega) (by omega) hq hh) mi_X6_annualOf q2081 gcX6 hb0 ⟨rfl, rfl⟩ rfl ⟨Nat.le_of_ble_eq_true rfl, Nat.le_of_ble_eq_true rfl⟩ rfl dX1_limitFor_34 (fun r8 M7 hr => ?_)
        obtain ⟨⟨Z12, hb9, hz11⟩, k10, rfl⟩ := hr
        have hBc13 := hBC.year (Z' := Z12) hb9.2.2.2.2.2.2.2 k10
        have hf16 := hBC.fl10 ⟨_, hBc13⟩ k10
        have hXc14 := hX.k10 hf16 hr4 hrx
        have hTc15 := hT.k10 hf16 hrt
        obtain ⟨⟨vshBc13, hx0hBc13⟩, ⟨wqhBc13, hwlhBc13, hwqhBc13⟩, ⟨mqhBc13, hmlhBc13, hmqhBc13⟩, hWYhBc13, hMThBc13⟩ := id hXc14
        have ht0hBc13 : M7 tx = some ((rt, 0), .inr (20, [.ref (ta 1), .ref (ta 2), .ref (ta 3), .ref (ta 4), .int (A 6 0), .int (A 6 1), .int (A 6 2), .int (A 6 3), .int ln])) := hTc15.1
        rw [hwk] at ht0hBc13
        have hb0hBc13 := hBc13.1
        rw [hn] at hb0hBc13
        obtain ⟨jwhBc13, awhBc13, hwchBc13, -⟩ := hWYhBc13 wk (by omega)
        have hxd17 := hf16.keep hx (fun e => hrx (congrArg Prod.fst e).symm)
        refine x_istore_n C dX1_limitFor_37 rfl (gs1_3 rfl) rfl ?_
        refine x_aload_n C dX1_limitFor_38 rfl rfl ?_
        refine x_get C gcX1 hxd17 5 rfl q1257 rfl dX1_limitFor_39 ?_
        refine x_iload_n C dX1_limitFor_42 rfl rfl ?_
        refine x_iload_n C dX1_limitFor_43 rfl rfl ?_
        refine x_V2R C (met_X6_ofYear l C.1 hBc13 hXc14 hTc15 hr4 hrx hrt hw hn hn6 (by omega) (by omega)) mi_X6_ofYear q2094 gcX6 hb0hBc13 ⟨rfl, rfl⟩ rfl ⟨Nat.le_of_ble_eq_true rfl, Nat.le_of_ble_eq_true rfl⟩ rfl dX1_limitFor_44 (fun r19 M18 hr => ?_)
        obtain ⟨rfl, hb20, k21⟩ := hr
        have hBc23 := hBc13.year (Z' := (pYS B k_t k_y)) hb20.2.2.2.2.2.2.2 k21
        have hf26 := hBc13.fl10 ⟨_, hBc23⟩ k21
        have hXc24 := hXc14.k10 hf26 hr4 hrx
        have hTc25 := hTc15.k10 hf26 hrt
        have k27 : ∀ zz : Nat, zz ≠ ba 10 → M18 zz = M0 zz := fun zz hz => (k21 zz hz).trans (k10 zz hz)
        obtain ⟨⟨vshBc23, hx0hBc23⟩, ⟨wqhBc23, hwlhBc23, hwqhBc23⟩, ⟨mqhBc23, hmlhBc23, hmqhBc23⟩, hWYhBc23, hMThBc23⟩ := id hXc24
        have ht0hBc23 : M18 tx = some ((rt, 0), .inr (20, [.ref (ta 1), .ref (ta 2), .ref (ta 3), .ref (ta 4), .int (A 6 0), .int (A 6 1), .int (A 6 2), .int (A 6 3), .int ln])) := hTc25.1
        rw [hwk] at ht0hBc23
        have hb0hBc23 := hBc23.1
        rw [hn] at hb0hBc23
        obtain ⟨jwhBc23, awhBc23, hwchBc23, -⟩ := hWYhBc23 wk (by omega)
        have hxd28 := hf26.keep hxd17 (fun e => hrx (congrArg Prod.fst e).symm)
        refine x_astore C dX1_limitFor_47 (gs1_4 rfl) rfl ?_
        refine x_aload C dX1_limitFor_49 rfl ?_
        refine x_V0J C (met_X7_tax l C.1 hBc23.2.2.2.2.2.2.2) mi_X7_tax q2181 gcX7 hBc23.2.2.2.2.2.2.2.1 ⟨rfl, rfl⟩ rfl ⟨Nat.le_of_ble_eq_true rfl, Nat.le_of_ble_eq_true rfl⟩ rfl dX1_limitFor_51 (fun r30 M29 hr => ?_)
        obtain ⟨hr, rfl⟩ := hr
        rw [hr]
        refine x_aload C dX1_limitFor_54 rfl ?_
        refine x_iload_n C dX1_limitFor_56 rfl rfl ?_
        refine x_aload_n C dX1_limitFor_57 rfl rfl ?_
        refine x_get C gcX1 hxd28 4 rfl q1256 rfl dX1_limitFor_58 ?_
        refine x_getN C gcX5 ht0hBc23 5 rfl q406 rfl dX1_limitFor_61 ?_
        refine x_aload_n C dX1_limitFor_64 rfl rfl ?_
        refine x_get C gcX1 hxd28 5 rfl q1257 rfl dX1_limitFor_65 ?_
        refine x_V0R C (met_X6_way l C.1 hBc23 hXc24 hTc25 hr4 hrx hrt hw hn hn6) mi_X6_way q2095 gcX6 hb0hBc23 ⟨rfl, rfl⟩ rfl ⟨Nat.le_of_ble_eq_true rfl, Nat.le_of_ble_eq_true rfl⟩ rfl dX1_limitFor_68 (fun r32 M31 hr => ?_)
        obtain ⟨hr, wk', hwk', hw3', rfl⟩ := hr
        rw [hr]
        have ew : wk = wk' := nI_inj (by omega) (by omega) (hwk.symm.trans hwk'); subst ew
        refine x_V3J C (met_X7_backPlain l C.1 hBc23.2.2.2.2.2.2.2 (hWYhBc23 wk (by omega)) (hq.y (by omega) (by omega)) (pAnn_fB hw hq hh hrb (by omega) (by omega))) mi_X7_backPlain q2096 gcX7 hBc23.2.2.2.2.2.2.2.1 ⟨rfl, rfl⟩ rfl ⟨Nat.le_of_ble_eq_true rfl, Nat.le_of_ble_eq_true rfl⟩ rfl dX1_limitFor_71 (fun r34 M33 hr => ?_)
        obtain ⟨hr, rfl⟩ := hr
        rw [hr]
        refine x_lsub C dX1_limitFor_74 ?_
        refine x_lstore C dX1_limitFor_75 (gs2_5 rfl) rfl ?_
        refine x_ldc2 C dX1_limitFor_77 q1783 ?_
        refine x_lload C dX1_limitFor_80 rfl ?_
        refine x_lmul C dX1_limitFor_82 ?_
        refine x_aload C dX1_limitFor_83 rfl ?_
        refine x_V0J C (met_X7_tax l C.1 hBc23.2.2.2.2.2.2.2) mi_X7_tax q2181 gcX7 hBc23.2.2.2.2.2.2.2.1 ⟨rfl, rfl⟩ rfl ⟨Nat.le_of_ble_eq_true rfl, Nat.le_of_ble_eq_true rfl⟩ rfl dX1_limitFor_85 (fun r36 M35 hr => ?_)
        obtain ⟨hr, rfl⟩ := hr
        rw [hr]
        refine x_lcmp C dX1_limitFor_88 ?_
        refine x_if_gtL (tgt := 98) C dX1_limitFor_89 rfl (fun c89 => ?_) (fun c89 => ?_)
        · -- 98
          refine x_bipush C dX1_limitFor_98 kb_m2 ?_
          exact x_iret C dX1_limitFor_100 ⟨Nat.le_of_ble_eq_true rfl, Nat.le_of_ble_eq_true rfl⟩ ⟨⟨_, hBc23⟩, k27, by unfold qLim; rw [if_pos p2, if_pos (y16.mp p9), dN_nI (by omega), dN_nI (by omega), show pNow B = n by unfold pNow; rw [hn, dN_nI (by omega)], if_pos (by omega)]; rw [lim_eq hw hq hh hrb (by omega) (by omega), hwk]; exact if_neg (i64_gt c89)⟩
        · -- 92
          refine x_lload C dX1_limitFor_92 rfl ?_
          refine x_l2i C dX1_limitFor_94 ?_
          refine x_goto (tgt := 100) C dX1_limitFor_95 rfl ?_
          exact x_iret C dX1_limitFor_100 ⟨Nat.le_of_ble_eq_true rfl, Nat.le_of_ble_eq_true rfl⟩ ⟨⟨_, hBc23⟩, k27, by unfold qLim; rw [if_pos p2, if_pos (y16.mp p9), dN_nI (by omega), dN_nI (by omega), show pNow B = n by unfold pNow; rw [hn, dN_nI (by omega)], if_pos (by omega)]; rw [lim_eq hw hq hh hrb (by omega) (by omega), hwk]; exact if_pos (i64_nlt c89)⟩
      · -- 25
        refine x_bipush C dX1_limitFor_25 kb_m2 ?_
        exact x_iret C dX1_limitFor_27 ⟨Nat.le_of_ble_eq_true rfl, Nat.le_of_ble_eq_true rfl⟩ ⟨⟨_, hBC⟩, fun _ _ => rfl, by unfold qLim; rw [if_pos p2, if_pos (y16.mp p9), dN_nI (by omega), dN_nI (by omega), show pNow B = n by unfold pNow; rw [hn, dN_nI (by omega)], if_neg (by omega)]⟩
    · -- 9 0
      rw [hr]
      refine x_if_neF (tgt := 17) C (by decide) dX1_limitFor_12 rfl ?_
      refine x_iconst C dX1_limitFor_15 kc_m1 ?_
      exact x_iret C dX1_limitFor_16 ⟨Nat.le_of_ble_eq_true rfl, Nat.le_of_ble_eq_true rfl⟩ ⟨⟨_, hBC⟩, fun _ _ => rfl, by unfold qLim; rw [if_pos p2, if_neg (fun q => p9 (y16.mpr q))]⟩
  · -- 2 0
    rw [hr]
    refine x_if_eqT (tgt := 15) C (by decide) dX1_limitFor_5 rfl ?_
    refine x_iconst C dX1_limitFor_15 kc_m1 ?_
    exact x_iret C dX1_limitFor_16 ⟨Nat.le_of_ble_eq_true rfl, Nat.le_of_ble_eq_true rfl⟩ ⟨⟨_, hBC⟩, fun _ _ => rfl, by unfold qLim; rw [if_neg p2]⟩
