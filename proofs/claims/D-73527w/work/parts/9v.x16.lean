set_option maxRecDepth 100000
theorem pMax_nI {a b : Nat} (ha : a < 1000000) (hb : b < 1000000) : pMax (nI a) (nI b) = nI (if a < b then b else a) := by
  unfold pMax
  by_cases c : a < b
  · rw [if_pos c, if_pos (Int32.lt_iff_toInt_lt.mpr (by rw [nI_int (by omega), nI_int (by omega)]; omega))]
  · rw [if_neg c, if_neg (fun q => by have := Int32.lt_iff_toInt_lt.mp q; rw [nI_int (by omega), nI_int (by omega)] at this; omega)]
theorem run_pos {g : Nat → Int32} {i : Nat} (h : 0 < i) : 0 < pRun g i := by
  cases i with
  | zero => omega
  | succ i =>
    show 0 < (if 0 < pRun g i ∧ g (i - 1) < g i then pRun g i + 1 else 1)
    by_cases c : 0 < pRun g i ∧ g (i - 1) < g i
    · rw [if_pos c]; omega
    · rw [if_neg c]; omega
theorem mi_X1_rise : gMV RX1 yX1_rise cX1_rise 5 (some .int) 1 := ⟨q2193, q2194, q123, q2195, by decide +kernel⟩
set_option maxHeartbeats 4000000 in
set_option maxRecDepth 100000 in
theorem met_X1_rise (l : Launch) {G : gG} (hG : gOK G) {M0 : gM} {r x : Nat} {ba : Nat → Nat} {B : Nat → Int32} {D : Nat → Nat → Int32} {Z : Nat → Int64} {tx wl ml : Nat} {wf mf : Nat → Nat} {rt : Nat} {ta : Nat → Nat} {mc : Nat → Int32} {nd it : Nat → Nat → Nat} {A : Nat → Nat → Int32} {ln : Int32} {T n : Nat} {xv : Nat → Value} {t : Int32} (hBC : BC G r ba x (pQS B) (bf B D) (bo B) (B 0) (B 1866) Z M0) (hX : XW G x tx wl ml wf mf M0) (hT : TR G rt tx ta mc nd it (cA T A) (trA A) (wA A ln) M0) (hr4 : 4 ≤ r) (hrx : r ≠ x + 4) (hrt : r ≠ rt) (hw : wT T A) (hn : B 0 = nI n) (hn6 : n < 64) (hx : M0 x = some ((x + 4, 0), .inr (16, [.ref wl, .ref ml, xv 2, xv 3, .ref tx, .ref (ba 0), xv 6, xv 7, xv 8, xv 9, xv 10, xv 11, xv 12, xv 13]))) : Met l yX1_rise (ws_ yX1_rise cX1_rise 5 (some .int)) ({ frames := 3, cells := 0, slots := 0, locals := 61 }) (gPre G M0 [.ref (x), .int (t)]) (gQ G (gI (fun r9 M1 => M1 = M0 ∧ qRise T B t = r9))) 0 0 (gA G) := by
  refine gMet (L0 := [some (.ref (x)), some (.int (t)), none, none, none]) RX1 hG (by decide +kernel) rfl (Nat.le_of_ble_eq_true rfl) rfl ?_
  intro p e s m args below meth c C hnm
  obtain ⟨wk, hwk, hwk3⟩ := isN_to hw.way
  have hsI := hw.stepI
  obtain ⟨⟨vs, hx0⟩, ⟨wq, hwl, hwq⟩, ⟨mq, hml, hmq⟩, hWY, hMT⟩ := id hX
  have ht0 : M0 tx = some ((rt, 0), .inr (20, [.ref (ta 1), .ref (ta 2), .ref (ta 3), .ref (ta 4), .int (A 6 0), .int (A 6 1), .int (A 6 2), .int (A 6 3), .int ln])) := hT.1
  rw [hwk] at ht0
  have hb0 := hBC.1
  rw [hn] at hb0
  obtain ⟨jw, aw, hwc, -⟩ := hWY wk (by omega)
  have hT4 := hw.T4
  refine x_aload_n C dX1_rise_0 rfl rfl ?_
  refine x_iload_n C dX1_rise_1 rfl rfl ?_
  refine x_V1I C (met_X1_isTrader l C.1 hBC hX hT hr4 hrx hrt hw hn hn6 hx) mi_X1_isTrader q1648 gcX1 hx ⟨rfl, rfl⟩ rfl ⟨Nat.le_of_ble_eq_true rfl, Nat.le_of_ble_eq_true rfl⟩ rfl dX1_rise_2 (fun r2 M1 hr => ?_)
  rcases hr with ⟨hr, rfl, p2⟩ | ⟨hr, rfl, p2⟩
  · -- 2 1
    rw [hr]
    obtain ⟨k_t, rfl, hk_t⟩ := iT_ex (by omega) p2
    refine x_if_neT (tgt := 10) C (by decide) dX1_rise_5 rfl ?_
    refine x_iconst C dX1_rise_10 kc_0 ?_
    refine x_istore_n C dX1_rise_11 rfl (gs1_2 rfl) rfl ?_
    refine x_iconst C dX1_rise_12 kc_0 ?_
    refine x_istore_n C dX1_rise_13 rfl (gs1_3 rfl) rfl ?_
    refine x_iconst C dX1_rise_14 kc_0 ?_
    refine x_istore C dX1_rise_15 (gs1_4 rfl) rfl ?_
    refine x_loop (head := 17) (E := n) (fun i M => M = M0) (fun i => [some (.ref x), some (.int (nI k_t)), some (.int (nI (pRis (fun q => B (1545 + 64 * k_t + q)) i))), some (.int (nI (pRun (fun q => B (1545 + 64 * k_t + q)) i))), some (.int (nI i))]) rfl (fun i M hi hI ih => ?_)
    subst hI
    show gX G p l e _ s m args below meth c 5 _ M _ _ 17 [some (.ref x), some (.int (nI k_t)), some (.int (nI (pRis (fun q => B (1545 + 64 * k_t + q)) i))), some (.int (nI (pRun (fun q => B (1545 + 64 * k_t + q)) i))), some (.int (nI i))] []
    have hrb9 := pRun_le (fun q => B (1545 + 64 * k_t + q)) i
    rcases Nat.lt_or_ge i n with ht | ht
    · -- True
      refine x_iload C dX1_rise_17 rfl ?_
      refine x_aload_n C dX1_rise_19 rfl rfl ?_
      refine x_get C gcX1 hx 5 rfl q1257 rfl dX1_rise_20 ?_
      refine x_getN C gcX6 hb0 13 rfl q538 rfl dX1_rise_23 ?_
      refine x_icmp_geN (tgt := 83) C (by omega) (by omega) dX1_rise_26 rfl (fun _ => by exfalso; omega) (fun _ => ?_)
      refine x_iload C dX1_rise_29 rfl ?_
      refine x_if_leN (tgt := 69) C (by omega) dX1_rise_31 rfl (fun c31 => ?_) (fun c31 => ?_)
      · -- 69
        refine x_iconst C dX1_rise_69 kc_1 ?_
        refine x_istore_n C dX1_rise_70 rfl (gs1_3 rfl) rfl ?_
        refine x_iload_n C dX1_rise_71 rfl rfl ?_
        refine x_iload_n C dX1_rise_72 rfl rfl ?_
        refine x_S2I C (met_J0_max l C.1) mi_J0_max q2196 ⟨rfl, rfl⟩ rfl ⟨Nat.le_of_ble_eq_true rfl, Nat.le_of_ble_eq_true rfl⟩ rfl dX1_rise_73 (fun r4 M3 hr => ?_)
        obtain ⟨hr, rfl⟩ := hr
        rw [hr]
        refine x_istore_n C dX1_rise_76 rfl (gs1_2 rfl) rfl ?_
        refine x_iincN (z := 1) C dX1_rise_77 rfl (gs1_4 rfl) rfl ?_
        refine x_goto (tgt := 17) C dX1_rise_80 rfl ?_
        have e1 : pRun (fun q => B (1545 + 64 * k_t + q)) (i + 1) = 1 := if_neg (fun q => absurd (pRun_le (fun q => B (1545 + 64 * k_t + q)) i) (by omega))
        have e2 : pRis (fun q => B (1545 + 64 * k_t + q)) (i + 1) = if pRis (fun q => B (1545 + 64 * k_t + q)) i < pRun (fun q => B (1545 + 64 * k_t + q)) (i + 1) then pRun (fun q => B (1545 + 64 * k_t + q)) (i + 1) else pRis (fun q => B (1545 + 64 * k_t + q)) i := rfl
        have hra9 := pRis_le (fun q => B (1545 + 64 * k_t + q)) i
        have e3 : pMax (nI (pRis (fun q => B (1545 + 64 * k_t + q)) i)) (nI (1)) = nI (pRis (fun q => B (1545 + 64 * k_t + q)) (i + 1)) := by rw [pMax_nI (by omega) (by omega), e2, e1]
        have e4 : (nI (1) : Int32) = nI (pRun (fun q => B (1545 + 64 * k_t + q)) (i + 1)) := by rw [e1]
        rw [e3, e4]
        exact ih ht _ rfl
      · -- 34
        refine x_aload_n C dX1_rise_34 rfl rfl ?_
        refine x_get C gcX1 hx 5 rfl q1257 rfl dX1_rise_35 ?_
        refine x_getN C gcX6 hb0 2 rfl q517 rfl dX1_rise_38 ?_
        refine x_iload_n C dX1_rise_41 rfl rfl ?_
        refine y_aaldR (ty := .array .int) (i := k_t) (b := ba (40 + k_t)) C 6 rfl rfl (hBC.2.2.1 1 (by omega)) rfl (by omega) rfl rfl dX1_rise_42 ?_
        refine x_iload C dX1_rise_43 rfl ?_
        refine y_iald (i := i) C (hBC.r1 (t := k_t) (by omega)) rfl (by omega) rfl dX1_rise_45 ?_
        refine x_aload_n C dX1_rise_46 rfl rfl ?_
        refine x_get C gcX1 hx 5 rfl q1257 rfl dX1_rise_47 ?_
        refine x_getN C gcX6 hb0 2 rfl q517 rfl dX1_rise_50 ?_
        refine x_iload_n C dX1_rise_53 rfl rfl ?_
        refine y_aaldR (ty := .array .int) (i := k_t) (b := ba (40 + k_t)) C 6 rfl rfl (hBC.2.2.1 1 (by omega)) rfl (by omega) rfl rfl dX1_rise_54 ?_
        refine x_iload C dX1_rise_55 rfl ?_
        refine x_iconst C dX1_rise_57 kc_1 ?_
        refine x_isubN C (by omega) dX1_rise_58 ?_
        refine y_iald (i := i - 1) C (hBC.r1 (t := k_t) (by omega)) rfl (by omega) rfl dX1_rise_59 ?_
        refine x_icmp_le (tgt := 69) C dX1_rise_60 rfl (fun c60 => ?_) (fun c60 => ?_)
        · -- 69
          refine x_iconst C dX1_rise_69 kc_1 ?_
          refine x_istore_n C dX1_rise_70 rfl (gs1_3 rfl) rfl ?_
          refine x_iload_n C dX1_rise_71 rfl rfl ?_
          refine x_iload_n C dX1_rise_72 rfl rfl ?_
          refine x_S2I C (met_J0_max l C.1) mi_J0_max q2196 ⟨rfl, rfl⟩ rfl ⟨Nat.le_of_ble_eq_true rfl, Nat.le_of_ble_eq_true rfl⟩ rfl dX1_rise_73 (fun r6 M5 hr => ?_)
          obtain ⟨hr, rfl⟩ := hr
          rw [hr]
          refine x_istore_n C dX1_rise_76 rfl (gs1_2 rfl) rfl ?_
          refine x_iincN (z := 1) C dX1_rise_77 rfl (gs1_4 rfl) rfl ?_
          refine x_goto (tgt := 17) C dX1_rise_80 rfl ?_
          have e1 : pRun (fun q => B (1545 + 64 * k_t + q)) (i + 1) = 1 := if_neg (fun q => absurd q.2 (Int32.not_lt.mpr c60))
          have e2 : pRis (fun q => B (1545 + 64 * k_t + q)) (i + 1) = if pRis (fun q => B (1545 + 64 * k_t + q)) i < pRun (fun q => B (1545 + 64 * k_t + q)) (i + 1) then pRun (fun q => B (1545 + 64 * k_t + q)) (i + 1) else pRis (fun q => B (1545 + 64 * k_t + q)) i := rfl
          have hra9 := pRis_le (fun q => B (1545 + 64 * k_t + q)) i
          have e3 : pMax (nI (pRis (fun q => B (1545 + 64 * k_t + q)) i)) (nI (1)) = nI (pRis (fun q => B (1545 + 64 * k_t + q)) (i + 1)) := by rw [pMax_nI (by omega) (by omega), e2, e1]
          have e4 : (nI (1) : Int32) = nI (pRun (fun q => B (1545 + 64 * k_t + q)) (i + 1)) := by rw [e1]
          rw [e3, e4]
          exact ih ht _ rfl
        · -- 63
          refine x_iload_n C dX1_rise_63 rfl rfl ?_
          refine x_iconst C dX1_rise_64 kc_1 ?_
          refine x_iaddN C dX1_rise_65 ?_
          refine x_goto (tgt := 70) C dX1_rise_66 rfl ?_
          refine x_istore_n C dX1_rise_70 rfl (gs1_3 rfl) rfl ?_
          refine x_iload_n C dX1_rise_71 rfl rfl ?_
          refine x_iload_n C dX1_rise_72 rfl rfl ?_
          refine x_S2I C (met_J0_max l C.1) mi_J0_max q2196 ⟨rfl, rfl⟩ rfl ⟨Nat.le_of_ble_eq_true rfl, Nat.le_of_ble_eq_true rfl⟩ rfl dX1_rise_73 (fun r8 M7 hr => ?_)
          obtain ⟨hr, rfl⟩ := hr
          rw [hr]
          refine x_istore_n C dX1_rise_76 rfl (gs1_2 rfl) rfl ?_
          refine x_iincN (z := 1) C dX1_rise_77 rfl (gs1_4 rfl) rfl ?_
          refine x_goto (tgt := 17) C dX1_rise_80 rfl ?_
          have e1 : pRun (fun q => B (1545 + 64 * k_t + q)) (i + 1) = pRun (fun q => B (1545 + 64 * k_t + q)) i + 1 := if_pos ⟨run_pos (by omega), Int32.not_le.mp c60⟩
          have e2 : pRis (fun q => B (1545 + 64 * k_t + q)) (i + 1) = if pRis (fun q => B (1545 + 64 * k_t + q)) i < pRun (fun q => B (1545 + 64 * k_t + q)) (i + 1) then pRun (fun q => B (1545 + 64 * k_t + q)) (i + 1) else pRis (fun q => B (1545 + 64 * k_t + q)) i := rfl
          have hra9 := pRis_le (fun q => B (1545 + 64 * k_t + q)) i
          have e3 : pMax (nI (pRis (fun q => B (1545 + 64 * k_t + q)) i)) (nI ((pRun (fun q => B (1545 + 64 * k_t + q)) i) + 1)) = nI (pRis (fun q => B (1545 + 64 * k_t + q)) (i + 1)) := by rw [pMax_nI (by omega) (by omega), e2, e1]
          have e4 : (nI ((pRun (fun q => B (1545 + 64 * k_t + q)) i) + 1) : Int32) = nI (pRun (fun q => B (1545 + 64 * k_t + q)) (i + 1)) := by rw [e1]
          rw [e3, e4]
          exact ih ht _ rfl
    · -- False
      refine x_iload C dX1_rise_17 rfl ?_
      refine x_aload_n C dX1_rise_19 rfl rfl ?_
      refine x_get C gcX1 hx 5 rfl q1257 rfl dX1_rise_20 ?_
      refine x_getN C gcX6 hb0 13 rfl q538 rfl dX1_rise_23 ?_
      refine x_icmp_geN (tgt := 83) C (by omega) (by omega) dX1_rise_26 rfl (fun _ => ?_) (fun _ => by exfalso; omega)
      refine x_iload_n C dX1_rise_83 rfl rfl ?_
      exact x_iret C dX1_rise_84 ⟨Nat.le_of_ble_eq_true rfl, Nat.le_of_ble_eq_true rfl⟩ ⟨rfl, by unfold qRise; rw [if_pos p2, dN_nI (by omega), show pNow B = i by unfold pNow; rw [hn, dN_nI (by omega)]; omega]⟩
  · -- 2 0
    rw [hr]
    refine x_if_neF (tgt := 10) C (by decide) dX1_rise_5 rfl ?_
    refine x_iconst C dX1_rise_8 kc_m1 ?_
    exact x_iret C dX1_rise_9 ⟨Nat.le_of_ble_eq_true rfl, Nat.le_of_ble_eq_true rfl⟩ ⟨rfl, by unfold qRise; rw [if_neg p2]⟩
