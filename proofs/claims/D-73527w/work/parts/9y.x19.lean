set_option maxRecDepth 100000
theorem nI_m2 {k : Nat} (h : k < 1000000) : ¬ nI k = -2 := fun e => by
  have := congrArg Int32.toInt e
  rw [nI_int (by omega), show (-2 : Int32).toInt = -2 from by decide] at this
  omega
theorem pTop_ix {init : Int32} {f : Nat → Int32} : ∀ {i : Nat}, 0 < i → ∃ b, pTop init nI f i = (nI b, f b) ∧ b < i
  | i + 1, _ => by
    by_cases c : i = 0 ∨ (pTop init nI f i).2 < f i
    · exact ⟨i, if_pos c, by omega⟩
    · obtain ⟨b, h1, h2⟩ := pTop_ix (init := init) (f := f) (show 0 < i by omega)
      exact ⟨b, (if_neg c).trans h1, by omega⟩
theorem pAbs_neg (a : Int32) : pAbs a = if a < 0 then -a else a := by
  unfold pAbs
  by_cases c : a < 0
  · rw [if_pos c, if_neg (Int32.not_le.mpr c)]
  · rw [if_neg c, if_pos (Int32.not_lt.mp c)]
theorem far_abs {T n : Nat} {A : Nat → Nat → Int32} {B : Nat → Int32} {D : Nat → Nat → Int32} (hD : ∀ t y, t < T → y < n / 4 → D t y = pYB A B t y - pBin B t y 4) {t y : Nat} (h : t < T ∧ y < n / 4) : fFar A B t y = pAbs (bf B D 3 t y) := by
  rw [pAbs_neg]
  show fFar A B t y = if D t y < 0 then -(D t y) else D t y
  rw [hD t y h.1 h.2]
  rfl
theorem mi_X1_farthest : gMV RX1 yX1_farthest cX1_farthest 4 (some .int) 1 := ⟨q2283, q2284, q123, q2285, by decide +kernel⟩
set_option maxHeartbeats 4000000 in
set_option maxRecDepth 100000 in
theorem met_X1_farthest (l : Launch) {G : gG} (hG : gOK G) {M0 : gM} {r x : Nat} {ba : Nat → Nat} {B : Nat → Int32} {D : Nat → Nat → Int32} {Z : Nat → Int64} {tx wl ml : Nat} {wf mf : Nat → Nat} {rt : Nat} {ta : Nat → Nat} {mc : Nat → Int32} {nd it : Nat → Nat → Nat} {A : Nat → Nat → Int32} {ln : Int32} {T n : Nat} {xv : Nat → Value} {t : Int32} (hBC : BC G r ba x (pQS B) (bf B D) (bo B) (B 0) (B 1866) Z M0) (hX : XW G x tx wl ml wf mf M0) (hT : TR G rt tx ta mc nd it (cA T A) (trA A) (wA A ln) M0) (hr4 : 4 ≤ r) (hrx : r ≠ x + 4) (hrt : r ≠ rt) (hw : wT T A) (hn : B 0 = nI n) (hn6 : n < 64) (hx : M0 x = some ((x + 4, 0), .inr (16, [.ref wl, .ref ml, xv 2, xv 3, .ref tx, .ref (ba 0), xv 6, xv 7, xv 8, xv 9, xv 10, xv 11, xv 12, xv 13]))) (hD : ∀ t y, t < T → y < n / 4 → D t y = pYB A B t y - pBin B t y 4) : Met l yX1_farthest (ws_ yX1_farthest cX1_farthest 4 (some .int)) ({ frames := 3, cells := 0, slots := 0, locals := 61 }) (gPre G M0 [.ref (x), .int (t)]) (gQ G (gI (fun r9 M1 => M1 = M0 ∧ qFar A T B t = r9))) 0 0 (gA G) := by
  refine gMet (L0 := [some (.ref (x)), some (.int (t)), none, none]) RX1 hG (by decide +kernel) rfl (Nat.le_of_ble_eq_true rfl) rfl ?_
  intro p e s m args below meth c C hnm
  obtain ⟨wk, hwk, hwk3⟩ := isN_to hw.way
  have hsI := hw.stepI
  obtain ⟨⟨vs, hx0⟩, ⟨wq, hwl, hwq⟩, ⟨mq, hml, hmq⟩, hWY, hMT⟩ := id hX
  have ht0 : M0 tx = some ((rt, 0), .inr (20, [.ref (ta 1), .ref (ta 2), .ref (ta 3), .ref (ta 4), .int (A 6 0), .int (A 6 1), .int (A 6 2), .int (A 6 3), .int ln])) := hT.1
  rw [hwk] at ht0
  have hb0 := hBC.1
  rw [hn] at hb0
  obtain ⟨jw, aw, hwc, -⟩ := hWY wk (by omega)
  have hT4 := hw.T4
  refine x_aload_n C dX1_farthest_0 rfl rfl ?_
  refine x_iload_n C dX1_farthest_1 rfl rfl ?_
  refine x_V1I C (met_X1_isTrader l C.1 hBC hX hT hr4 hrx hrt hw hn hn6 hx) mi_X1_isTrader q1648 gcX1 hx ⟨rfl, rfl⟩ rfl ⟨Nat.le_of_ble_eq_true rfl, Nat.le_of_ble_eq_true rfl⟩ rfl dX1_farthest_2 (fun r2 M1 hr => ?_)
  rcases hr with ⟨hr, rfl, p2⟩ | ⟨hr, rfl, p2⟩
  · -- 2 1
    rw [hr]
    obtain ⟨k_t, rfl, hk_t⟩ := iT_ex (by omega) p2
    refine x_if_neT (tgt := 10) C (by decide) dX1_farthest_5 rfl ?_
    refine x_bipush C dX1_farthest_10 kb_m2 ?_
    refine x_istore_n C dX1_farthest_12 rfl (gs1_2 rfl) rfl ?_
    refine x_iconst C dX1_farthest_13 kc_0 ?_
    refine x_istore_n C dX1_farthest_14 rfl (gs1_3 rfl) rfl ?_
    refine x_loop (head := 15) (E := n / 4) (fun i M => M = M0) (fun i => [some (.ref x), some (.int (nI k_t)), some (.int (pTop (-2) nI (fFar A B k_t) i).1), some (.int (nI i))]) rfl (fun i M hi hI ih => ?_)
    subst hI
    show gX G p l e _ s m args below meth c 4 _ M _ _ 15 [some (.ref x), some (.int (nI k_t)), some (.int (pTop (-2) nI (fFar A B k_t) i).1), some (.int (nI i))] []
    rcases Nat.lt_or_ge i (n / 4) with ht | ht
    · -- True
      rcases Nat.eq_zero_or_pos i with hz0 | hz0
      · -- zero True
        rw [show (pTop (-2) nI (fFar A B k_t) i).1 = -2 by rw [hz0]; rfl]
        refine x_iload_n C dX1_farthest_15 rfl rfl ?_
        refine x_aload_n C dX1_farthest_16 rfl rfl ?_
        refine x_V0I C (met_X1_year l C.1 hBC hX hT hr4 hrx hrt hw hn hn6 hx) mi_X1_year q1580 gcX1 hx ⟨rfl, rfl⟩ rfl ⟨Nat.le_of_ble_eq_true rfl, Nat.le_of_ble_eq_true rfl⟩ rfl dX1_farthest_17 (fun r4 M3 hr => ?_)
        obtain ⟨hr, rfl⟩ := hr
        rw [hr]
        refine x_icmp_geN (tgt := 68) C (by omega) (by omega) dX1_farthest_20 rfl (fun _ => by exfalso; omega) (fun _ => ?_)
        refine x_iload_n C dX1_farthest_23 rfl rfl ?_
        refine x_bipush C dX1_farthest_24 kb_m2 ?_
        refine x_icmp_eqT (tgt := 60) C (rfl) dX1_farthest_26 rfl ?_
        refine x_iload_n C dX1_farthest_60 rfl rfl ?_
        refine x_istore_n C dX1_farthest_61 rfl (gs1_2 rfl) rfl ?_
        refine x_iincN (z := 1) C dX1_farthest_62 rfl (gs1_3 rfl) rfl ?_
        refine x_goto (tgt := 15) C dX1_farthest_65 rfl ?_
        rw [show nI i = (pTop (-2) nI (fFar A B k_t) (i + 1)).1 by rw [pTop_y (m := (pTop (-2) nI (fFar A B k_t) i).2) rfl (Or.inl hz0)]]
        exact ih ht _ rfl
      · -- zero False
        obtain ⟨b9, hb9, hbi⟩ := pTop_ix (init := -2) (f := (fFar A B k_t)) hz0
        rw [show (pTop (-2) nI (fFar A B k_t) i).1 = nI b9 by rw [hb9]]
        refine x_iload_n C dX1_farthest_15 rfl rfl ?_
        refine x_aload_n C dX1_farthest_16 rfl rfl ?_
        refine x_V0I C (met_X1_year l C.1 hBC hX hT hr4 hrx hrt hw hn hn6 hx) mi_X1_year q1580 gcX1 hx ⟨rfl, rfl⟩ rfl ⟨Nat.le_of_ble_eq_true rfl, Nat.le_of_ble_eq_true rfl⟩ rfl dX1_farthest_17 (fun r6 M5 hr => ?_)
        obtain ⟨hr, rfl⟩ := hr
        rw [hr]
        refine x_icmp_geN (tgt := 68) C (by omega) (by omega) dX1_farthest_20 rfl (fun _ => by exfalso; omega) (fun _ => ?_)
        refine x_iload_n C dX1_farthest_23 rfl rfl ?_
        refine x_bipush C dX1_farthest_24 kb_m2 ?_
        refine x_icmp_eqF (tgt := 60) C (nI_m2 (by omega)) dX1_farthest_26 rfl ?_
        refine x_aload_n C dX1_farthest_29 rfl rfl ?_
        refine x_get C gcX1 hx 5 rfl q1257 rfl dX1_farthest_30 ?_
        refine x_getN C gcX6 hb0 4 rfl q521 rfl dX1_farthest_33 ?_
        refine x_iload_n C dX1_farthest_36 rfl rfl ?_
        refine y_aaldR (ty := .array .int) (i := k_t) (b := ba (60 + k_t)) C 6 rfl rfl (hBC.2.2.1 3 (by omega)) rfl (by omega) rfl rfl dX1_farthest_37 ?_
        refine x_iload_n C dX1_farthest_38 rfl rfl ?_
        refine y_iald (i := i) C (hBC.r3 (t := k_t) (by omega)) rfl (by omega) rfl dX1_farthest_39 ?_
        refine x_S1I C (met_J0_abs l C.1) mi_J0_abs q2286 ⟨rfl, rfl⟩ rfl ⟨Nat.le_of_ble_eq_true rfl, Nat.le_of_ble_eq_true rfl⟩ rfl dX1_farthest_40 (fun r8 M7 hr => ?_)
        obtain ⟨hr, rfl⟩ := hr
        rw [hr]
        refine x_aload_n C dX1_farthest_43 rfl rfl ?_
        refine x_get C gcX1 hx 5 rfl q1257 rfl dX1_farthest_44 ?_
        refine x_getN C gcX6 hb0 4 rfl q521 rfl dX1_farthest_47 ?_
        refine x_iload_n C dX1_farthest_50 rfl rfl ?_
        refine y_aaldR (ty := .array .int) (i := k_t) (b := ba (60 + k_t)) C 6 rfl rfl (hBC.2.2.1 3 (by omega)) rfl (by omega) rfl rfl dX1_farthest_51 ?_
        refine x_iload_n C dX1_farthest_52 rfl rfl ?_
        refine y_iald (i := b9) C (hBC.r3 (t := k_t) (by omega)) rfl (by omega) rfl dX1_farthest_53 ?_
        refine x_S1I C (met_J0_abs l C.1) mi_J0_abs q2286 ⟨rfl, rfl⟩ rfl ⟨Nat.le_of_ble_eq_true rfl, Nat.le_of_ble_eq_true rfl⟩ rfl dX1_farthest_54 (fun r10 M9 hr => ?_)
        obtain ⟨hr, rfl⟩ := hr
        rw [hr]
        refine x_icmp_le (tgt := 62) C dX1_farthest_57 rfl (fun c57 => ?_) (fun c57 => ?_)
        · -- 62
          refine x_iincN (z := 1) C dX1_farthest_62 rfl (gs1_3 rfl) rfl ?_
          refine x_goto (tgt := 15) C dX1_farthest_65 rfl ?_
          rw [show nI b9 = (pTop (-2) nI (fFar A B k_t) (i + 1)).1 by rw [pTop_n (m := (fFar A B k_t) b9) (by rw [hb9]) (by omega) (by rw [far_abs hD (by omega), far_abs hD (by omega)]; exact Int32.not_lt.mpr c57), hb9]]
          exact ih ht _ rfl
        · -- 60
          refine x_iload_n C dX1_farthest_60 rfl rfl ?_
          refine x_istore_n C dX1_farthest_61 rfl (gs1_2 rfl) rfl ?_
          refine x_iincN (z := 1) C dX1_farthest_62 rfl (gs1_3 rfl) rfl ?_
          refine x_goto (tgt := 15) C dX1_farthest_65 rfl ?_
          rw [show nI i = (pTop (-2) nI (fFar A B k_t) (i + 1)).1 by rw [pTop_y (m := (fFar A B k_t) b9) (by rw [hb9]) (Or.inr (by rw [far_abs hD (by omega), far_abs hD (by omega)]; exact Int32.not_le.mp c57))]]
          exact ih ht _ rfl
    · -- False
      refine x_iload_n C dX1_farthest_15 rfl rfl ?_
      refine x_aload_n C dX1_farthest_16 rfl rfl ?_
      refine x_V0I C (met_X1_year l C.1 hBC hX hT hr4 hrx hrt hw hn hn6 hx) mi_X1_year q1580 gcX1 hx ⟨rfl, rfl⟩ rfl ⟨Nat.le_of_ble_eq_true rfl, Nat.le_of_ble_eq_true rfl⟩ rfl dX1_farthest_17 (fun r12 M11 hr => ?_)
      obtain ⟨hr, rfl⟩ := hr
      rw [hr]
      refine x_icmp_geN (tgt := 68) C (by omega) (by omega) dX1_farthest_20 rfl (fun _ => ?_) (fun _ => by exfalso; omega)
      refine x_iload_n C dX1_farthest_68 rfl rfl ?_
      exact x_iret C dX1_farthest_69 ⟨Nat.le_of_ble_eq_true rfl, Nat.le_of_ble_eq_true rfl⟩ ⟨rfl, by unfold qFar; rw [if_pos p2, dN_nI (by omega), show pNow B = n by unfold pNow; rw [hn, dN_nI (by omega)], show n / 4 = i by omega]⟩
  · -- 2 0
    rw [hr]
    refine x_if_neF (tgt := 10) C (by decide) dX1_farthest_5 rfl ?_
    refine x_iconst C dX1_farthest_8 kc_m1 ?_
    exact x_iret C dX1_farthest_9 ⟨Nat.le_of_ble_eq_true rfl, Nat.le_of_ble_eq_true rfl⟩ ⟨rfl, by unfold qFar; rw [if_neg p2]⟩
