set_option maxRecDepth 100000
theorem mf_J8_J8_get_List : gMF RJ8 ⟨"java/util/List", "get", "(I)Ljava/lang/Object;"⟩ yJ8_get cJ8_get 2 (some (.object "java/lang/Object")) 1 := ⟨q1626, q1628, q133, q1630, ⟨q1595, q1594, q1629, q1627, q1625⟩, by decide +kernel⟩
theorem nI_inj {a b : Nat} (ha : a < 2147483648) (hb : b < 2147483648) (h : nI a = nI b) : a = b := by
  have := congrArg Int32.toInt h
  rw [nI_int ha, nI_int hb] at this
  omega
theorem mi_X6_way : gMV RX6 yX6_way cX6_way 1 (some (.object "ExemptDesk$Way")) 0 := ⟨q1589, q1590, q140, q1591, by decide +kernel⟩
set_option maxHeartbeats 4000000 in
set_option maxRecDepth 100000 in
theorem met_X6_way (l : Launch) {G : gG} (hG : gOK G) {M0 : gM} {r x : Nat} {ba : Nat → Nat} {B : Nat → Int32} {D : Nat → Nat → Int32} {Z : Nat → Int64} {tx wl ml : Nat} {wf mf : Nat → Nat} {rt : Nat} {ta : Nat → Nat} {mc : Nat → Int32} {nd it : Nat → Nat → Nat} {A : Nat → Nat → Int32} {ln : Int32} {T n : Nat} (hBC : BC G r ba x (pQS B) (bf B D) (bo B) (B 0) (B 1866) Z M0) (hX : XW G x tx wl ml wf mf M0) (hT : TR G rt tx ta mc nd it (cA T A) (trA A) (wA A ln) M0) (hr4 : 4 ≤ r) (hrx : r ≠ x + 4) (hrt : r ≠ rt) (hw : wT T A) (hn : B 0 = nI n) (hn6 : n < 64) : Met l yX6_way (ws_ yX6_way cX6_way 1 (some (.object "ExemptDesk$Way"))) ({ frames := 1, cells := 0, slots := 0, locals := 21 }) (gPre G M0 [.ref (ba 0)]) (gQ G (gR (fun r9 M1 => M1 = M0 ∧ ∃ wk, A 6 0 = nI wk ∧ wk < 3 ∧ r9 = wf wk))) 0 0 (gA G) := by
  refine gMet (L0 := [some (.ref (ba 0))]) RX6 hG (by decide +kernel) rfl (Nat.le_of_ble_eq_true rfl) rfl ?_
  intro p e s m args below meth c C hnm
  obtain ⟨wk, hwk, hwk3⟩ := isN_to hw.way
  have hsI := hw.stepI
  obtain ⟨⟨vs, hx0⟩, ⟨wq, hwl, hwq⟩, ⟨mq, hml, hmq⟩, hWY, hMT⟩ := id hX
  have ht0 : M0 tx = some ((rt, 0), .inr (20, [.ref (ta 1), .ref (ta 2), .ref (ta 3), .ref (ta 4), .int (A 6 0), .int (A 6 1), .int (A 6 2), .int (A 6 3), .int ln])) := hT.1
  rw [hwk] at ht0
  have hb0 := hBC.1
  rw [hn] at hb0
  obtain ⟨jw, aw, hwc, -⟩ := hWY wk (by omega)
  refine x_aload_n C dX6_way_0 rfl rfl ?_
  refine x_get C gcX6 hb0 15 rfl q541 rfl dX6_way_1 ?_
  refine x_getN C gcX1 hx0 0 rfl q1249 rfl dX6_way_4 ?_
  refine x_aload_n C dX6_way_7 rfl rfl ?_
  refine x_get C gcX6 hb0 15 rfl q541 rfl dX6_way_8 ?_
  refine x_getN C gcX1 hx0 4 rfl q1255 rfl dX6_way_11 ?_
  refine x_getN C gcX5 ht0 4 rfl q400 rfl dX6_way_14 ?_
  refine x_F1R C (met_J8_get l C.1 hwl hwq (by omega) rfl) mf_J8_J8_get_List q1593 gcJ8 hwl ⟨rfl, rfl⟩ rfl ⟨Nat.le_of_ble_eq_true rfl, Nat.le_of_ble_eq_true rfl⟩ rfl dX6_way_17 (fun r2 M1 hr => ?_)
  obtain ⟨hr, rfl⟩ := hr
  rw [hr]
  refine x_castS C gcX2 hwc q1635 dX6_way_22 ?_
  exact x_aret C dX6_way_25 ⟨Nat.le_of_ble_eq_true rfl, Nat.le_of_ble_eq_true rfl⟩ ⟨rfl, wk, hwk, by omega, rfl⟩
theorem mi_X6_byUse : gMV RX6 yX6_byUse cX6_byUse 3 (some .int) 2 := ⟨q1952, qs44, q140, q1953, by decide +kernel⟩
set_option maxHeartbeats 4000000 in
set_option maxRecDepth 100000 in
theorem met_X6_byUse (l : Launch) {G : gG} (hG : gOK G) {M0 : gM} {r x : Nat} {ba : Nat → Nat} {B : Nat → Int32} {D : Nat → Nat → Int32} {Z : Nat → Int64} {tx wl ml : Nat} {wf mf : Nat → Nat} {rt : Nat} {ta : Nat → Nat} {mc : Nat → Int32} {nd it : Nat → Nat → Nat} {A : Nat → Nat → Int32} {ln : Int32} {T n : Nat} {u f : Int32} (hBC : BC G r ba x (pQS B) (bf B D) (bo B) (B 0) (B 1866) Z M0) (hX : XW G x tx wl ml wf mf M0) (hT : TR G rt tx ta mc nd it (cA T A) (trA A) (wA A ln) M0) (hr4 : 4 ≤ r) (hrx : r ≠ x + 4) (hrt : r ≠ rt) (hw : wT T A) (hn : B 0 = nI n) (hn6 : n < 64) : Met l yX6_byUse (ws_ yX6_byUse cX6_byUse 3 (some .int)) ({ frames := 0, cells := 0, slots := 0, locals := 0 }) (gPre G M0 [.ref (ba 0), .int (u), .int (f)]) (gQ G (gI (fun r9 M1 => M1 = M0 ∧ pUse A u f = r9))) 0 0 (gA G) := by
  refine gMet (L0 := [some (.ref (ba 0)), some (.int (u)), some (.int (f))]) RX6 hG (by decide +kernel) rfl (Nat.le_of_ble_eq_true rfl) rfl ?_
  intro p e s m args below meth c C hnm
  obtain ⟨wk, hwk, hwk3⟩ := isN_to hw.way
  have hsI := hw.stepI
  obtain ⟨⟨vs, hx0⟩, ⟨wq, hwl, hwq⟩, ⟨mq, hml, hmq⟩, hWY, hMT⟩ := id hX
  have ht0 : M0 tx = some ((rt, 0), .inr (20, [.ref (ta 1), .ref (ta 2), .ref (ta 3), .ref (ta 4), .int (A 6 0), .int (A 6 1), .int (A 6 2), .int (A 6 3), .int ln])) := hT.1
  rw [hwk] at ht0
  have hb0 := hBC.1
  rw [hn] at hb0
  obtain ⟨jw, aw, hwc, -⟩ := hWY wk (by omega)
  refine x_iload_n C dX6_byUse_0 rfl rfl ?_
  refine x_if_ne (tgt := 17) C dX6_byUse_1 rfl (fun c1 => ?_) (fun c1 => ?_)
  · -- 17
    refine x_iload_n C dX6_byUse_17 rfl rfl ?_
    refine x_iconst C dX6_byUse_18 kc_1 ?_
    refine x_icmp_ne (tgt := 26) C dX6_byUse_19 rfl (fun c19 => ?_) (fun c19 => ?_)
    · -- 26
      refine x_iload_n C dX6_byUse_26 rfl rfl ?_
      exact x_iret C dX6_byUse_27 ⟨Nat.le_of_ble_eq_true rfl, Nat.le_of_ble_eq_true rfl⟩ ⟨rfl, by unfold pUse; rw [if_neg c1, if_neg c19]⟩
    · -- 22
      refine x_iconst C dX6_byUse_22 kc_0 ?_
      refine x_goto (tgt := 27) C dX6_byUse_23 rfl ?_
      exact x_iret C dX6_byUse_27 ⟨Nat.le_of_ble_eq_true rfl, Nat.le_of_ble_eq_true rfl⟩ ⟨rfl, by unfold pUse; rw [if_neg c1, if_pos c19]⟩
  · -- 4
    refine x_aload_n C dX6_byUse_4 rfl rfl ?_
    refine x_get C gcX6 hb0 15 rfl q541 rfl dX6_byUse_5 ?_
    refine x_getN C gcX1 hx0 4 rfl q1255 rfl dX6_byUse_8 ?_
    refine x_getN C gcX5 ht0 5 rfl q405 rfl dX6_byUse_11 ?_
    refine x_goto (tgt := 27) C dX6_byUse_14 rfl ?_
    exact x_iret C dX6_byUse_27 ⟨Nat.le_of_ble_eq_true rfl, Nat.le_of_ble_eq_true rfl⟩ ⟨rfl, by unfold pUse; rw [if_pos c1]⟩
theorem mi_X6_fractionBy : gMV RX6 yX6_fractionBy cX6_fractionBy 3 (some .int) 2 := ⟨q1845, qs40, q140, q1846, by decide +kernel⟩
set_option maxHeartbeats 4000000 in
set_option maxRecDepth 100000 in
theorem met_X6_fractionBy (l : Launch) {G : gG} (hG : gOK G) {M0 : gM} {r x : Nat} {ba : Nat → Nat} {B : Nat → Int32} {D : Nat → Nat → Int32} {Z : Nat → Int64} {tx wl ml : Nat} {wf mf : Nat → Nat} {rt : Nat} {ta : Nat → Nat} {mc : Nat → Int32} {nd it : Nat → Nat → Nat} {A : Nat → Nat → Int32} {ln : Int32} {T n : Nat} {t so sw : Nat} {lO lW : Nat × Nat} {Y : Nat → Int64} (hBC : BC G r ba x (pQS B) (bf B D) (bo B) (B 0) (B 1866) Z M0) (hX : XW G x tx wl ml wf mf M0) (hT : TR G rt tx ta mc nd it (cA T A) (trA A) (wA A ln) M0) (hr4 : 4 ≤ r) (hrx : r ≠ x + 4) (hrt : r ≠ rt) (hw : wT T A) (hn : B 0 = nI n) (hn6 : n < 64) (htT : t < T) (hS : SU G lO lW so sw Y M0) (hzY : zB Y) (hhB : hB (pHO B t) (pHA B t)) : Met l yX6_fractionBy (ws_ yX6_fractionBy cX6_fractionBy 3 (some .int)) ({ frames := 5, cells := 0, slots := 0, locals := 123 }) (gPre G M0 [.ref (ba 0), .int (nI t), .ref (so)]) (gQ G (gI (fun r9 M1 => M1 = M0 ∧ pFr A Y (pHO B t) (pHA B t) t = r9))) 0 0 (gA G) := by
  refine gMet (L0 := [some (.ref (ba 0)), some (.int (nI t)), some (.ref (so))]) RX6 hG (by decide +kernel) rfl (Nat.le_of_ble_eq_true rfl) rfl ?_
  intro p e s m args below meth c C hnm
  obtain ⟨wk, hwk, hwk3⟩ := isN_to hw.way
  have hsI := hw.stepI
  obtain ⟨⟨vs, hx0⟩, ⟨wq, hwl, hwq⟩, ⟨mq, hml, hmq⟩, hWY, hMT⟩ := id hX
  have ht0 : M0 tx = some ((rt, 0), .inr (20, [.ref (ta 1), .ref (ta 2), .ref (ta 3), .ref (ta 4), .int (A 6 0), .int (A 6 1), .int (A 6 2), .int (A 6 3), .int ln])) := hT.1
  rw [hwk] at ht0
  have hb0 := hBC.1
  rw [hn] at hb0
  obtain ⟨jw, aw, hwc, -⟩ := hWY wk (by omega)
  have hwt := hw.trader htT
  obtain ⟨mk, hmk, hmk3⟩ := isN_to hwt.1
  have htr := hT.at1 htT
  have htr : M0 (it 1 t) = some ((rt, 21), .inr (26, [.int (trA A 1 t 0), .int (A 2 (8 * t + 1)), .int (trA A 1 t 2), .int (trA A 1 t 3), .int (trA A 1 t 4), .int (trA A 1 t 5)])) := htr
  rw [hmk] at htr
  obtain ⟨jm, a1m, a2m, hmc, -⟩ := hMT mk (by omega)
  have hT4 := hw.T4
  refine x_aload_n C dX6_fractionBy_0 rfl rfl ?_
  refine x_get C gcX6 hb0 15 rfl q541 rfl dX6_fractionBy_1 ?_
  refine x_getN C gcX1 hx0 1 rfl q1251 rfl dX6_fractionBy_4 ?_
  refine x_aload_n C dX6_fractionBy_7 rfl rfl ?_
  refine x_get C gcX6 hb0 15 rfl q541 rfl dX6_fractionBy_8 ?_
  refine x_getN C gcX1 hx0 4 rfl q1255 rfl dX6_fractionBy_11 ?_
  refine x_iload_n C dX6_fractionBy_14 rfl rfl ?_
  refine x_V1R C (met_X5_trader l C.1 hT htT) mi_X5_trader q587 gcX5 ht0 ⟨rfl, rfl⟩ rfl ⟨Nat.le_of_ble_eq_true rfl, Nat.le_of_ble_eq_true rfl⟩ rfl dX6_fractionBy_15 (fun r2 M1 hr => ?_)
  obtain ⟨hr, rfl⟩ := hr
  rw [hr]
  refine x_getN C gcX11 htr 1 rfl q1437 rfl dX6_fractionBy_18 ?_
  refine x_F1R C (met_J8_get l C.1 hml hmq (by omega) rfl) mf_J8_J8_get_List q1593 gcJ8 hml ⟨rfl, rfl⟩ rfl ⟨Nat.le_of_ble_eq_true rfl, Nat.le_of_ble_eq_true rfl⟩ rfl dX6_fractionBy_21 (fun r4 M3 hr => ?_)
  obtain ⟨hr, rfl⟩ := hr
  rw [hr]
  refine x_castS C gcX3 hmc q1847 dX6_fractionBy_26 ?_
  refine x_aload_n C dX6_fractionBy_29 rfl rfl ?_
  refine x_aload_n C dX6_fractionBy_30 rfl rfl ?_
  refine x_get C gcX6 hb0 5 rfl q522 rfl dX6_fractionBy_31 ?_
  refine x_iload_n C dX6_fractionBy_34 rfl rfl ?_
  refine y_iald (i := t) C (hBC.2.2.2.2.2.2.1 0 (by omega)) rfl (by omega) rfl dX6_fractionBy_35 ?_
  refine x_aload_n C dX6_fractionBy_36 rfl rfl ?_
  refine x_get C gcX6 hb0 6 rfl q524 rfl dX6_fractionBy_37 ?_
  refine x_iload_n C dX6_fractionBy_40 rfl rfl ?_
  refine y_iald (i := t) C (hBC.2.2.2.2.2.2.1 1 (by omega)) rfl (by omega) rfl dX6_fractionBy_41 ?_
  refine x_aload_n C dX6_fractionBy_42 rfl rfl ?_
  refine x_get C gcX6 hb0 15 rfl q541 rfl dX6_fractionBy_43 ?_
  refine x_getN C gcX1 hx0 4 rfl q1255 rfl dX6_fractionBy_46 ?_
  refine x_getN C gcX5 ht0 5 rfl q405 rfl dX6_fractionBy_49 ?_
  refine x_aload_n C dX6_fractionBy_52 rfl rfl ?_
  refine x_V0R C (met_X6_way l C.1 hBC hX hT hr4 hrx hrt hw hn hn6) mi_X6_way q1588 gcX6 hb0 ⟨rfl, rfl⟩ rfl ⟨Nat.le_of_ble_eq_true rfl, Nat.le_of_ble_eq_true rfl⟩ rfl dX6_fractionBy_53 (fun r6 M5 hr => ?_)
  obtain ⟨hr, wk', hwk', hw3', rfl⟩ := hr
  rw [hr]
  have ew : wk = wk' := nI_inj (by omega) (by omega) (hwk.symm.trans hwk'); subst ew
  refine x_V5I C (met_X3_fraction l C.1 hS (hMT mk (by omega)) (hWY wk (by omega)) hsI hzY hhB) mi_X3_fraction q1848 gcX3 hmc ⟨rfl, rfl⟩ rfl ⟨Nat.le_of_ble_eq_true rfl, Nat.le_of_ble_eq_true rfl⟩ rfl dX6_fractionBy_56 (fun r8 M7 hr => ?_)
  obtain ⟨hr, rfl⟩ := hr
  rw [hr]
  exact x_iret C dX6_fractionBy_59 ⟨Nat.le_of_ble_eq_true rfl, Nat.le_of_ble_eq_true rfl⟩ ⟨rfl, by unfold pFr; rw [hmk, hwk]; rfl⟩
