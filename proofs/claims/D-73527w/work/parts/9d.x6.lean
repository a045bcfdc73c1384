set_option maxRecDepth 100000
theorem mi_X6_finalOf : gMV RX6 yX6_finalOf cX6_finalOf 5 (some .int) 4 := ⟨q1962, q1963, q140, q1964, by decide +kernel⟩
set_option maxHeartbeats 4000000 in
set_option maxRecDepth 100000 in
theorem met_X6_finalOf (l : Launch) {G : gG} (hG : gOK G) {M0 : gM} {r x : Nat} {ba : Nat → Nat} {B : Nat → Int32} {D : Nat → Nat → Int32} {Z : Nat → Int64} {tx wl ml : Nat} {wf mf : Nat → Nat} {rt : Nat} {ta : Nat → Nat} {mc : Nat → Int32} {nd it : Nat → Nat → Nat} {A : Nat → Nat → Int32} {ln : Int32} {T n : Nat} {a : Nat} {aa : Nat → Nat} {v : Nat → Int32} {xx : Nat → Nat → Int32} {kd bs bh : Int32} (hBC : BC G r ba x (pQS B) (bf B D) (bo B) (B 0) (B 1866) Z M0) (hX : XW G x tx wl ml wf mf M0) (hT : TR G rt tx ta mc nd it (cA T A) (trA A) (wA A ln) M0) (hr4 : 4 ≤ r) (hrx : r ≠ x + 4) (hrt : r ≠ rt) (hw : wT T A) (hn : B 0 = nI n) (hn6 : n < 64) (hA : AS G r a aa v xx M0) (hv : aV v) (hbh : -1000 ≤ bh.toInt ∧ bh.toInt ≤ 1000) (hbs : -2000 ≤ bs.toInt ∧ bs.toInt ≤ 2000) : Met l yX6_finalOf (ws_ yX6_finalOf cX6_finalOf 5 (some .int)) ({ frames := 5, cells := 0, slots := 0, locals := 121 }) (gPre G M0 [.ref (ba 0), .ref (aa 0), .int (kd), .int (bs), .int (bh)]) (gQ G (gI (fun r9 M1 => M1 = M0 ∧ (pCut (A 6 0) ((v 1).toInt64 * (bh).toInt64 * ((if kd = 0 then A 6 1 else nI 0) - bs).toInt64) ((v 2).toInt64 * (A 6 1).toInt64)).toInt32 = r9))) 0 0 (gA G) := by
  refine gMet (L0 := [some (.ref (ba 0)), some (.ref (aa 0)), some (.int (kd)), some (.int (bs)), some (.int (bh))]) RX6 hG (by decide +kernel) rfl (Nat.le_of_ble_eq_true rfl) rfl ?_
  intro p e s m args below meth c C hnm
  obtain ⟨wk, hwk, hwk3⟩ := isN_to hw.way
  have hsI := hw.stepI
  obtain ⟨⟨vs, hx0⟩, ⟨wq, hwl, hwq⟩, ⟨mq, hml, hmq⟩, hWY, hMT⟩ := id hX
  have ht0 : M0 tx = some ((rt, 0), .inr (20, [.ref (ta 1), .ref (ta 2), .ref (ta 3), .ref (ta 4), .int (A 6 0), .int (A 6 1), .int (A 6 2), .int (A 6 3), .int ln])) := hT.1
  rw [hwk] at ht0
  have hb0 := hBC.1
  rw [hn] at hb0
  obtain ⟨jw, aw, hwc, -⟩ := hWY wk (by omega)
  refine x_aload_n C dX6_finalOf_0 rfl rfl ?_
  refine x_iload_n C dX6_finalOf_1 rfl rfl ?_
  refine x_if_ne (tgt := 18) C dX6_finalOf_2 rfl (fun c2 => ?_) (fun c2 => ?_)
  · -- 18
    refine x_iconst C dX6_finalOf_18 kc_0 ?_
    refine x_iload_n C dX6_finalOf_19 rfl rfl ?_
    refine x_iload C dX6_finalOf_20 rfl ?_
    refine x_aload_n C dX6_finalOf_22 rfl rfl ?_
    refine x_get C gcX6 hb0 15 rfl q541 rfl dX6_finalOf_23 ?_
    refine x_getN C gcX1 hx0 4 rfl q1255 rfl dX6_finalOf_26 ?_
    refine x_getN C gcX5 ht0 5 rfl q405 rfl dX6_finalOf_29 ?_
    refine x_aload_n C dX6_finalOf_32 rfl rfl ?_
    refine x_V0R C (met_X6_way l C.1 hBC hX hT hr4 hrx hrt hw hn hn6) mi_X6_way q1588 gcX6 hb0 ⟨rfl, rfl⟩ rfl ⟨Nat.le_of_ble_eq_true rfl, Nat.le_of_ble_eq_true rfl⟩ rfl dX6_finalOf_33 (fun r2 M1 hr => ?_)
    obtain ⟨hr, wk', hwk', hw3', rfl⟩ := hr
    rw [hr]
    have ew : wk = wk' := nI_inj (by omega) (by omega) (hwk.symm.trans hwk'); subst ew
    refine x_V5J C (met_X8_share l C.1 hA (hWY wk (by omega)) (hv.sh hbh (show -2000 ≤ (nI 0).toInt ∧ (nI 0).toInt ≤ 2000 by decide) hbs hsI).1 (hv.sh hbh (show -2000 ≤ (nI 0).toInt ∧ (nI 0).toInt ≤ 2000 by decide) hbs hsI).2.1 (hv.sh hbh (show -2000 ≤ (nI 0).toInt ∧ (nI 0).toInt ≤ 2000 by decide) hbs hsI).2.2) mi_X8_share q1955 gcX8 hA.1 ⟨rfl, rfl⟩ rfl ⟨Nat.le_of_ble_eq_true rfl, Nat.le_of_ble_eq_true rfl⟩ rfl dX6_finalOf_36 (fun r4 M3 hr => ?_)
    obtain ⟨hr, rfl⟩ := hr
    rw [hr]
    refine x_l2i C dX6_finalOf_39 ?_
    exact x_iret C dX6_finalOf_40 ⟨Nat.le_of_ble_eq_true rfl, Nat.le_of_ble_eq_true rfl⟩ ⟨rfl, by rw [i6432, hwk, if_neg c2]⟩
  · -- 5
    refine x_aload_n C dX6_finalOf_5 rfl rfl ?_
    refine x_get C gcX6 hb0 15 rfl q541 rfl dX6_finalOf_6 ?_
    refine x_getN C gcX1 hx0 4 rfl q1255 rfl dX6_finalOf_9 ?_
    refine x_getN C gcX5 ht0 5 rfl q405 rfl dX6_finalOf_12 ?_
    refine x_goto (tgt := 19) C dX6_finalOf_15 rfl ?_
    refine x_iload_n C dX6_finalOf_19 rfl rfl ?_
    refine x_iload C dX6_finalOf_20 rfl ?_
    refine x_aload_n C dX6_finalOf_22 rfl rfl ?_
    refine x_get C gcX6 hb0 15 rfl q541 rfl dX6_finalOf_23 ?_
    refine x_getN C gcX1 hx0 4 rfl q1255 rfl dX6_finalOf_26 ?_
    refine x_getN C gcX5 ht0 5 rfl q405 rfl dX6_finalOf_29 ?_
    refine x_aload_n C dX6_finalOf_32 rfl rfl ?_
    refine x_V0R C (met_X6_way l C.1 hBC hX hT hr4 hrx hrt hw hn hn6) mi_X6_way q1588 gcX6 hb0 ⟨rfl, rfl⟩ rfl ⟨Nat.le_of_ble_eq_true rfl, Nat.le_of_ble_eq_true rfl⟩ rfl dX6_finalOf_33 (fun r6 M5 hr => ?_)
    obtain ⟨hr, wk', hwk', hw3', rfl⟩ := hr
    rw [hr]
    have ew : wk = wk' := nI_inj (by omega) (by omega) (hwk.symm.trans hwk'); subst ew
    refine x_V5J C (met_X8_share l C.1 hA (hWY wk (by omega)) (hv.sh hbh (by omega) hbs hsI).1 (hv.sh hbh (by omega) hbs hsI).2.1 (hv.sh hbh (by omega) hbs hsI).2.2) mi_X8_share q1955 gcX8 hA.1 ⟨rfl, rfl⟩ rfl ⟨Nat.le_of_ble_eq_true rfl, Nat.le_of_ble_eq_true rfl⟩ rfl dX6_finalOf_36 (fun r8 M7 hr => ?_)
    obtain ⟨hr, rfl⟩ := hr
    rw [hr]
    refine x_l2i C dX6_finalOf_39 ?_
    exact x_iret C dX6_finalOf_40 ⟨Nat.le_of_ble_eq_true rfl, Nat.le_of_ble_eq_true rfl⟩ ⟨rfl, by rw [i6432, hwk, if_pos c2]⟩
theorem mi_X6_firstOf : gMV RX6 yX6_firstOf cX6_firstOf 2 (some .int) 1 := ⟨q1585, q1586, q140, q1587, by decide +kernel⟩
set_option maxHeartbeats 4000000 in
set_option maxRecDepth 100000 in
theorem met_X6_firstOf (l : Launch) {G : gG} (hG : gOK G) {M0 : gM} {r x : Nat} {ba : Nat → Nat} {B : Nat → Int32} {D : Nat → Nat → Int32} {Z : Nat → Int64} {tx wl ml : Nat} {wf mf : Nat → Nat} {rt : Nat} {ta : Nat → Nat} {mc : Nat → Int32} {nd it : Nat → Nat → Nat} {A : Nat → Nat → Int32} {ln : Int32} {T n : Nat} {a : Nat} {aa : Nat → Nat} {v : Nat → Int32} {xx : Nat → Nat → Int32} (hBC : BC G r ba x (pQS B) (bf B D) (bo B) (B 0) (B 1866) Z M0) (hX : XW G x tx wl ml wf mf M0) (hT : TR G rt tx ta mc nd it (cA T A) (trA A) (wA A ln) M0) (hr4 : 4 ≤ r) (hrx : r ≠ x + 4) (hrt : r ≠ rt) (hw : wT T A) (hn : B 0 = nI n) (hn6 : n < 64) (hA : AS G r a aa v xx M0) (hv : aV v) (h9 : -2000 ≤ (v 9).toInt ∧ (v 9).toInt ≤ 2000) : Met l yX6_firstOf (ws_ yX6_firstOf cX6_firstOf 2 (some .int)) ({ frames := 4, cells := 0, slots := 0, locals := 96 }) (gPre G M0 [.ref (ba 0), .ref (aa 0)]) (gQ G (gI (fun r9 M1 => M1 = M0 ∧ (pCut (A 6 0) ((v 1).toInt64 * (v 9).toInt64) (A 6 1).toInt64).toInt32 = r9))) 0 0 (gA G) := by
  refine gMet (L0 := [some (.ref (ba 0)), some (.ref (aa 0))]) RX6 hG (by decide +kernel) rfl (Nat.le_of_ble_eq_true rfl) rfl ?_
  intro p e s m args below meth c C hnm
  obtain ⟨wk, hwk, hwk3⟩ := isN_to hw.way
  have hsI := hw.stepI
  obtain ⟨⟨vs, hx0⟩, ⟨wq, hwl, hwq⟩, ⟨mq, hml, hmq⟩, hWY, hMT⟩ := id hX
  have ht0 : M0 tx = some ((rt, 0), .inr (20, [.ref (ta 1), .ref (ta 2), .ref (ta 3), .ref (ta 4), .int (A 6 0), .int (A 6 1), .int (A 6 2), .int (A 6 3), .int ln])) := hT.1
  rw [hwk] at ht0
  have hb0 := hBC.1
  rw [hn] at hb0
  obtain ⟨jw, aw, hwc, -⟩ := hWY wk (by omega)
  refine x_aload_n C dX6_firstOf_0 rfl rfl ?_
  refine x_V0R C (met_X6_way l C.1 hBC hX hT hr4 hrx hrt hw hn hn6) mi_X6_way q1588 gcX6 hb0 ⟨rfl, rfl⟩ rfl ⟨Nat.le_of_ble_eq_true rfl, Nat.le_of_ble_eq_true rfl⟩ rfl dX6_firstOf_1 (fun r2 M1 hr => ?_)
  obtain ⟨hr, wk', hwk', hw3', rfl⟩ := hr
  rw [hr]
  have ew : wk = wk' := nI_inj (by omega) (by omega) (hwk.symm.trans hwk'); subst ew
  refine x_aload_n C dX6_firstOf_4 rfl rfl ?_
  refine x_getN C gcX8 hA.1 1 rfl q1132 rfl dX6_firstOf_5 ?_
  refine x_i2l C dX6_firstOf_8 ?_
  refine x_aload_n C dX6_firstOf_9 rfl rfl ?_
  refine x_getN C gcX8 hA.1 9 rfl q1155 rfl dX6_firstOf_10 ?_
  refine x_i2l C dX6_firstOf_13 ?_
  refine x_lmul C dX6_firstOf_14 ?_
  refine x_aload_n C dX6_firstOf_15 rfl rfl ?_
  refine x_get C gcX6 hb0 15 rfl q541 rfl dX6_firstOf_16 ?_
  refine x_getN C gcX1 hx0 4 rfl q1255 rfl dX6_firstOf_19 ?_
  refine x_getN C gcX5 ht0 5 rfl q405 rfl dX6_firstOf_22 ?_
  refine x_i2l C dX6_firstOf_25 ?_
  refine x_V2I C (met_X2_cut l C.1 (hWY wk (by omega)) (hv.fst h9 hsI).1 (hv.fst h9 hsI).2.1 (hv.fst h9 hsI).2.2) mi_X2_cut q1636 gcX2 hwc ⟨rfl, rfl⟩ rfl ⟨Nat.le_of_ble_eq_true rfl, Nat.le_of_ble_eq_true rfl⟩ rfl dX6_firstOf_26 (fun r4 M3 hr => ?_)
  obtain ⟨hr, rfl⟩ := hr
  rw [hr]
  exact x_iret C dX6_firstOf_29 ⟨Nat.le_of_ble_eq_true rfl, Nat.le_of_ble_eq_true rfl⟩ ⟨rfl, by rw [hwk]⟩
theorem mi_X6_worthOf : gMV RX6 yX6_worthOf cX6_worthOf 7 (some .int) 3 := ⟨q1947, q1948, q140, q1949, by decide +kernel⟩
set_option maxHeartbeats 4000000 in
set_option maxRecDepth 100000 in
theorem met_X6_worthOf (l : Launch) {G : gG} (hG : gOK G) {M0 : gM} {r x : Nat} {ba : Nat → Nat} {B : Nat → Int32} {D : Nat → Nat → Int32} {Z : Nat → Int64} {tx wl ml : Nat} {wf mf : Nat → Nat} {rt : Nat} {ta : Nat → Nat} {mc : Nat → Int32} {nd it : Nat → Nat → Nat} {A : Nat → Nat → Int32} {ln : Int32} {T n : Nat} {a : Nat} {aa : Nat → Nat} {v : Nat → Int32} {xx : Nat → Nat → Int32} {f : Int32} {cl : Nat} (hBC : BC G r ba x (pQS B) (bf B D) (bo B) (B 0) (B 1866) Z M0) (hX : XW G x tx wl ml wf mf M0) (hT : TR G rt tx ta mc nd it (cA T A) (trA A) (wA A ln) M0) (hr4 : 4 ≤ r) (hrx : r ≠ x + 4) (hrt : r ≠ rt) (hw : wT T A) (hn : B 0 = nI n) (hn6 : n < 64) (hA : AS G r a aa v xx M0) (hcl : cl ≤ 4) : Met l yX6_worthOf (ws_ yX6_worthOf cX6_worthOf 7 (some .int)) ({ frames := 4, cells := 0, slots := 0, locals := 96 }) (gPre G M0 [.ref (ba 0), .ref (aa 0), .int (f), .int (nI cl)]) (gQ G (gI (fun r9 M1 => M1 = M0 ∧ xW A (v 9) (v 8) (xx 3) f cl = r9))) 0 0 (gA G) := by
  refine gMet (L0 := [some (.ref (ba 0)), some (.ref (aa 0)), some (.int (f)), some (.int (nI cl)), none, none, none]) RX6 hG (by decide +kernel) rfl (Nat.le_of_ble_eq_true rfl) rfl ?_
  intro p e s m args below meth c C hnm
  obtain ⟨wk, hwk, hwk3⟩ := isN_to hw.way
  have hsI := hw.stepI
  obtain ⟨⟨vs, hx0⟩, ⟨wq, hwl, hwq⟩, ⟨mq, hml, hmq⟩, hWY, hMT⟩ := id hX
  have ht0 : M0 tx = some ((rt, 0), .inr (20, [.ref (ta 1), .ref (ta 2), .ref (ta 3), .ref (ta 4), .int (A 6 0), .int (A 6 1), .int (A 6 2), .int (A 6 3), .int ln])) := hT.1
  rw [hwk] at ht0
  have hb0 := hBC.1
  rw [hn] at hb0
  obtain ⟨jw, aw, hwc, -⟩ := hWY wk (by omega)
  refine x_aload_n C dX6_worthOf_0 rfl rfl ?_
  refine x_getN C gcX8 hA.1 9 rfl q1155 rfl dX6_worthOf_1 ?_
  refine x_iconst C dX6_worthOf_4 kc_m1 ?_
  refine x_icmp_ne (tgt := 18) C dX6_worthOf_5 rfl (fun c5 => ?_) (fun c5 => ?_)
  · -- 18
    refine x_lconst (v := 0) C dX6_worthOf_18 rfl ?_
    refine x_lstore C dX6_worthOf_19 (gs2_4 rfl) rfl ?_
    refine x_iconst C dX6_worthOf_21 kc_0 ?_
    refine x_istore C dX6_worthOf_22 (gs1_6 rfl) rfl ?_
    refine x_loop (head := 24) (E := 4) (fun i M => M = M0) (fun i => [some (.ref (ba 0)), some (.ref (aa 0)), some (.int f), some (.int (nI cl)), some (.long (xWn A (v 8) (xx 3) f cl i)), none, some (.int (nI i))]) rfl (fun i M hi hI ih => ?_)
    subst hI
    show gX G p l e _ s m args below meth c 7 _ M _ _ 24 [some (.ref (ba 0)), some (.ref (aa 0)), some (.int f), some (.int (nI cl)), some (.long (xWn A (v 8) (xx 3) f cl i)), none, some (.int (nI i))] []
    refine x_iload C dX6_worthOf_24 rfl ?_
    refine x_iconst C dX6_worthOf_26 kc_4 ?_
    refine x_icmp_geN (tgt := 67) C (by omega) (by omega) dX6_worthOf_27 rfl (fun c27 => ?_) (fun c27 => ?_)
    · -- 67
      refine x_aload_n C dX6_worthOf_67 rfl rfl ?_
      refine x_V0R C (met_X6_way l C.1 hBC hX hT hr4 hrx hrt hw hn hn6) mi_X6_way q1588 gcX6 hb0 ⟨rfl, rfl⟩ rfl ⟨Nat.le_of_ble_eq_true rfl, Nat.le_of_ble_eq_true rfl⟩ rfl dX6_worthOf_68 (fun r2 M1 hr => ?_)
      obtain ⟨hr, wk', hwk', hw3', rfl⟩ := hr
      rw [hr]
      have ew : wk = wk' := nI_inj (by omega) (by omega) (hwk.symm.trans hwk'); subst ew
      refine x_lload C dX6_worthOf_71 rfl ?_
      refine x_ldc2 C dX6_worthOf_73 q1954 ?_
      refine x_V2I C (met_X2_cut l C.1 (hWY wk (by omega)) (by decide) (by rw [show i = 4 by omega]; exact xWn_bg4) (by decide)) mi_X2_cut q1636 gcX2 hwc ⟨rfl, rfl⟩ rfl ⟨Nat.le_of_ble_eq_true rfl, Nat.le_of_ble_eq_true rfl⟩ rfl dX6_worthOf_76 (fun r4 M3 hr => ?_)
      obtain ⟨hr, rfl⟩ := hr
      rw [hr]
      exact x_iret C dX6_worthOf_79 ⟨Nat.le_of_ble_eq_true rfl, Nat.le_of_ble_eq_true rfl⟩ ⟨rfl, by unfold xW; rw [if_neg c5, hwk, show 4 = i by omega]⟩
    · -- 30
      refine x_lload C dX6_worthOf_30 rfl ?_
      refine x_aload_n C dX6_worthOf_32 rfl rfl ?_
      refine x_iload C dX6_worthOf_33 rfl ?_
      refine x_iload_n C dX6_worthOf_35 rfl rfl ?_
      refine x_icmp_geN (tgt := 49) C (by omega) (by omega) dX6_worthOf_36 rfl (fun c36 => ?_) (fun c36 => ?_)
      · -- 49
        refine x_aload_n C dX6_worthOf_49 rfl rfl ?_
        refine x_getN C gcX8 hA.1 8 rfl q1151 rfl dX6_worthOf_50 ?_
        refine x_iload_n C dX6_worthOf_53 rfl rfl ?_
        refine x_V2I C (met_X6_byUse l C.1 hBC hX hT hr4 hrx hrt hw hn hn6) mi_X6_byUse q1950 gcX6 hb0 ⟨rfl, rfl⟩ rfl ⟨Nat.le_of_ble_eq_true rfl, Nat.le_of_ble_eq_true rfl⟩ rfl dX6_worthOf_54 (fun r6 M5 hr => ?_)
        obtain ⟨hr, rfl⟩ := hr
        rw [hr]
        refine x_i2l C dX6_worthOf_57 ?_
        refine x_ladd C dX6_worthOf_58 ?_
        refine x_lstore C dX6_worthOf_59 (gs2_4 rfl) rfl ?_
        refine x_iincN (z := 1) C dX6_worthOf_61 rfl (gs1_6 rfl) rfl ?_
        refine x_goto (tgt := 24) C dX6_worthOf_64 rfl ?_
        have e9 : xWn A (v 8) (xx 3) f cl (i + 1) = xWn A (v 8) (xx 3) f cl i + (pUse A (v 8) f).toInt64 := by show xWn A (v 8) (xx 3) f cl i + (pUse A (if i < cl then xx 3 i else v 8) f).toInt64 = _; rw [if_neg (by omega)]
        rw [← e9]
        exact ih (by omega) _ rfl
      · -- 39
        refine x_aload_n C dX6_worthOf_39 rfl rfl ?_
        refine x_getN C gcX8 hA.1 15 rfl q1172 rfl dX6_worthOf_40 ?_
        refine x_iload C dX6_worthOf_43 rfl ?_
        refine y_iald (i := i) C hA.2.2.2.2 rfl (by omega) rfl dX6_worthOf_45 ?_
        refine x_goto (tgt := 53) C dX6_worthOf_46 rfl ?_
        refine x_iload_n C dX6_worthOf_53 rfl rfl ?_
        refine x_V2I C (met_X6_byUse l C.1 hBC hX hT hr4 hrx hrt hw hn hn6) mi_X6_byUse q1950 gcX6 hb0 ⟨rfl, rfl⟩ rfl ⟨Nat.le_of_ble_eq_true rfl, Nat.le_of_ble_eq_true rfl⟩ rfl dX6_worthOf_54 (fun r8 M7 hr => ?_)
        obtain ⟨hr, rfl⟩ := hr
        rw [hr]
        refine x_i2l C dX6_worthOf_57 ?_
        refine x_ladd C dX6_worthOf_58 ?_
        refine x_lstore C dX6_worthOf_59 (gs2_4 rfl) rfl ?_
        refine x_iincN (z := 1) C dX6_worthOf_61 rfl (gs1_6 rfl) rfl ?_
        refine x_goto (tgt := 24) C dX6_worthOf_64 rfl ?_
        have e9 : xWn A (v 8) (xx 3) f cl (i + 1) = xWn A (v 8) (xx 3) f cl i + (pUse A (xx 3 i) f).toInt64 := by show xWn A (v 8) (xx 3) f cl i + (pUse A (if i < cl then xx 3 i else v 8) f).toInt64 = _; rw [if_pos (by omega)]
        rw [← e9]
        exact ih (by omega) _ rfl
  · -- 8
    refine x_aload_n C dX6_worthOf_8 rfl rfl ?_
    refine x_aload_n C dX6_worthOf_9 rfl rfl ?_
    refine x_getN C gcX8 hA.1 8 rfl q1151 rfl dX6_worthOf_10 ?_
    refine x_iload_n C dX6_worthOf_13 rfl rfl ?_
    refine x_V2I C (met_X6_byUse l C.1 hBC hX hT hr4 hrx hrt hw hn hn6) mi_X6_byUse q1950 gcX6 hb0 ⟨rfl, rfl⟩ rfl ⟨Nat.le_of_ble_eq_true rfl, Nat.le_of_ble_eq_true rfl⟩ rfl dX6_worthOf_14 (fun r10 M9 hr => ?_)
    obtain ⟨hr, rfl⟩ := hr
    rw [hr]
    exact x_iret C dX6_worthOf_17 ⟨Nat.le_of_ble_eq_true rfl, Nat.le_of_ble_eq_true rfl⟩ ⟨rfl, by unfold xW; rw [if_pos c5]⟩
theorem mi_X6_worthNow : gMV RX6 yX6_worthNow cX6_worthNow 2 (some .int) 1 := ⟨q2219, q2220, q140, q2221, by decide +kernel⟩
set_option maxHeartbeats 4000000 in
set_option maxRecDepth 100000 in
theorem met_X6_worthNow (l : Launch) {G : gG} (hG : gOK G) {M0 : gM} {r x : Nat} {ba : Nat → Nat} {B : Nat → Int32} {D : Nat → Nat → Int32} {Z : Nat → Int64} {tx wl ml : Nat} {wf mf : Nat → Nat} {rt : Nat} {ta : Nat → Nat} {mc : Nat → Int32} {nd it : Nat → Nat → Nat} {A : Nat → Nat → Int32} {ln : Int32} {T n : Nat} {a : Nat} {aa : Nat → Nat} {v : Nat → Int32} {xx : Nat → Nat → Int32} {o : Nat} (hBC : BC G r ba x (pQS B) (bf B D) (bo B) (B 0) (B 1866) Z M0) (hX : XW G x tx wl ml wf mf M0) (hT : TR G rt tx ta mc nd it (cA T A) (trA A) (wA A ln) M0) (hr4 : 4 ≤ r) (hrx : r ≠ x + 4) (hrt : r ≠ rt) (hw : wT T A) (hn : B 0 = nI n) (hn6 : n < 64) (hA : AS G r a aa v xx M0) (hto : xx 0 (n / 4) = nI o) (hoT : o < T) (hq : qB B) (hh : hdB B) : Met l yX6_worthNow (ws_ yX6_worthNow cX6_worthNow 2 (some .int)) ({ frames := 7, cells := 0, slots := 0, locals := 167 }) (gPre G M0 [.ref (ba 0), .ref (aa 0)]) (gQ G (gI (fun r9 M1 => (∃ Z', BC G r ba x (pQS B) (bf B D) (bo B) (B 0) (B 1866) Z' M1) ∧ (∀ z, z ≠ ba 10 → M1 z = M0 z) ∧ xW A (v 9) (v 8) (xx 3) (pAnn A B o (n / 4)) (n % 4) = r9))) 0 0 (gA G) := by
  refine gMet (L0 := [some (.ref (ba 0)), some (.ref (aa 0))]) RX6 hG (by decide +kernel) rfl (Nat.le_of_ble_eq_true rfl) rfl ?_
  intro p e s m args below meth c C hnm
  obtain ⟨wk, hwk, hwk3⟩ := isN_to hw.way
  have hsI := hw.stepI
  obtain ⟨⟨vs, hx0⟩, ⟨wq, hwl, hwq⟩, ⟨mq, hml, hmq⟩, hWY, hMT⟩ := id hX
  have ht0 : M0 tx = some ((rt, 0), .inr (20, [.ref (ta 1), .ref (ta 2), .ref (ta 3), .ref (ta 4), .int (A 6 0), .int (A 6 1), .int (A 6 2), .int (A 6 3), .int ln])) := hT.1
  rw [hwk] at ht0
  have hb0 := hBC.1
  rw [hn] at hb0
  obtain ⟨jw, aw, hwc, -⟩ := hWY wk (by omega)
  have hT4 := hw.T4
  refine x_aload_n C dX6_worthNow_0 rfl rfl ?_
  refine x_aload_n C dX6_worthNow_1 rfl rfl ?_
  refine x_aload_n C dX6_worthNow_2 rfl rfl ?_
  refine x_aload_n C dX6_worthNow_3 rfl rfl ?_
  refine x_getN C gcX8 hA.1 5 rfl q1143 rfl dX6_worthNow_4 ?_
  refine x_aload_n C dX6_worthNow_7 rfl rfl ?_
  refine x_get C gcX6 hb0 13 rfl q537 rfl dX6_worthNow_8 ?_
  refine x_iconst C dX6_worthNow_11 kc_4 ?_
  refine x_idivN C (by omega) (by omega) (by omega) dX6_worthNow_12 ?_
  refine y_iald (i := n / 4) C hA.2.1 rfl (by omega) rfl dX6_worthNow_13 ?_
  rw [hto]
  refine x_aload_n C dX6_worthNow_14 rfl rfl ?_
  refine x_get C gcX6 hb0 13 rfl q537 rfl dX6_worthNow_15 ?_
  refine x_iconst C dX6_worthNow_18 kc_4 ?_
  refine x_idivN C (by omega) (by omega) (by omega) dX6_worthNow_19 ?_
  refine x_V2I C (met_X6_annualOf l C.1 hBC hX hT hr4 hrx hrt hw hn hn6 (by omega) (by omega) hq hh) mi_X6_annualOf q2089 gcX6 hb0 ⟨rfl, rfl⟩ rfl ⟨Nat.le_of_ble_eq_true rfl, Nat.le_of_ble_eq_true rfl⟩ rfl dX6_worthNow_20 (fun r2 M1 hr => ?_)
  obtain ⟨⟨Z6, hb3, hz5⟩, k4, rfl⟩ := hr
  have hBc7 := hBC.year (Z' := Z6) hb3.2.2.2.2.2.2.2 k4
  have hf10 := hBC.fl10 ⟨_, hBc7⟩ k4
  have hXc8 := hX.k10 hf10 hr4 hrx
  have hTc9 := hT.k10 hf10 hrt
  obtain ⟨⟨vshBc7, hx0hBc7⟩, ⟨wqhBc7, hwlhBc7, hwqhBc7⟩, ⟨mqhBc7, hmlhBc7, hmqhBc7⟩, hWYhBc7, hMThBc7⟩ := id hXc8
  have ht0hBc7 : M1 tx = some ((rt, 0), .inr (20, [.ref (ta 1), .ref (ta 2), .ref (ta 3), .ref (ta 4), .int (A 6 0), .int (A 6 1), .int (A 6 2), .int (A 6 3), .int ln])) := hTc9.1
  rw [hwk] at ht0hBc7
  have hb0hBc7 := hBc7.1
  rw [hn] at hb0hBc7
  obtain ⟨jwhBc7, awhBc7, hwchBc7, -⟩ := hWYhBc7 wk (by omega)
  have hAc11 := hA.keep hf10 (fun e9 => by have := congrArg Prod.snd e9; dsimp only at this; omega) (fun e9 => by have := congrArg Prod.snd e9; dsimp only at this; omega) (fun e9 => by have := congrArg Prod.snd e9; dsimp only at this; omega) (fun e9 => by have := congrArg Prod.snd e9; dsimp only at this; omega) (fun e9 => by have := congrArg Prod.snd e9; dsimp only at this; omega)
  refine x_aload_n C dX6_worthNow_23 rfl rfl ?_
  refine x_get C gcX6 hb0hBc7 13 rfl q537 rfl dX6_worthNow_24 ?_
  refine x_iconst C dX6_worthNow_27 kc_4 ?_
  refine x_iremN C (by omega) (by omega) (by omega) dX6_worthNow_28 ?_
  refine x_V3I C (met_X6_worthOf l C.1 hBc7 hXc8 hTc9 hr4 hrx hrt hw hn hn6 hAc11 (by omega)) mi_X6_worthOf q1946 gcX6 hb0hBc7 ⟨rfl, rfl⟩ rfl ⟨Nat.le_of_ble_eq_true rfl, Nat.le_of_ble_eq_true rfl⟩ rfl dX6_worthNow_29 (fun r13 M12 hr => ?_)
  obtain ⟨hr, rfl⟩ := hr
  rw [hr]
  exact x_iret C dX6_worthNow_32 ⟨Nat.le_of_ble_eq_true rfl, Nat.le_of_ble_eq_true rfl⟩ ⟨⟨_, hBc7⟩, k4, rfl⟩
theorem mi_X6_baseNow : gMV RX6 yX6_baseNow cX6_baseNow 2 (some .int) 1 := ⟨q2215, q2216, q140, q2217, by decide +kernel⟩
set_option maxHeartbeats 4000000 in
set_option maxRecDepth 100000 in
theorem met_X6_baseNow (l : Launch) {G : gG} (hG : gOK G) {M0 : gM} {r x : Nat} {ba : Nat → Nat} {B : Nat → Int32} {D : Nat → Nat → Int32} {Z : Nat → Int64} {tx wl ml : Nat} {wf mf : Nat → Nat} {rt : Nat} {ta : Nat → Nat} {mc : Nat → Int32} {nd it : Nat → Nat → Nat} {A : Nat → Nat → Int32} {ln : Int32} {T n : Nat} {a : Nat} {aa : Nat → Nat} {v : Nat → Int32} {xx : Nat → Nat → Int32} {o : Nat} (hBC : BC G r ba x (pQS B) (bf B D) (bo B) (B 0) (B 1866) Z M0) (hX : XW G x tx wl ml wf mf M0) (hT : TR G rt tx ta mc nd it (cA T A) (trA A) (wA A ln) M0) (hr4 : 4 ≤ r) (hrx : r ≠ x + 4) (hrt : r ≠ rt) (hw : wT T A) (hn : B 0 = nI n) (hn6 : n < 64) (hA : AS G r a aa v xx M0) (hto : xx 0 (n / 4) = nI o) (hoT : o < T) (hq : qB B) (hh : hdB B) : Met l yX6_baseNow (ws_ yX6_baseNow cX6_baseNow 2 (some .int)) ({ frames := 8, cells := 0, slots := 0, locals := 188 }) (gPre G M0 [.ref (ba 0), .ref (aa 0)]) (gQ G (gI (fun r9 M1 => (∃ Z', BC G r ba x (pQS B) (bf B D) (bo B) (B 0) (B 1866) Z' M1) ∧ (∀ z, z ≠ ba 10 → M1 z = M0 z) ∧ (if v 9 = -1 then xW A (v 9) (v 8) (xx 3) (pAnn A B o (n / 4)) (n % 4) else v 9) = r9))) 0 0 (gA G) := by
  refine gMet (L0 := [some (.ref (ba 0)), some (.ref (aa 0))]) RX6 hG (by decide +kernel) rfl (Nat.le_of_ble_eq_true rfl) rfl ?_
  intro p e s m args below meth c C hnm
  obtain ⟨wk, hwk, hwk3⟩ := isN_to hw.way
  have hsI := hw.stepI
  obtain ⟨⟨vs, hx0⟩, ⟨wq, hwl, hwq⟩, ⟨mq, hml, hmq⟩, hWY, hMT⟩ := id hX
  have ht0 : M0 tx = some ((rt, 0), .inr (20, [.ref (ta 1), .ref (ta 2), .ref (ta 3), .ref (ta 4), .int (A 6 0), .int (A 6 1), .int (A 6 2), .int (A 6 3), .int ln])) := hT.1
  rw [hwk] at ht0
  have hb0 := hBC.1
  rw [hn] at hb0
  obtain ⟨jw, aw, hwc, -⟩ := hWY wk (by omega)
  have hT4 := hw.T4
  refine x_aload_n C dX6_baseNow_0 rfl rfl ?_
  refine x_getN C gcX8 hA.1 9 rfl q1155 rfl dX6_baseNow_1 ?_
  refine x_iconst C dX6_baseNow_4 kc_m1 ?_
  refine x_icmp_ne (tgt := 16) C dX6_baseNow_5 rfl (fun c5 => ?_) (fun c5 => ?_)
  · -- 16
    refine x_aload_n C dX6_baseNow_16 rfl rfl ?_
    refine x_getN C gcX8 hA.1 9 rfl q1155 rfl dX6_baseNow_17 ?_
    exact x_iret C dX6_baseNow_20 ⟨Nat.le_of_ble_eq_true rfl, Nat.le_of_ble_eq_true rfl⟩ ⟨⟨_, hBC⟩, fun _ _ => rfl, if_neg c5⟩
  · -- 8
    refine x_aload_n C dX6_baseNow_8 rfl rfl ?_
    refine x_aload_n C dX6_baseNow_9 rfl rfl ?_
    refine x_V1I C (met_X6_worthNow l C.1 hBC hX hT hr4 hrx hrt hw hn hn6 hA hto hoT hq hh) mi_X6_worthNow q2218 gcX6 hb0 ⟨rfl, rfl⟩ rfl ⟨Nat.le_of_ble_eq_true rfl, Nat.le_of_ble_eq_true rfl⟩ rfl dX6_baseNow_10 (fun r2 M1 hr => ?_)
    obtain ⟨⟨Z5, hb3⟩, k4, rfl⟩ := hr
    have hBc6 := hBC.year (Z' := Z5) hb3.2.2.2.2.2.2.2 k4
    have hf9 := hBC.fl10 ⟨_, hBc6⟩ k4
    have hXc7 := hX.k10 hf9 hr4 hrx
    have hTc8 := hT.k10 hf9 hrt
    obtain ⟨⟨vshBc6, hx0hBc6⟩, ⟨wqhBc6, hwlhBc6, hwqhBc6⟩, ⟨mqhBc6, hmlhBc6, hmqhBc6⟩, hWYhBc6, hMThBc6⟩ := id hXc7
    have ht0hBc6 : M1 tx = some ((rt, 0), .inr (20, [.ref (ta 1), .ref (ta 2), .ref (ta 3), .ref (ta 4), .int (A 6 0), .int (A 6 1), .int (A 6 2), .int (A 6 3), .int ln])) := hTc8.1
    rw [hwk] at ht0hBc6
    have hb0hBc6 := hBc6.1
    rw [hn] at hb0hBc6
    obtain ⟨jwhBc6, awhBc6, hwchBc6, -⟩ := hWYhBc6 wk (by omega)
    have hAc10 := hA.keep hf9 (fun e9 => by have := congrArg Prod.snd e9; dsimp only at this; omega) (fun e9 => by have := congrArg Prod.snd e9; dsimp only at this; omega) (fun e9 => by have := congrArg Prod.snd e9; dsimp only at this; omega) (fun e9 => by have := congrArg Prod.snd e9; dsimp only at this; omega) (fun e9 => by have := congrArg Prod.snd e9; dsimp only at this; omega)
    refine x_goto (tgt := 20) C dX6_baseNow_13 rfl ?_
    exact x_iret C dX6_baseNow_20 ⟨Nat.le_of_ble_eq_true rfl, Nat.le_of_ble_eq_true rfl⟩ ⟨⟨_, hBc6⟩, k4, if_pos c5⟩
theorem mi_X6_taken : gMV RX6 yX6_taken cX6_taken 4 (some .int) 1 := ⟨q2109, q2110, q140, q2111, by decide +kernel⟩
set_option maxHeartbeats 4000000 in
set_option maxRecDepth 100000 in
theorem met_X6_taken (l : Launch) {G : gG} (hG : gOK G) {M0 : gM} {r x : Nat} {ba : Nat → Nat} {B : Nat → Int32} {D : Nat → Nat → Int32} {Z : Nat → Int64} {tx wl ml : Nat} {wf mf : Nat → Nat} {rt : Nat} {ta : Nat → Nat} {mc : Nat → Int32} {nd it : Nat → Nat → Nat} {A : Nat → Nat → Int32} {ln : Int32} {T n : Nat} {a : Nat} {aa : Nat → Nat} {v : Nat → Int32} {xx : Nat → Nat → Int32} (hBC : BC G r ba x (pQS B) (bf B D) (bo B) (B 0) (B 1866) Z M0) (hX : XW G x tx wl ml wf mf M0) (hT : TR G rt tx ta mc nd it (cA T A) (trA A) (wA A ln) M0) (hr4 : 4 ≤ r) (hrx : r ≠ x + 4) (hrt : r ≠ rt) (hw : wT T A) (hn : B 0 = nI n) (hn6 : n < 64) (hA : AS G r a aa v xx M0) (hv : aV v) (h9 : -2000 ≤ (v 9).toInt ∧ (v 9).toInt ≤ 2000) : Met l yX6_taken (ws_ yX6_taken cX6_taken 4 (some .int)) ({ frames := 5, cells := 0, slots := 0, locals := 117 }) (gPre G M0 [.ref (ba 0), .ref (aa 0)]) (gQ G (gI (fun r9 M1 => M1 = M0 ∧ (if v 9 = -1 then nI 0 else xSm (xx 2) ((pCut (A 6 0) ((v 1).toInt64 * (v 9).toInt64) (A 6 1).toInt64).toInt32 + (if v 13 = -999999 then nI 0 else v 13)) 16) = r9))) 0 0 (gA G) := by
  refine gMet (L0 := [some (.ref (ba 0)), some (.ref (aa 0)), none, none]) RX6 hG (by decide +kernel) rfl (Nat.le_of_ble_eq_true rfl) rfl ?_
  intro p e s m args below meth c C hnm
  obtain ⟨wk, hwk, hwk3⟩ := isN_to hw.way
  have hsI := hw.stepI
  obtain ⟨⟨vs, hx0⟩, ⟨wq, hwl, hwq⟩, ⟨mq, hml, hmq⟩, hWY, hMT⟩ := id hX
  have ht0 : M0 tx = some ((rt, 0), .inr (20, [.ref (ta 1), .ref (ta 2), .ref (ta 3), .ref (ta 4), .int (A 6 0), .int (A 6 1), .int (A 6 2), .int (A 6 3), .int ln])) := hT.1
  rw [hwk] at ht0
  have hb0 := hBC.1
  rw [hn] at hb0
  obtain ⟨jw, aw, hwc, -⟩ := hWY wk (by omega)
  refine x_aload_n C dX6_taken_0 rfl rfl ?_
  refine x_getN C gcX8 hA.1 9 rfl q1155 rfl dX6_taken_1 ?_
  refine x_iconst C dX6_taken_4 kc_m1 ?_
  refine x_icmp_ne (tgt := 10) C dX6_taken_5 rfl (fun c5 => ?_) (fun c5 => ?_)
  · -- 10
    refine x_aload_n C dX6_taken_10 rfl rfl ?_
    refine x_aload_n C dX6_taken_11 rfl rfl ?_
    refine x_V1I C (met_X6_firstOf l C.1 hBC hX hT hr4 hrx hrt hw hn hn6 hA hv h9) mi_X6_firstOf q2112 gcX6 hb0 ⟨rfl, rfl⟩ rfl ⟨Nat.le_of_ble_eq_true rfl, Nat.le_of_ble_eq_true rfl⟩ rfl dX6_taken_12 (fun r2 M1 hr => ?_)
    obtain ⟨hr, rfl⟩ := hr
    rw [hr]
    refine x_aload_n C dX6_taken_15 rfl rfl ?_
    refine x_getN C gcX8 hA.1 13 rfl q1166 rfl dX6_taken_16 ?_
    refine x_ldcw C dX6_taken_19 q2113 ?_
    refine x_icmp_ne (tgt := 29) C dX6_taken_22 rfl (fun c22 => ?_) (fun c22 => ?_)
    · -- 29
      refine x_aload_n C dX6_taken_29 rfl rfl ?_
      refine x_getN C gcX8 hA.1 13 rfl q1166 rfl dX6_taken_30 ?_
      refine x_iadd C dX6_taken_33 ?_
      refine x_istore_n C dX6_taken_34 rfl (gs1_2 rfl) rfl ?_
      refine x_iconst C dX6_taken_35 kc_0 ?_
      refine x_istore_n C dX6_taken_36 rfl (gs1_3 rfl) rfl ?_
      refine x_loop (head := 37) (E := 16) (fun i M => M = M0) (fun i => [some (.ref (ba 0)), some (.ref (aa 0)), some (.int (xSm (xx 2) ((pCut (A 6 0) ((v 1).toInt64 * (v 9).toInt64) (A 6 1).toInt64).toInt32 + v 13) i)), some (.int (nI i))]) rfl (fun i M hi hI ih => ?_)
      subst hI
      show gX G p l e _ s m args below meth c 4 _ M _ _ 37 [some (.ref (ba 0)), some (.ref (aa 0)), some (.int (xSm (xx 2) ((pCut (A 6 0) ((v 1).toInt64 * (v 9).toInt64) (A 6 1).toInt64).toInt32 + v 13) i)), some (.int (nI i))] []
      refine x_iload_n C dX6_taken_37 rfl rfl ?_
      refine x_bipush C dX6_taken_38 kb_16 ?_
      refine x_icmp_geN (tgt := 58) C (by omega) (by omega) dX6_taken_40 rfl (fun c40 => ?_) (fun c40 => ?_)
      · -- 58
        refine x_iload_n C dX6_taken_58 rfl rfl ?_
        exact x_iret C dX6_taken_59 ⟨Nat.le_of_ble_eq_true rfl, Nat.le_of_ble_eq_true rfl⟩ ⟨rfl, by rw [if_neg c5, if_neg c22, show 16 = i by omega]⟩
      · -- 43
        refine x_iload_n C dX6_taken_43 rfl rfl ?_
        refine x_aload_n C dX6_taken_44 rfl rfl ?_
        refine x_getN C gcX8 hA.1 7 rfl q1148 rfl dX6_taken_45 ?_
        refine x_iload_n C dX6_taken_48 rfl rfl ?_
        refine y_iald (i := i) C hA.2.2.2.1 rfl (by omega) rfl dX6_taken_49 ?_
        refine x_iadd C dX6_taken_50 ?_
        refine x_istore_n C dX6_taken_51 rfl (gs1_2 rfl) rfl ?_
        refine x_iincN (z := 1) C dX6_taken_52 rfl (gs1_3 rfl) rfl ?_
        refine x_goto (tgt := 37) C dX6_taken_55 rfl ?_
        exact ih (by omega) _ rfl
    · -- 25
      refine x_iconst C dX6_taken_25 kc_0 ?_
      refine x_goto (tgt := 33) C dX6_taken_26 rfl ?_
      refine x_iadd C dX6_taken_33 ?_
      refine x_istore_n C dX6_taken_34 rfl (gs1_2 rfl) rfl ?_
      refine x_iconst C dX6_taken_35 kc_0 ?_
      refine x_istore_n C dX6_taken_36 rfl (gs1_3 rfl) rfl ?_
      refine x_loop (head := 37) (E := 16) (fun i M => M = M0) (fun i => [some (.ref (ba 0)), some (.ref (aa 0)), some (.int (xSm (xx 2) ((pCut (A 6 0) ((v 1).toInt64 * (v 9).toInt64) (A 6 1).toInt64).toInt32 + nI 0) i)), some (.int (nI i))]) rfl (fun i M hi hI ih => ?_)
      subst hI
      show gX G p l e _ s m args below meth c 4 _ M _ _ 37 [some (.ref (ba 0)), some (.ref (aa 0)), some (.int (xSm (xx 2) ((pCut (A 6 0) ((v 1).toInt64 * (v 9).toInt64) (A 6 1).toInt64).toInt32 + nI 0) i)), some (.int (nI i))] []
      refine x_iload_n C dX6_taken_37 rfl rfl ?_
      refine x_bipush C dX6_taken_38 kb_16 ?_
      refine x_icmp_geN (tgt := 58) C (by omega) (by omega) dX6_taken_40 rfl (fun c40 => ?_) (fun c40 => ?_)
      · -- 58
        refine x_iload_n C dX6_taken_58 rfl rfl ?_
        exact x_iret C dX6_taken_59 ⟨Nat.le_of_ble_eq_true rfl, Nat.le_of_ble_eq_true rfl⟩ ⟨rfl, by rw [if_neg c5, if_pos c22, show 16 = i by omega]⟩
      · -- 43
        refine x_iload_n C dX6_taken_43 rfl rfl ?_
        refine x_aload_n C dX6_taken_44 rfl rfl ?_
        refine x_getN C gcX8 hA.1 7 rfl q1148 rfl dX6_taken_45 ?_
        refine x_iload_n C dX6_taken_48 rfl rfl ?_
        refine y_iald (i := i) C hA.2.2.2.1 rfl (by omega) rfl dX6_taken_49 ?_
        refine x_iadd C dX6_taken_50 ?_
        refine x_istore_n C dX6_taken_51 rfl (gs1_2 rfl) rfl ?_
        refine x_iincN (z := 1) C dX6_taken_52 rfl (gs1_3 rfl) rfl ?_
        refine x_goto (tgt := 37) C dX6_taken_55 rfl ?_
        exact ih (by omega) _ rfl
  · -- 8
    refine x_iconst C dX6_taken_8 kc_0 ?_
    exact x_iret C dX6_taken_9 ⟨Nat.le_of_ble_eq_true rfl, Nat.le_of_ble_eq_true rfl⟩ ⟨rfl, if_pos c5⟩
