set_option maxRecDepth 100000
theorem mi_X1_leader : gMV RX1 yX1_leader cX1_leader 4 (some .int) 1 := ⟨q2189, q2190, q123, q2191, by decide +kernel⟩
set_option maxHeartbeats 4000000 in
set_option maxRecDepth 100000 in
theorem met_X1_leader (l : Launch) {G : gG} (hG : gOK G) {M0 : gM} {r x : Nat} {ba : Nat → Nat} {B : Nat → Int32} {D : Nat → Nat → Int32} {Z : Nat → Int64} {tx wl ml : Nat} {wf mf : Nat → Nat} {rt : Nat} {ta : Nat → Nat} {mc : Nat → Int32} {nd it : Nat → Nat → Nat} {A : Nat → Nat → Int32} {ln : Int32} {T n : Nat} {xv : Nat → Value} {y : Int32} (hBC : BC G r ba x (pQS B) (bf B D) (bo B) (B 0) (B 1866) Z M0) (hX : XW G x tx wl ml wf mf M0) (hT : TR G rt tx ta mc nd it (cA T A) (trA A) (wA A ln) M0) (hr4 : 4 ≤ r) (hrx : r ≠ x + 4) (hrt : r ≠ rt) (hw : wT T A) (hn : B 0 = nI n) (hn6 : n < 64) (hx : M0 x = some ((x + 4, 0), .inr (16, [.ref wl, .ref ml, xv 2, xv 3, .ref tx, .ref (ba 0), xv 6, xv 7, xv 8, xv 9, xv 10, xv 11, xv 12, xv 13]))) (hq : qB B) (hh : hdB B) (hrb : rB A B) : Met l yX1_leader (ws_ yX1_leader cX1_leader 4 (some .int)) ({ frames := 8, cells := 0, slots := 0, locals := 189 }) (gPre G M0 [.ref (x), .int (y)]) (gQ G (gI (fun r9 M1 => (∃ Z', BC G r ba x (pQS B) (bf B D) (bo B) (B 0) (B 1866) Z' M1) ∧ (∀ z, z ≠ ba 10 → M1 z = M0 z) ∧ qLd A T B y = r9))) 0 0 (gA G) := by
  refine gMet (L0 := [some (.ref (x)), some (.int (y)), none, none]) RX1 hG (by decide +kernel) rfl (Nat.le_of_ble_eq_true rfl) rfl ?_
  intro p e s m args below meth c C hnm
  obtain ⟨wk, hwk, hwk3⟩ := isN_to hw.way
  have hsI := hw.stepI
  obtain ⟨⟨vs, hx0⟩, ⟨wq, hwl, hwq⟩, ⟨mq, hml, hmq⟩, hWY, hMT⟩ := id hX
  have ht0 : M0 tx = some ((rt, 0), .inr (20, [.ref (ta 1), .ref (ta 2), .ref (ta 3), .ref (ta 4), .int (A 6 0), .int (A 6 1), .int (A 6 2), .int (A 6 3), .int ln])) := hT.1
  rw [hwk] at ht0
  have hb0 := hBC.1
  rw [hn] at hb0
  obtain ⟨jw, aw, hwc, -⟩ := hWY wk (by omega)
  have hT4 := hw.T4
  refine x_iload_n C dX1_leader_0 rfl rfl ?_
  refine x_S1I C (met_X1_isYear l C.1) mi_X1_isYear q2076 ⟨rfl, rfl⟩ rfl ⟨Nat.le_of_ble_eq_true rfl, Nat.le_of_ble_eq_true rfl⟩ rfl dX1_leader_1 (fun r2 M1 hr => ?_)
  rcases hr with ⟨hr, rfl, p1⟩ | ⟨hr, rfl, p1⟩
  · -- 1 1
    rw [hr]
    obtain ⟨k_y, rfl, lk_y, hk_y⟩ := iI_ex (by omega) (by omega) (y16.mp p1)
    refine x_if_neT (tgt := 9) C (by decide) dX1_leader_4 rfl ?_
    refine x_iload_n C dX1_leader_9 rfl rfl ?_
    refine x_aload_n C dX1_leader_10 rfl rfl ?_
    refine x_V0I C (met_X1_year l C.1 hBC hX hT hr4 hrx hrt hw hn hn6 hx) mi_X1_year q1580 gcX1 hx ⟨rfl, rfl⟩ rfl ⟨Nat.le_of_ble_eq_true rfl, Nat.le_of_ble_eq_true rfl⟩ rfl dX1_leader_11 (fun r4 M3 hr => ?_)
    obtain ⟨hr, rfl⟩ := hr
    rw [hr]
    refine x_icmp_leN (tgt := 20) C (by omega) (by omega) dX1_leader_14 rfl (fun c14 => ?_) (fun c14 => ?_)
    · -- 20
      refine x_bipush C dX1_leader_20 kb_m2 ?_
      refine x_istore_n C dX1_leader_22 rfl (gs1_2 rfl) rfl ?_
      refine x_iconst C dX1_leader_23 kc_0 ?_
      refine x_istore_n C dX1_leader_24 rfl (gs1_3 rfl) rfl ?_
      refine x_loop (head := 25) (E := T) (fun i M => (∃ Z', BC G r ba x (pQS B) (bf B D) (bo B) (B 0) (B 1866) Z' M) ∧ ∀ z, z ≠ ba 10 → M z = M0 z) (fun i => [some (.ref x), some (.int (nI k_y)), some (.int (pTop (-2) nI (fun t => pYB A B t k_y) i).1), some (.int (nI i))]) ⟨⟨_, hBC⟩, fun _ _ => rfl⟩ (fun i M hi hI ih => ?_)
      obtain ⟨⟨Z9, hB9⟩, hK9⟩ := hI
      show gX G p l e _ s m args below meth c 4 _ M _ _ 25 [some (.ref x), some (.int (nI k_y)), some (.int (pTop (-2) nI (fun t => pYB A B t k_y) i).1), some (.int (nI i))] []
      have hBc5 := hBC.year (Z' := Z9) hB9.2.2.2.2.2.2.2 hK9
      have hf8 := hBC.fl10 ⟨_, hBc5⟩ hK9
      have hXc6 := hX.k10 hf8 hr4 hrx
      have hTc7 := hT.k10 hf8 hrt
      obtain ⟨⟨vshBc5, hx0hBc5⟩, ⟨wqhBc5, hwlhBc5, hwqhBc5⟩, ⟨mqhBc5, hmlhBc5, hmqhBc5⟩, hWYhBc5, hMThBc5⟩ := id hXc6
      have ht0hBc5 : M tx = some ((rt, 0), .inr (20, [.ref (ta 1), .ref (ta 2), .ref (ta 3), .ref (ta 4), .int (A 6 0), .int (A 6 1), .int (A 6 2), .int (A 6 3), .int ln])) := hTc7.1
      rw [hwk] at ht0hBc5
      have hb0hBc5 := hBc5.1
      rw [hn] at hb0hBc5
      obtain ⟨jwhBc5, awhBc5, hwchBc5, -⟩ := hWYhBc5 wk (by omega)
      have hxd9 := hf8.keep hx (fun e => hrx (congrArg Prod.fst e).symm)
      rcases Nat.lt_or_ge i T with ht | ht
      · -- True
        rcases Nat.eq_zero_or_pos i with hz0 | hz0
        · -- zero True
          rw [show (pTop (-2) nI (fun t => pYB A B t k_y) i).1 = -2 by rw [hz0]; rfl]
          refine x_iload_n C dX1_leader_25 rfl rfl ?_
          refine x_aload_n C dX1_leader_26 rfl rfl ?_
          refine x_get C gcX1 hxd9 4 rfl q1256 rfl dX1_leader_27 ?_
          refine x_V0I C (met_X5_many l C.1 hTc7) mi_X5_many q1652 gcX5 ht0hBc5 ⟨rfl, rfl⟩ rfl ⟨Nat.le_of_ble_eq_true rfl, Nat.le_of_ble_eq_true rfl⟩ rfl dX1_leader_30 (fun r11 M10 hr => ?_)
          obtain ⟨hr, rfl⟩ := hr
          rw [hr, show cA T A 1 = T from rfl]
          refine x_icmp_geN (tgt := 71) C (by omega) (by omega) dX1_leader_33 rfl (fun _ => by exfalso; omega) (fun _ => ?_)
          refine x_iload_n C dX1_leader_36 rfl rfl ?_
          refine x_bipush C dX1_leader_37 kb_m2 ?_
          refine x_icmp_eqT (tgt := 63) C (rfl) dX1_leader_39 rfl ?_
          refine x_iload_n C dX1_leader_63 rfl rfl ?_
          refine x_istore_n C dX1_leader_64 rfl (gs1_2 rfl) rfl ?_
          refine x_iincN (z := 1) C dX1_leader_65 rfl (gs1_3 rfl) rfl ?_
          refine x_goto (tgt := 25) C dX1_leader_68 rfl ?_
          rw [show nI i = (pTop (-2) nI (fun t => pYB A B t k_y) (i + 1)).1 by rw [pTop_y (init := -2) (nm := nI) (f := (fun t => pYB A B t k_y)) (n := i) (m := (pTop (-2) nI (fun t => pYB A B t k_y) i).2) rfl (Or.inl hz0)]]
          exact ih ht _ ⟨⟨_, hBc5⟩, hK9⟩
        · -- zero False
          obtain ⟨b9, hb9, hbi⟩ := pTop_ix (init := -2) (f := (fun t => pYB A B t k_y)) hz0
          rw [show (pTop (-2) nI (fun t => pYB A B t k_y) i).1 = nI b9 by rw [hb9]]
          refine x_iload_n C dX1_leader_25 rfl rfl ?_
          refine x_aload_n C dX1_leader_26 rfl rfl ?_
          refine x_get C gcX1 hxd9 4 rfl q1256 rfl dX1_leader_27 ?_
          refine x_V0I C (met_X5_many l C.1 hTc7) mi_X5_many q1652 gcX5 ht0hBc5 ⟨rfl, rfl⟩ rfl ⟨Nat.le_of_ble_eq_true rfl, Nat.le_of_ble_eq_true rfl⟩ rfl dX1_leader_30 (fun r13 M12 hr => ?_)
          obtain ⟨hr, rfl⟩ := hr
          rw [hr, show cA T A 1 = T from rfl]
          refine x_icmp_geN (tgt := 71) C (by omega) (by omega) dX1_leader_33 rfl (fun _ => by exfalso; omega) (fun _ => ?_)
          refine x_iload_n C dX1_leader_36 rfl rfl ?_
          refine x_bipush C dX1_leader_37 kb_m2 ?_
          refine x_icmp_eqF (tgt := 63) C (nI_m2 (by omega)) dX1_leader_39 rfl ?_
          refine x_aload_n C dX1_leader_42 rfl rfl ?_
          refine x_get C gcX1 hxd9 5 rfl q1257 rfl dX1_leader_43 ?_
          refine x_iload_n C dX1_leader_46 rfl rfl ?_
          refine x_iload_n C dX1_leader_47 rfl rfl ?_
          refine x_V2I C (met_X6_backOfYear l C.1 hBc5 hXc6 hTc7 hr4 hrx hrt hw hn hn6 (by omega) (by omega) hq hh hrb) mi_X6_backOfYear q2085 gcX6 hb0hBc5 ⟨rfl, rfl⟩ rfl ⟨Nat.le_of_ble_eq_true rfl, Nat.le_of_ble_eq_true rfl⟩ rfl dX1_leader_48 (fun r15 M14 hr => ?_)
          obtain ⟨hb16, k17, rfl⟩ := hr
          have hBc18 := hBc5.year (Z' := (pYS B i k_y)) hb16.2.2.2.2.2.2.2 k17
          have hf21 := hBc5.fl10 ⟨_, hBc18⟩ k17
          have hXc19 := hXc6.k10 hf21 hr4 hrx
          have hTc20 := hTc7.k10 hf21 hrt
          have k22 : ∀ zz : Nat, zz ≠ ba 10 → M14 zz = M0 zz := fun zz hz => (k17 zz hz).trans (hK9 zz hz)
          obtain ⟨⟨vshBc18, hx0hBc18⟩, ⟨wqhBc18, hwlhBc18, hwqhBc18⟩, ⟨mqhBc18, hmlhBc18, hmqhBc18⟩, hWYhBc18, hMThBc18⟩ := id hXc19
          have ht0hBc18 : M14 tx = some ((rt, 0), .inr (20, [.ref (ta 1), .ref (ta 2), .ref (ta 3), .ref (ta 4), .int (A 6 0), .int (A 6 1), .int (A 6 2), .int (A 6 3), .int ln])) := hTc20.1
          rw [hwk] at ht0hBc18
          have hb0hBc18 := hBc18.1
          rw [hn] at hb0hBc18
          obtain ⟨jwhBc18, awhBc18, hwchBc18, -⟩ := hWYhBc18 wk (by omega)
          have hxd23 := hf21.keep hxd9 (fun e => hrx (congrArg Prod.fst e).symm)
          refine x_aload_n C dX1_leader_51 rfl rfl ?_
          refine x_get C gcX1 hxd23 5 rfl q1257 rfl dX1_leader_52 ?_
          refine x_iload_n C dX1_leader_55 rfl rfl ?_
          refine x_iload_n C dX1_leader_56 rfl rfl ?_
          refine x_V2I C (met_X6_backOfYear l C.1 hBc18 hXc19 hTc20 hr4 hrx hrt hw hn hn6 (by omega) (by omega) hq hh hrb) mi_X6_backOfYear q2085 gcX6 hb0hBc18 ⟨rfl, rfl⟩ rfl ⟨Nat.le_of_ble_eq_true rfl, Nat.le_of_ble_eq_true rfl⟩ rfl dX1_leader_57 (fun r25 M24 hr => ?_)
          obtain ⟨hb26, k27, rfl⟩ := hr
          have hBc28 := hBc18.year (Z' := (pYS B b9 k_y)) hb26.2.2.2.2.2.2.2 k27
          have hf31 := hBc18.fl10 ⟨_, hBc28⟩ k27
          have hXc29 := hXc19.k10 hf31 hr4 hrx
          have hTc30 := hTc20.k10 hf31 hrt
          have k32 : ∀ zz : Nat, zz ≠ ba 10 → M24 zz = M0 zz := fun zz hz => (k27 zz hz).trans (k22 zz hz)
          obtain ⟨⟨vshBc28, hx0hBc28⟩, ⟨wqhBc28, hwlhBc28, hwqhBc28⟩, ⟨mqhBc28, hmlhBc28, hmqhBc28⟩, hWYhBc28, hMThBc28⟩ := id hXc29
          have ht0hBc28 : M24 tx = some ((rt, 0), .inr (20, [.ref (ta 1), .ref (ta 2), .ref (ta 3), .ref (ta 4), .int (A 6 0), .int (A 6 1), .int (A 6 2), .int (A 6 3), .int ln])) := hTc30.1
          rw [hwk] at ht0hBc28
          have hb0hBc28 := hBc28.1
          rw [hn] at hb0hBc28
          obtain ⟨jwhBc28, awhBc28, hwchBc28, -⟩ := hWYhBc28 wk (by omega)
          have hxd33 := hf31.keep hxd23 (fun e => hrx (congrArg Prod.fst e).symm)
          refine x_icmp_le (tgt := 65) C dX1_leader_60 rfl (fun c60 => ?_) (fun c60 => ?_)
          · -- 65
            refine x_iincN (z := 1) C dX1_leader_65 rfl (gs1_3 rfl) rfl ?_
            refine x_goto (tgt := 25) C dX1_leader_68 rfl ?_
            rw [show nI b9 = (pTop (-2) nI (fun t => pYB A B t k_y) (i + 1)).1 by rw [pTop_n (init := -2) (nm := nI) (f := (fun t => pYB A B t k_y)) (n := i) (m := (fun t => pYB A B t k_y) b9) (by rw [hb9]) (by omega) (Int32.not_lt.mpr c60), hb9]]
            exact ih ht _ ⟨⟨_, hBc28⟩, k32⟩
          · -- 63
            refine x_iload_n C dX1_leader_63 rfl rfl ?_
            refine x_istore_n C dX1_leader_64 rfl (gs1_2 rfl) rfl ?_
            refine x_iincN (z := 1) C dX1_leader_65 rfl (gs1_3 rfl) rfl ?_
            refine x_goto (tgt := 25) C dX1_leader_68 rfl ?_
            rw [show nI i = (pTop (-2) nI (fun t => pYB A B t k_y) (i + 1)).1 by rw [pTop_y (init := -2) (nm := nI) (f := (fun t => pYB A B t k_y)) (n := i) (m := (fun t => pYB A B t k_y) b9) (by rw [hb9]) (Or.inr (Int32.not_le.mp c60))]]
            exact ih ht _ ⟨⟨_, hBc28⟩, k32⟩
      · -- False
        refine x_iload_n C dX1_leader_25 rfl rfl ?_
        refine x_aload_n C dX1_leader_26 rfl rfl ?_
        refine x_get C gcX1 hxd9 4 rfl q1256 rfl dX1_leader_27 ?_
        refine x_V0I C (met_X5_many l C.1 hTc7) mi_X5_many q1652 gcX5 ht0hBc5 ⟨rfl, rfl⟩ rfl ⟨Nat.le_of_ble_eq_true rfl, Nat.le_of_ble_eq_true rfl⟩ rfl dX1_leader_30 (fun r35 M34 hr => ?_)
        obtain ⟨hr, rfl⟩ := hr
        rw [hr, show cA T A 1 = T from rfl]
        refine x_icmp_geN (tgt := 71) C (by omega) (by omega) dX1_leader_33 rfl (fun _ => ?_) (fun _ => by exfalso; omega)
        refine x_iload_n C dX1_leader_71 rfl rfl ?_
        exact x_iret C dX1_leader_72 ⟨Nat.le_of_ble_eq_true rfl, Nat.le_of_ble_eq_true rfl⟩ ⟨⟨_, hBc5⟩, hK9, by unfold qLd; rw [if_pos (y16.mp p1), dN_nI (by omega), show pNow B = n by unfold pNow; rw [hn, dN_nI (by omega)], if_pos (by omega), show T = i by omega]⟩
    · -- 17
      refine x_bipush C dX1_leader_17 kb_m2 ?_
      exact x_iret C dX1_leader_19 ⟨Nat.le_of_ble_eq_true rfl, Nat.le_of_ble_eq_true rfl⟩ ⟨⟨_, hBC⟩, fun _ _ => rfl, by unfold qLd; rw [if_pos (y16.mp p1), dN_nI (by omega), show pNow B = n by unfold pNow; rw [hn, dN_nI (by omega)], if_neg (by omega)]⟩
  · -- 1 0
    rw [hr]
    refine x_if_neF (tgt := 9) C (by decide) dX1_leader_4 rfl ?_
    refine x_iconst C dX1_leader_7 kc_m1 ?_
    exact x_iret C dX1_leader_8 ⟨Nat.le_of_ble_eq_true rfl, Nat.le_of_ble_eq_true rfl⟩ ⟨⟨_, hBC⟩, fun _ _ => rfl, by unfold qLd; rw [if_neg (fun q => p1 (y16.mpr q))]⟩
