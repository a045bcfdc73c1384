set_option maxRecDepth 100000
theorem pHd_0 {T : Nat} {A : Nat → Nat → Int32} (hw : wT T A) {j : Nat} : ∀ i, i ≤ T → j < 1281 ∨ 1289 ≤ j → pHd A i j = nI 0
  | 0, _, _ => rfl
  | i + 1, hi, hj => by
    have hT4 := hw.T4
    have ih := pHd_0 hw i (by omega) hj
    unfold pHd
    rw [pk_un (by omega), pk_un (by omega)]
    exact ih
theorem pHd_s {T : Nat} {A : Nat → Nat → Int32} (hw : wT T A) (hhd : ∀ t, t < T → ¬ A 2 (8 * t + 3) = nI 1 → A 2 (8 * t + 4) = nI 0) {i : Nat} (hi : i < T) : pHd A (i + 1) = upd (upd (pHd A i) (1281 + 2 * i + 0) (pMax (nI 0) (trA A 1 i 3))) (1281 + 2 * i + 1) (trA A 1 i 4) := by
  have e3 : pMax (nI 0) (trA A 1 i 3) = A 2 (8 * i + 4) := by
    show pMax (nI 0) (if A 2 (8 * i + 3) = nI 1 then A 2 (8 * i + 4) else -1) = _
    by_cases c : A 2 (8 * i + 3) = nI 1
    · rw [if_pos c]
      have h := (hw.trader hi).2.2.2.1.int (by omega)
      unfold pMax
      by_cases d : nI 0 < A 2 (8 * i + 4)
      · rw [if_pos d]
      · rw [if_neg d, ← Int32.toInt_inj]
        have h1 : ¬ (nI 0).toInt < (A 2 (8 * i + 4)).toInt := fun q => d (Int32.lt_iff_toInt_lt.mpr q)
        have h2 : (nI 0).toInt = 0 := by decide
        omega
    · rw [if_neg c, hhd i hi c]
      decide
  rw [e3]
  rfl
theorem pHd_cN {T : Nat} {A : Nat → Nat → Int32} (hw : wT T A) : cN (pHd A T) 0 700 := fun t k ht hk => by
  rw [pHd_0 hw T (Nat.le_refl _) (Or.inl (by omega))]
  decide
theorem mi_X6_begin : gMV RX6 yX6_begin cX6_begin 2 (some (.object "ExemptDesk$Books")) 0 := ⟨q576, q577, q140, q578, by decide +kernel⟩
set_option maxHeartbeats 4000000 in
set_option maxRecDepth 100000 in
theorem met_X6_begin (l : Launch) {G : gG} (hG : gOK G) {M0 : gM} {r x : Nat} {ba : Nat → Nat} {D : Nat → Nat → Int32} {xx : Nat → Nat → Nat → Int32} {Z : Nat → Int64} {st : List Nat} {ex : Nat → Prop} {sb : Int64} {tx wl ml : Nat} {wf mf : Nat → Nat} {rt : Nat} {ta : Nat → Nat} {mc : Nat → Int32} {nd it : Nat → Nat → Nat} {A : Nat → Nat → Int32} {ln : Int32} {T : Nat} (hBX : BX G r ba x (fun _ => 0) D xx Z st ex sb M0) (hr4 : 4 ≤ r) (hst0 : st = []) (hX : XW G x tx wl ml wf mf M0) (hT : TR G rt tx ta mc nd it (cA T A) (trA A) (wA A ln) M0) (hrx : r ≠ x + 4) (hrt : r ≠ rt) (hrt4 : 4 ≤ rt) (hw : wT T A) (hhd : ∀ t, t < T → ¬ A 2 (8 * t + 3) = nI 1 → A 2 (8 * t + 4) = nI 0) : Met l yX6_begin (ws_ yX6_begin cX6_begin 2 (some (.object "ExemptDesk$Books"))) ({ frames := 7, cells := 31, slots := 315, locals := 146 }) (gPre G M0 [.ref (ba 0)]) (gQ G (gR (fun r9 M1 => ba 0 = r9 ∧ ∃ ba' xx' s', BX G r ba' x (pBeg A T) D xx' Z s' ex sb M1 ∧ (∀ j, j < 140 ∨ 1000 ≤ j → ba' j = ba j) ∧ CS (pBeg A T) 0 0 st s' xx xx' ∧ gFl (fun l => l.1 = r) M0 M1))) 31 315 (gA G) := by
  refine gMet (L0 := [some (.ref (ba 0)), none]) RX6 hG (by decide +kernel) rfl (Nat.le_of_ble_eq_true rfl) rfl ?_
  intro p e s m args below meth c C hnm
  have hT4 := hw.T4
  obtain ⟨wk, hwk, hwk3⟩ := isN_to hw.way
  refine x_iconst C dX6_begin_0 kc_0 ?_
  refine x_istore_n C dX6_begin_1 rfl (gs1_1 rfl) rfl ?_
  refine x_loop (head := 2) (E := T) (fun i M => BX G r ba x (pHd A i) D xx Z st ex sb M ∧ gFl (fun l => l.1 = r) M0 M) (fun i => [some (.ref (ba 0)), some (.int (nI i))]) ⟨hBX, gFl.rf⟩ (fun i M hi hI ih => ?_)
  obtain ⟨hbx, f9⟩ := hI
  show gX G p l e _ s m args below meth c 2 _ M _ _ 2 [some (.ref (ba 0)), some (.int (nI i))] []
  have hX9 := hX.keep f9 (fun j q => by have q' : (1 : Nat) = r := q; omega) (fun q => hrx (show x + 4 = r from q).symm)
  have hT9 := hT.keep f9 (fun j q => hrt (show rt = r from q).symm)
  have hB9 := hbx.1
  have z0 : pHd A i 0 = nI 0 := pHd_0 hw i hi (Or.inl (by omega))
  have z65 : pHd A i 1865 = nI 0 := pHd_0 hw i hi (Or.inr (by omega))
  have z67 : pHd A i 1867 = nI 0 := pHd_0 hw i hi (Or.inr (by omega))
  have hK9 : dN (pHd A i 1865) ≤ 8 ∧ dN (pHd A i 1867) ≤ 40 := by rw [z65, z67]; decide
  obtain ⟨⟨vsq9, hx0q9⟩, ⟨wqq9, hwlq9, hwqq9⟩, ⟨mqq9, hmlq9, hmqq9⟩, hWYq9, hMTq9⟩ := id hX9
  have ht0q9 : M tx = some ((rt, 0), .inr (20, [.ref (ta 1), .ref (ta 2), .ref (ta 3), .ref (ta 4), .int (A 6 0), .int (A 6 1), .int (A 6 2), .int (A 6 3), .int ln])) := hT9.1
  rw [hwk] at ht0q9
  have hb0q9 := hB9.1
  rw [z0] at hb0q9
  obtain ⟨jwq9, awq9, hwcq9, -⟩ := hWYq9 wk (by omega)
  rcases Nat.lt_or_ge i T with ht | ht
  · -- more
    have ht1 : M (it 1 i) = some ((rt, 21), .inr (26, [.int (trA A 1 i 0), .int (trA A 1 i 1), .int (trA A 1 i 2), .int (trA A 1 i 3), .int (trA A 1 i 4), .int (trA A 1 i 5)])) := hT9.at1 ht
    refine x_iload_n C dX6_begin_2 rfl rfl ?_
    refine x_aload_n C dX6_begin_3 rfl rfl ?_
    refine x_get C gcX6 hb0q9 15 rfl q541 rfl dX6_begin_4 ?_
    refine x_getN C gcX1 hx0q9 4 rfl q1255 rfl dX6_begin_7 ?_
    refine x_V0I C (met_X5_many l C.1 hT9) mi_X5_many q579 gcX5 ht0q9 ⟨rfl, rfl⟩ rfl ⟨Nat.le_of_ble_eq_true rfl, Nat.le_of_ble_eq_true rfl⟩ rfl dX6_begin_10 (fun r3 M2 hr => ?_)
    obtain ⟨hr, rfl⟩ := hr
    rw [hr, show cA T A 1 = T from rfl]
    refine x_icmp_geN (tgt := 66) C (by omega) (by omega) dX6_begin_13 rfl (fun _ => by exfalso; omega) (fun _ => ?_)
    refine x_aload_n C dX6_begin_16 rfl rfl ?_
    refine x_get C gcX6 hb0q9 5 rfl q522 rfl dX6_begin_17 ?_
    refine x_iload_n C dX6_begin_20 rfl rfl ?_
    refine x_iconst C dX6_begin_21 kc_0 ?_
    refine x_aload_n C dX6_begin_22 rfl rfl ?_
    refine x_get C gcX6 hb0q9 15 rfl q541 rfl dX6_begin_23 ?_
    refine x_getN C gcX1 hx0q9 4 rfl q1255 rfl dX6_begin_26 ?_
    refine x_iload_n C dX6_begin_29 rfl rfl ?_
    refine x_V1R C (met_X5_trader l C.1 hT9 ht) mi_X5_trader q587 gcX5 ht0q9 ⟨rfl, rfl⟩ rfl ⟨Nat.le_of_ble_eq_true rfl, Nat.le_of_ble_eq_true rfl⟩ rfl dX6_begin_30 (fun r5 M4 hr => ?_)
    obtain ⟨hr, rfl⟩ := hr
    rw [hr]
    refine x_getN C gcX11 ht1 3 rfl q1443 rfl dX6_begin_33 ?_
    refine x_S2I C (met_J0_max l C.1) mi_J0_max q917 ⟨rfl, rfl⟩ rfl ⟨Nat.le_of_ble_eq_true rfl, Nat.le_of_ble_eq_true rfl⟩ rfl dX6_begin_36 (fun r7 M6 hr => ?_)
    obtain ⟨hr, rfl⟩ := hr
    rw [hr]
    refine y_iast (i := i) C (hB9.2.2.2.2.2.2.1 0 (by omega)) rfl (by omega) rfl dX6_begin_39 (fun M8 h9 k10 => ?_)
    have hbx11 := hbx.hd (i := 0) (t := i) (by omega) (by omega) hr4 hK9 h9 k10
    have Fs12 := f9.tr ((gFl.of1 (ρ := fun l => l = (r, 7 + 0)) (hB9.2.2.2.2.2.2.1 0 (by omega)) h9 k10 rfl).mono (fun i j q => congrArg Prod.fst q) : gFl (fun l => l.1 = r) _ M8)
    have Xs12 := hX.keep Fs12 (fun j q => by have q' : (1 : Nat) = r := q; omega) (fun q => hrx (show x + 4 = r from q).symm)
    have Ts12 := hT.keep Fs12 (fun j q => hrt (show rt = r from q).symm)
    have Bs12 := hbx11.1
    have hns12 : (upd (pHd A i) (1281 + 2 * i + 0) (pMax (nI 0) (trA A 1 i 3))) 0 = nI 0 := ((if_neg (by omega) : (upd (pHd A i) (1281 + 2 * i + 0) (pMax (nI 0) (trA A 1 i 3))) 0 = (pHd A i) 0)).trans z0
    have hKs12 : dN ((upd (pHd A i) (1281 + 2 * i + 0) (pMax (nI 0) (trA A 1 i 3))) 1865) ≤ 8 ∧ dN ((upd (pHd A i) (1281 + 2 * i + 0) (pMax (nI 0) (trA A 1 i 3))) 1867) ≤ 40 := by rw [show (upd (pHd A i) (1281 + 2 * i + 0) (pMax (nI 0) (trA A 1 i 3))) 1865 = (pHd A i) 1865 from if_neg (by omega), show (upd (pHd A i) (1281 + 2 * i + 0) (pMax (nI 0) (trA A 1 i 3))) 1867 = (pHd A i) 1867 from if_neg (by omega)]; exact hK9
    obtain ⟨⟨vss12, hx0s12⟩, ⟨wqs12, hwls12, hwqs12⟩, ⟨mqs12, hmls12, hmqs12⟩, hWYs12, hMTs12⟩ := id Xs12
    have ht0s12 : M8 tx = some ((rt, 0), .inr (20, [.ref (ta 1), .ref (ta 2), .ref (ta 3), .ref (ta 4), .int (A 6 0), .int (A 6 1), .int (A 6 2), .int (A 6 3), .int ln])) := Ts12.1
    rw [hwk] at ht0s12
    have hb0s12 := Bs12.1
    rw [hns12] at hb0s12
    obtain ⟨jws12, aws12, hwcs12, -⟩ := hWYs12 wk (by omega)
    have ht13 : M8 (it 1 i) = some ((rt, 21), .inr (26, [.int (trA A 1 i 0), .int (trA A 1 i 1), .int (trA A 1 i 2), .int (trA A 1 i 3), .int (trA A 1 i 4), .int (trA A 1 i 5)])) := Ts12.at1 ht
    refine x_aload_n C dX6_begin_40 rfl rfl ?_
    refine x_get C gcX6 hb0s12 6 rfl q524 rfl dX6_begin_41 ?_
    refine x_iload_n C dX6_begin_44 rfl rfl ?_
    refine x_aload_n C dX6_begin_45 rfl rfl ?_
    refine x_get C gcX6 hb0s12 15 rfl q541 rfl dX6_begin_46 ?_
    refine x_getN C gcX1 hx0s12 4 rfl q1255 rfl dX6_begin_49 ?_
    refine x_iload_n C dX6_begin_52 rfl rfl ?_
    refine x_V1R C (met_X5_trader l C.1 Ts12 ht) mi_X5_trader q587 gcX5 ht0s12 ⟨rfl, rfl⟩ rfl ⟨Nat.le_of_ble_eq_true rfl, Nat.le_of_ble_eq_true rfl⟩ rfl dX6_begin_53 (fun r15 M14 hr => ?_)
    obtain ⟨hr, rfl⟩ := hr
    rw [hr]
    refine x_getN C gcX11 ht13 4 rfl q1445 rfl dX6_begin_56 ?_
    refine y_iast (i := i) C (Bs12.2.2.2.2.2.2.1 1 (by omega)) rfl (by omega) rfl dX6_begin_59 (fun M16 h17 k18 => ?_)
    have hbx19 := hbx11.hd (i := 1) (t := i) (by omega) (by omega) hr4 hKs12 h17 k18
    have Fs20 := Fs12.tr ((gFl.of1 (ρ := fun l => l = (r, 7 + 1)) (Bs12.2.2.2.2.2.2.1 1 (by omega)) h17 k18 rfl).mono (fun i j q => congrArg Prod.fst q) : gFl (fun l => l.1 = r) _ M16)
    have Xs20 := hX.keep Fs20 (fun j q => by have q' : (1 : Nat) = r := q; omega) (fun q => hrx (show x + 4 = r from q).symm)
    have Ts20 := hT.keep Fs20 (fun j q => hrt (show rt = r from q).symm)
    have Bs20 := hbx19.1
    have hns20 : (upd (upd (pHd A i) (1281 + 2 * i + 0) (pMax (nI 0) (trA A 1 i 3))) (1281 + 2 * i + 1) (trA A 1 i 4)) 0 = nI 0 := ((if_neg (by omega) : (upd (upd (pHd A i) (1281 + 2 * i + 0) (pMax (nI 0) (trA A 1 i 3))) (1281 + 2 * i + 1) (trA A 1 i 4)) 0 = (upd (pHd A i) (1281 + 2 * i + 0) (pMax (nI 0) (trA A 1 i 3))) 0)).trans hns12
    have hKs20 : dN ((upd (upd (pHd A i) (1281 + 2 * i + 0) (pMax (nI 0) (trA A 1 i 3))) (1281 + 2 * i + 1) (trA A 1 i 4)) 1865) ≤ 8 ∧ dN ((upd (upd (pHd A i) (1281 + 2 * i + 0) (pMax (nI 0) (trA A 1 i 3))) (1281 + 2 * i + 1) (trA A 1 i 4)) 1867) ≤ 40 := by rw [show (upd (upd (pHd A i) (1281 + 2 * i + 0) (pMax (nI 0) (trA A 1 i 3))) (1281 + 2 * i + 1) (trA A 1 i 4)) 1865 = (upd (pHd A i) (1281 + 2 * i + 0) (pMax (nI 0) (trA A 1 i 3))) 1865 from if_neg (by omega), show (upd (upd (pHd A i) (1281 + 2 * i + 0) (pMax (nI 0) (trA A 1 i 3))) (1281 + 2 * i + 1) (trA A 1 i 4)) 1867 = (upd (pHd A i) (1281 + 2 * i + 0) (pMax (nI 0) (trA A 1 i 3))) 1867 from if_neg (by omega)]; exact hKs12
    obtain ⟨⟨vss20, hx0s20⟩, ⟨wqs20, hwls20, hwqs20⟩, ⟨mqs20, hmls20, hmqs20⟩, hWYs20, hMTs20⟩ := id Xs20
    have ht0s20 : M16 tx = some ((rt, 0), .inr (20, [.ref (ta 1), .ref (ta 2), .ref (ta 3), .ref (ta 4), .int (A 6 0), .int (A 6 1), .int (A 6 2), .int (A 6 3), .int ln])) := Ts20.1
    rw [hwk] at ht0s20
    have hb0s20 := Bs20.1
    rw [hns20] at hb0s20
    obtain ⟨jws20, aws20, hwcs20, -⟩ := hWYs20 wk (by omega)
    have ht21 : M16 (it 1 i) = some ((rt, 21), .inr (26, [.int (trA A 1 i 0), .int (trA A 1 i 1), .int (trA A 1 i 2), .int (trA A 1 i 3), .int (trA A 1 i 4), .int (trA A 1 i 5)])) := Ts20.at1 ht
    refine x_iincN (z := 1) C dX6_begin_60 rfl (gs1_1 rfl) rfl ?_
    refine x_goto (tgt := 2) C dX6_begin_63 rfl ?_
    have e9 : BX G r ba x (pHd A (i + 1)) D xx Z st ex sb M16 := by rw [pHd_s hw hhd ht]; exact hbx19
    exact ih ht _ ⟨e9, Fs20⟩
  · -- end
    have ei : T = i := by omega
    subst ei
    refine x_iload_n C dX6_begin_2 rfl rfl ?_
    refine x_aload_n C dX6_begin_3 rfl rfl ?_
    refine x_get C gcX6 hb0q9 15 rfl q541 rfl dX6_begin_4 ?_
    refine x_getN C gcX1 hx0q9 4 rfl q1255 rfl dX6_begin_7 ?_
    refine x_V0I C (met_X5_many l C.1 hT9) mi_X5_many q579 gcX5 ht0q9 ⟨rfl, rfl⟩ rfl ⟨Nat.le_of_ble_eq_true rfl, Nat.le_of_ble_eq_true rfl⟩ rfl dX6_begin_10 (fun r23 M22 hr => ?_)
    obtain ⟨hr, rfl⟩ := hr
    rw [hr, show cA T A 1 = T from rfl]
    refine x_icmp_geN (tgt := 66) C (by omega) (by omega) dX6_begin_13 rfl (fun _ => ?_) (fun _ => by exfalso; omega)
    refine x_aload_n C dX6_begin_66 rfl rfl ?_
    refine x_V0V C (met_X6_comes l C.1 (n := 0) hbx hr4 hK9 hX9 hT9 hrx hrt hrt4 hw z0 (by omega) (pHd_cN hw) (fun a ha => by rw [hst0] at ha; cases ha) (by rw [hst0]; decide)) mi_X6_comes q918 gcX6 hb0q9 ⟨rfl, rfl⟩ rfl ⟨Nat.le_of_ble_eq_true rfl, Nat.le_of_ble_eq_true rfl⟩ rfl dX6_begin_67 (fun M24 hr => ?_)
    obtain ⟨ba', xx', s', g1, g2, g3, g4⟩ := hr
    refine x_aload_n C dX6_begin_70 rfl rfl ?_
    exact x_aret C dX6_begin_71 ⟨Nat.le_of_ble_eq_true rfl, Nat.le_of_ble_eq_true rfl⟩ ⟨rfl, ba', xx', s', g1, g2, by rw [z65] at g3; exact g3, f9.tr g4⟩
