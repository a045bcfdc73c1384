set_option maxRecDepth 100000
theorem mi_X6_closeOf : gMV RX6 yX6_closeOf cX6_closeOf 2 none 1 := ⟨q1837, qs39, q140, q1838, by decide +kernel⟩
set_option maxHeartbeats 4000000 in
set_option maxRecDepth 100000 in
theorem met_X6_closeOf (l : Launch) {G : gG} (hG : gOK G) {M0 : gM} {r x : Nat} {ba : Nat → Nat} {B : Nat → Int32} {D : Nat → Nat → Int32} {xx : Nat → Nat → Nat → Int32} {Z : Nat → Int64} {st : List Nat} {ex : Nat → Prop} {sb : Int64} {n : Nat} {tx wl ml : Nat} {wf mf : Nat → Nat} {rt : Nat} {ta : Nat → Nat} {mc : Nat → Int32} {nd it : Nat → Nat → Nat} {A : Nat → Nat → Int32} {ln : Int32} {T : Nat} {t : Nat} (hBX : BX G r ba x B D xx Z st ex sb M0) (hr4 : 4 ≤ r) (hK : dN (B 1865) ≤ 8 ∧ dN (B 1867) ≤ 40) (hX : XW G x tx wl ml wf mf M0) (hT : TR G rt tx ta mc nd it (cA T A) (trA A) (wA A ln) M0) (hrx : r ≠ x + 4) (hrt : r ≠ rt) (hrt4 : 4 ≤ rt) (hw : wT T A) (hn : B 0 = nI n) (hn6 : n < 64) (htT : t < T) (hq : qB B) (hh : hdB B) (hrb : rB A B) : Met l yX6_closeOf (ws_ yX6_closeOf cX6_closeOf 2 none) ({ frames := 7, cells := 2, slots := 105, locals := 178 }) (gPre G M0 [.ref (ba 0), .int (nI t)]) (gQ G (gV (fun M1 => BX G r ba x (pCQ1 A B t n) D xx Z st ex sb M1 ∧ gFl (fun l => l.1 = r) M0 M1))) 2 105 (gA G) := by
  refine gMet (L0 := [some (.ref (ba 0)), some (.int (nI t))]) RX6 hG (by decide +kernel) rfl (Nat.le_of_ble_eq_true rfl) rfl ?_
  intro p e s m args below meth c C hnm
  have hT4 := hw.T4
  have hBC := hBX.1
  obtain ⟨wk, hwk, hwk3⟩ := isN_to hw.way
  have hsI := hw.stepI
  obtain ⟨⟨vs, hx0⟩, ⟨wq, hwl, hwq⟩, ⟨mq, hml, hmq⟩, hWY, hMT⟩ := id hX
  have ht0 : M0 tx = some ((rt, 0), .inr (20, [.ref (ta 1), .ref (ta 2), .ref (ta 3), .ref (ta 4), .int (A 6 0), .int (A 6 1), .int (A 6 2), .int (A 6 3), .int ln])) := hT.1
  rw [hwk] at ht0
  have hb0 := hBC.1
  rw [hn] at hb0
  obtain ⟨jw, aw, hwc, -⟩ := hWY wk (by omega)
  refine x_aload_n C dX6_closeOf_0 rfl rfl ?_
  refine x_get C gcX6 hb0 1 rfl q515 rfl dX6_closeOf_1 ?_
  refine x_iload_n C dX6_closeOf_4 rfl rfl ?_
  refine y_aaldR (ty := .array .int) (i := t) (b := ba (30 + t)) C 6 rfl rfl (hBC.2.2.1 0 (by omega)) rfl (by omega) rfl rfl dX6_closeOf_5 ?_
  refine x_aload_n C dX6_closeOf_6 rfl rfl ?_
  refine x_get C gcX6 hb0 13 rfl q537 rfl dX6_closeOf_7 ?_
  refine x_aload_n C dX6_closeOf_10 rfl rfl ?_
  refine x_iload_n C dX6_closeOf_11 rfl rfl ?_
  refine x_aload_n C dX6_closeOf_12 rfl rfl ?_
  refine x_get C gcX6 hb0 13 rfl q537 rfl dX6_closeOf_13 ?_
  refine x_V2I C (met_X6_provisionalOf l C.1 hBC hX hT hr4 hrx hrt hw hn hn6 htT hn6 hq hh) mi_X6_provisionalOf q1839 gcX6 hb0 ⟨rfl, rfl⟩ rfl ⟨Nat.le_of_ble_eq_true rfl, Nat.le_of_ble_eq_true rfl⟩ rfl dX6_closeOf_16 (fun r2 M1 hr => ?_)
  obtain ⟨hr, rfl⟩ := hr
  rw [hr, if_neg (Nat.lt_irrefl n)]
  refine y_iast (i := n) C (hBC.r0 (t := t) (by omega)) rfl (by omega) rfl dX6_closeOf_19 (fun M3 h4 k5 => ?_)
  have hbx6 := hBX.r0 (t := t) (q := n) (by omega) (by omega) hr4 hK h4 k5
  have Fs7 : gFl (fun l => l.1 = r) M0 M3 := (gFl.of1 (ρ := fun l => l = (r, 30 + t)) (hBC.r0 (t := t) (by omega)) h4 k5 rfl).mono (fun i j q => congrArg Prod.fst q)
  have Xs7 := hX.keep Fs7 (fun j q => by have q' : (1 : Nat) = r := q; omega) (fun q => hrx (show x + 4 = r from q).symm)
  have Ts7 := hT.keep Fs7 (fun j q => hrt (show rt = r from q).symm)
  have Bs7 := hbx6.1
  have hns7 : (upd B (1289 + 64 * t + n) (pProv A B t n (A 2 (8 * t + 2)))) 0 = nI n := ((if_neg (by omega) : (upd B (1289 + 64 * t + n) (pProv A B t n (A 2 (8 * t + 2)))) 0 = B 0)).trans hn
  have hKs7 : dN ((upd B (1289 + 64 * t + n) (pProv A B t n (A 2 (8 * t + 2)))) 1865) ≤ 8 ∧ dN ((upd B (1289 + 64 * t + n) (pProv A B t n (A 2 (8 * t + 2)))) 1867) ≤ 40 := by rw [show (upd B (1289 + 64 * t + n) (pProv A B t n (A 2 (8 * t + 2)))) 1865 = B 1865 from if_neg (by omega), show (upd B (1289 + 64 * t + n) (pProv A B t n (A 2 (8 * t + 2)))) 1867 = B 1867 from if_neg (by omega)]; exact hK
  obtain ⟨⟨vss7, hx0s7⟩, ⟨wqs7, hwls7, hwqs7⟩, ⟨mqs7, hmls7, hmqs7⟩, hWYs7, hMTs7⟩ := id Xs7
  have ht0s7 : M3 tx = some ((rt, 0), .inr (20, [.ref (ta 1), .ref (ta 2), .ref (ta 3), .ref (ta 4), .int (A 6 0), .int (A 6 1), .int (A 6 2), .int (A 6 3), .int ln])) := Ts7.1
  rw [hwk] at ht0s7
  have hb0s7 := Bs7.1
  rw [hns7] at hb0s7
  obtain ⟨jws7, aws7, hwcs7, -⟩ := hWYs7 wk (by omega)
  refine x_aload_n C dX6_closeOf_20 rfl rfl ?_
  refine x_get C gcX6 hb0s7 2 rfl q516 rfl dX6_closeOf_21 ?_
  refine x_iload_n C dX6_closeOf_24 rfl rfl ?_
  refine y_aaldR (ty := .array .int) (i := t) (b := ba (40 + t)) C 6 rfl rfl (Bs7.2.2.1 1 (by omega)) rfl (by omega) rfl rfl dX6_closeOf_25 ?_
  refine x_aload_n C dX6_closeOf_26 rfl rfl ?_
  refine x_get C gcX6 hb0s7 13 rfl q537 rfl dX6_closeOf_27 ?_
  refine x_aload_n C dX6_closeOf_30 rfl rfl ?_
  refine x_get C gcX6 hb0s7 0 rfl q513 rfl dX6_closeOf_31 ?_
  refine x_iload_n C dX6_closeOf_34 rfl rfl ?_
  refine y_aaldR (ty := .array (.object "ExemptDesk$Sums")) (i := t) (b := ba (20 + t)) C 5 rfl rfl Bs7.2.1 rfl (by omega) rfl rfl dX6_closeOf_35 ?_
  refine x_aload_n C dX6_closeOf_36 rfl rfl ?_
  refine x_get C gcX6 hb0s7 13 rfl q537 rfl dX6_closeOf_37 ?_
  refine y_aaldR (ty := .object "ExemptDesk$Sums") (i := n) (b := ba (1000 + 64 * t + n)) C 4 rfl rfl (Bs7.2.2.2.1 t (by omega)) rfl (by omega) rfl rfl dX6_closeOf_40 ?_
  refine x_aload_n C dX6_closeOf_41 rfl rfl ?_
  refine x_get C gcX6 hb0s7 1 rfl q515 rfl dX6_closeOf_42 ?_
  refine x_iload_n C dX6_closeOf_45 rfl rfl ?_
  refine y_aaldR (ty := .array .int) (i := t) (b := ba (30 + t)) C 6 rfl rfl (Bs7.2.2.1 0 (by omega)) rfl (by omega) rfl rfl dX6_closeOf_46 ?_
  refine x_aload_n C dX6_closeOf_47 rfl rfl ?_
  refine x_get C gcX6 hb0s7 13 rfl q537 rfl dX6_closeOf_48 ?_
  refine y_iald (i := n) C (Bs7.r0 (t := t) (by omega)) rfl (by omega) rfl dX6_closeOf_51 ?_
  have e8 : bf (upd B (1289 + 64 * t + n) (pProv A B t n (A 2 (8 * t + 2)))) D 0 t n = pProv A B t n (A 2 (8 * t + 2)) := (if_pos rfl : (if 1289 + 64 * t + n = 1289 + 64 * t + n then pProv A B t n (A 2 (8 * t + 2)) else _) = _)
  rw [e8]
  refine x_aload_n C dX6_closeOf_52 rfl rfl ?_
  refine x_get C gcX6 hb0s7 15 rfl q541 rfl dX6_closeOf_53 ?_
  refine x_getN C gcX1 hx0s7 4 rfl q1255 rfl dX6_closeOf_56 ?_
  refine x_getN C gcX5 ht0s7 5 rfl q405 rfl dX6_closeOf_59 ?_
  refine x_aload_n C dX6_closeOf_62 rfl rfl ?_
  refine x_V0R C (met_X6_way l C.1 Bs7 Xs7 Ts7 hr4 hrx hrt hw hns7 hn6) mi_X6_way q1588 gcX6 hb0s7 ⟨rfl, rfl⟩ rfl ⟨Nat.le_of_ble_eq_true rfl, Nat.le_of_ble_eq_true rfl⟩ rfl dX6_closeOf_63 (fun r10 M9 hr => ?_)
  obtain ⟨hr, wk', hwk', hw3', rfl⟩ := hr
  rw [hr]
  have ew : wk = wk' := nI_inj (by omega) (by omega) (hwk.symm.trans hwk'); subst ew
  refine x_aload_n C dX6_closeOf_66 rfl rfl ?_
  refine x_get C gcX6 hb0s7 15 rfl q541 rfl dX6_closeOf_67 ?_
  refine x_getN C gcX1 hx0s7 4 rfl q1255 rfl dX6_closeOf_70 ?_
  refine x_getN C gcX5 ht0s7 6 rfl q409 rfl dX6_closeOf_73 ?_
  refine x_iconst C dX6_closeOf_76 kc_4 ?_
  refine x_idiv C dX6_closeOf_77 (by decide) ?_
  refine x_V4I C (met_X7_back l C.1 ((Bs7.2.2.2.2.2.1 t n (by omega) (by omega)).cg (Z' := pQS B t n) (fun k hk => (show pQS B t n k = pQS (upd B (1289 + 64 * t + n) (pProv A B t n (A 2 (8 * t + 2)))) t n k from congrArg Int32.toInt64 (if_neg (by omega)).symm))) (hWYs7 wk (by omega)) (hq.z (by omega) (by omega)) (pProv_fB hw hq hh hrb htT hn6)) mi_X7_back q1858 gcX7 (Bs7.2.2.2.2.2.1 t n (by omega) (by omega)).1 ⟨rfl, rfl⟩ rfl ⟨Nat.le_of_ble_eq_true rfl, Nat.le_of_ble_eq_true rfl⟩ rfl dX6_closeOf_78 (fun r12 M11 hr => ?_)
  obtain ⟨hr, rfl⟩ := hr
  rw [hr]
  refine y_iast (i := n) C (Bs7.r1 (t := t) (by omega)) rfl (by omega) rfl dX6_closeOf_81 (fun M13 h14 k15 => ?_)
  have hbx16 := hbx6.r1 (t := t) (q := n) (by omega) (by omega) hr4 hKs7 h14 k15
  have Fs17 := Fs7.tr ((gFl.of1 (ρ := fun l => l = (r, 40 + t)) (Bs7.r1 (t := t) (by omega)) h14 k15 rfl).mono (fun i j q => congrArg Prod.fst q) : gFl (fun l => l.1 = r) _ M13)
  have Xs17 := hX.keep Fs17 (fun j q => by have q' : (1 : Nat) = r := q; omega) (fun q => hrx (show x + 4 = r from q).symm)
  have Ts17 := hT.keep Fs17 (fun j q => hrt (show rt = r from q).symm)
  have Bs17 := hbx16.1
  have hns17 : (upd (upd B (1289 + 64 * t + n) (pProv A B t n (A 2 (8 * t + 2)))) (1545 + 64 * t + n) (pBack (nI wk) (A 6 1) (pProv A B t n (A 2 (8 * t + 2))) (A 6 2 / nI 4) (pQS B t n))) 0 = nI n := ((if_neg (by omega) : (upd (upd B (1289 + 64 * t + n) (pProv A B t n (A 2 (8 * t + 2)))) (1545 + 64 * t + n) (pBack (nI wk) (A 6 1) (pProv A B t n (A 2 (8 * t + 2))) (A 6 2 / nI 4) (pQS B t n))) 0 = (upd B (1289 + 64 * t + n) (pProv A B t n (A 2 (8 * t + 2)))) 0)).trans hns7
  have hKs17 : dN ((upd (upd B (1289 + 64 * t + n) (pProv A B t n (A 2 (8 * t + 2)))) (1545 + 64 * t + n) (pBack (nI wk) (A 6 1) (pProv A B t n (A 2 (8 * t + 2))) (A 6 2 / nI 4) (pQS B t n))) 1865) ≤ 8 ∧ dN ((upd (upd B (1289 + 64 * t + n) (pProv A B t n (A 2 (8 * t + 2)))) (1545 + 64 * t + n) (pBack (nI wk) (A 6 1) (pProv A B t n (A 2 (8 * t + 2))) (A 6 2 / nI 4) (pQS B t n))) 1867) ≤ 40 := by rw [show (upd (upd B (1289 + 64 * t + n) (pProv A B t n (A 2 (8 * t + 2)))) (1545 + 64 * t + n) (pBack (nI wk) (A 6 1) (pProv A B t n (A 2 (8 * t + 2))) (A 6 2 / nI 4) (pQS B t n))) 1865 = (upd B (1289 + 64 * t + n) (pProv A B t n (A 2 (8 * t + 2)))) 1865 from if_neg (by omega), show (upd (upd B (1289 + 64 * t + n) (pProv A B t n (A 2 (8 * t + 2)))) (1545 + 64 * t + n) (pBack (nI wk) (A 6 1) (pProv A B t n (A 2 (8 * t + 2))) (A 6 2 / nI 4) (pQS B t n))) 1867 = (upd B (1289 + 64 * t + n) (pProv A B t n (A 2 (8 * t + 2)))) 1867 from if_neg (by omega)]; exact hKs7
  obtain ⟨⟨vss17, hx0s17⟩, ⟨wqs17, hwls17, hwqs17⟩, ⟨mqs17, hmls17, hmqs17⟩, hWYs17, hMTs17⟩ := id Xs17
  have ht0s17 : M13 tx = some ((rt, 0), .inr (20, [.ref (ta 1), .ref (ta 2), .ref (ta 3), .ref (ta 4), .int (A 6 0), .int (A 6 1), .int (A 6 2), .int (A 6 3), .int ln])) := Ts17.1
  rw [hwk] at ht0s17
  have hb0s17 := Bs17.1
  rw [hns17] at hb0s17
  obtain ⟨jws17, aws17, hwcs17, -⟩ := hWYs17 wk (by omega)
  refine x_aload_n C dX6_closeOf_82 rfl rfl ?_
  refine x_iload_n C dX6_closeOf_83 rfl rfl ?_
  refine x_iconst C dX6_closeOf_84 kc_0 ?_
  refine x_aload_n C dX6_closeOf_85 rfl rfl ?_
  refine x_get C gcX6 hb0s17 2 rfl q516 rfl dX6_closeOf_86 ?_
  refine x_iload_n C dX6_closeOf_89 rfl rfl ?_
  refine y_aaldR (ty := .array .int) (i := t) (b := ba (40 + t)) C 6 rfl rfl (Bs17.2.2.1 1 (by omega)) rfl (by omega) rfl rfl dX6_closeOf_90 ?_
  refine x_aload_n C dX6_closeOf_91 rfl rfl ?_
  refine x_get C gcX6 hb0s17 13 rfl q537 rfl dX6_closeOf_92 ?_
  refine y_iald (i := n) C (Bs17.r1 (t := t) (by omega)) rfl (by omega) rfl dX6_closeOf_95 ?_
  have e18 : bf (upd (upd B (1289 + 64 * t + n) (pProv A B t n (A 2 (8 * t + 2)))) (1545 + 64 * t + n) (pBack (nI wk) (A 6 1) (pProv A B t n (A 2 (8 * t + 2))) (A 6 2 / nI 4) (pQS B t n))) D 1 t n = pBack (nI wk) (A 6 1) (pProv A B t n (A 2 (8 * t + 2))) (A 6 2 / nI 4) (pQS B t n) := (if_pos rfl : (if 1545 + 64 * t + n = 1545 + 64 * t + n then pBack (nI wk) (A 6 1) (pProv A B t n (A 2 (8 * t + 2))) (A 6 2 / nI 4) (pQS B t n) else _) = _)
  rw [e18]
  refine x_bipush C dX6_closeOf_96 kb_m2 ?_
  refine x_V4V C (met_X6_book l C.1 (t := t) (u := 0) hbx16 hr4 hKs17 (by omega) (by omega)) mi_X6_book q1876 gcX6 hb0s17 ⟨rfl, rfl⟩ rfl ⟨Nat.le_of_ble_eq_true rfl, Nat.le_of_ble_eq_true rfl⟩ rfl dX6_closeOf_98 (fun M19 hr => ?_)
  exact x_vret C dX6_closeOf_101 ⟨Nat.le_of_ble_eq_true rfl, Nat.le_of_ble_eq_true rfl⟩ ⟨by unfold pCQ1 pBk; rw [hwk]; exact hr.1, Fs17.tr (hr.2.mono (fun i j q => by rcases q with q | q | q | q <;> exact congrArg Prod.fst q))⟩
