set_option maxRecDepth 100000
theorem mi_X6_ofYear : gMV RX6 yX6_ofYear cX6_ofYear 4 (some (.object "ExemptDesk$Sums")) 2 := ⟨q1927, q1928, q140, q1929, by decide +kernel⟩
set_option maxHeartbeats 4000000 in
set_option maxRecDepth 100000 in
theorem met_X6_ofYear (l : Launch) {G : gG} (hG : gOK G) {M0 : gM} {r x : Nat} {ba : Nat → Nat} {B : Nat → Int32} {D : Nat → Nat → Int32} {Z : Nat → Int64} {tx wl ml : Nat} {wf mf : Nat → Nat} {rt : Nat} {ta : Nat → Nat} {mc : Nat → Int32} {nd it : Nat → Nat → Nat} {A : Nat → Nat → Int32} {ln : Int32} {T n : Nat} {t y : Nat} (hBC : BC G r ba x (pQS B) (bf B D) (bo B) (B 0) (B 1866) Z M0) (hX : XW G x tx wl ml wf mf M0) (hT : TR G rt tx ta mc nd it (cA T A) (trA A) (wA A ln) M0) (hr4 : 4 ≤ r) (hrx : r ≠ x + 4) (hrt : r ≠ rt) (hw : wT T A) (hn : B 0 = nI n) (hn6 : n < 64) (ht4 : t < 4) (hy16 : y < 16) : Met l yX6_ofYear (ws_ yX6_ofYear cX6_ofYear 4 (some (.object "ExemptDesk$Sums"))) ({ frames := 1, cells := 0, slots := 0, locals := 22 }) (gPre G M0 [.ref (ba 0), .int (nI t), .int (nI y)]) (gQ G (gR (fun r9 M1 => ba 9 = r9 ∧ BC G r ba x (pQS B) (bf B D) (bo B) (B 0) (B 1866) (pYS B t y) M1 ∧ ∀ z, z ≠ ba 10 → M1 z = M0 z))) 0 0 (gA G) := by
  refine gMet (L0 := [some (.ref (ba 0)), some (.int (nI t)), some (.int (nI y)), none]) RX6 hG (by decide +kernel) rfl (Nat.le_of_ble_eq_true rfl) rfl ?_
  intro p e s m args below meth c C hnm
  obtain ⟨wk, hwk, hwk3⟩ := isN_to hw.way
  have hsI := hw.stepI
  obtain ⟨⟨vs, hx0⟩, ⟨wq, hwl, hwq⟩, ⟨mq, hml, hmq⟩, hWY, hMT⟩ := id hX
  have ht0 : M0 tx = some ((rt, 0), .inr (20, [.ref (ta 1), .ref (ta 2), .ref (ta 3), .ref (ta 4), .int (A 6 0), .int (A 6 1), .int (A 6 2), .int (A 6 3), .int ln])) := hT.1
  rw [hwk] at ht0
  have hb0 := hBC.1
  rw [hn] at hb0
  obtain ⟨jw, aw, hwc, -⟩ := hWY wk (by omega)
  refine x_aload_n C dX6_ofYear_0 rfl rfl ?_
  refine x_get C gcX6 hb0 12 rfl q536 rfl dX6_ofYear_1 ?_
  refine x_V0V C (met_X7_clear l C.1 hBC.2.2.2.2.2.2.2) mi_X7_clear q1930 gcX7 hBC.2.2.2.2.2.2.2.1 ⟨rfl, rfl⟩ rfl ⟨Nat.le_of_ble_eq_true rfl, Nat.le_of_ble_eq_true rfl⟩ rfl dX6_ofYear_4 (fun M1 hr => ?_)
  obtain ⟨h2, k3⟩ := hr
  have hBc4 := hBC.year (Z' := (fun _ => 0)) h2 k3
  have hf7 := hBC.fl10 ⟨_, hBc4⟩ k3
  have hXc5 := hX.k10 hf7 hr4 hrx
  have hTc6 := hT.k10 hf7 hrt
  obtain ⟨⟨vshBc4, hx0hBc4⟩, ⟨wqhBc4, hwlhBc4, hwqhBc4⟩, ⟨mqhBc4, hmlhBc4, hmqhBc4⟩, hWYhBc4, hMThBc4⟩ := id hXc5
  have ht0hBc4 : M1 tx = some ((rt, 0), .inr (20, [.ref (ta 1), .ref (ta 2), .ref (ta 3), .ref (ta 4), .int (A 6 0), .int (A 6 1), .int (A 6 2), .int (A 6 3), .int ln])) := hTc6.1
  rw [hwk] at ht0hBc4
  have hb0hBc4 := hBc4.1
  rw [hn] at hb0hBc4
  obtain ⟨jwhBc4, awhBc4, hwchBc4, -⟩ := hWYhBc4 wk (by omega)
  refine x_iconst C dX6_ofYear_7 kc_4 ?_
  refine x_iload_n C dX6_ofYear_8 rfl rfl ?_
  refine x_imulN C dX6_ofYear_9 ?_
  refine x_istore_n C dX6_ofYear_10 rfl (gs1_3 rfl) rfl ?_
  refine x_iload_n C dX6_ofYear_11 rfl rfl ?_
  refine x_iconst C dX6_ofYear_12 kc_4 ?_
  refine x_iload_n C dX6_ofYear_13 rfl rfl ?_
  refine x_imulN C dX6_ofYear_14 ?_
  refine x_iconst C dX6_ofYear_15 kc_4 ?_
  refine x_iaddN C dX6_ofYear_16 ?_
  refine x_icmp_geN (tgt := 41) C (by omega) (by omega) dX6_ofYear_17 rfl (fun _ => by exfalso; omega) (fun _ => ?_)
  refine x_aload_n C dX6_ofYear_20 rfl rfl ?_
  refine x_get C gcX6 hb0hBc4 12 rfl q536 rfl dX6_ofYear_21 ?_
  refine x_aload_n C dX6_ofYear_24 rfl rfl ?_
  refine x_get C gcX6 hb0hBc4 0 rfl q513 rfl dX6_ofYear_25 ?_
  refine x_iload_n C dX6_ofYear_28 rfl rfl ?_
  refine y_aaldR (ty := .array (.object "ExemptDesk$Sums")) (i := t) (b := ba (20 + t)) C 5 rfl rfl hBc4.2.1 rfl (by omega) rfl rfl dX6_ofYear_29 ?_
  refine x_iload_n C dX6_ofYear_30 rfl rfl ?_
  refine y_aaldR (ty := .object "ExemptDesk$Sums") (i := 4 * y) (b := ba (1000 + 64 * t + (4 * y))) C 4 rfl rfl (hBc4.2.2.2.1 t (by omega)) rfl (by omega) rfl rfl dX6_ofYear_31 ?_
  refine x_V1V C (met_X7_add l C.1 hBc4.2.2.2.2.2.2.2 (hBc4.2.2.2.2.2.1 t (4 * y) (by omega) (by omega)) (gM_ne (hBc4.2.2.2.2.2.1 t (4 * y) (by omega) (by omega)).2 hBc4.2.2.2.2.2.2.2.2 (by omega))) mi_X7_add q1934 gcX7 hBc4.2.2.2.2.2.2.2.1 ⟨rfl, rfl⟩ rfl ⟨Nat.le_of_ble_eq_true rfl, Nat.le_of_ble_eq_true rfl⟩ rfl dX6_ofYear_32 (fun M8 hr => ?_)
  obtain ⟨h9, k10⟩ := hr
  have hBc11 := hBc4.year (Z' := (fun k => (fun _ => 0) k + pQS B t (4 * y) k)) h9 k10
  have hf14 := hBc4.fl10 ⟨_, hBc11⟩ k10
  have hXc12 := hXc5.k10 hf14 hr4 hrx
  have hTc13 := hTc6.k10 hf14 hrt
  have k15 : ∀ zz : Nat, zz ≠ ba 10 → M8 zz = M0 zz := fun zz hz => (k10 zz hz).trans (k3 zz hz)
  obtain ⟨⟨vshBc11, hx0hBc11⟩, ⟨wqhBc11, hwlhBc11, hwqhBc11⟩, ⟨mqhBc11, hmlhBc11, hmqhBc11⟩, hWYhBc11, hMThBc11⟩ := id hXc12
  have ht0hBc11 : M8 tx = some ((rt, 0), .inr (20, [.ref (ta 1), .ref (ta 2), .ref (ta 3), .ref (ta 4), .int (A 6 0), .int (A 6 1), .int (A 6 2), .int (A 6 3), .int ln])) := hTc13.1
  rw [hwk] at ht0hBc11
  have hb0hBc11 := hBc11.1
  rw [hn] at hb0hBc11
  obtain ⟨jwhBc11, awhBc11, hwchBc11, -⟩ := hWYhBc11 wk (by omega)
  refine x_iincN (z := 1) C dX6_ofYear_35 rfl (gs1_3 rfl) rfl ?_
  refine x_goto (tgt := 11) C dX6_ofYear_38 rfl ?_
  refine x_iload_n C dX6_ofYear_11 rfl rfl ?_
  refine x_iconst C dX6_ofYear_12 kc_4 ?_
  refine x_iload_n C dX6_ofYear_13 rfl rfl ?_
  refine x_imulN C dX6_ofYear_14 ?_
  refine x_iconst C dX6_ofYear_15 kc_4 ?_
  refine x_iaddN C dX6_ofYear_16 ?_
  refine x_icmp_geN (tgt := 41) C (by omega) (by omega) dX6_ofYear_17 rfl (fun _ => by exfalso; omega) (fun _ => ?_)
  refine x_aload_n C dX6_ofYear_20 rfl rfl ?_
  refine x_get C gcX6 hb0hBc11 12 rfl q536 rfl dX6_ofYear_21 ?_
  refine x_aload_n C dX6_ofYear_24 rfl rfl ?_
  refine x_get C gcX6 hb0hBc11 0 rfl q513 rfl dX6_ofYear_25 ?_
  refine x_iload_n C dX6_ofYear_28 rfl rfl ?_
  refine y_aaldR (ty := .array (.object "ExemptDesk$Sums")) (i := t) (b := ba (20 + t)) C 5 rfl rfl hBc11.2.1 rfl (by omega) rfl rfl dX6_ofYear_29 ?_
  refine x_iload_n C dX6_ofYear_30 rfl rfl ?_
  refine y_aaldR (ty := .object "ExemptDesk$Sums") (i := 4 * y + 1) (b := ba (1000 + 64 * t + (4 * y + 1))) C 4 rfl rfl (hBc11.2.2.2.1 t (by omega)) rfl (by omega) rfl rfl dX6_ofYear_31 ?_
  refine x_V1V C (met_X7_add l C.1 hBc11.2.2.2.2.2.2.2 (hBc11.2.2.2.2.2.1 t (4 * y + 1) (by omega) (by omega)) (gM_ne (hBc11.2.2.2.2.2.1 t (4 * y + 1) (by omega) (by omega)).2 hBc11.2.2.2.2.2.2.2.2 (by omega))) mi_X7_add q1934 gcX7 hBc11.2.2.2.2.2.2.2.1 ⟨rfl, rfl⟩ rfl ⟨Nat.le_of_ble_eq_true rfl, Nat.le_of_ble_eq_true rfl⟩ rfl dX6_ofYear_32 (fun M16 hr => ?_)
  obtain ⟨h17, k18⟩ := hr
  have hBc19 := hBc11.year (Z' := (fun k => (fun k => (fun _ => 0) k + pQS B t (4 * y) k) k + pQS B t (4 * y + 1) k)) h17 k18
  have hf22 := hBc11.fl10 ⟨_, hBc19⟩ k18
  have hXc20 := hXc12.k10 hf22 hr4 hrx
  have hTc21 := hTc13.k10 hf22 hrt
  have k23 : ∀ zz : Nat, zz ≠ ba 10 → M16 zz = M0 zz := fun zz hz => (k18 zz hz).trans (k15 zz hz)
  obtain ⟨⟨vshBc19, hx0hBc19⟩, ⟨wqhBc19, hwlhBc19, hwqhBc19⟩, ⟨mqhBc19, hmlhBc19, hmqhBc19⟩, hWYhBc19, hMThBc19⟩ := id hXc20
  have ht0hBc19 : M16 tx = some ((rt, 0), .inr (20, [.ref (ta 1), .ref (ta 2), .ref (ta 3), .ref (ta 4), .int (A 6 0), .int (A 6 1), .int (A 6 2), .int (A 6 3), .int ln])) := hTc21.1
  rw [hwk] at ht0hBc19
  have hb0hBc19 := hBc19.1
  rw [hn] at hb0hBc19
  obtain ⟨jwhBc19, awhBc19, hwchBc19, -⟩ := hWYhBc19 wk (by omega)
  refine x_iincN (z := 1) C dX6_ofYear_35 rfl (gs1_3 rfl) rfl ?_
  refine x_goto (tgt := 11) C dX6_ofYear_38 rfl ?_
  refine x_iload_n C dX6_ofYear_11 rfl rfl ?_
  refine x_iconst C dX6_ofYear_12 kc_4 ?_
  refine x_iload_n C dX6_ofYear_13 rfl rfl ?_
  refine x_imulN C dX6_ofYear_14 ?_
  refine x_iconst C dX6_ofYear_15 kc_4 ?_
  refine x_iaddN C dX6_ofYear_16 ?_
  refine x_icmp_geN (tgt := 41) C (by omega) (by omega) dX6_ofYear_17 rfl (fun _ => by exfalso; omega) (fun _ => ?_)
  refine x_aload_n C dX6_ofYear_20 rfl rfl ?_
  refine x_get C gcX6 hb0hBc19 12 rfl q536 rfl dX6_ofYear_21 ?_
  refine x_aload_n C dX6_ofYear_24 rfl rfl ?_
  refine x_get C gcX6 hb0hBc19 0 rfl q513 rfl dX6_ofYear_25 ?_
  refine x_iload_n C dX6_ofYear_28 rfl rfl ?_
  refine y_aaldR (ty := .array (.object "ExemptDesk$Sums")) (i := t) (b := ba (20 + t)) C 5 rfl rfl hBc19.2.1 rfl (by omega) rfl rfl dX6_ofYear_29 ?_
  refine x_iload_n C dX6_ofYear_30 rfl rfl ?_
  refine y_aaldR (ty := .object "ExemptDesk$Sums") (i := 4 * y + 1 + 1) (b := ba (1000 + 64 * t + (4 * y + 1 + 1))) C 4 rfl rfl (hBc19.2.2.2.1 t (by omega)) rfl (by omega) rfl rfl dX6_ofYear_31 ?_
  refine x_V1V C (met_X7_add l C.1 hBc19.2.2.2.2.2.2.2 (hBc19.2.2.2.2.2.1 t (4 * y + 1 + 1) (by omega) (by omega)) (gM_ne (hBc19.2.2.2.2.2.1 t (4 * y + 1 + 1) (by omega) (by omega)).2 hBc19.2.2.2.2.2.2.2.2 (by omega))) mi_X7_add q1934 gcX7 hBc19.2.2.2.2.2.2.2.1 ⟨rfl, rfl⟩ rfl ⟨Nat.le_of_ble_eq_true rfl, Nat.le_of_ble_eq_true rfl⟩ rfl dX6_ofYear_32 (fun M24 hr => ?_)
  obtain ⟨h25, k26⟩ := hr
  have hBc27 := hBc19.year (Z' := (fun k => (fun k => (fun k => (fun _ => 0) k + pQS B t (4 * y) k) k + pQS B t (4 * y + 1) k) k + pQS B t (4 * y + 1 + 1) k)) h25 k26
  have hf30 := hBc19.fl10 ⟨_, hBc27⟩ k26
  have hXc28 := hXc20.k10 hf30 hr4 hrx
  have hTc29 := hTc21.k10 hf30 hrt
  have k31 : ∀ zz : Nat, zz ≠ ba 10 → M24 zz = M0 zz := fun zz hz => (k26 zz hz).trans (k23 zz hz)
  obtain ⟨⟨vshBc27, hx0hBc27⟩, ⟨wqhBc27, hwlhBc27, hwqhBc27⟩, ⟨mqhBc27, hmlhBc27, hmqhBc27⟩, hWYhBc27, hMThBc27⟩ := id hXc28
  have ht0hBc27 : M24 tx = some ((rt, 0), .inr (20, [.ref (ta 1), .ref (ta 2), .ref (ta 3), .ref (ta 4), .int (A 6 0), .int (A 6 1), .int (A 6 2), .int (A 6 3), .int ln])) := hTc29.1
  rw [hwk] at ht0hBc27
  have hb0hBc27 := hBc27.1
  rw [hn] at hb0hBc27
  obtain ⟨jwhBc27, awhBc27, hwchBc27, -⟩ := hWYhBc27 wk (by omega)
  refine x_iincN (z := 1) C dX6_ofYear_35 rfl (gs1_3 rfl) rfl ?_
  refine x_goto (tgt := 11) C dX6_ofYear_38 rfl ?_
  refine x_iload_n C dX6_ofYear_11 rfl rfl ?_
  refine x_iconst C dX6_ofYear_12 kc_4 ?_
  refine x_iload_n C dX6_ofYear_13 rfl rfl ?_
  refine x_imulN C dX6_ofYear_14 ?_
  refine x_iconst C dX6_ofYear_15 kc_4 ?_
  refine x_iaddN C dX6_ofYear_16 ?_
  refine x_icmp_geN (tgt := 41) C (by omega) (by omega) dX6_ofYear_17 rfl (fun _ => by exfalso; omega) (fun _ => ?_)
  refine x_aload_n C dX6_ofYear_20 rfl rfl ?_
  refine x_get C gcX6 hb0hBc27 12 rfl q536 rfl dX6_ofYear_21 ?_
  refine x_aload_n C dX6_ofYear_24 rfl rfl ?_
  refine x_get C gcX6 hb0hBc27 0 rfl q513 rfl dX6_ofYear_25 ?_
  refine x_iload_n C dX6_ofYear_28 rfl rfl ?_
  refine y_aaldR (ty := .array (.object "ExemptDesk$Sums")) (i := t) (b := ba (20 + t)) C 5 rfl rfl hBc27.2.1 rfl (by omega) rfl rfl dX6_ofYear_29 ?_
  refine x_iload_n C dX6_ofYear_30 rfl rfl ?_
  refine y_aaldR (ty := .object "ExemptDesk$Sums") (i := 4 * y + 1 + 1 + 1) (b := ba (1000 + 64 * t + (4 * y + 1 + 1 + 1))) C 4 rfl rfl (hBc27.2.2.2.1 t (by omega)) rfl (by omega) rfl rfl dX6_ofYear_31 ?_
  refine x_V1V C (met_X7_add l C.1 hBc27.2.2.2.2.2.2.2 (hBc27.2.2.2.2.2.1 t (4 * y + 1 + 1 + 1) (by omega) (by omega)) (gM_ne (hBc27.2.2.2.2.2.1 t (4 * y + 1 + 1 + 1) (by omega) (by omega)).2 hBc27.2.2.2.2.2.2.2.2 (by omega))) mi_X7_add q1934 gcX7 hBc27.2.2.2.2.2.2.2.1 ⟨rfl, rfl⟩ rfl ⟨Nat.le_of_ble_eq_true rfl, Nat.le_of_ble_eq_true rfl⟩ rfl dX6_ofYear_32 (fun M32 hr => ?_)
  obtain ⟨h33, k34⟩ := hr
  have hBc35 := hBc27.year (Z' := (fun k => (fun k => (fun k => (fun k => (fun _ => 0) k + pQS B t (4 * y) k) k + pQS B t (4 * y + 1) k) k + pQS B t (4 * y + 1 + 1) k) k + pQS B t (4 * y + 1 + 1 + 1) k)) h33 k34
  have hf38 := hBc27.fl10 ⟨_, hBc35⟩ k34
  have hXc36 := hXc28.k10 hf38 hr4 hrx
  have hTc37 := hTc29.k10 hf38 hrt
  have k39 : ∀ zz : Nat, zz ≠ ba 10 → M32 zz = M0 zz := fun zz hz => (k34 zz hz).trans (k31 zz hz)
  obtain ⟨⟨vshBc35, hx0hBc35⟩, ⟨wqhBc35, hwlhBc35, hwqhBc35⟩, ⟨mqhBc35, hmlhBc35, hmqhBc35⟩, hWYhBc35, hMThBc35⟩ := id hXc36
  have ht0hBc35 : M32 tx = some ((rt, 0), .inr (20, [.ref (ta 1), .ref (ta 2), .ref (ta 3), .ref (ta 4), .int (A 6 0), .int (A 6 1), .int (A 6 2), .int (A 6 3), .int ln])) := hTc37.1
  rw [hwk] at ht0hBc35
  have hb0hBc35 := hBc35.1
  rw [hn] at hb0hBc35
  obtain ⟨jwhBc35, awhBc35, hwchBc35, -⟩ := hWYhBc35 wk (by omega)
  refine x_iincN (z := 1) C dX6_ofYear_35 rfl (gs1_3 rfl) rfl ?_
  refine x_goto (tgt := 11) C dX6_ofYear_38 rfl ?_
  refine x_iload_n C dX6_ofYear_11 rfl rfl ?_
  refine x_iconst C dX6_ofYear_12 kc_4 ?_
  refine x_iload_n C dX6_ofYear_13 rfl rfl ?_
  refine x_imulN C dX6_ofYear_14 ?_
  refine x_iconst C dX6_ofYear_15 kc_4 ?_
  refine x_iaddN C dX6_ofYear_16 ?_
  refine x_icmp_geN (tgt := 41) C (by omega) (by omega) dX6_ofYear_17 rfl (fun _ => ?_) (fun _ => by exfalso; omega)
  refine x_aload_n C dX6_ofYear_41 rfl rfl ?_
  refine x_get C gcX6 hb0hBc35 12 rfl q536 rfl dX6_ofYear_42 ?_
  exact x_aret C dX6_ofYear_45 ⟨Nat.le_of_ble_eq_true rfl, Nat.le_of_ble_eq_true rfl⟩ ⟨rfl, hBc35, k39⟩
theorem mi_X6_annualOf : gMV RX6 yX6_annualOf cX6_annualOf 3 (some .int) 2 := ⟨q2082, q2083, q140, q2084, by decide +kernel⟩
set_option maxHeartbeats 4000000 in
set_option maxRecDepth 100000 in
theorem met_X6_annualOf (l : Launch) {G : gG} (hG : gOK G) {M0 : gM} {r x : Nat} {ba : Nat → Nat} {B : Nat → Int32} {D : Nat → Nat → Int32} {Z : Nat → Int64} {tx wl ml : Nat} {wf mf : Nat → Nat} {rt : Nat} {ta : Nat → Nat} {mc : Nat → Int32} {nd it : Nat → Nat → Nat} {A : Nat → Nat → Int32} {ln : Int32} {T n : Nat} {t y : Nat} (hBC : BC G r ba x (pQS B) (bf B D) (bo B) (B 0) (B 1866) Z M0) (hX : XW G x tx wl ml wf mf M0) (hT : TR G rt tx ta mc nd it (cA T A) (trA A) (wA A ln) M0) (hr4 : 4 ≤ r) (hrx : r ≠ x + 4) (hrt : r ≠ rt) (hw : wT T A) (hn : B 0 = nI n) (hn6 : n < 64) (htT : t < T) (hy16 : y < 16) (hq : qB B) (hh : hdB B) : Met l yX6_annualOf (ws_ yX6_annualOf cX6_annualOf 3 (some .int)) ({ frames := 6, cells := 0, slots := 0, locals := 145 }) (gPre G M0 [.ref (ba 0), .int (nI t), .int (nI y)]) (gQ G (gI (fun r9 M1 => (∃ Z', BC G r ba x (pQS B) (bf B D) (bo B) (B 0) (B 1866) Z' M1 ∧ (Z' = Z ∨ Z' = pYS B t y)) ∧ (∀ z, z ≠ ba 10 → M1 z = M0 z) ∧ pAnn A B t y = r9))) 0 0 (gA G) := by
  refine gMet (L0 := [some (.ref (ba 0)), some (.int (nI t)), some (.int (nI y))]) RX6 hG (by decide +kernel) rfl (Nat.le_of_ble_eq_true rfl) rfl ?_
  intro p e s m args below meth c C hnm
  obtain ⟨wk, hwk, hwk3⟩ := isN_to hw.way
  have hsI := hw.stepI
  obtain ⟨⟨vs, hx0⟩, ⟨wq, hwl, hwq⟩, ⟨mq, hml, hmq⟩, hWY, hMT⟩ := id hX
  have ht0 : M0 tx = some ((rt, 0), .inr (20, [.ref (ta 1), .ref (ta 2), .ref (ta 3), .ref (ta 4), .int (A 6 0), .int (A 6 1), .int (A 6 2), .int (A 6 3), .int ln])) := hT.1
  rw [hwk] at ht0
  have hb0 := hBC.1
  rw [hn] at hb0
  obtain ⟨jw, aw, hwc, -⟩ := hWY wk (by omega)
  have hT4 := hw.T4
  refine x_iload_n C dX6_annualOf_0 rfl rfl ?_
  refine x_aload_n C dX6_annualOf_1 rfl rfl ?_
  refine x_get C gcX6 hb0 13 rfl q537 rfl dX6_annualOf_2 ?_
  refine x_iconst C dX6_annualOf_5 kc_4 ?_
  refine x_idivN C (by omega) (by omega) (by omega) dX6_annualOf_6 ?_
  refine x_icmp_geN (tgt := 21) C (by omega) (by omega) dX6_annualOf_7 rfl (fun c7 => ?_) (fun c7 => ?_)
  · -- 21
    refine x_aload_n C dX6_annualOf_21 rfl rfl ?_
    refine x_iload_n C dX6_annualOf_22 rfl rfl ?_
    refine x_aload_n C dX6_annualOf_23 rfl rfl ?_
    refine x_iload_n C dX6_annualOf_24 rfl rfl ?_
    refine x_iload_n C dX6_annualOf_25 rfl rfl ?_
    refine x_V2R C (met_X6_ofYear l C.1 hBC hX hT hr4 hrx hrt hw hn hn6 (by omega) (by omega)) mi_X6_ofYear q1926 gcX6 hb0 ⟨rfl, rfl⟩ rfl ⟨Nat.le_of_ble_eq_true rfl, Nat.le_of_ble_eq_true rfl⟩ rfl dX6_annualOf_26 (fun r2 M1 hr => ?_)
    obtain ⟨rfl, hb3, k4⟩ := hr
    have hBc6 := hBC.year (Z' := (pYS B t y)) hb3.2.2.2.2.2.2.2 k4
    have hf9 := hBC.fl10 ⟨_, hBc6⟩ k4
    have hXc7 := hX.k10 hf9 hr4 hrx
    have hTc8 := hT.k10 hf9 hrt
    obtain ⟨⟨vshBc6, hx0hBc6⟩, ⟨wqhBc6, hwlhBc6, hwqhBc6⟩, ⟨mqhBc6, hmlhBc6, hmqhBc6⟩, hWYhBc6, hMThBc6⟩ := id hXc7
    have ht0hBc6 : M1 tx = some ((rt, 0), .inr (20, [.ref (ta 1), .ref (ta 2), .ref (ta 3), .ref (ta 4), .int (A 6 0), .int (A 6 1), .int (A 6 2), .int (A 6 3), .int ln])) := hTc8.1
    rw [hwk] at ht0hBc6
    have hb0hBc6 := hBc6.1
    rw [hn] at hb0hBc6
    obtain ⟨jwhBc6, awhBc6, hwchBc6, -⟩ := hWYhBc6 wk (by omega)
    refine x_V2I C (met_X6_fractionBy l C.1 hBc6 hXc7 hTc8 hr4 hrx hrt hw hn hn6 (by omega) hBc6.2.2.2.2.2.2.2 (hq.y (by omega) (by omega)) (hh _ (by omega))) mi_X6_fractionBy q1843 gcX6 hb0hBc6 ⟨rfl, rfl⟩ rfl ⟨Nat.le_of_ble_eq_true rfl, Nat.le_of_ble_eq_true rfl⟩ rfl dX6_annualOf_29 (fun r11 M10 hr => ?_)
    obtain ⟨hr, rfl⟩ := hr
    rw [hr]
    exact x_iret C dX6_annualOf_32 ⟨Nat.le_of_ble_eq_true rfl, Nat.le_of_ble_eq_true rfl⟩ ⟨⟨_, hBc6, Or.inr rfl⟩, k4, by unfold pAnn pYr pNow; rw [hn, dN_nI (by omega), if_neg (by omega)]⟩
  · -- 10
    refine x_aload_n C dX6_annualOf_10 rfl rfl ?_
    refine x_get C gcX6 hb0 3 rfl q518 rfl dX6_annualOf_11 ?_
    refine x_iload_n C dX6_annualOf_14 rfl rfl ?_
    refine y_aaldR (ty := .array .int) (i := t) (b := ba (50 + t)) C 6 rfl rfl (hBC.2.2.1 2 (by omega)) rfl (by omega) rfl rfl dX6_annualOf_15 ?_
    refine x_iload_n C dX6_annualOf_16 rfl rfl ?_
    refine y_iald (i := y) C (hBC.r2 (t := t) (by omega)) rfl (by omega) rfl dX6_annualOf_17 ?_
    refine x_goto (tgt := 32) C dX6_annualOf_18 rfl ?_
    exact x_iret C dX6_annualOf_32 ⟨Nat.le_of_ble_eq_true rfl, Nat.le_of_ble_eq_true rfl⟩ ⟨⟨_, hBC, Or.inl rfl⟩, fun _ _ => rfl, by unfold pAnn pYr pNow; rw [hn, dN_nI (by omega), if_pos (by omega)]; rfl⟩
theorem mi_X6_provisionalOf : gMV RX6 yX6_provisionalOf cX6_provisionalOf 4 (some .int) 2 := ⟨q1840, q1841, q140, q1842, by decide +kernel⟩
set_option maxHeartbeats 4000000 in
set_option maxRecDepth 100000 in
theorem met_X6_provisionalOf (l : Launch) {G : gG} (hG : gOK G) {M0 : gM} {r x : Nat} {ba : Nat → Nat} {B : Nat → Int32} {D : Nat → Nat → Int32} {Z : Nat → Int64} {tx wl ml : Nat} {wf mf : Nat → Nat} {rt : Nat} {ta : Nat → Nat} {mc : Nat → Int32} {nd it : Nat → Nat → Nat} {A : Nat → Nat → Int32} {ln : Int32} {T n : Nat} {t q : Nat} (hBC : BC G r ba x (pQS B) (bf B D) (bo B) (B 0) (B 1866) Z M0) (hX : XW G x tx wl ml wf mf M0) (hT : TR G rt tx ta mc nd it (cA T A) (trA A) (wA A ln) M0) (hr4 : 4 ≤ r) (hrx : r ≠ x + 4) (hrt : r ≠ rt) (hw : wT T A) (hn : B 0 = nI n) (hn6 : n < 64) (htT : t < T) (hq64 : q < 64) (hq : qB B) (hh : hdB B) : Met l yX6_provisionalOf (ws_ yX6_provisionalOf cX6_provisionalOf 4 (some .int)) ({ frames := 6, cells := 0, slots := 0, locals := 145 }) (gPre G M0 [.ref (ba 0), .int (nI t), .int (nI q)]) (gQ G (gI (fun r9 M1 => M1 = M0 ∧ (if q < n then B (1289 + 64 * t + q) else pProv A B t q (A 2 (8 * t + 2))) = r9))) 0 0 (gA G) := by
  refine gMet (L0 := [some (.ref (ba 0)), some (.int (nI t)), some (.int (nI q)), none]) RX6 hG (by decide +kernel) rfl (Nat.le_of_ble_eq_true rfl) rfl ?_
  intro p e s m args below meth c C hnm
  obtain ⟨wk, hwk, hwk3⟩ := isN_to hw.way
  have hsI := hw.stepI
  obtain ⟨⟨vs, hx0⟩, ⟨wq, hwl, hwq⟩, ⟨mq, hml, hmq⟩, hWY, hMT⟩ := id hX
  have ht0 : M0 tx = some ((rt, 0), .inr (20, [.ref (ta 1), .ref (ta 2), .ref (ta 3), .ref (ta 4), .int (A 6 0), .int (A 6 1), .int (A 6 2), .int (A 6 3), .int ln])) := hT.1
  rw [hwk] at ht0
  have hb0 := hBC.1
  rw [hn] at hb0
  obtain ⟨jw, aw, hwc, -⟩ := hWY wk (by omega)
  have hT4 := hw.T4
  have hsn : ¬ A 2 (8 * t + 7) = -1 := fun e9 => by have z9 := (hw.trader htT).2.2.2.2.2.2.2.int (by omega); rw [e9] at z9; exact absurd z9.1 (by decide)
  have hwt := hw.trader htT
  obtain ⟨bk, hbk, hbk1⟩ := isN_to hwt.2.1
  obtain ⟨mk, hmk, hmk3⟩ := isN_to hwt.1
  have htr0 := hT.at1 htT
  have htr0 : M0 (it 1 t) = some ((rt, 21), .inr (26, [.int (trA A 1 t 0), .int (A 2 (8 * t + 1)), .int (A 2 (8 * t + 2)), .int (trA A 1 t 3), .int (trA A 1 t 4), .int (if A 2 (8 * t + 6) = nI 1 then A 2 (8 * t + 7) else -1)])) := htr0
  rw [hmk, hbk] at htr0
  rcases (by omega : bk = 0 ∨ bk = 1) with rfl | rfl
  · -- basis 0
    by_cases hst : A 2 (8 * t + 6) = nI 1
    · -- start True
      rw [if_pos hst] at htr0
      refine x_iload_n C dX6_provisionalOf_0 rfl rfl ?_
      refine x_aload_n C dX6_provisionalOf_1 rfl rfl ?_
      refine x_get C gcX6 hb0 13 rfl q537 rfl dX6_provisionalOf_2 ?_
      refine x_icmp_geN (tgt := 17) C (by omega) (by omega) dX6_provisionalOf_5 rfl (fun c5 => ?_) (fun c5 => ?_)
      · -- 17
        refine x_aload_n C dX6_provisionalOf_17 rfl rfl ?_
        refine x_get C gcX6 hb0 15 rfl q541 rfl dX6_provisionalOf_18 ?_
        refine x_getN C gcX1 hx0 4 rfl q1255 rfl dX6_provisionalOf_21 ?_
        refine x_iload_n C dX6_provisionalOf_24 rfl rfl ?_
        refine x_V1R C (met_X5_trader l C.1 hT htT) mi_X5_trader q587 gcX5 ht0 ⟨rfl, rfl⟩ rfl ⟨Nat.le_of_ble_eq_true rfl, Nat.le_of_ble_eq_true rfl⟩ rfl dX6_provisionalOf_25 (fun r2 M1 hr => ?_)
        obtain ⟨hr, rfl⟩ := hr
        rw [hr]
        refine x_astore_n C dX6_provisionalOf_28 rfl (gs1_3 rfl) rfl ?_
        refine x_aload_n C dX6_provisionalOf_29 rfl rfl ?_
        refine x_getN C gcX11 htr0 2 rfl q1440 rfl dX6_provisionalOf_30 ?_
        refine x_if_eqT (tgt := 49) C (by decide) dX6_provisionalOf_33 rfl ?_
        refine x_aload_n C dX6_provisionalOf_49 rfl rfl ?_
        refine x_iload_n C dX6_provisionalOf_50 rfl rfl ?_
        refine x_aload_n C dX6_provisionalOf_51 rfl rfl ?_
        refine x_get C gcX6 hb0 0 rfl q513 rfl dX6_provisionalOf_52 ?_
        refine x_iload_n C dX6_provisionalOf_55 rfl rfl ?_
        refine y_aaldR (ty := .array (.object "ExemptDesk$Sums")) (i := t) (b := ba (20 + t)) C 5 rfl rfl hBC.2.1 rfl (by omega) rfl rfl dX6_provisionalOf_56 ?_
        refine x_iload_n C dX6_provisionalOf_57 rfl rfl ?_
        refine y_aaldR (ty := .object "ExemptDesk$Sums") (i := q) (b := ba (1000 + 64 * t + q)) C 4 rfl rfl (hBC.2.2.2.1 t (by omega)) rfl (by omega) rfl rfl dX6_provisionalOf_58 ?_
        refine x_V2I C (met_X6_fractionBy l C.1 hBC hX hT hr4 hrx hrt hw hn hn6 (by omega) (hBC.2.2.2.2.2.1 t q (by omega) (by omega)) (hq.z (by omega) (by omega)) (hh _ (by omega))) mi_X6_fractionBy q1843 gcX6 hb0 ⟨rfl, rfl⟩ rfl ⟨Nat.le_of_ble_eq_true rfl, Nat.le_of_ble_eq_true rfl⟩ rfl dX6_provisionalOf_59 (fun r4 M3 hr => ?_)
        obtain ⟨hr, rfl⟩ := hr
        rw [hr]
        exact x_iret C dX6_provisionalOf_62 ⟨Nat.le_of_ble_eq_true rfl, Nat.le_of_ble_eq_true rfl⟩ ⟨rfl, by rw [if_neg (by omega), hbk]; unfold pProv; rw [if_pos (show nI 0 = 0 from rfl)]⟩
      · -- 8
        refine x_aload_n C dX6_provisionalOf_8 rfl rfl ?_
        refine x_get C gcX6 hb0 1 rfl q515 rfl dX6_provisionalOf_9 ?_
        refine x_iload_n C dX6_provisionalOf_12 rfl rfl ?_
        refine y_aaldR (ty := .array .int) (i := t) (b := ba (30 + t)) C 6 rfl rfl (hBC.2.2.1 0 (by omega)) rfl (by omega) rfl rfl dX6_provisionalOf_13 ?_
        refine x_iload_n C dX6_provisionalOf_14 rfl rfl ?_
        refine y_iald (i := q) C (hBC.r0 (t := t) (by omega)) rfl (by omega) rfl dX6_provisionalOf_15 ?_
        exact x_iret C dX6_provisionalOf_16 ⟨Nat.le_of_ble_eq_true rfl, Nat.le_of_ble_eq_true rfl⟩ ⟨rfl, by rw [if_pos (by omega)]; rfl⟩
    · -- start False
      rw [if_neg hst] at htr0
      refine x_iload_n C dX6_provisionalOf_0 rfl rfl ?_
      refine x_aload_n C dX6_provisionalOf_1 rfl rfl ?_
      refine x_get C gcX6 hb0 13 rfl q537 rfl dX6_provisionalOf_2 ?_
      refine x_icmp_geN (tgt := 17) C (by omega) (by omega) dX6_provisionalOf_5 rfl (fun c5 => ?_) (fun c5 => ?_)
      · -- 17
        refine x_aload_n C dX6_provisionalOf_17 rfl rfl ?_
        refine x_get C gcX6 hb0 15 rfl q541 rfl dX6_provisionalOf_18 ?_
        refine x_getN C gcX1 hx0 4 rfl q1255 rfl dX6_provisionalOf_21 ?_
        refine x_iload_n C dX6_provisionalOf_24 rfl rfl ?_
        refine x_V1R C (met_X5_trader l C.1 hT htT) mi_X5_trader q587 gcX5 ht0 ⟨rfl, rfl⟩ rfl ⟨Nat.le_of_ble_eq_true rfl, Nat.le_of_ble_eq_true rfl⟩ rfl dX6_provisionalOf_25 (fun r6 M5 hr => ?_)
        obtain ⟨hr, rfl⟩ := hr
        rw [hr]
        refine x_astore_n C dX6_provisionalOf_28 rfl (gs1_3 rfl) rfl ?_
        refine x_aload_n C dX6_provisionalOf_29 rfl rfl ?_
        refine x_getN C gcX11 htr0 2 rfl q1440 rfl dX6_provisionalOf_30 ?_
        refine x_if_eqT (tgt := 49) C (by decide) dX6_provisionalOf_33 rfl ?_
        refine x_aload_n C dX6_provisionalOf_49 rfl rfl ?_
        refine x_iload_n C dX6_provisionalOf_50 rfl rfl ?_
        refine x_aload_n C dX6_provisionalOf_51 rfl rfl ?_
        refine x_get C gcX6 hb0 0 rfl q513 rfl dX6_provisionalOf_52 ?_
        refine x_iload_n C dX6_provisionalOf_55 rfl rfl ?_
        refine y_aaldR (ty := .array (.object "ExemptDesk$Sums")) (i := t) (b := ba (20 + t)) C 5 rfl rfl hBC.2.1 rfl (by omega) rfl rfl dX6_provisionalOf_56 ?_
        refine x_iload_n C dX6_provisionalOf_57 rfl rfl ?_
        refine y_aaldR (ty := .object "ExemptDesk$Sums") (i := q) (b := ba (1000 + 64 * t + q)) C 4 rfl rfl (hBC.2.2.2.1 t (by omega)) rfl (by omega) rfl rfl dX6_provisionalOf_58 ?_
        refine x_V2I C (met_X6_fractionBy l C.1 hBC hX hT hr4 hrx hrt hw hn hn6 (by omega) (hBC.2.2.2.2.2.1 t q (by omega) (by omega)) (hq.z (by omega) (by omega)) (hh _ (by omega))) mi_X6_fractionBy q1843 gcX6 hb0 ⟨rfl, rfl⟩ rfl ⟨Nat.le_of_ble_eq_true rfl, Nat.le_of_ble_eq_true rfl⟩ rfl dX6_provisionalOf_59 (fun r8 M7 hr => ?_)
        obtain ⟨hr, rfl⟩ := hr
        rw [hr]
        exact x_iret C dX6_provisionalOf_62 ⟨Nat.le_of_ble_eq_true rfl, Nat.le_of_ble_eq_true rfl⟩ ⟨rfl, by rw [if_neg (by omega), hbk]; unfold pProv; rw [if_pos (show nI 0 = 0 from rfl)]⟩
      · -- 8
        refine x_aload_n C dX6_provisionalOf_8 rfl rfl ?_
        refine x_get C gcX6 hb0 1 rfl q515 rfl dX6_provisionalOf_9 ?_
        refine x_iload_n C dX6_provisionalOf_12 rfl rfl ?_
        refine y_aaldR (ty := .array .int) (i := t) (b := ba (30 + t)) C 6 rfl rfl (hBC.2.2.1 0 (by omega)) rfl (by omega) rfl rfl dX6_provisionalOf_13 ?_
        refine x_iload_n C dX6_provisionalOf_14 rfl rfl ?_
        refine y_iald (i := q) C (hBC.r0 (t := t) (by omega)) rfl (by omega) rfl dX6_provisionalOf_15 ?_
        exact x_iret C dX6_provisionalOf_16 ⟨Nat.le_of_ble_eq_true rfl, Nat.le_of_ble_eq_true rfl⟩ ⟨rfl, by rw [if_pos (by omega)]; rfl⟩
  · -- basis 1
    by_cases hst : A 2 (8 * t + 6) = nI 1
    · -- start True
      rw [if_pos hst] at htr0
      refine x_iload_n C dX6_provisionalOf_0 rfl rfl ?_
      refine x_aload_n C dX6_provisionalOf_1 rfl rfl ?_
      refine x_get C gcX6 hb0 13 rfl q537 rfl dX6_provisionalOf_2 ?_
      refine x_icmp_geN (tgt := 17) C (by omega) (by omega) dX6_provisionalOf_5 rfl (fun c5 => ?_) (fun c5 => ?_)
      · -- 17
        refine x_aload_n C dX6_provisionalOf_17 rfl rfl ?_
        refine x_get C gcX6 hb0 15 rfl q541 rfl dX6_provisionalOf_18 ?_
        refine x_getN C gcX1 hx0 4 rfl q1255 rfl dX6_provisionalOf_21 ?_
        refine x_iload_n C dX6_provisionalOf_24 rfl rfl ?_
        refine x_V1R C (met_X5_trader l C.1 hT htT) mi_X5_trader q587 gcX5 ht0 ⟨rfl, rfl⟩ rfl ⟨Nat.le_of_ble_eq_true rfl, Nat.le_of_ble_eq_true rfl⟩ rfl dX6_provisionalOf_25 (fun r10 M9 hr => ?_)
        obtain ⟨hr, rfl⟩ := hr
        rw [hr]
        refine x_astore_n C dX6_provisionalOf_28 rfl (gs1_3 rfl) rfl ?_
        refine x_aload_n C dX6_provisionalOf_29 rfl rfl ?_
        refine x_getN C gcX11 htr0 2 rfl q1440 rfl dX6_provisionalOf_30 ?_
        refine x_if_eqF (tgt := 49) C (by decide) dX6_provisionalOf_33 rfl ?_
        refine x_iload_n C dX6_provisionalOf_36 rfl rfl ?_
        refine x_iconst C dX6_provisionalOf_37 kc_4 ?_
        refine x_icmp_geN (tgt := 63) C (by omega) (by omega) dX6_provisionalOf_38 rfl (fun c38 => ?_) (fun c38 => ?_)
        · -- 63
          refine x_iload_n C dX6_provisionalOf_63 rfl rfl ?_
          refine x_iconst C dX6_provisionalOf_64 kc_4 ?_
          refine x_icmp_geN (tgt := 88) C (by omega) (by omega) dX6_provisionalOf_65 rfl (fun _ => ?_) (fun _ => by exfalso; omega)
          refine x_aload_n C dX6_provisionalOf_88 rfl rfl ?_
          refine x_get C gcX6 hb0 3 rfl q518 rfl dX6_provisionalOf_89 ?_
          refine x_iload_n C dX6_provisionalOf_92 rfl rfl ?_
          refine y_aaldR (ty := .array .int) (i := t) (b := ba (50 + t)) C 6 rfl rfl (hBC.2.2.1 2 (by omega)) rfl (by omega) rfl rfl dX6_provisionalOf_93 ?_
          refine x_iload_n C dX6_provisionalOf_94 rfl rfl ?_
          refine x_iconst C dX6_provisionalOf_95 kc_4 ?_
          refine x_idivN C (by omega) (by omega) (by omega) dX6_provisionalOf_96 ?_
          refine x_iconst C dX6_provisionalOf_97 kc_1 ?_
          refine x_isubN C (by omega) dX6_provisionalOf_98 ?_
          refine y_iald (i := (q / 4) - 1) C (hBC.r2 (t := t) (by omega)) rfl (by omega) rfl dX6_provisionalOf_99 ?_
          exact x_iret C dX6_provisionalOf_100 ⟨Nat.le_of_ble_eq_true rfl, Nat.le_of_ble_eq_true rfl⟩ ⟨rfl, by rw [if_neg (by omega), hbk]; unfold pProv; rw [if_neg (by decide)]; rw [if_neg (by omega), if_pos (show nI 1 = nI 1 from rfl), show 1801 + 16 * t + q / 4 - 1 = 1801 + 16 * t + (q / 4 - 1) by omega]; rfl⟩
        · -- 41
          refine x_aload_n C dX6_provisionalOf_41 rfl rfl ?_
          refine x_getN C gcX11 htr0 5 rfl q1448 rfl dX6_provisionalOf_42 ?_
          refine x_iconst C dX6_provisionalOf_45 kc_m1 ?_
          refine x_icmp_neT (tgt := 63) C (hsn) dX6_provisionalOf_46 rfl ?_
          refine x_iload_n C dX6_provisionalOf_63 rfl rfl ?_
          refine x_iconst C dX6_provisionalOf_64 kc_4 ?_
          refine x_icmp_geN (tgt := 88) C (by omega) (by omega) dX6_provisionalOf_65 rfl (fun _ => by exfalso; omega) (fun _ => ?_)
          refine x_aload_n C dX6_provisionalOf_68 rfl rfl ?_
          refine x_getN C gcX11 htr0 5 rfl q1448 rfl dX6_provisionalOf_69 ?_
          refine x_aload_n C dX6_provisionalOf_72 rfl rfl ?_
          refine x_get C gcX6 hb0 15 rfl q541 rfl dX6_provisionalOf_73 ?_
          refine x_getN C gcX1 hx0 4 rfl q1255 rfl dX6_provisionalOf_76 ?_
          refine x_getN C gcX5 ht0 5 rfl q405 rfl dX6_provisionalOf_79 ?_
          refine x_S2I C (met_J0_min l C.1) mi_J0_min q1857 ⟨rfl, rfl⟩ rfl ⟨Nat.le_of_ble_eq_true rfl, Nat.le_of_ble_eq_true rfl⟩ rfl dX6_provisionalOf_82 (fun r12 M11 hr => ?_)
          obtain ⟨hr, rfl⟩ := hr
          rw [hr]
          refine x_goto (tgt := 100) C dX6_provisionalOf_85 rfl ?_
          exact x_iret C dX6_provisionalOf_100 ⟨Nat.le_of_ble_eq_true rfl, Nat.le_of_ble_eq_true rfl⟩ ⟨rfl, by rw [if_neg (by omega), hbk]; unfold pProv; rw [if_neg (by decide)]; rw [if_pos (by omega), if_pos hst, pMin_fst]; rfl⟩
      · -- 8
        refine x_aload_n C dX6_provisionalOf_8 rfl rfl ?_
        refine x_get C gcX6 hb0 1 rfl q515 rfl dX6_provisionalOf_9 ?_
        refine x_iload_n C dX6_provisionalOf_12 rfl rfl ?_
        refine y_aaldR (ty := .array .int) (i := t) (b := ba (30 + t)) C 6 rfl rfl (hBC.2.2.1 0 (by omega)) rfl (by omega) rfl rfl dX6_provisionalOf_13 ?_
        refine x_iload_n C dX6_provisionalOf_14 rfl rfl ?_
        refine y_iald (i := q) C (hBC.r0 (t := t) (by omega)) rfl (by omega) rfl dX6_provisionalOf_15 ?_
        exact x_iret C dX6_provisionalOf_16 ⟨Nat.le_of_ble_eq_true rfl, Nat.le_of_ble_eq_true rfl⟩ ⟨rfl, by rw [if_pos (by omega)]; rfl⟩
    · -- start False
      rw [if_neg hst] at htr0
      refine x_iload_n C dX6_provisionalOf_0 rfl rfl ?_
      refine x_aload_n C dX6_provisionalOf_1 rfl rfl ?_
      refine x_get C gcX6 hb0 13 rfl q537 rfl dX6_provisionalOf_2 ?_
      refine x_icmp_geN (tgt := 17) C (by omega) (by omega) dX6_provisionalOf_5 rfl (fun c5 => ?_) (fun c5 => ?_)
      · -- 17
        refine x_aload_n C dX6_provisionalOf_17 rfl rfl ?_
        refine x_get C gcX6 hb0 15 rfl q541 rfl dX6_provisionalOf_18 ?_
        refine x_getN C gcX1 hx0 4 rfl q1255 rfl dX6_provisionalOf_21 ?_
        refine x_iload_n C dX6_provisionalOf_24 rfl rfl ?_
        refine x_V1R C (met_X5_trader l C.1 hT htT) mi_X5_trader q587 gcX5 ht0 ⟨rfl, rfl⟩ rfl ⟨Nat.le_of_ble_eq_true rfl, Nat.le_of_ble_eq_true rfl⟩ rfl dX6_provisionalOf_25 (fun r14 M13 hr => ?_)
        obtain ⟨hr, rfl⟩ := hr
        rw [hr]
        refine x_astore_n C dX6_provisionalOf_28 rfl (gs1_3 rfl) rfl ?_
        refine x_aload_n C dX6_provisionalOf_29 rfl rfl ?_
        refine x_getN C gcX11 htr0 2 rfl q1440 rfl dX6_provisionalOf_30 ?_
        refine x_if_eqF (tgt := 49) C (by decide) dX6_provisionalOf_33 rfl ?_
        refine x_iload_n C dX6_provisionalOf_36 rfl rfl ?_
        refine x_iconst C dX6_provisionalOf_37 kc_4 ?_
        refine x_icmp_geN (tgt := 63) C (by omega) (by omega) dX6_provisionalOf_38 rfl (fun c38 => ?_) (fun c38 => ?_)
        · -- 63
          refine x_iload_n C dX6_provisionalOf_63 rfl rfl ?_
          refine x_iconst C dX6_provisionalOf_64 kc_4 ?_
          refine x_icmp_geN (tgt := 88) C (by omega) (by omega) dX6_provisionalOf_65 rfl (fun _ => ?_) (fun _ => by exfalso; omega)
          refine x_aload_n C dX6_provisionalOf_88 rfl rfl ?_
          refine x_get C gcX6 hb0 3 rfl q518 rfl dX6_provisionalOf_89 ?_
          refine x_iload_n C dX6_provisionalOf_92 rfl rfl ?_
          refine y_aaldR (ty := .array .int) (i := t) (b := ba (50 + t)) C 6 rfl rfl (hBC.2.2.1 2 (by omega)) rfl (by omega) rfl rfl dX6_provisionalOf_93 ?_
          refine x_iload_n C dX6_provisionalOf_94 rfl rfl ?_
          refine x_iconst C dX6_provisionalOf_95 kc_4 ?_
          refine x_idivN C (by omega) (by omega) (by omega) dX6_provisionalOf_96 ?_
          refine x_iconst C dX6_provisionalOf_97 kc_1 ?_
          refine x_isubN C (by omega) dX6_provisionalOf_98 ?_
          refine y_iald (i := (q / 4) - 1) C (hBC.r2 (t := t) (by omega)) rfl (by omega) rfl dX6_provisionalOf_99 ?_
          exact x_iret C dX6_provisionalOf_100 ⟨Nat.le_of_ble_eq_true rfl, Nat.le_of_ble_eq_true rfl⟩ ⟨rfl, by rw [if_neg (by omega), hbk]; unfold pProv; rw [if_neg (by decide)]; rw [if_neg (by omega), if_pos (show nI 1 = nI 1 from rfl), show 1801 + 16 * t + q / 4 - 1 = 1801 + 16 * t + (q / 4 - 1) by omega]; rfl⟩
        · -- 41
          refine x_aload_n C dX6_provisionalOf_41 rfl rfl ?_
          refine x_getN C gcX11 htr0 5 rfl q1448 rfl dX6_provisionalOf_42 ?_
          refine x_iconst C dX6_provisionalOf_45 kc_m1 ?_
          refine x_icmp_neF (tgt := 63) C (rfl) dX6_provisionalOf_46 rfl ?_
          refine x_aload_n C dX6_provisionalOf_49 rfl rfl ?_
          refine x_iload_n C dX6_provisionalOf_50 rfl rfl ?_
          refine x_aload_n C dX6_provisionalOf_51 rfl rfl ?_
          refine x_get C gcX6 hb0 0 rfl q513 rfl dX6_provisionalOf_52 ?_
          refine x_iload_n C dX6_provisionalOf_55 rfl rfl ?_
          refine y_aaldR (ty := .array (.object "ExemptDesk$Sums")) (i := t) (b := ba (20 + t)) C 5 rfl rfl hBC.2.1 rfl (by omega) rfl rfl dX6_provisionalOf_56 ?_
          refine x_iload_n C dX6_provisionalOf_57 rfl rfl ?_
          refine y_aaldR (ty := .object "ExemptDesk$Sums") (i := q) (b := ba (1000 + 64 * t + q)) C 4 rfl rfl (hBC.2.2.2.1 t (by omega)) rfl (by omega) rfl rfl dX6_provisionalOf_58 ?_
          refine x_V2I C (met_X6_fractionBy l C.1 hBC hX hT hr4 hrx hrt hw hn hn6 (by omega) (hBC.2.2.2.2.2.1 t q (by omega) (by omega)) (hq.z (by omega) (by omega)) (hh _ (by omega))) mi_X6_fractionBy q1843 gcX6 hb0 ⟨rfl, rfl⟩ rfl ⟨Nat.le_of_ble_eq_true rfl, Nat.le_of_ble_eq_true rfl⟩ rfl dX6_provisionalOf_59 (fun r16 M15 hr => ?_)
          obtain ⟨hr, rfl⟩ := hr
          rw [hr]
          exact x_iret C dX6_provisionalOf_62 ⟨Nat.le_of_ble_eq_true rfl, Nat.le_of_ble_eq_true rfl⟩ ⟨rfl, by rw [if_neg (by omega), hbk]; unfold pProv; rw [if_neg (by decide)]; rw [if_pos (by omega), if_neg hst]⟩
      · -- 8
        refine x_aload_n C dX6_provisionalOf_8 rfl rfl ?_
        refine x_get C gcX6 hb0 1 rfl q515 rfl dX6_provisionalOf_9 ?_
        refine x_iload_n C dX6_provisionalOf_12 rfl rfl ?_
        refine y_aaldR (ty := .array .int) (i := t) (b := ba (30 + t)) C 6 rfl rfl (hBC.2.2.1 0 (by omega)) rfl (by omega) rfl rfl dX6_provisionalOf_13 ?_
        refine x_iload_n C dX6_provisionalOf_14 rfl rfl ?_
        refine y_iald (i := q) C (hBC.r0 (t := t) (by omega)) rfl (by omega) rfl dX6_provisionalOf_15 ?_
        exact x_iret C dX6_provisionalOf_16 ⟨Nat.le_of_ble_eq_true rfl, Nat.le_of_ble_eq_true rfl⟩ ⟨rfl, by rw [if_pos (by omega)]; rfl⟩
theorem mi_X6_backOfYear : gMV RX6 yX6_backOfYear cX6_backOfYear 3 (some .int) 2 := ⟨q2086, q2087, q140, q2088, by decide +kernel⟩
set_option maxHeartbeats 4000000 in
set_option maxRecDepth 100000 in
theorem met_X6_backOfYear (l : Launch) {G : gG} (hG : gOK G) {M0 : gM} {r x : Nat} {ba : Nat → Nat} {B : Nat → Int32} {D : Nat → Nat → Int32} {Z : Nat → Int64} {tx wl ml : Nat} {wf mf : Nat → Nat} {rt : Nat} {ta : Nat → Nat} {mc : Nat → Int32} {nd it : Nat → Nat → Nat} {A : Nat → Nat → Int32} {ln : Int32} {T n : Nat} {t y : Nat} (hBC : BC G r ba x (pQS B) (bf B D) (bo B) (B 0) (B 1866) Z M0) (hX : XW G x tx wl ml wf mf M0) (hT : TR G rt tx ta mc nd it (cA T A) (trA A) (wA A ln) M0) (hr4 : 4 ≤ r) (hrx : r ≠ x + 4) (hrt : r ≠ rt) (hw : wT T A) (hn : B 0 = nI n) (hn6 : n < 64) (htT : t < T) (hy16 : y < 16) (hq : qB B) (hh : hdB B) (hrb : rB A B) : Met l yX6_backOfYear (ws_ yX6_backOfYear cX6_backOfYear 3 (some .int)) ({ frames := 7, cells := 0, slots := 0, locals := 167 }) (gPre G M0 [.ref (ba 0), .int (nI t), .int (nI y)]) (gQ G (gI (fun r9 M1 => BC G r ba x (pQS B) (bf B D) (bo B) (B 0) (B 1866) (pYS B t y) M1 ∧ (∀ z, z ≠ ba 10 → M1 z = M0 z) ∧ pYB A B t y = r9))) 0 0 (gA G) := by
  refine gMet (L0 := [some (.ref (ba 0)), some (.int (nI t)), some (.int (nI y))]) RX6 hG (by decide +kernel) rfl (Nat.le_of_ble_eq_true rfl) rfl ?_
  intro p e s m args below meth c C hnm
  obtain ⟨wk, hwk, hwk3⟩ := isN_to hw.way
  have hsI := hw.stepI
  obtain ⟨⟨vs, hx0⟩, ⟨wq, hwl, hwq⟩, ⟨mq, hml, hmq⟩, hWY, hMT⟩ := id hX
  have ht0 : M0 tx = some ((rt, 0), .inr (20, [.ref (ta 1), .ref (ta 2), .ref (ta 3), .ref (ta 4), .int (A 6 0), .int (A 6 1), .int (A 6 2), .int (A 6 3), .int ln])) := hT.1
  rw [hwk] at ht0
  have hb0 := hBC.1
  rw [hn] at hb0
  obtain ⟨jw, aw, hwc, -⟩ := hWY wk (by omega)
  have hT4 := hw.T4
  refine x_aload_n C dX6_backOfYear_0 rfl rfl ?_
  refine x_iload_n C dX6_backOfYear_1 rfl rfl ?_
  refine x_iload_n C dX6_backOfYear_2 rfl rfl ?_
  refine x_V2R C (met_X6_ofYear l C.1 hBC hX hT hr4 hrx hrt hw hn hn6 (by omega) (by omega)) mi_X6_ofYear q1926 gcX6 hb0 ⟨rfl, rfl⟩ rfl ⟨Nat.le_of_ble_eq_true rfl, Nat.le_of_ble_eq_true rfl⟩ rfl dX6_backOfYear_3 (fun r2 M1 hr => ?_)
  obtain ⟨rfl, hb3, k4⟩ := hr
  have hBc6 := hBC.year (Z' := (pYS B t y)) hb3.2.2.2.2.2.2.2 k4
  have hf9 := hBC.fl10 ⟨_, hBc6⟩ k4
  have hXc7 := hX.k10 hf9 hr4 hrx
  have hTc8 := hT.k10 hf9 hrt
  obtain ⟨⟨vshBc6, hx0hBc6⟩, ⟨wqhBc6, hwlhBc6, hwqhBc6⟩, ⟨mqhBc6, hmlhBc6, hmqhBc6⟩, hWYhBc6, hMThBc6⟩ := id hXc7
  have ht0hBc6 : M1 tx = some ((rt, 0), .inr (20, [.ref (ta 1), .ref (ta 2), .ref (ta 3), .ref (ta 4), .int (A 6 0), .int (A 6 1), .int (A 6 2), .int (A 6 3), .int ln])) := hTc8.1
  rw [hwk] at ht0hBc6
  have hb0hBc6 := hBc6.1
  rw [hn] at hb0hBc6
  obtain ⟨jwhBc6, awhBc6, hwchBc6, -⟩ := hWYhBc6 wk (by omega)
  refine x_aload_n C dX6_backOfYear_6 rfl rfl ?_
  refine x_iload_n C dX6_backOfYear_7 rfl rfl ?_
  refine x_iload_n C dX6_backOfYear_8 rfl rfl ?_
  refine x_V2I C (met_X6_annualOf l C.1 hBc6 hXc7 hTc8 hr4 hrx hrt hw hn hn6 (by omega) (by omega) hq hh) mi_X6_annualOf q2089 gcX6 hb0hBc6 ⟨rfl, rfl⟩ rfl ⟨Nat.le_of_ble_eq_true rfl, Nat.le_of_ble_eq_true rfl⟩ rfl dX6_backOfYear_9 (fun r11 M10 hr => ?_)
  obtain ⟨⟨Z15, hb12, hz14⟩, k13, rfl⟩ := hr
  obtain rfl : Z15 = pYS B t y := hz14.elim id id
  have hBc16 := hBc6.year (Z' := (pYS B t y)) hb12.2.2.2.2.2.2.2 k13
  have hf19 := hBc6.fl10 ⟨_, hBc16⟩ k13
  have hXc17 := hXc7.k10 hf19 hr4 hrx
  have hTc18 := hTc8.k10 hf19 hrt
  have k20 : ∀ zz : Nat, zz ≠ ba 10 → M10 zz = M0 zz := fun zz hz => (k13 zz hz).trans (k4 zz hz)
  obtain ⟨⟨vshBc16, hx0hBc16⟩, ⟨wqhBc16, hwlhBc16, hwqhBc16⟩, ⟨mqhBc16, hmlhBc16, hmqhBc16⟩, hWYhBc16, hMThBc16⟩ := id hXc17
  have ht0hBc16 : M10 tx = some ((rt, 0), .inr (20, [.ref (ta 1), .ref (ta 2), .ref (ta 3), .ref (ta 4), .int (A 6 0), .int (A 6 1), .int (A 6 2), .int (A 6 3), .int ln])) := hTc18.1
  rw [hwk] at ht0hBc16
  have hb0hBc16 := hBc16.1
  rw [hn] at hb0hBc16
  obtain ⟨jwhBc16, awhBc16, hwchBc16, -⟩ := hWYhBc16 wk (by omega)
  refine x_aload_n C dX6_backOfYear_12 rfl rfl ?_
  refine x_get C gcX6 hb0hBc16 15 rfl q541 rfl dX6_backOfYear_13 ?_
  refine x_getN C gcX1 hx0hBc16 4 rfl q1255 rfl dX6_backOfYear_16 ?_
  refine x_getN C gcX5 ht0hBc16 5 rfl q405 rfl dX6_backOfYear_19 ?_
  refine x_aload_n C dX6_backOfYear_22 rfl rfl ?_
  refine x_V0R C (met_X6_way l C.1 hBc16 hXc17 hTc18 hr4 hrx hrt hw hn hn6) mi_X6_way q1588 gcX6 hb0hBc16 ⟨rfl, rfl⟩ rfl ⟨Nat.le_of_ble_eq_true rfl, Nat.le_of_ble_eq_true rfl⟩ rfl dX6_backOfYear_23 (fun r22 M21 hr => ?_)
  obtain ⟨hr, wk', hwk', hw3', rfl⟩ := hr
  rw [hr]
  have ew : wk = wk' := nI_inj (by omega) (by omega) (hwk.symm.trans hwk'); subst ew
  refine x_aload_n C dX6_backOfYear_26 rfl rfl ?_
  refine x_get C gcX6 hb0hBc16 15 rfl q541 rfl dX6_backOfYear_27 ?_
  refine x_getN C gcX1 hx0hBc16 4 rfl q1255 rfl dX6_backOfYear_30 ?_
  refine x_getN C gcX5 ht0hBc16 6 rfl q409 rfl dX6_backOfYear_33 ?_
  refine x_V4I C (met_X7_back l C.1 hBc16.2.2.2.2.2.2.2 (hWYhBc16 wk (by omega)) (hq.y (by omega) (by omega)) (pAnn_fB hw hq hh hrb (by omega) (by omega))) mi_X7_back q1858 gcX7 hBc16.2.2.2.2.2.2.2.1 ⟨rfl, rfl⟩ rfl ⟨Nat.le_of_ble_eq_true rfl, Nat.le_of_ble_eq_true rfl⟩ rfl dX6_backOfYear_36 (fun r24 M23 hr => ?_)
  obtain ⟨hr, rfl⟩ := hr
  rw [hr]
  exact x_iret C dX6_backOfYear_39 ⟨Nat.le_of_ble_eq_true rfl, Nat.le_of_ble_eq_true rfl⟩ ⟨hBc16, k20, by unfold pYB pBk; rw [hwk]⟩
theorem mi_X6_bookedIn : gMV RX6 yX6_bookedIn cX6_bookedIn 5 (some .int) 2 := ⟨q1939, q1940, q140, q1941, by decide +kernel⟩
set_option maxHeartbeats 4000000 in
set_option maxRecDepth 100000 in
theorem met_X6_bookedIn (l : Launch) {G : gG} (hG : gOK G) {M0 : gM} {r x : Nat} {ba : Nat → Nat} {B : Nat → Int32} {D : Nat → Nat → Int32} {Z : Nat → Int64} {tx wl ml : Nat} {wf mf : Nat → Nat} {rt : Nat} {ta : Nat → Nat} {mc : Nat → Int32} {nd it : Nat → Nat → Nat} {A : Nat → Nat → Int32} {ln : Int32} {T n : Nat} {t y : Nat} (hBC : BC G r ba x (pQS B) (bf B D) (bo B) (B 0) (B 1866) Z M0) (hX : XW G x tx wl ml wf mf M0) (hT : TR G rt tx ta mc nd it (cA T A) (trA A) (wA A ln) M0) (hr4 : 4 ≤ r) (hrx : r ≠ x + 4) (hrt : r ≠ rt) (hw : wT T A) (hn : B 0 = nI n) (hn6 : n < 64) (ht4 : t < 4) (hy16 : y < 16) : Met l yX6_bookedIn (ws_ yX6_bookedIn cX6_bookedIn 5 (some .int)) ({ frames := 1, cells := 0, slots := 0, locals := 21 }) (gPre G M0 [.ref (ba 0), .int (nI t), .int (nI y)]) (gQ G (gI (fun r9 M1 => M1 = M0 ∧ pBin B t y (pK n y) = r9))) 0 0 (gA G) := by
  refine gMet (L0 := [some (.ref (ba 0)), some (.int (nI t)), some (.int (nI y)), none, none]) RX6 hG (by decide +kernel) rfl (Nat.le_of_ble_eq_true rfl) rfl ?_
  intro p e s m args below meth c C hnm
  obtain ⟨wk, hwk, hwk3⟩ := isN_to hw.way
  have hsI := hw.stepI
  obtain ⟨⟨vs, hx0⟩, ⟨wq, hwl, hwq⟩, ⟨mq, hml, hmq⟩, hWY, hMT⟩ := id hX
  have ht0 : M0 tx = some ((rt, 0), .inr (20, [.ref (ta 1), .ref (ta 2), .ref (ta 3), .ref (ta 4), .int (A 6 0), .int (A 6 1), .int (A 6 2), .int (A 6 3), .int ln])) := hT.1
  rw [hwk] at ht0
  have hb0 := hBC.1
  rw [hn] at hb0
  obtain ⟨jw, aw, hwc, -⟩ := hWY wk (by omega)
  refine x_iconst C dX6_bookedIn_0 kc_0 ?_
  refine x_istore_n C dX6_bookedIn_1 rfl (gs1_3 rfl) rfl ?_
  refine x_iconst C dX6_bookedIn_2 kc_4 ?_
  refine x_iload_n C dX6_bookedIn_3 rfl rfl ?_
  refine x_imulN C dX6_bookedIn_4 ?_
  refine x_istore C dX6_bookedIn_5 (gs1_4 rfl) rfl ?_
  obtain ⟨m9, hm9, hk4, hk9, hm100⟩ := pK_min hn6 hy16
  refine x_loop (head := 7) (E := pK n y) (fun i M => M = M0) (fun i => [some (.ref (ba 0)), some (.int (nI t)), some (.int (nI y)), some (.int (pBin B t y i)), some (.int (nI (4 * y + i)))]) rfl (fun i M hi hI ih => ?_)
  subst hI
  show gX G p l e _ s m args below meth c 5 _ M _ _ 7 [some (.ref (ba 0)), some (.int (nI t)), some (.int (nI y)), some (.int (pBin B t y i)), some (.int (nI (4 * y + i)))] []
  refine x_iload C dX6_bookedIn_7 rfl ?_
  refine x_aload_n C dX6_bookedIn_9 rfl rfl ?_
  refine x_get C gcX6 hb0 13 rfl q537 rfl dX6_bookedIn_10 ?_
  refine x_iconst C dX6_bookedIn_13 kc_4 ?_
  refine x_iload_n C dX6_bookedIn_14 rfl rfl ?_
  refine x_imulN C dX6_bookedIn_15 ?_
  refine x_iconst C dX6_bookedIn_16 kc_4 ?_
  refine x_iaddN C dX6_bookedIn_17 ?_
  refine x_S2I C (met_J0_min l C.1) mi_J0_min q1857 ⟨rfl, rfl⟩ rfl ⟨Nat.le_of_ble_eq_true rfl, Nat.le_of_ble_eq_true rfl⟩ rfl dX6_bookedIn_18 (fun r2 M1 hr => ?_)
  obtain ⟨hr, rfl⟩ := hr
  rw [hr, hm9]
  refine x_icmp_geN (tgt := 42) C (by omega) (by omega) dX6_bookedIn_21 rfl (fun c21 => ?_) (fun c21 => ?_)
  · -- 42
    refine x_iload_n C dX6_bookedIn_42 rfl rfl ?_
    exact x_iret C dX6_bookedIn_43 ⟨Nat.le_of_ble_eq_true rfl, Nat.le_of_ble_eq_true rfl⟩ ⟨rfl, by rw [show pK n y = i by omega]⟩
  · -- 24
    refine x_iload_n C dX6_bookedIn_24 rfl rfl ?_
    refine x_aload_n C dX6_bookedIn_25 rfl rfl ?_
    refine x_get C gcX6 hb0 2 rfl q516 rfl dX6_bookedIn_26 ?_
    refine x_iload_n C dX6_bookedIn_29 rfl rfl ?_
    refine y_aaldR (ty := .array .int) (i := t) (b := ba (40 + t)) C 6 rfl rfl (hBC.2.2.1 1 (by omega)) rfl (by omega) rfl rfl dX6_bookedIn_30 ?_
    refine x_iload C dX6_bookedIn_31 rfl ?_
    refine y_iald (i := 4 * y + i) C (hBC.r1 (t := t) (by omega)) rfl (by omega) rfl dX6_bookedIn_33 ?_
    refine x_iadd C dX6_bookedIn_34 ?_
    refine x_istore_n C dX6_bookedIn_35 rfl (gs1_3 rfl) rfl ?_
    refine x_iincN (z := 1) C dX6_bookedIn_36 rfl (gs1_4 rfl) rfl ?_
    refine x_goto (tgt := 7) C dX6_bookedIn_39 rfl ?_
    exact ih (by omega) _ rfl
