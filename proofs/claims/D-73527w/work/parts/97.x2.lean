set_option maxRecDepth 100000
theorem mi_X12_init : gMI yX12_init cX12_init 5 4 := ⟨q1494, q168, q1495, rfl, by decide +kernel⟩
set_option maxHeartbeats 4000000 in
set_option maxRecDepth 100000 in
theorem met_X12_init (l : Launch) {G : gG} (hG : gOK G) {M0 : gM} {a : Nat} {lab : Nat × Nat} {t q d n : Int32} (h0 : M0 a = some (lab, .inr (27, [.int (nI 0), .int (nI 0), .int (nI 0), .int (nI 0)]))) : Met l yX12_init (ws_ yX12_init cX12_init 5 none) ({ frames := 1, cells := 0, slots := 0, locals := 12 }) (gPre G M0 [.ref (a), .int (t), .int (q), .int (d), .int (n)]) (gQ G (gV (fun M1 => M1 a = some (lab, .inr (27, [.int (t), .int (q), .int (d), .int (n)])) ∧ ∀ z, z ≠ a → M1 z = M0 z))) 0 0 (gA G) := by
  refine gMet (L0 := [some (.ref (a)), some (.int (t)), some (.int (q)), some (.int (d)), some (.int (n))]) RX12 hG (by decide +kernel) rfl (Nat.le_of_ble_eq_true rfl) rfl ?_
  intro p e s m args below meth c C hnm
  refine x_aload_n C dX12_init_0 rfl rfl ?_
  refine x_objInit C q1496 q182 q183 rfl dX12_init_1 ?_
  refine x_aload_n C dX12_init_4 rfl rfl ?_
  refine x_iload_n C dX12_init_5 rfl rfl ?_
  refine y_putF (fs' := [.int (t), .int (nI 0), .int (nI 0), .int (nI 0)]) C (hnm rfl) gcX12 h0 0 rfl q1497 rfl rfl rfl rfl rfl rfl dX12_init_6 (fun M1 h2 k3 => ?_)
  have k4 : ∀ zz : Nat, zz ≠ a → M1 zz = M0 zz := fun zz z0 => k3 zz z0
  refine x_aload_n C dX12_init_9 rfl rfl ?_
  refine x_iload_n C dX12_init_10 rfl rfl ?_
  refine y_putF (fs' := [.int (t), .int (q), .int (nI 0), .int (nI 0)]) C (hnm rfl) gcX12 h2 1 rfl q1502 rfl rfl rfl rfl rfl rfl dX12_init_11 (fun M5 h6 k7 => ?_)
  have k8 : ∀ zz : Nat, zz ≠ a → M5 zz = M0 zz := fun zz z0 => (k7 zz z0).trans (k4 zz z0)
  refine x_aload_n C dX12_init_14 rfl rfl ?_
  refine x_iload_n C dX12_init_15 rfl rfl ?_
  refine y_putF (fs' := [.int (t), .int (q), .int (d), .int (nI 0)]) C (hnm rfl) gcX12 h6 2 rfl q1507 rfl rfl rfl rfl rfl rfl dX12_init_16 (fun M9 h10 k11 => ?_)
  have k12 : ∀ zz : Nat, zz ≠ a → M9 zz = M0 zz := fun zz z0 => (k11 zz z0).trans (k8 zz z0)
  refine x_aload_n C dX12_init_19 rfl rfl ?_
  refine x_iload C dX12_init_20 rfl ?_
  refine y_putF (fs' := [.int (t), .int (q), .int (d), .int (n)]) C (hnm rfl) gcX12 h10 3 rfl q1512 rfl rfl rfl rfl rfl rfl dX12_init_22 (fun M13 h14 k15 => ?_)
  have k16 : ∀ zz : Nat, zz ≠ a → M13 zz = M0 zz := fun zz z0 => (k15 zz z0).trans (k12 zz z0)
  exact x_vret C dX12_init_25 ⟨Nat.le_of_ble_eq_true rfl, Nat.le_of_ble_eq_true rfl⟩ ⟨h14, k16⟩
set_option maxHeartbeats 4000000 in
set_option maxRecDepth 100000 in
theorem met_X12_init_sub (l : Launch) {G : gG} (hG : gOK G) {M0 : gM} {a : Nat} {lab : Nat × Nat} {t q d n : Int32} (h0 : M0 a = some (lab, .inr (28, [.int (nI 0), .int (nI 0), .int (nI 0), .int (nI 0), .int (nI 0)]))) : Met l yX12_init (ws_ yX12_init cX12_init 5 none) ({ frames := 1, cells := 0, slots := 0, locals := 12 }) (gPre G M0 [.ref (a), .int (t), .int (q), .int (d), .int (n)]) (gQ G (gV (fun M1 => M1 a = some (lab, .inr (28, [.int (t), .int (q), .int (d), .int (n), .int (nI 0)])) ∧ ∀ z, z ≠ a → M1 z = M0 z))) 0 0 (gA G) := by
  refine gMet (L0 := [some (.ref (a)), some (.int (t)), some (.int (q)), some (.int (d)), some (.int (n))]) RX12 hG (by decide +kernel) rfl (Nat.le_of_ble_eq_true rfl) rfl ?_
  intro p e s m args below meth c C hnm
  refine x_aload_n C dX12_init_0 rfl rfl ?_
  refine x_objInit C q1496 q182 q183 rfl dX12_init_1 ?_
  refine x_aload_n C dX12_init_4 rfl rfl ?_
  refine x_iload_n C dX12_init_5 rfl rfl ?_
  refine y_putF (fs' := [.int (t), .int (nI 0), .int (nI 0), .int (nI 0), .int (nI 0)]) C (hnm rfl) gcX13 h0 0 rfl q1497 rfl rfl rfl rfl rfl rfl dX12_init_6 (fun M1 h2 k3 => ?_)
  have k4 : ∀ zz : Nat, zz ≠ a → M1 zz = M0 zz := fun zz z0 => k3 zz z0
  refine x_aload_n C dX12_init_9 rfl rfl ?_
  refine x_iload_n C dX12_init_10 rfl rfl ?_
  refine y_putF (fs' := [.int (t), .int (q), .int (nI 0), .int (nI 0), .int (nI 0)]) C (hnm rfl) gcX13 h2 1 rfl q1502 rfl rfl rfl rfl rfl rfl dX12_init_11 (fun M5 h6 k7 => ?_)
  have k8 : ∀ zz : Nat, zz ≠ a → M5 zz = M0 zz := fun zz z0 => (k7 zz z0).trans (k4 zz z0)
  refine x_aload_n C dX12_init_14 rfl rfl ?_
  refine x_iload_n C dX12_init_15 rfl rfl ?_
  refine y_putF (fs' := [.int (t), .int (q), .int (d), .int (nI 0), .int (nI 0)]) C (hnm rfl) gcX13 h6 2 rfl q1507 rfl rfl rfl rfl rfl rfl dX12_init_16 (fun M9 h10 k11 => ?_)
  have k12 : ∀ zz : Nat, zz ≠ a → M9 zz = M0 zz := fun zz z0 => (k11 zz z0).trans (k8 zz z0)
  refine x_aload_n C dX12_init_19 rfl rfl ?_
  refine x_iload C dX12_init_20 rfl ?_
  refine y_putF (fs' := [.int (t), .int (q), .int (d), .int (n), .int (nI 0)]) C (hnm rfl) gcX13 h10 3 rfl q1512 rfl rfl rfl rfl rfl rfl dX12_init_22 (fun M13 h14 k15 => ?_)
  have k16 : ∀ zz : Nat, zz ≠ a → M13 zz = M0 zz := fun zz z0 => (k15 zz z0).trans (k12 zz z0)
  exact x_vret C dX12_init_25 ⟨Nat.le_of_ble_eq_true rfl, Nat.le_of_ble_eq_true rfl⟩ ⟨h14, k16⟩
theorem mi_X13_init : gMI yX13_init cX13_init 6 5 := ⟨q1536, q169, q1537, rfl, by decide +kernel⟩
set_option maxHeartbeats 4000000 in
set_option maxRecDepth 100000 in
theorem met_X13_init (l : Launch) {G : gG} (hG : gOK G) {M0 : gM} {a : Nat} {lab : Nat × Nat} {t q d n w : Int32} (h0 : M0 a = some (lab, .inr (28, [.int (nI 0), .int (nI 0), .int (nI 0), .int (nI 0), .int (nI 0)]))) : Met l yX13_init (ws_ yX13_init cX13_init 6 none) ({ frames := 2, cells := 0, slots := 0, locals := 36 }) (gPre G M0 [.ref (a), .int (t), .int (q), .int (d), .int (n), .int (w)]) (gQ G (gV (fun M1 => M1 a = some (lab, .inr (28, [.int (t), .int (q), .int (d), .int (n), .int (w)])) ∧ ∀ z, z ≠ a → M1 z = M0 z))) 0 0 (gA G) := by
  refine gMet (L0 := [some (.ref (a)), some (.int (t)), some (.int (q)), some (.int (d)), some (.int (n)), some (.int (w))]) RX13 hG (by decide +kernel) rfl (Nat.le_of_ble_eq_true rfl) rfl ?_
  intro p e s m args below meth c C hnm
  refine x_aload_n C dX13_init_0 rfl rfl ?_
  refine x_iload_n C dX13_init_1 rfl rfl ?_
  refine x_iload_n C dX13_init_2 rfl rfl ?_
  refine x_iload_n C dX13_init_3 rfl rfl ?_
  refine x_iload C dX13_init_4 rfl ?_
  refine x_I4 C (met_X12_init_sub l C.1 h0) mi_X12_init q1538 ⟨rfl, rfl⟩ rfl ⟨Nat.le_of_ble_eq_true rfl, Nat.le_of_ble_eq_true rfl⟩ rfl dX13_init_6 (fun M1 hr => ?_)
  obtain ⟨h2, k3⟩ := hr
  have k4 : ∀ zz : Nat, zz ≠ a → M1 zz = M0 zz := fun zz z0 => k3 zz z0
  refine x_aload_n C dX13_init_9 rfl rfl ?_
  refine x_iload C dX13_init_10 rfl ?_
  refine y_putF (fs' := [.int (t), .int (q), .int (d), .int (n), .int (w)]) C (hnm rfl) gcX13 h2 4 rfl q1539 rfl rfl rfl rfl rfl rfl dX13_init_12 (fun M5 h6 k7 => ?_)
  have k8 : ∀ zz : Nat, zz ≠ a → M5 zz = M0 zz := fun zz z0 => (k7 zz z0).trans (k4 zz z0)
  exact x_vret C dX13_init_15 ⟨Nat.le_of_ble_eq_true rfl, Nat.le_of_ble_eq_true rfl⟩ ⟨h6, k8⟩
theorem mi_X11_init : gMI yX11_init cX11_init 4 3 := ⟨q1431, q167, q1432, rfl, by decide +kernel⟩
set_option maxHeartbeats 4000000 in
set_option maxRecDepth 100000 in
theorem met_X11_init (l : Launch) {G : gG} (hG : gOK G) {M0 : gM} {a : Nat} {lab : Nat × Nat} {n md b : Int32} (h0 : M0 a = some (lab, .inr (26, [.int (nI 0), .int (nI 0), .int (nI 0), .int (nI 0), .int (nI 0), .int (nI 0)]))) : Met l yX11_init (ws_ yX11_init cX11_init 4 none) ({ frames := 1, cells := 0, slots := 0, locals := 12 }) (gPre G M0 [.ref (a), .int (n), .int (md), .int (b)]) (gQ G (gV (fun M1 => M1 a = some (lab, .inr (26, [.int (n), .int (md), .int (b), .int ((-1)), .int (nI 0), .int ((-1))])) ∧ ∀ z, z ≠ a → M1 z = M0 z))) 0 0 (gA G) := by
  refine gMet (L0 := [some (.ref (a)), some (.int (n)), some (.int (md)), some (.int (b))]) RX11 hG (by decide +kernel) rfl (Nat.le_of_ble_eq_true rfl) rfl ?_
  intro p e s m args below meth c C hnm
  refine x_aload_n C dX11_init_0 rfl rfl ?_
  refine x_objInit C q1433 q182 q183 rfl dX11_init_1 ?_
  refine x_aload_n C dX11_init_4 rfl rfl ?_
  refine x_iconst C dX11_init_5 kc_m1 ?_
  refine y_put (fs' := [.int (nI 0), .int (nI 0), .int (nI 0), .int ((-1)), .int (nI 0), .int (nI 0)]) C gcX11 h0 3 rfl q1442 rfl rfl rfl rfl rfl dX11_init_6 (fun M1 h2 k3 => ?_)
  have k4 : ∀ zz : Nat, zz ≠ a → M1 zz = M0 zz := fun zz z0 => k3 zz z0
  refine x_aload_n C dX11_init_9 rfl rfl ?_
  refine x_iconst C dX11_init_10 kc_m1 ?_
  refine y_put (fs' := [.int (nI 0), .int (nI 0), .int (nI 0), .int ((-1)), .int (nI 0), .int ((-1))]) C gcX11 h2 5 rfl q1447 rfl rfl rfl rfl rfl dX11_init_11 (fun M5 h6 k7 => ?_)
  have k8 : ∀ zz : Nat, zz ≠ a → M5 zz = M0 zz := fun zz z0 => (k7 zz z0).trans (k4 zz z0)
  refine x_aload_n C dX11_init_14 rfl rfl ?_
  refine x_iload_n C dX11_init_15 rfl rfl ?_
  refine y_putF (fs' := [.int (n), .int (nI 0), .int (nI 0), .int ((-1)), .int (nI 0), .int ((-1))]) C (hnm rfl) gcX11 h6 0 rfl q1434 rfl rfl rfl rfl rfl rfl dX11_init_16 (fun M9 h10 k11 => ?_)
  have k12 : ∀ zz : Nat, zz ≠ a → M9 zz = M0 zz := fun zz z0 => (k11 zz z0).trans (k8 zz z0)
  refine x_aload_n C dX11_init_19 rfl rfl ?_
  refine x_iload_n C dX11_init_20 rfl rfl ?_
  refine y_putF (fs' := [.int (n), .int (md), .int (nI 0), .int ((-1)), .int (nI 0), .int ((-1))]) C (hnm rfl) gcX11 h10 1 rfl q1436 rfl rfl rfl rfl rfl rfl dX11_init_21 (fun M13 h14 k15 => ?_)
  have k16 : ∀ zz : Nat, zz ≠ a → M13 zz = M0 zz := fun zz z0 => (k15 zz z0).trans (k12 zz z0)
  refine x_aload_n C dX11_init_24 rfl rfl ?_
  refine x_iload_n C dX11_init_25 rfl rfl ?_
  refine y_putF (fs' := [.int (n), .int (md), .int (b), .int ((-1)), .int (nI 0), .int ((-1))]) C (hnm rfl) gcX11 h14 2 rfl q1439 rfl rfl rfl rfl rfl rfl dX11_init_26 (fun M17 h18 k19 => ?_)
  have k20 : ∀ zz : Nat, zz ≠ a → M17 zz = M0 zz := fun zz z0 => (k19 zz z0).trans (k16 zz z0)
  exact x_vret C dX11_init_29 ⟨Nat.le_of_ble_eq_true rfl, Nat.le_of_ble_eq_true rfl⟩ ⟨h18, k20⟩
theorem mi_X14_init : gMI yX14_init cX14_init 6 5 := ⟨q1899, q172, q1900, rfl, by decide +kernel⟩
set_option maxHeartbeats 4000000 in
set_option maxRecDepth 100000 in
theorem met_X14_init (l : Launch) {G : gG} (hG : gOK G) {M0 : gM} {a : Nat} {lab : Nat × Nat} {q t so n w : Int32} (h0 : M0 a = some (lab, .inr (29, [.int (nI 0), .int (nI 0), .int (nI 0), .int (nI 0), .int (nI 0)]))) : Met l yX14_init (ws_ yX14_init cX14_init 6 none) ({ frames := 1, cells := 0, slots := 0, locals := 12 }) (gPre G M0 [.ref (a), .int (q), .int (t), .int (so), .int (n), .int (w)]) (gQ G (gV (fun M1 => M1 a = some (lab, .inr (29, [.int (q), .int (t), .int (so), .int (n), .int (w)])) ∧ ∀ z, z ≠ a → M1 z = M0 z))) 0 0 (gA G) := by
  refine gMet (L0 := [some (.ref (a)), some (.int (q)), some (.int (t)), some (.int (so)), some (.int (n)), some (.int (w))]) RX14 hG (by decide +kernel) rfl (Nat.le_of_ble_eq_true rfl) rfl ?_
  intro p e s m args below meth c C hnm
  refine x_aload_n C dX14_init_0 rfl rfl ?_
  refine x_objInit C q1901 q182 q183 rfl dX14_init_1 ?_
  refine x_aload_n C dX14_init_4 rfl rfl ?_
  refine x_iload_n C dX14_init_5 rfl rfl ?_
  refine y_putF (fs' := [.int (q), .int (nI 0), .int (nI 0), .int (nI 0), .int (nI 0)]) C (hnm rfl) gcX14 h0 0 rfl q1902 rfl rfl rfl rfl rfl rfl dX14_init_6 (fun M1 h2 k3 => ?_)
  have k4 : ∀ zz : Nat, zz ≠ a → M1 zz = M0 zz := fun zz z0 => k3 zz z0
  refine x_aload_n C dX14_init_9 rfl rfl ?_
  refine x_iload_n C dX14_init_10 rfl rfl ?_
  refine y_putF (fs' := [.int (q), .int (t), .int (nI 0), .int (nI 0), .int (nI 0)]) C (hnm rfl) gcX14 h2 1 rfl q1903 rfl rfl rfl rfl rfl rfl dX14_init_11 (fun M5 h6 k7 => ?_)
  have k8 : ∀ zz : Nat, zz ≠ a → M5 zz = M0 zz := fun zz z0 => (k7 zz z0).trans (k4 zz z0)
  refine x_aload_n C dX14_init_14 rfl rfl ?_
  refine x_iload_n C dX14_init_15 rfl rfl ?_
  refine y_putF (fs' := [.int (q), .int (t), .int (so), .int (nI 0), .int (nI 0)]) C (hnm rfl) gcX14 h6 2 rfl q1904 rfl rfl rfl rfl rfl rfl dX14_init_16 (fun M9 h10 k11 => ?_)
  have k12 : ∀ zz : Nat, zz ≠ a → M9 zz = M0 zz := fun zz z0 => (k11 zz z0).trans (k8 zz z0)
  refine x_aload_n C dX14_init_19 rfl rfl ?_
  refine x_iload C dX14_init_20 rfl ?_
  refine y_putF (fs' := [.int (q), .int (t), .int (so), .int (n), .int (nI 0)]) C (hnm rfl) gcX14 h10 3 rfl q1905 rfl rfl rfl rfl rfl rfl dX14_init_22 (fun M13 h14 k15 => ?_)
  have k16 : ∀ zz : Nat, zz ≠ a → M13 zz = M0 zz := fun zz z0 => (k15 zz z0).trans (k12 zz z0)
  refine x_aload_n C dX14_init_25 rfl rfl ?_
  refine x_iload C dX14_init_26 rfl ?_
  refine y_putF (fs' := [.int (q), .int (t), .int (so), .int (n), .int (w)]) C (hnm rfl) gcX14 h14 4 rfl q1906 rfl rfl rfl rfl rfl rfl dX14_init_28 (fun M17 h18 k19 => ?_)
  have k20 : ∀ zz : Nat, zz ≠ a → M17 zz = M0 zz := fun zz z0 => (k19 zz z0).trans (k16 zz z0)
  exact x_vret C dX14_init_31 ⟨Nat.le_of_ble_eq_true rfl, Nat.le_of_ble_eq_true rfl⟩ ⟨h18, k20⟩
theorem mi_X14_told : gMV RX14 yX14_told cX14_told 2 (some .int) 1 := ⟨q2128, q2129, q172, q2130, by decide +kernel⟩
set_option maxHeartbeats 4000000 in
set_option maxRecDepth 100000 in
theorem met_X14_told (l : Launch) {G : gG} (hG : gOK G) {M0 : gM} {a k : Nat} {lab : Nat × Nat} {q t so n w : Int32} (h0 : M0 a = some (lab, .inr (29, [.int q, .int t, .int so, .int n, .int w]))) (hk : k < 5) : Met l yX14_told (ws_ yX14_told cX14_told 2 (some .int)) ({ frames := 0, cells := 0, slots := 0, locals := 0 }) (gPre G M0 [.ref (a), .int (nI k)]) (gQ G (gI (fun r M1 => M1 = M0 ∧ fnL 0 [q, t, so, n, w] k = r))) 0 0 (gA G) := by
  refine gMet (L0 := [some (.ref (a)), some (.int (nI k))]) RX14 hG (by decide +kernel) rfl (Nat.le_of_ble_eq_true rfl) rfl ?_
  intro p e s m args below meth c C hnm
  rcases (by omega : k = 0 ∨ k = 1 ∨ k = 2 ∨ k = 3 ∨ k = 4) with rfl | rfl | rfl | rfl | rfl
  · -- 0
    refine x_iload_n C dX14_told_0 rfl rfl ?_
    refine x_if_neF (tgt := 11) C (by decide) dX14_told_1 rfl ?_
    refine x_aload_n C dX14_told_4 rfl rfl ?_
    refine x_get C gcX14 h0 0 rfl q1902 rfl dX14_told_5 ?_
    refine x_goto (tgt := 51) C dX14_told_8 rfl ?_
    exact x_iret C dX14_told_51 ⟨Nat.le_of_ble_eq_true rfl, Nat.le_of_ble_eq_true rfl⟩ ⟨rfl, rfl⟩
  · -- 1
    refine x_iload_n C dX14_told_0 rfl rfl ?_
    refine x_if_neT (tgt := 11) C (by decide) dX14_told_1 rfl ?_
    refine x_iload_n C dX14_told_11 rfl rfl ?_
    refine x_iconst C dX14_told_12 kc_1 ?_
    refine x_icmp_neF (tgt := 23) C (by decide +kernel) dX14_told_13 rfl ?_
    refine x_aload_n C dX14_told_16 rfl rfl ?_
    refine x_get C gcX14 h0 1 rfl q1903 rfl dX14_told_17 ?_
    refine x_goto (tgt := 51) C dX14_told_20 rfl ?_
    exact x_iret C dX14_told_51 ⟨Nat.le_of_ble_eq_true rfl, Nat.le_of_ble_eq_true rfl⟩ ⟨rfl, rfl⟩
  · -- 2
    refine x_iload_n C dX14_told_0 rfl rfl ?_
    refine x_if_neT (tgt := 11) C (by decide) dX14_told_1 rfl ?_
    refine x_iload_n C dX14_told_11 rfl rfl ?_
    refine x_iconst C dX14_told_12 kc_1 ?_
    refine x_icmp_neT (tgt := 23) C (by decide +kernel) dX14_told_13 rfl ?_
    refine x_iload_n C dX14_told_23 rfl rfl ?_
    refine x_iconst C dX14_told_24 kc_2 ?_
    refine x_icmp_neF (tgt := 35) C (by decide +kernel) dX14_told_25 rfl ?_
    refine x_aload_n C dX14_told_28 rfl rfl ?_
    refine x_get C gcX14 h0 2 rfl q1904 rfl dX14_told_29 ?_
    refine x_goto (tgt := 51) C dX14_told_32 rfl ?_
    exact x_iret C dX14_told_51 ⟨Nat.le_of_ble_eq_true rfl, Nat.le_of_ble_eq_true rfl⟩ ⟨rfl, rfl⟩
  · -- 3
    refine x_iload_n C dX14_told_0 rfl rfl ?_
    refine x_if_neT (tgt := 11) C (by decide) dX14_told_1 rfl ?_
    refine x_iload_n C dX14_told_11 rfl rfl ?_
    refine x_iconst C dX14_told_12 kc_1 ?_
    refine x_icmp_neT (tgt := 23) C (by decide +kernel) dX14_told_13 rfl ?_
    refine x_iload_n C dX14_told_23 rfl rfl ?_
    refine x_iconst C dX14_told_24 kc_2 ?_
    refine x_icmp_neT (tgt := 35) C (by decide +kernel) dX14_told_25 rfl ?_
    refine x_iload_n C dX14_told_35 rfl rfl ?_
    refine x_iconst C dX14_told_36 kc_3 ?_
    refine x_icmp_neF (tgt := 47) C (by decide +kernel) dX14_told_37 rfl ?_
    refine x_aload_n C dX14_told_40 rfl rfl ?_
    refine x_get C gcX14 h0 3 rfl q1905 rfl dX14_told_41 ?_
    refine x_goto (tgt := 51) C dX14_told_44 rfl ?_
    exact x_iret C dX14_told_51 ⟨Nat.le_of_ble_eq_true rfl, Nat.le_of_ble_eq_true rfl⟩ ⟨rfl, rfl⟩
  · -- 4
    refine x_iload_n C dX14_told_0 rfl rfl ?_
    refine x_if_neT (tgt := 11) C (by decide) dX14_told_1 rfl ?_
    refine x_iload_n C dX14_told_11 rfl rfl ?_
    refine x_iconst C dX14_told_12 kc_1 ?_
    refine x_icmp_neT (tgt := 23) C (by decide +kernel) dX14_told_13 rfl ?_
    refine x_iload_n C dX14_told_23 rfl rfl ?_
    refine x_iconst C dX14_told_24 kc_2 ?_
    refine x_icmp_neT (tgt := 35) C (by decide +kernel) dX14_told_25 rfl ?_
    refine x_iload_n C dX14_told_35 rfl rfl ?_
    refine x_iconst C dX14_told_36 kc_3 ?_
    refine x_icmp_neT (tgt := 47) C (by decide +kernel) dX14_told_37 rfl ?_
    refine x_aload_n C dX14_told_47 rfl rfl ?_
    refine x_get C gcX14 h0 4 rfl q1906 rfl dX14_told_48 ?_
    exact x_iret C dX14_told_51 ⟨Nat.le_of_ble_eq_true rfl, Nat.le_of_ble_eq_true rfl⟩ ⟨rfl, rfl⟩
theorem mi_X4_init : gMI yX4_init cX4_init 2 1 := ⟨q323, q135, q324, rfl, by decide +kernel⟩
set_option maxHeartbeats 4000000 in
set_option maxRecDepth 100000 in
theorem met_X4_init (l : Launch) {G : gG} (hG : gOK G) {M0 : gM} {a x : Nat} {lab : Nat × Nat} (h0 : M0 a = some (lab, .inr (19, [.int (nI 0), .int (nI 0), .int (nI 0), .int (nI 0), .int (nI 0), .null, .null]))) : Met l yX4_init (ws_ yX4_init cX4_init 2 none) ({ frames := 1, cells := 0, slots := 0, locals := 12 }) (gPre G M0 [.ref (a), .ref (x)]) (gQ G (gV (fun M1 => M1 a = some (lab, .inr (19, [.int (nI 0), .int (nI 0), .int (nI 0), .int (nI 0), .int (nI 0), .null, .ref (x)])) ∧ ∀ z, z ≠ a → M1 z = M0 z))) 0 0 (gA G) := by
  refine gMet (L0 := [some (.ref (a)), some (.ref (x))]) RX4 hG (by decide +kernel) rfl (Nat.le_of_ble_eq_true rfl) rfl ?_
  intro p e s m args below meth c C hnm
  refine x_aload_n C dX4_init_0 rfl rfl ?_
  refine x_aload_n C dX4_init_1 rfl rfl ?_
  refine y_putF (fs' := [.int (nI 0), .int (nI 0), .int (nI 0), .int (nI 0), .int (nI 0), .null, .ref (x)]) C (hnm rfl) gcX4 h0 6 rfl q332 rfl rfl rfl rfl rfl rfl dX4_init_2 (fun M1 h2 k3 => ?_)
  have k4 : ∀ zz : Nat, zz ≠ a → M1 zz = M0 zz := fun zz z0 => k3 zz z0
  refine x_aload_n C dX4_init_5 rfl rfl ?_
  refine x_objInit C q325 q182 q183 rfl dX4_init_6 ?_
  exact x_vret C dX4_init_9 ⟨Nat.le_of_ble_eq_true rfl, Nat.le_of_ble_eq_true rfl⟩ ⟨h2, k4⟩
theorem mi_X8_init : gMI yX8_init cX8_init 7 6 := ⟨q1123, q163, q1124, rfl, by decide +kernel⟩
set_option maxHeartbeats 4000000 in
set_option maxRecDepth 100000 in
theorem met_X8_init (l : Launch) {G : gG} (hG : gOK G) {M0 : gM} {a q : Nat} {n t u x w : Int32} (r i : Nat) (h0 : M0 a = some ((r, 140 + i), .inr (23, [.int (nI 0), .int (nI 0), .int (nI 0), .int (nI 0), .int (nI 0), .null, .null, .null, .int (nI 0), .int (nI 0), .int (nI 0), .int (nI 0), .int (nI 0), .int (nI 0), .int (nI 0), .null, .int (nI 0)]))) (hq : q < 64) : Met l yX8_init (ws_ yX8_init cX8_init 7 none) ({ frames := 1, cells := 4, slots := 52, locals := 12 }) (gPre G M0 [.ref (a), .int (n), .int (t), .int (u), .int (x), .int (w), .int (nI q)]) (gQ G (gV (fun M1 => ∃ aa : Nat → Nat, aa 0 = a ∧ AS G r i aa (fnL 0 [n, x, w, nI q, nI (q / 4), 0, 0, 0, u, -1, -1, -1, t, -999999, 0, 0, 0]) (fun j => if j = 0 then upd (fun _ => 0) (q / 4) t else fun _ => 0) M1 ∧ M0 (aa 1) = none ∧ M0 (aa 2) = none ∧ M0 (aa 3) = none ∧ M0 (aa 4) = none ∧ ∀ z, z ≠ a → z ≠ aa 1 → z ≠ aa 2 → z ≠ aa 3 → z ≠ aa 4 → M1 z = M0 z))) 4 52 (gA G) := by
  refine gMet (L0 := [some (.ref (a)), some (.int (n)), some (.int (t)), some (.int (u)), some (.int (x)), some (.int (w)), some (.int (nI q))]) RX8 hG (by decide +kernel) rfl (Nat.le_of_ble_eq_true rfl) rfl ?_
  intro p e s m args below meth c C hnm
  refine x_aload_n C dX8_init_0 rfl rfl ?_
  refine x_objInit C q1125 q182 q183 rfl dX8_init_1 ?_
  refine x_aload_n C dX8_init_4 rfl rfl ?_
  refine x_bipush C dX8_init_5 kb_16 ?_
  refine y_newa (atype := .int) (N := 16) (a0 := (16, .inl (clipI 16 (fun _ => 0)))) C 0 (fun a => (r, 200 + i)) q475 rfl rfl (by intro C; simp) (fun cA => by rw [← clipI_0 (n := 16)]; rfl) rfl rfl (by decide +kernel) ⟨Nat.le_of_ble_eq_true rfl, Nat.le_of_ble_eq_true rfl⟩ dX8_init_7 (fun a1 M2 n3 g4 h5 k6 => ?_)
  have e7 : a ≠ a1 := gM_nn h0 n3
  have h8 := (k6 _ e7).trans h0
  have k9 : ∀ zz : Nat, zz ≠ a1 → M2 zz = M0 zz := fun zz z0 => k6 zz z0
  refine y_putF (fs' := [.int (nI 0), .int (nI 0), .int (nI 0), .int (nI 0), .int (nI 0), .ref (a1), .null, .null, .int (nI 0), .int (nI 0), .int (nI 0), .int (nI 0), .int (nI 0), .int (nI 0), .int (nI 0), .null, .int (nI 0)]) C (hnm rfl) gcX8 h8 5 rfl q1141 rfl rfl rfl rfl rfl rfl dX8_init_9 (fun M10 h11 k12 => ?_)
  have h13 := (k12 _ (Ne.symm e7)).trans h5
  have k14 : ∀ zz : Nat, zz ≠ a1 → zz ≠ a → M10 zz = M0 zz := fun zz z0 z1 => (k12 zz z1).trans (k9 zz z0)
  refine x_aload_n C dX8_init_12 rfl rfl ?_
  refine x_bipush C dX8_init_13 kb_16 ?_
  refine y_newa (atype := .int) (N := 16) (a0 := (16, .inl (clipI 16 (fun _ => 0)))) C 0 (fun a => (r, 210 + i)) q475 rfl rfl (by intro C; simp) (fun cA => by rw [← clipI_0 (n := 16)]; rfl) rfl rfl (by decide +kernel) ⟨Nat.le_of_ble_eq_true rfl, Nat.le_of_ble_eq_true rfl⟩ dX8_init_15 (fun a15 M16 n17 g18 h19 k20 => ?_)
  have e21 : a1 ≠ a15 := gM_nn h13 n17
  have e22 : a ≠ a15 := gM_nn h11 n17
  have n23 := (k14 a15 (Ne.symm e21) (Ne.symm e22)).symm.trans n17
  have e24 : a ≠ a15 := gM_nn h11 n17
  have e25 : a1 ≠ a15 := gM_nn h13 n17
  have h26 := (k20 _ e24).trans h11
  have h27 := (k20 _ e25).trans h13
  have k28 : ∀ zz : Nat, zz ≠ a1 → zz ≠ a → zz ≠ a15 → M16 zz = M0 zz := fun zz z0 z1 z2 => (k20 zz z2).trans (k14 zz z0 z1)
  refine y_putF (fs' := [.int (nI 0), .int (nI 0), .int (nI 0), .int (nI 0), .int (nI 0), .ref (a1), .ref (a15), .null, .int (nI 0), .int (nI 0), .int (nI 0), .int (nI 0), .int (nI 0), .int (nI 0), .int (nI 0), .null, .int (nI 0)]) C (hnm rfl) gcX8 h26 6 rfl q1144 rfl rfl rfl rfl rfl rfl dX8_init_17 (fun M29 h30 k31 => ?_)
  have h32 := (k31 _ (Ne.symm e7)).trans h27
  have h33 := (k31 _ (Ne.symm e24)).trans h19
  have k34 : ∀ zz : Nat, zz ≠ a1 → zz ≠ a → zz ≠ a15 → M29 zz = M0 zz := fun zz z0 z1 z2 => (k31 zz z1).trans (k28 zz z0 z1 z2)
  refine x_aload_n C dX8_init_20 rfl rfl ?_
  refine x_bipush C dX8_init_21 kb_16 ?_
  refine y_newa (atype := .int) (N := 16) (a0 := (16, .inl (clipI 16 (fun _ => 0)))) C 0 (fun a => (r, 220 + i)) q475 rfl rfl (by intro C; simp) (fun cA => by rw [← clipI_0 (n := 16)]; rfl) rfl rfl (by decide +kernel) ⟨Nat.le_of_ble_eq_true rfl, Nat.le_of_ble_eq_true rfl⟩ dX8_init_23 (fun a35 M36 n37 g38 h39 k40 => ?_)
  have e41 : a1 ≠ a35 := gM_nn h32 n37
  have e42 : a ≠ a35 := gM_nn h30 n37
  have e43 : a15 ≠ a35 := gM_nn h33 n37
  have n44 := (k34 a35 (Ne.symm e41) (Ne.symm e42) (Ne.symm e43)).symm.trans n37
  have e45 : a ≠ a35 := gM_nn h30 n37
  have e46 : a1 ≠ a35 := gM_nn h32 n37
  have e47 : a15 ≠ a35 := gM_nn h33 n37
  have h48 := (k40 _ e45).trans h30
  have h49 := (k40 _ e46).trans h32
  have h50 := (k40 _ e47).trans h33
  have k51 : ∀ zz : Nat, zz ≠ a1 → zz ≠ a → zz ≠ a15 → zz ≠ a35 → M36 zz = M0 zz := fun zz z0 z1 z2 z3 => (k40 zz z3).trans (k34 zz z0 z1 z2)
  refine y_putF (fs' := [.int (nI 0), .int (nI 0), .int (nI 0), .int (nI 0), .int (nI 0), .ref (a1), .ref (a15), .ref (a35), .int (nI 0), .int (nI 0), .int (nI 0), .int (nI 0), .int (nI 0), .int (nI 0), .int (nI 0), .null, .int (nI 0)]) C (hnm rfl) gcX8 h48 7 rfl q1147 rfl rfl rfl rfl rfl rfl dX8_init_25 (fun M52 h53 k54 => ?_)
  have h55 := (k54 _ (Ne.symm e7)).trans h49
  have h56 := (k54 _ (Ne.symm e24)).trans h50
  have h57 := (k54 _ (Ne.symm e45)).trans h39
  have k58 : ∀ zz : Nat, zz ≠ a1 → zz ≠ a → zz ≠ a15 → zz ≠ a35 → M52 zz = M0 zz := fun zz z0 z1 z2 z3 => (k54 zz z1).trans (k51 zz z0 z1 z2 z3)
  refine x_aload_n C dX8_init_28 rfl rfl ?_
  refine x_iconst C dX8_init_29 kc_m1 ?_
  refine y_put (fs' := [.int (nI 0), .int (nI 0), .int (nI 0), .int (nI 0), .int (nI 0), .ref (a1), .ref (a15), .ref (a35), .int (nI 0), .int ((-1)), .int (nI 0), .int (nI 0), .int (nI 0), .int (nI 0), .int (nI 0), .null, .int (nI 0)]) C gcX8 h53 9 rfl q1153 rfl rfl rfl rfl rfl dX8_init_30 (fun M59 h60 k61 => ?_)
  have h62 := (k61 _ (Ne.symm e7)).trans h55
  have h63 := (k61 _ (Ne.symm e24)).trans h56
  have h64 := (k61 _ (Ne.symm e45)).trans h57
  have k65 : ∀ zz : Nat, zz ≠ a1 → zz ≠ a → zz ≠ a15 → zz ≠ a35 → M59 zz = M0 zz := fun zz z0 z1 z2 z3 => (k61 zz z1).trans (k58 zz z0 z1 z2 z3)
  refine x_aload_n C dX8_init_33 rfl rfl ?_
  refine x_iconst C dX8_init_34 kc_m1 ?_
  refine y_put (fs' := [.int (nI 0), .int (nI 0), .int (nI 0), .int (nI 0), .int (nI 0), .ref (a1), .ref (a15), .ref (a35), .int (nI 0), .int ((-1)), .int ((-1)), .int (nI 0), .int (nI 0), .int (nI 0), .int (nI 0), .null, .int (nI 0)]) C gcX8 h60 10 rfl q1156 rfl rfl rfl rfl rfl dX8_init_35 (fun M66 h67 k68 => ?_)
  have h69 := (k68 _ (Ne.symm e7)).trans h62
  have h70 := (k68 _ (Ne.symm e24)).trans h63
  have h71 := (k68 _ (Ne.symm e45)).trans h64
  have k72 : ∀ zz : Nat, zz ≠ a1 → zz ≠ a → zz ≠ a15 → zz ≠ a35 → M66 zz = M0 zz := fun zz z0 z1 z2 z3 => (k68 zz z1).trans (k65 zz z0 z1 z2 z3)
  refine x_aload_n C dX8_init_38 rfl rfl ?_
  refine x_iconst C dX8_init_39 kc_m1 ?_
  refine y_put (fs' := [.int (nI 0), .int (nI 0), .int (nI 0), .int (nI 0), .int (nI 0), .ref (a1), .ref (a15), .ref (a35), .int (nI 0), .int ((-1)), .int ((-1)), .int ((-1)), .int (nI 0), .int (nI 0), .int (nI 0), .null, .int (nI 0)]) C gcX8 h67 11 rfl q1159 rfl rfl rfl rfl rfl dX8_init_40 (fun M73 h74 k75 => ?_)
  have h76 := (k75 _ (Ne.symm e7)).trans h69
  have h77 := (k75 _ (Ne.symm e24)).trans h70
  have h78 := (k75 _ (Ne.symm e45)).trans h71
  have k79 : ∀ zz : Nat, zz ≠ a1 → zz ≠ a → zz ≠ a15 → zz ≠ a35 → M73 zz = M0 zz := fun zz z0 z1 z2 z3 => (k75 zz z1).trans (k72 zz z0 z1 z2 z3)
  refine x_aload_n C dX8_init_43 rfl rfl ?_
  refine x_ldc C dX8_init_44 q1126 ?_
  refine y_put (fs' := [.int (nI 0), .int (nI 0), .int (nI 0), .int (nI 0), .int (nI 0), .ref (a1), .ref (a15), .ref (a35), .int (nI 0), .int ((-1)), .int ((-1)), .int ((-1)), .int (nI 0), .int (-999999), .int (nI 0), .null, .int (nI 0)]) C gcX8 h74 13 rfl q1165 rfl rfl rfl rfl rfl dX8_init_46 (fun M80 h81 k82 => ?_)
  have h83 := (k82 _ (Ne.symm e7)).trans h76
  have h84 := (k82 _ (Ne.symm e24)).trans h77
  have h85 := (k82 _ (Ne.symm e45)).trans h78
  have k86 : ∀ zz : Nat, zz ≠ a1 → zz ≠ a → zz ≠ a15 → zz ≠ a35 → M80 zz = M0 zz := fun zz z0 z1 z2 z3 => (k82 zz z1).trans (k79 zz z0 z1 z2 z3)
  refine x_aload_n C dX8_init_49 rfl rfl ?_
  refine x_iconst C dX8_init_50 kc_4 ?_
  refine y_newa (atype := .int) (N := 4) (a0 := (4, .inl (clipI 4 (fun _ => 0)))) C 0 (fun a => (r, 230 + i)) q475 rfl rfl (by intro C; simp) (fun cA => by rw [← clipI_0 (n := 4)]; rfl) rfl rfl (by decide +kernel) ⟨Nat.le_of_ble_eq_true rfl, Nat.le_of_ble_eq_true rfl⟩ dX8_init_51 (fun a87 M88 n89 g90 h91 k92 => ?_)
  have e93 : a1 ≠ a87 := gM_nn h83 n89
  have e94 : a ≠ a87 := gM_nn h81 n89
  have e95 : a15 ≠ a87 := gM_nn h84 n89
  have e96 : a35 ≠ a87 := gM_nn h85 n89
  have n97 := (k86 a87 (Ne.symm e93) (Ne.symm e94) (Ne.symm e95) (Ne.symm e96)).symm.trans n89
  have e98 : a ≠ a87 := gM_nn h81 n89
  have e99 : a1 ≠ a87 := gM_nn h83 n89
  have e100 : a15 ≠ a87 := gM_nn h84 n89
  have e101 : a35 ≠ a87 := gM_nn h85 n89
  have h102 := (k92 _ e98).trans h81
  have h103 := (k92 _ e99).trans h83
  have h104 := (k92 _ e100).trans h84
  have h105 := (k92 _ e101).trans h85
  have k106 : ∀ zz : Nat, zz ≠ a1 → zz ≠ a → zz ≠ a15 → zz ≠ a35 → zz ≠ a87 → M88 zz = M0 zz := fun zz z0 z1 z2 z3 z4 => (k92 zz z4).trans (k86 zz z0 z1 z2 z3)
  refine y_putF (fs' := [.int (nI 0), .int (nI 0), .int (nI 0), .int (nI 0), .int (nI 0), .ref (a1), .ref (a15), .ref (a35), .int (nI 0), .int ((-1)), .int ((-1)), .int ((-1)), .int (nI 0), .int (-999999), .int (nI 0), .ref (a87), .int (nI 0)]) C (hnm rfl) gcX8 h102 15 rfl q1171 rfl rfl rfl rfl rfl rfl dX8_init_53 (fun M107 h108 k109 => ?_)
  have h110 := (k109 _ (Ne.symm e7)).trans h103
  have h111 := (k109 _ (Ne.symm e24)).trans h104
  have h112 := (k109 _ (Ne.symm e45)).trans h105
  have h113 := (k109 _ (Ne.symm e98)).trans h91
  have k114 : ∀ zz : Nat, zz ≠ a1 → zz ≠ a → zz ≠ a15 → zz ≠ a35 → zz ≠ a87 → M107 zz = M0 zz := fun zz z0 z1 z2 z3 z4 => (k109 zz z1).trans (k106 zz z0 z1 z2 z3 z4)
  refine x_aload_n C dX8_init_56 rfl rfl ?_
  refine x_iload_n C dX8_init_57 rfl rfl ?_
  refine y_putF (fs' := [.int (n), .int (nI 0), .int (nI 0), .int (nI 0), .int (nI 0), .ref (a1), .ref (a15), .ref (a35), .int (nI 0), .int ((-1)), .int ((-1)), .int ((-1)), .int (nI 0), .int (-999999), .int (nI 0), .ref (a87), .int (nI 0)]) C (hnm rfl) gcX8 h108 0 rfl q1127 rfl rfl rfl rfl rfl rfl dX8_init_58 (fun M115 h116 k117 => ?_)
  have h118 := (k117 _ (Ne.symm e7)).trans h110
  have h119 := (k117 _ (Ne.symm e24)).trans h111
  have h120 := (k117 _ (Ne.symm e45)).trans h112
  have h121 := (k117 _ (Ne.symm e98)).trans h113
  have k122 : ∀ zz : Nat, zz ≠ a1 → zz ≠ a → zz ≠ a15 → zz ≠ a35 → zz ≠ a87 → M115 zz = M0 zz := fun zz z0 z1 z2 z3 z4 => (k117 zz z1).trans (k114 zz z0 z1 z2 z3 z4)
  refine x_aload_n C dX8_init_61 rfl rfl ?_
  refine x_iload_n C dX8_init_62 rfl rfl ?_
  refine y_put (fs' := [.int (n), .int (nI 0), .int (nI 0), .int (nI 0), .int (nI 0), .ref (a1), .ref (a15), .ref (a35), .int (nI 0), .int ((-1)), .int ((-1)), .int ((-1)), .int (t), .int (-999999), .int (nI 0), .ref (a87), .int (nI 0)]) C gcX8 h116 12 rfl q1162 rfl rfl rfl rfl rfl dX8_init_63 (fun M123 h124 k125 => ?_)
  have h126 := (k125 _ (Ne.symm e7)).trans h118
  have h127 := (k125 _ (Ne.symm e24)).trans h119
  have h128 := (k125 _ (Ne.symm e45)).trans h120
  have h129 := (k125 _ (Ne.symm e98)).trans h121
  have k130 : ∀ zz : Nat, zz ≠ a1 → zz ≠ a → zz ≠ a15 → zz ≠ a35 → zz ≠ a87 → M123 zz = M0 zz := fun zz z0 z1 z2 z3 z4 => (k125 zz z1).trans (k122 zz z0 z1 z2 z3 z4)
  refine x_aload_n C dX8_init_66 rfl rfl ?_
  refine x_iload_n C dX8_init_67 rfl rfl ?_
  refine y_put (fs' := [.int (n), .int (nI 0), .int (nI 0), .int (nI 0), .int (nI 0), .ref (a1), .ref (a15), .ref (a35), .int (u), .int ((-1)), .int ((-1)), .int ((-1)), .int (t), .int (-999999), .int (nI 0), .ref (a87), .int (nI 0)]) C gcX8 h124 8 rfl q1150 rfl rfl rfl rfl rfl dX8_init_68 (fun M131 h132 k133 => ?_)
  have h134 := (k133 _ (Ne.symm e7)).trans h126
  have h135 := (k133 _ (Ne.symm e24)).trans h127
  have h136 := (k133 _ (Ne.symm e45)).trans h128
  have h137 := (k133 _ (Ne.symm e98)).trans h129
  have k138 : ∀ zz : Nat, zz ≠ a1 → zz ≠ a → zz ≠ a15 → zz ≠ a35 → zz ≠ a87 → M131 zz = M0 zz := fun zz z0 z1 z2 z3 z4 => (k133 zz z1).trans (k130 zz z0 z1 z2 z3 z4)
  refine x_aload_n C dX8_init_71 rfl rfl ?_
  refine x_iload C dX8_init_72 rfl ?_
  refine y_putF (fs' := [.int (n), .int (x), .int (nI 0), .int (nI 0), .int (nI 0), .ref (a1), .ref (a15), .ref (a35), .int (u), .int ((-1)), .int ((-1)), .int ((-1)), .int (t), .int (-999999), .int (nI 0), .ref (a87), .int (nI 0)]) C (hnm rfl) gcX8 h132 1 rfl q1130 rfl rfl rfl rfl rfl rfl dX8_init_74 (fun M139 h140 k141 => ?_)
  have h142 := (k141 _ (Ne.symm e7)).trans h134
  have h143 := (k141 _ (Ne.symm e24)).trans h135
  have h144 := (k141 _ (Ne.symm e45)).trans h136
  have h145 := (k141 _ (Ne.symm e98)).trans h137
  have k146 : ∀ zz : Nat, zz ≠ a1 → zz ≠ a → zz ≠ a15 → zz ≠ a35 → zz ≠ a87 → M139 zz = M0 zz := fun zz z0 z1 z2 z3 z4 => (k141 zz z1).trans (k138 zz z0 z1 z2 z3 z4)
  refine x_aload_n C dX8_init_77 rfl rfl ?_
  refine x_iload C dX8_init_78 rfl ?_
  refine y_putF (fs' := [.int (n), .int (x), .int (w), .int (nI 0), .int (nI 0), .ref (a1), .ref (a15), .ref (a35), .int (u), .int ((-1)), .int ((-1)), .int ((-1)), .int (t), .int (-999999), .int (nI 0), .ref (a87), .int (nI 0)]) C (hnm rfl) gcX8 h140 2 rfl q1133 rfl rfl rfl rfl rfl rfl dX8_init_80 (fun M147 h148 k149 => ?_)
  have h150 := (k149 _ (Ne.symm e7)).trans h142
  have h151 := (k149 _ (Ne.symm e24)).trans h143
  have h152 := (k149 _ (Ne.symm e45)).trans h144
  have h153 := (k149 _ (Ne.symm e98)).trans h145
  have k154 : ∀ zz : Nat, zz ≠ a1 → zz ≠ a → zz ≠ a15 → zz ≠ a35 → zz ≠ a87 → M147 zz = M0 zz := fun zz z0 z1 z2 z3 z4 => (k149 zz z1).trans (k146 zz z0 z1 z2 z3 z4)
  refine x_aload_n C dX8_init_83 rfl rfl ?_
  refine x_iload C dX8_init_84 rfl ?_
  refine y_putF (fs' := [.int (n), .int (x), .int (w), .int (nI q), .int (nI 0), .ref (a1), .ref (a15), .ref (a35), .int (u), .int ((-1)), .int ((-1)), .int ((-1)), .int (t), .int (-999999), .int (nI 0), .ref (a87), .int (nI 0)]) C (hnm rfl) gcX8 h148 3 rfl q1136 rfl rfl rfl rfl rfl rfl dX8_init_86 (fun M155 h156 k157 => ?_)
  have h158 := (k157 _ (Ne.symm e7)).trans h150
  have h159 := (k157 _ (Ne.symm e24)).trans h151
  have h160 := (k157 _ (Ne.symm e45)).trans h152
  have h161 := (k157 _ (Ne.symm e98)).trans h153
  have k162 : ∀ zz : Nat, zz ≠ a1 → zz ≠ a → zz ≠ a15 → zz ≠ a35 → zz ≠ a87 → M155 zz = M0 zz := fun zz z0 z1 z2 z3 z4 => (k157 zz z1).trans (k154 zz z0 z1 z2 z3 z4)
  refine x_aload_n C dX8_init_89 rfl rfl ?_
  refine x_iload C dX8_init_90 rfl ?_
  refine x_iconst C dX8_init_92 kc_4 ?_
  refine x_idivN C (by omega) (by omega) (by omega) dX8_init_93 ?_
  refine y_putF (fs' := [.int (n), .int (x), .int (w), .int (nI q), .int (nI (q / 4)), .ref (a1), .ref (a15), .ref (a35), .int (u), .int ((-1)), .int ((-1)), .int ((-1)), .int (t), .int (-999999), .int (nI 0), .ref (a87), .int (nI 0)]) C (hnm rfl) gcX8 h156 4 rfl q1138 rfl rfl rfl rfl rfl rfl dX8_init_94 (fun M163 h164 k165 => ?_)
  have h166 := (k165 _ (Ne.symm e7)).trans h158
  have h167 := (k165 _ (Ne.symm e24)).trans h159
  have h168 := (k165 _ (Ne.symm e45)).trans h160
  have h169 := (k165 _ (Ne.symm e98)).trans h161
  have k170 : ∀ zz : Nat, zz ≠ a1 → zz ≠ a → zz ≠ a15 → zz ≠ a35 → zz ≠ a87 → M163 zz = M0 zz := fun zz z0 z1 z2 z3 z4 => (k165 zz z1).trans (k162 zz z0 z1 z2 z3 z4)
  refine x_aload_n C dX8_init_97 rfl rfl ?_
  refine x_get C gcX8 h164 5 rfl q1141 rfl dX8_init_98 ?_
  refine x_aload_n C dX8_init_101 rfl rfl ?_
  refine x_get C gcX8 h164 4 rfl q1138 rfl dX8_init_102 ?_
  refine x_iload_n C dX8_init_105 rfl rfl ?_
  refine y_iast (i := q / 4) C h166 rfl (by omega) rfl dX8_init_106 (fun M171 h172 k173 => ?_)
  have h174 := (k173 _ e7).trans h164
  have h175 := (k173 _ (Ne.symm e25)).trans h167
  have h176 := (k173 _ (Ne.symm e46)).trans h168
  have h177 := (k173 _ (Ne.symm e99)).trans h169
  have k178 : ∀ zz : Nat, zz ≠ a1 → zz ≠ a → zz ≠ a15 → zz ≠ a35 → zz ≠ a87 → M171 zz = M0 zz := fun zz z0 z1 z2 z3 z4 => (k173 zz z0).trans (k170 zz z0 z1 z2 z3 z4)
  refine x_vret C dX8_init_107 ⟨Nat.le_of_ble_eq_true rfl, Nat.le_of_ble_eq_true rfl⟩ ⟨fnL 0 [a, a1, a15, a35, a87], rfl, ⟨h174, h172, h175, h176, h177⟩, n3, n23, n44, n97, fun z z1 z2 z3 z4 z5 => k178 z z2 z1 z3 z4 z5⟩
theorem mi_X8_isOpen : gMV RX8 yX8_isOpen cX8_isOpen 1 (some .boolean) 0 := ⟨q1806, q1807, q163, q1808, by decide +kernel⟩
set_option maxHeartbeats 4000000 in
set_option maxRecDepth 100000 in
theorem met_X8_isOpen (l : Launch) {G : gG} (hG : gOK G) {M0 : gM} {r i : Nat} {aa : Nat → Nat} {v : Nat → Int32} {x : Nat → Nat → Int32} (h : AS G r i aa v x M0) : Met l yX8_isOpen (ws_ yX8_isOpen cX8_isOpen 1 (some .boolean)) ({ frames := 0, cells := 0, slots := 0, locals := 0 }) (gPre G M0 [.ref (aa 0)]) (gQ G (gI (fun r9 M1 => (M1 = M0 ∧ nI 1 = r9 ∧ v 16 = 0 ∧ v 10 = -1) ∨ (M1 = M0 ∧ nI 0 = r9 ∧ ¬ (v 16 = 0 ∧ v 10 = -1))))) 0 0 (gA G) := by
  refine gMet (L0 := [some (.ref (aa 0))]) RX8 hG (by decide +kernel) rfl (Nat.le_of_ble_eq_true rfl) rfl ?_
  intro p e s m args below meth c C hnm
  refine x_aload_n C dX8_isOpen_0 rfl rfl ?_
  refine x_get C gcX8 h.1 16 rfl q1173 rfl dX8_isOpen_1 ?_
  refine x_if_ne (tgt := 19) C dX8_isOpen_4 rfl (fun c4 => ?_) (fun c4 => ?_)
  · -- 19
    refine x_iconst C dX8_isOpen_19 kc_0 ?_
    exact x_zret C (by decide +kernel) dX8_isOpen_20 ⟨Nat.le_of_ble_eq_true rfl, Nat.le_of_ble_eq_true rfl⟩ (Or.inr ⟨rfl, rfl, fun q => absurd q.1 c4⟩)
  · -- 7
    refine x_aload_n C dX8_isOpen_7 rfl rfl ?_
    refine x_get C gcX8 h.1 10 rfl q1156 rfl dX8_isOpen_8 ?_
    refine x_iconst C dX8_isOpen_11 kc_m1 ?_
    refine x_icmp_ne (tgt := 19) C dX8_isOpen_12 rfl (fun c12 => ?_) (fun c12 => ?_)
    · -- 19
      refine x_iconst C dX8_isOpen_19 kc_0 ?_
      exact x_zret C (by decide +kernel) dX8_isOpen_20 ⟨Nat.le_of_ble_eq_true rfl, Nat.le_of_ble_eq_true rfl⟩ (Or.inr ⟨rfl, rfl, fun q => absurd q.2 c12⟩)
    · -- 15
      refine x_iconst C dX8_isOpen_15 kc_1 ?_
      refine x_goto (tgt := 20) C dX8_isOpen_16 rfl ?_
      exact x_zret C (by decide +kernel) dX8_isOpen_20 ⟨Nat.le_of_ble_eq_true rfl, Nat.le_of_ble_eq_true rfl⟩ (Or.inl ⟨rfl, rfl, c4, c12⟩)
theorem mi_X8_interval : gMV RX8 yX8_interval cX8_interval 2 (some .int) 1 := ⟨q1815, q1816, q163, q1817, by decide +kernel⟩
set_option maxHeartbeats 4000000 in
set_option maxRecDepth 100000 in
theorem met_X8_interval (l : Launch) {G : gG} (hG : gOK G) {M0 : gM} {r i : Nat} {aa : Nat → Nat} {v : Nat → Int32} {x : Nat → Nat → Int32} {q : Nat} (h : AS G r i aa v x M0) (hq : q < 1000) : Met l yX8_interval (ws_ yX8_interval cX8_interval 2 (some .int)) ({ frames := 0, cells := 0, slots := 0, locals := 0 }) (gPre G M0 [.ref (aa 0), .int (nI q)]) (gQ G (gI (fun r9 M1 => M1 = M0 ∧ nI (q / 4) - v 4 = r9))) 0 0 (gA G) := by
  refine gMet (L0 := [some (.ref (aa 0)), some (.int (nI q))]) RX8 hG (by decide +kernel) rfl (Nat.le_of_ble_eq_true rfl) rfl ?_
  intro p e s m args below meth c C hnm
  refine x_iload_n C dX8_interval_0 rfl rfl ?_
  refine x_iconst C dX8_interval_1 kc_4 ?_
  refine x_idivN C (by omega) (by omega) (by omega) dX8_interval_2 ?_
  refine x_aload_n C dX8_interval_3 rfl rfl ?_
  refine x_get C gcX8 h.1 4 rfl q1138 rfl dX8_interval_4 ?_
  refine x_isub C dX8_interval_7 ?_
  exact x_iret C dX8_interval_8 ⟨Nat.le_of_ble_eq_true rfl, Nat.le_of_ble_eq_true rfl⟩ ⟨rfl, rfl⟩
theorem mi_X8_share : gMV RX8 yX8_share cX8_share 6 (some .long) 5 := ⟨q1956, q1957, q163, q1958, by decide +kernel⟩
set_option maxHeartbeats 4000000 in
set_option maxRecDepth 100000 in
theorem met_X8_share (l : Launch) {G : gG} (hG : gOK G) {M0 : gM} {r i : Nat} {aa : Nat → Nat} {v : Nat → Int32} {x : Nat → Nat → Int32} {wv wk : Nat} {its base many step : Int32} (h : AS G r i aa v x M0) (hwy : WY G wk wv M0) (hb : 0 < ((v 2).toInt64 * step.toInt64).toInt) (ha : bg ((v 1).toInt64 * many.toInt64 * (its - base).toInt64)) (hb2 : bg ((v 2).toInt64 * step.toInt64)) : Met l yX8_share (ws_ yX8_share cX8_share 6 (some .long)) ({ frames := 4, cells := 0, slots := 0, locals := 96 }) (gPre G M0 [.ref (aa 0), .int (its), .int (base), .int (many), .int (step), .ref (wv)]) (gQ G (gJ (fun r9 M1 => M1 = M0 ∧ (pCut (nI wk) ((v 1).toInt64 * many.toInt64 * (its - base).toInt64) ((v 2).toInt64 * step.toInt64)).toInt32.toInt64 = r9))) 0 0 (gA G) := by
  refine gMet (L0 := [some (.ref (aa 0)), some (.int (its)), some (.int (base)), some (.int (many)), some (.int (step)), some (.ref (wv))]) RX8 hG (by decide +kernel) rfl (Nat.le_of_ble_eq_true rfl) rfl ?_
  intro p e s m args below meth c C hnm
  obtain ⟨jw, aw, hwc, -⟩ := id hwy
  refine x_aload C dX8_share_0 rfl ?_
  refine x_aload_n C dX8_share_2 rfl rfl ?_
  refine x_get C gcX8 h.1 1 rfl q1130 rfl dX8_share_3 ?_
  refine x_i2l C dX8_share_6 ?_
  refine x_iload_n C dX8_share_7 rfl rfl ?_
  refine x_i2l C dX8_share_8 ?_
  refine x_lmul C dX8_share_9 ?_
  refine x_iload_n C dX8_share_10 rfl rfl ?_
  refine x_iload_n C dX8_share_11 rfl rfl ?_
  refine x_isub C dX8_share_12 ?_
  refine x_i2l C dX8_share_13 ?_
  refine x_lmul C dX8_share_14 ?_
  refine x_aload_n C dX8_share_15 rfl rfl ?_
  refine x_get C gcX8 h.1 2 rfl q1133 rfl dX8_share_16 ?_
  refine x_i2l C dX8_share_19 ?_
  refine x_iload C dX8_share_20 rfl ?_
  refine x_i2l C dX8_share_22 ?_
  refine x_lmul C dX8_share_23 ?_
  refine x_V2I C (met_X2_cut l C.1 hwy hb ha hb2) mi_X2_cut q1959 gcX2 hwc ⟨rfl, rfl⟩ rfl ⟨Nat.le_of_ble_eq_true rfl, Nat.le_of_ble_eq_true rfl⟩ rfl dX8_share_24 (fun r2 M1 hr => ?_)
  obtain ⟨hr, rfl⟩ := hr
  rw [hr]
  refine x_i2l C dX8_share_27 ?_
  exact x_lret C dX8_share_28 ⟨Nat.le_of_ble_eq_true rfl, Nat.le_of_ble_eq_true rfl⟩ ⟨rfl, rfl⟩
theorem mi_X8_copy : gMV RX8 yX8_copy cX8_copy 3 (some (.object "ExemptDesk$Asset")) 0 := ⟨q1678, q1679, q163, q1680, by decide +kernel⟩
set_option maxHeartbeats 4000000 in
set_option maxRecDepth 100000 in
theorem met_X8_copy (l : Launch) {G : gG} (hG : gOK G) {M0 : gM} {r i : Nat} {aa : Nat → Nat} {v : Nat → Int32} {x : Nat → Nat → Int32} {q : Nat} (r2 i2 : Nat) (h : AS G r i aa v x M0) (hv3 : v 3 = nI q) (hv4 : v 4 = nI (q / 4)) (hsh : v 16 = nI 0 ∨ v 16 = nI 1) (hq : q < 64) : Met l yX8_copy (ws_ yX8_copy cX8_copy 3 (some (.object "ExemptDesk$Asset"))) ({ frames := 2, cells := 5, slots := 69, locals := 38 }) (gPre G M0 [.ref (aa 0)]) (gQ G (gR (fun r9 M1 => ∃ ab : Nat → Nat, ab 0 = r9 ∧ AS G r2 i2 ab v x M1 ∧ M0 (ab 0) = none ∧ M0 (ab 1) = none ∧ M0 (ab 2) = none ∧ M0 (ab 3) = none ∧ M0 (ab 4) = none ∧ ∀ z, z ≠ ab 0 → z ≠ ab 1 → z ≠ ab 2 → z ≠ ab 3 → z ≠ ab 4 → M1 z = M0 z))) 5 69 (gA G) := by
  refine gMet (L0 := [some (.ref (aa 0)), none, none]) RX8 hG (by decide +kernel) rfl (Nat.le_of_ble_eq_true rfl) rfl ?_
  intro p e s m args below meth c C hnm
  have h0 := h.1
  rw [hv3, hv4] at h0
  refine y_new (fs := [.int (nI 0), .int (nI 0), .int (nI 0), .int (nI 0), .int (nI 0), .null, .null, .null, .int (nI 0), .int (nI 0), .int (nI 0), .int (nI 0), .int (nI 0), .int (nI 0), .int (nI 0), .null, .int (nI 0)]) C (fun a => (r2, 140 + i2)) gcX8 q1681 q1121 q163 rfl ⟨Nat.le_of_ble_eq_true rfl, Nat.le_of_ble_eq_true rfl⟩ dX8_copy_0 (fun a1 M2 n3 g4 h5 k6 => ?_)
  have e7 : aa 0 ≠ a1 := gM_nn h0 n3
  have e8 : aa 1 ≠ a1 := gM_nn h.2.1 n3
  have e9 : aa 2 ≠ a1 := gM_nn h.2.2.1 n3
  have e10 : aa 3 ≠ a1 := gM_nn h.2.2.2.1 n3
  have e11 : aa 4 ≠ a1 := gM_nn h.2.2.2.2 n3
  have h12 := (k6 _ e7).trans h0
  have h13 := (k6 _ e8).trans h.2.1
  have h14 := (k6 _ e9).trans h.2.2.1
  have h15 := (k6 _ e10).trans h.2.2.2.1
  have h16 := (k6 _ e11).trans h.2.2.2.2
  have k17 : ∀ zz : Nat, zz ≠ a1 → M2 zz = M0 zz := fun zz z0 => k6 zz z0
  have hN0 : ∀ z : Nat, z ≠ a1 → M2 z = none → M0 z = none := fun z hz h9 => (k17 z hz).symm.trans h9
  refine x_dup C dX8_copy_3 rfl ?_
  refine x_aload_n C dX8_copy_4 rfl rfl ?_
  refine x_get C gcX8 h12 0 rfl q1127 rfl dX8_copy_5 ?_
  refine x_aload_n C dX8_copy_8 rfl rfl ?_
  refine x_get C gcX8 h12 12 rfl q1162 rfl dX8_copy_9 ?_
  refine x_aload_n C dX8_copy_12 rfl rfl ?_
  refine x_get C gcX8 h12 8 rfl q1150 rfl dX8_copy_13 ?_
  refine x_aload_n C dX8_copy_16 rfl rfl ?_
  refine x_get C gcX8 h12 1 rfl q1130 rfl dX8_copy_17 ?_
  refine x_aload_n C dX8_copy_20 rfl rfl ?_
  refine x_get C gcX8 h12 2 rfl q1133 rfl dX8_copy_21 ?_
  refine x_aload_n C dX8_copy_24 rfl rfl ?_
  refine x_get C gcX8 h12 3 rfl q1136 rfl dX8_copy_25 ?_
  refine x_I6 C (met_X8_init l C.1 r2 i2 h5 hq) mi_X8_init q1682 ⟨rfl, rfl⟩ rfl ⟨Nat.le_of_ble_eq_true rfl, Nat.le_of_ble_eq_true rfl⟩ rfl dX8_copy_28 (fun M18 hr => ?_)
  obtain ⟨aa19, rfl, ⟨h20, h21, h22, h23, h24⟩, n25, n26, n27, n28, k29⟩ := hr
  have e30 : aa 0 ≠ aa19 1 := gM_nn h12 n25
  have e31 : aa 0 ≠ aa19 2 := gM_nn h12 n26
  have e32 : aa 0 ≠ aa19 3 := gM_nn h12 n27
  have e33 : aa 0 ≠ aa19 4 := gM_nn h12 n28
  have e34 : aa 1 ≠ aa19 1 := gM_nn h13 n25
  have e35 : aa 1 ≠ aa19 2 := gM_nn h13 n26
  have e36 : aa 1 ≠ aa19 3 := gM_nn h13 n27
  have e37 : aa 1 ≠ aa19 4 := gM_nn h13 n28
  have e38 : aa 2 ≠ aa19 1 := gM_nn h14 n25
  have e39 : aa 2 ≠ aa19 2 := gM_nn h14 n26
  have e40 : aa 2 ≠ aa19 3 := gM_nn h14 n27
  have e41 : aa 2 ≠ aa19 4 := gM_nn h14 n28
  have e42 : aa 3 ≠ aa19 1 := gM_nn h15 n25
  have e43 : aa 3 ≠ aa19 2 := gM_nn h15 n26
  have e44 : aa 3 ≠ aa19 3 := gM_nn h15 n27
  have e45 : aa 3 ≠ aa19 4 := gM_nn h15 n28
  have e46 : aa 4 ≠ aa19 1 := gM_nn h16 n25
  have e47 : aa 4 ≠ aa19 2 := gM_nn h16 n26
  have e48 : aa 4 ≠ aa19 3 := gM_nn h16 n27
  have e49 : aa 4 ≠ aa19 4 := gM_nn h16 n28
  have h50 := (k29 _ e7 e30 e31 e32 e33).trans h12
  have h51 := (k29 _ e8 e34 e35 e36 e37).trans h13
  have h52 := (k29 _ e9 e38 e39 e40 e41).trans h14
  have h53 := (k29 _ e10 e42 e43 e44 e45).trans h15
  have h54 := (k29 _ e11 e46 e47 e48 e49).trans h16
  have k55 : ∀ zz : Nat, zz ≠ aa19 0 → zz ≠ aa19 1 → zz ≠ aa19 2 → zz ≠ aa19 3 → zz ≠ aa19 4 → M18 zz = M0 zz := fun zz z0 z1 z2 z3 z4 => (k29 zz z0 z1 z2 z3 z4).trans (k17 zz z0)
  have n0_0 : M0 (aa19 0) = none := n3
  have hq0 : M18 (aa19 0) = some ((r2, 140 + i2), .inr (23, [.int (v 0), .int (v 1), .int (v 2), .int (nI q), .int (nI (q / 4)), .ref (aa19 1), .ref (aa19 2), .ref (aa19 3), .int (v 8), .int (-1), .int (-1), .int (-1), .int (v 12), .int (-999999), .int (nI 0), .ref (aa19 4), .int (nI 0)])) := h20
  have hq1 : M18 (aa19 1) = some ((r2, 200 + i2), .inl (G.2.1 0, 16, .inl (clipI 16 ((upd (fun _ => 0) (q / 4) (v 12)))))) := h21
  have hq2 : M18 (aa19 2) = some ((r2, 210 + i2), .inl (G.2.1 0, 16, .inl (clipI 16 (fun _ => 0)))) := h22
  have hq3 : M18 (aa19 3) = some ((r2, 220 + i2), .inl (G.2.1 0, 16, .inl (clipI 16 (fun _ => 0)))) := h23
  have hq4 : M18 (aa19 4) = some ((r2, 230 + i2), .inl (G.2.1 0, 4, .inl (clipI 4 (fun _ => 0)))) := h24
  have e56 : aa19 0 ≠ aa19 1 := gM_ne hq0 hq1 (by omega)
  have e57 : aa19 0 ≠ aa19 2 := gM_ne hq0 hq2 (by omega)
  have e58 : aa19 1 ≠ aa19 2 := gM_ne hq1 hq2 (by omega)
  have e59 : aa19 0 ≠ aa19 3 := gM_ne hq0 hq3 (by omega)
  have e60 : aa19 1 ≠ aa19 3 := gM_ne hq1 hq3 (by omega)
  have e61 : aa19 2 ≠ aa19 3 := gM_ne hq2 hq3 (by omega)
  have e62 : aa19 0 ≠ aa19 4 := gM_ne hq0 hq4 (by omega)
  have e63 : aa19 1 ≠ aa19 4 := gM_ne hq1 hq4 (by omega)
  have e64 : aa19 2 ≠ aa19 4 := gM_ne hq2 hq4 (by omega)
  have e65 : aa19 3 ≠ aa19 4 := gM_ne hq3 hq4 (by omega)
  refine x_astore_n C dX8_copy_31 rfl (gs1_1 rfl) rfl ?_
  refine x_iconst C dX8_copy_32 kc_0 ?_
  refine x_istore_n C dX8_copy_33 rfl (gs1_2 rfl) rfl ?_
  refine x_iload_n C dX8_copy_34 rfl rfl ?_
  refine x_bipush C dX8_copy_35 kb_16 ?_
  refine x_icmp_geF (tgt := 82) C (by decide +kernel) dX8_copy_37 rfl ?_
  refine x_aload_n C dX8_copy_40 rfl rfl ?_
  refine x_get C gcX8 hq0 5 rfl q1141 rfl dX8_copy_41 ?_
  refine x_iload_n C dX8_copy_44 rfl rfl ?_
  refine x_aload_n C dX8_copy_45 rfl rfl ?_
  refine x_get C gcX8 h50 5 rfl q1141 rfl dX8_copy_46 ?_
  refine x_iload_n C dX8_copy_49 rfl rfl ?_
  refine y_iald (i := 0) C h51 rfl (by omega) rfl dX8_copy_50 ?_
  refine y_iast (i := 0) C hq1 rfl (by omega) rfl dX8_copy_51 (fun M66 h67 k68 => ?_)
  have h69 := (k68 _ e30).trans h50
  have h70 := (k68 _ e34).trans h51
  have h71 := (k68 _ e38).trans h52
  have h72 := (k68 _ e42).trans h53
  have h73 := (k68 _ e46).trans h54
  have h74 := (k68 _ e56).trans hq0
  have h75 := (k68 _ (Ne.symm e58)).trans hq2
  have h76 := (k68 _ (Ne.symm e60)).trans hq3
  have h77 := (k68 _ (Ne.symm e63)).trans hq4
  have k78 : ∀ zz : Nat, zz ≠ aa19 0 → zz ≠ aa19 1 → zz ≠ aa19 2 → zz ≠ aa19 3 → zz ≠ aa19 4 → M66 zz = M0 zz := fun zz z0 z1 z2 z3 z4 => (k68 zz z1).trans (k55 zz z0 z1 z2 z3 z4)
  refine x_aload_n C dX8_copy_52 rfl rfl ?_
  refine x_get C gcX8 h74 6 rfl q1144 rfl dX8_copy_53 ?_
  refine x_iload_n C dX8_copy_56 rfl rfl ?_
  refine x_aload_n C dX8_copy_57 rfl rfl ?_
  refine x_get C gcX8 h69 6 rfl q1144 rfl dX8_copy_58 ?_
  refine x_iload_n C dX8_copy_61 rfl rfl ?_
  refine y_iald (i := 0) C h71 rfl (by omega) rfl dX8_copy_62 ?_
  refine y_iast (i := 0) C h75 rfl (by omega) rfl dX8_copy_63 (fun M79 h80 k81 => ?_)
  have h82 := (k81 _ e31).trans h69
  have h83 := (k81 _ e35).trans h70
  have h84 := (k81 _ e39).trans h71
  have h85 := (k81 _ e43).trans h72
  have h86 := (k81 _ e47).trans h73
  have h87 := (k81 _ e57).trans h74
  have h88 := (k81 _ e58).trans h67
  have h89 := (k81 _ (Ne.symm e61)).trans h76
  have h90 := (k81 _ (Ne.symm e64)).trans h77
  have k91 : ∀ zz : Nat, zz ≠ aa19 0 → zz ≠ aa19 1 → zz ≠ aa19 2 → zz ≠ aa19 3 → zz ≠ aa19 4 → M79 zz = M0 zz := fun zz z0 z1 z2 z3 z4 => (k81 zz z2).trans (k78 zz z0 z1 z2 z3 z4)
  refine x_aload_n C dX8_copy_64 rfl rfl ?_
  refine x_get C gcX8 h87 7 rfl q1147 rfl dX8_copy_65 ?_
  refine x_iload_n C dX8_copy_68 rfl rfl ?_
  refine x_aload_n C dX8_copy_69 rfl rfl ?_
  refine x_get C gcX8 h82 7 rfl q1147 rfl dX8_copy_70 ?_
  refine x_iload_n C dX8_copy_73 rfl rfl ?_
  refine y_iald (i := 0) C h85 rfl (by omega) rfl dX8_copy_74 ?_
  refine y_iast (i := 0) C h89 rfl (by omega) rfl dX8_copy_75 (fun M92 h93 k94 => ?_)
  have h95 := (k94 _ e32).trans h82
  have h96 := (k94 _ e36).trans h83
  have h97 := (k94 _ e40).trans h84
  have h98 := (k94 _ e44).trans h85
  have h99 := (k94 _ e48).trans h86
  have h100 := (k94 _ e59).trans h87
  have h101 := (k94 _ e60).trans h88
  have h102 := (k94 _ e61).trans h80
  have h103 := (k94 _ (Ne.symm e65)).trans h90
  have k104 : ∀ zz : Nat, zz ≠ aa19 0 → zz ≠ aa19 1 → zz ≠ aa19 2 → zz ≠ aa19 3 → zz ≠ aa19 4 → M92 zz = M0 zz := fun zz z0 z1 z2 z3 z4 => (k94 zz z3).trans (k91 zz z0 z1 z2 z3 z4)
  refine x_iincN (z := 1) C dX8_copy_76 rfl (gs1_2 rfl) rfl ?_
  refine x_goto (tgt := 34) C dX8_copy_79 rfl ?_
  refine x_iload_n C dX8_copy_34 rfl rfl ?_
  refine x_bipush C dX8_copy_35 kb_16 ?_
  refine x_icmp_geF (tgt := 82) C (by decide +kernel) dX8_copy_37 rfl ?_
  refine x_aload_n C dX8_copy_40 rfl rfl ?_
  refine x_get C gcX8 h100 5 rfl q1141 rfl dX8_copy_41 ?_
  refine x_iload_n C dX8_copy_44 rfl rfl ?_
  refine x_aload_n C dX8_copy_45 rfl rfl ?_
  refine x_get C gcX8 h95 5 rfl q1141 rfl dX8_copy_46 ?_
  refine x_iload_n C dX8_copy_49 rfl rfl ?_
  refine y_iald (i := 1) C h96 rfl (by omega) rfl dX8_copy_50 ?_
  refine y_iast (i := 1) C h101 rfl (by omega) rfl dX8_copy_51 (fun M105 h106 k107 => ?_)
  have h108 := (k107 _ e30).trans h95
  have h109 := (k107 _ e34).trans h96
  have h110 := (k107 _ e38).trans h97
  have h111 := (k107 _ e42).trans h98
  have h112 := (k107 _ e46).trans h99
  have h113 := (k107 _ e56).trans h100
  have h114 := (k107 _ (Ne.symm e58)).trans h102
  have h115 := (k107 _ (Ne.symm e60)).trans h93
  have h116 := (k107 _ (Ne.symm e63)).trans h103
  have k117 : ∀ zz : Nat, zz ≠ aa19 0 → zz ≠ aa19 1 → zz ≠ aa19 2 → zz ≠ aa19 3 → zz ≠ aa19 4 → M105 zz = M0 zz := fun zz z0 z1 z2 z3 z4 => (k107 zz z1).trans (k104 zz z0 z1 z2 z3 z4)
  refine x_aload_n C dX8_copy_52 rfl rfl ?_
  refine x_get C gcX8 h113 6 rfl q1144 rfl dX8_copy_53 ?_
  refine x_iload_n C dX8_copy_56 rfl rfl ?_
  refine x_aload_n C dX8_copy_57 rfl rfl ?_
  refine x_get C gcX8 h108 6 rfl q1144 rfl dX8_copy_58 ?_
  refine x_iload_n C dX8_copy_61 rfl rfl ?_
  refine y_iald (i := 1) C h110 rfl (by omega) rfl dX8_copy_62 ?_
  refine y_iast (i := 1) C h114 rfl (by omega) rfl dX8_copy_63 (fun M118 h119 k120 => ?_)
  have h121 := (k120 _ e31).trans h108
  have h122 := (k120 _ e35).trans h109
  have h123 := (k120 _ e39).trans h110
  have h124 := (k120 _ e43).trans h111
  have h125 := (k120 _ e47).trans h112
  have h126 := (k120 _ e57).trans h113
  have h127 := (k120 _ e58).trans h106
  have h128 := (k120 _ (Ne.symm e61)).trans h115
  have h129 := (k120 _ (Ne.symm e64)).trans h116
  have k130 : ∀ zz : Nat, zz ≠ aa19 0 → zz ≠ aa19 1 → zz ≠ aa19 2 → zz ≠ aa19 3 → zz ≠ aa19 4 → M118 zz = M0 zz := fun zz z0 z1 z2 z3 z4 => (k120 zz z2).trans (k117 zz z0 z1 z2 z3 z4)
  refine x_aload_n C dX8_copy_64 rfl rfl ?_
  refine x_get C gcX8 h126 7 rfl q1147 rfl dX8_copy_65 ?_
  refine x_iload_n C dX8_copy_68 rfl rfl ?_
  refine x_aload_n C dX8_copy_69 rfl rfl ?_
  refine x_get C gcX8 h121 7 rfl q1147 rfl dX8_copy_70 ?_
  refine x_iload_n C dX8_copy_73 rfl rfl ?_
  refine y_iald (i := 1) C h124 rfl (by omega) rfl dX8_copy_74 ?_
  refine y_iast (i := 1) C h128 rfl (by omega) rfl dX8_copy_75 (fun M131 h132 k133 => ?_)
  have h134 := (k133 _ e32).trans h121
  have h135 := (k133 _ e36).trans h122
  have h136 := (k133 _ e40).trans h123
  have h137 := (k133 _ e44).trans h124
  have h138 := (k133 _ e48).trans h125
  have h139 := (k133 _ e59).trans h126
  have h140 := (k133 _ e60).trans h127
  have h141 := (k133 _ e61).trans h119
  have h142 := (k133 _ (Ne.symm e65)).trans h129
  have k143 : ∀ zz : Nat, zz ≠ aa19 0 → zz ≠ aa19 1 → zz ≠ aa19 2 → zz ≠ aa19 3 → zz ≠ aa19 4 → M131 zz = M0 zz := fun zz z0 z1 z2 z3 z4 => (k133 zz z3).trans (k130 zz z0 z1 z2 z3 z4)
  refine x_iincN (z := 1) C dX8_copy_76 rfl (gs1_2 rfl) rfl ?_
  refine x_goto (tgt := 34) C dX8_copy_79 rfl ?_
  refine x_iload_n C dX8_copy_34 rfl rfl ?_
  refine x_bipush C dX8_copy_35 kb_16 ?_
  refine x_icmp_geF (tgt := 82) C (by decide +kernel) dX8_copy_37 rfl ?_
  refine x_aload_n C dX8_copy_40 rfl rfl ?_
  refine x_get C gcX8 h139 5 rfl q1141 rfl dX8_copy_41 ?_
  refine x_iload_n C dX8_copy_44 rfl rfl ?_
  refine x_aload_n C dX8_copy_45 rfl rfl ?_
  refine x_get C gcX8 h134 5 rfl q1141 rfl dX8_copy_46 ?_
  refine x_iload_n C dX8_copy_49 rfl rfl ?_
  refine y_iald (i := 2) C h135 rfl (by omega) rfl dX8_copy_50 ?_
  refine y_iast (i := 2) C h140 rfl (by omega) rfl dX8_copy_51 (fun M144 h145 k146 => ?_)
  have h147 := (k146 _ e30).trans h134
  have h148 := (k146 _ e34).trans h135
  have h149 := (k146 _ e38).trans h136
  have h150 := (k146 _ e42).trans h137
  have h151 := (k146 _ e46).trans h138
  have h152 := (k146 _ e56).trans h139
  have h153 := (k146 _ (Ne.symm e58)).trans h141
  have h154 := (k146 _ (Ne.symm e60)).trans h132
  have h155 := (k146 _ (Ne.symm e63)).trans h142
  have k156 : ∀ zz : Nat, zz ≠ aa19 0 → zz ≠ aa19 1 → zz ≠ aa19 2 → zz ≠ aa19 3 → zz ≠ aa19 4 → M144 zz = M0 zz := fun zz z0 z1 z2 z3 z4 => (k146 zz z1).trans (k143 zz z0 z1 z2 z3 z4)
  refine x_aload_n C dX8_copy_52 rfl rfl ?_
  refine x_get C gcX8 h152 6 rfl q1144 rfl dX8_copy_53 ?_
  refine x_iload_n C dX8_copy_56 rfl rfl ?_
  refine x_aload_n C dX8_copy_57 rfl rfl ?_
  refine x_get C gcX8 h147 6 rfl q1144 rfl dX8_copy_58 ?_
  refine x_iload_n C dX8_copy_61 rfl rfl ?_
  refine y_iald (i := 2) C h149 rfl (by omega) rfl dX8_copy_62 ?_
  refine y_iast (i := 2) C h153 rfl (by omega) rfl dX8_copy_63 (fun M157 h158 k159 => ?_)
  have h160 := (k159 _ e31).trans h147
  have h161 := (k159 _ e35).trans h148
  have h162 := (k159 _ e39).trans h149
  have h163 := (k159 _ e43).trans h150
  have h164 := (k159 _ e47).trans h151
  have h165 := (k159 _ e57).trans h152
  have h166 := (k159 _ e58).trans h145
  have h167 := (k159 _ (Ne.symm e61)).trans h154
  have h168 := (k159 _ (Ne.symm e64)).trans h155
  have k169 : ∀ zz : Nat, zz ≠ aa19 0 → zz ≠ aa19 1 → zz ≠ aa19 2 → zz ≠ aa19 3 → zz ≠ aa19 4 → M157 zz = M0 zz := fun zz z0 z1 z2 z3 z4 => (k159 zz z2).trans (k156 zz z0 z1 z2 z3 z4)
  refine x_aload_n C dX8_copy_64 rfl rfl ?_
  refine x_get C gcX8 h165 7 rfl q1147 rfl dX8_copy_65 ?_
  refine x_iload_n C dX8_copy_68 rfl rfl ?_
  refine x_aload_n C dX8_copy_69 rfl rfl ?_
  refine x_get C gcX8 h160 7 rfl q1147 rfl dX8_copy_70 ?_
  refine x_iload_n C dX8_copy_73 rfl rfl ?_
  refine y_iald (i := 2) C h163 rfl (by omega) rfl dX8_copy_74 ?_
  refine y_iast (i := 2) C h167 rfl (by omega) rfl dX8_copy_75 (fun M170 h171 k172 => ?_)
  have h173 := (k172 _ e32).trans h160
  have h174 := (k172 _ e36).trans h161
  have h175 := (k172 _ e40).trans h162
  have h176 := (k172 _ e44).trans h163
  have h177 := (k172 _ e48).trans h164
  have h178 := (k172 _ e59).trans h165
  have h179 := (k172 _ e60).trans h166
  have h180 := (k172 _ e61).trans h158
  have h181 := (k172 _ (Ne.symm e65)).trans h168
  have k182 : ∀ zz : Nat, zz ≠ aa19 0 → zz ≠ aa19 1 → zz ≠ aa19 2 → zz ≠ aa19 3 → zz ≠ aa19 4 → M170 zz = M0 zz := fun zz z0 z1 z2 z3 z4 => (k172 zz z3).trans (k169 zz z0 z1 z2 z3 z4)
  refine x_iincN (z := 1) C dX8_copy_76 rfl (gs1_2 rfl) rfl ?_
  refine x_goto (tgt := 34) C dX8_copy_79 rfl ?_
  refine x_iload_n C dX8_copy_34 rfl rfl ?_
  refine x_bipush C dX8_copy_35 kb_16 ?_
  refine x_icmp_geF (tgt := 82) C (by decide +kernel) dX8_copy_37 rfl ?_
  refine x_aload_n C dX8_copy_40 rfl rfl ?_
  refine x_get C gcX8 h178 5 rfl q1141 rfl dX8_copy_41 ?_
  refine x_iload_n C dX8_copy_44 rfl rfl ?_
  refine x_aload_n C dX8_copy_45 rfl rfl ?_
  refine x_get C gcX8 h173 5 rfl q1141 rfl dX8_copy_46 ?_
  refine x_iload_n C dX8_copy_49 rfl rfl ?_
  refine y_iald (i := 3) C h174 rfl (by omega) rfl dX8_copy_50 ?_
  refine y_iast (i := 3) C h179 rfl (by omega) rfl dX8_copy_51 (fun M183 h184 k185 => ?_)
  have h186 := (k185 _ e30).trans h173
  have h187 := (k185 _ e34).trans h174
  have h188 := (k185 _ e38).trans h175
  have h189 := (k185 _ e42).trans h176
  have h190 := (k185 _ e46).trans h177
  have h191 := (k185 _ e56).trans h178
  have h192 := (k185 _ (Ne.symm e58)).trans h180
  have h193 := (k185 _ (Ne.symm e60)).trans h171
  have h194 := (k185 _ (Ne.symm e63)).trans h181
  have k195 : ∀ zz : Nat, zz ≠ aa19 0 → zz ≠ aa19 1 → zz ≠ aa19 2 → zz ≠ aa19 3 → zz ≠ aa19 4 → M183 zz = M0 zz := fun zz z0 z1 z2 z3 z4 => (k185 zz z1).trans (k182 zz z0 z1 z2 z3 z4)
  refine x_aload_n C dX8_copy_52 rfl rfl ?_
  refine x_get C gcX8 h191 6 rfl q1144 rfl dX8_copy_53 ?_
  refine x_iload_n C dX8_copy_56 rfl rfl ?_
  refine x_aload_n C dX8_copy_57 rfl rfl ?_
  refine x_get C gcX8 h186 6 rfl q1144 rfl dX8_copy_58 ?_
  refine x_iload_n C dX8_copy_61 rfl rfl ?_
  refine y_iald (i := 3) C h188 rfl (by omega) rfl dX8_copy_62 ?_
  refine y_iast (i := 3) C h192 rfl (by omega) rfl dX8_copy_63 (fun M196 h197 k198 => ?_)
  have h199 := (k198 _ e31).trans h186
  have h200 := (k198 _ e35).trans h187
  have h201 := (k198 _ e39).trans h188
  have h202 := (k198 _ e43).trans h189
  have h203 := (k198 _ e47).trans h190
  have h204 := (k198 _ e57).trans h191
  have h205 := (k198 _ e58).trans h184
  have h206 := (k198 _ (Ne.symm e61)).trans h193
  have h207 := (k198 _ (Ne.symm e64)).trans h194
  have k208 : ∀ zz : Nat, zz ≠ aa19 0 → zz ≠ aa19 1 → zz ≠ aa19 2 → zz ≠ aa19 3 → zz ≠ aa19 4 → M196 zz = M0 zz := fun zz z0 z1 z2 z3 z4 => (k198 zz z2).trans (k195 zz z0 z1 z2 z3 z4)
  refine x_aload_n C dX8_copy_64 rfl rfl ?_
  refine x_get C gcX8 h204 7 rfl q1147 rfl dX8_copy_65 ?_
  refine x_iload_n C dX8_copy_68 rfl rfl ?_
  refine x_aload_n C dX8_copy_69 rfl rfl ?_
  refine x_get C gcX8 h199 7 rfl q1147 rfl dX8_copy_70 ?_
  refine x_iload_n C dX8_copy_73 rfl rfl ?_
  refine y_iald (i := 3) C h202 rfl (by omega) rfl dX8_copy_74 ?_
  refine y_iast (i := 3) C h206 rfl (by omega) rfl dX8_copy_75 (fun M209 h210 k211 => ?_)
  have h212 := (k211 _ e32).trans h199
  have h213 := (k211 _ e36).trans h200
  have h214 := (k211 _ e40).trans h201
  have h215 := (k211 _ e44).trans h202
  have h216 := (k211 _ e48).trans h203
  have h217 := (k211 _ e59).trans h204
  have h218 := (k211 _ e60).trans h205
  have h219 := (k211 _ e61).trans h197
  have h220 := (k211 _ (Ne.symm e65)).trans h207
  have k221 : ∀ zz : Nat, zz ≠ aa19 0 → zz ≠ aa19 1 → zz ≠ aa19 2 → zz ≠ aa19 3 → zz ≠ aa19 4 → M209 zz = M0 zz := fun zz z0 z1 z2 z3 z4 => (k211 zz z3).trans (k208 zz z0 z1 z2 z3 z4)
  refine x_iincN (z := 1) C dX8_copy_76 rfl (gs1_2 rfl) rfl ?_
  refine x_goto (tgt := 34) C dX8_copy_79 rfl ?_
  refine x_iload_n C dX8_copy_34 rfl rfl ?_
  refine x_bipush C dX8_copy_35 kb_16 ?_
  refine x_icmp_geF (tgt := 82) C (by decide +kernel) dX8_copy_37 rfl ?_
  refine x_aload_n C dX8_copy_40 rfl rfl ?_
  refine x_get C gcX8 h217 5 rfl q1141 rfl dX8_copy_41 ?_
  refine x_iload_n C dX8_copy_44 rfl rfl ?_
  refine x_aload_n C dX8_copy_45 rfl rfl ?_
  refine x_get C gcX8 h212 5 rfl q1141 rfl dX8_copy_46 ?_
  refine x_iload_n C dX8_copy_49 rfl rfl ?_
  refine y_iald (i := 4) C h213 rfl (by omega) rfl dX8_copy_50 ?_
  refine y_iast (i := 4) C h218 rfl (by omega) rfl dX8_copy_51 (fun M222 h223 k224 => ?_)
  have h225 := (k224 _ e30).trans h212
  have h226 := (k224 _ e34).trans h213
  have h227 := (k224 _ e38).trans h214
  have h228 := (k224 _ e42).trans h215
  have h229 := (k224 _ e46).trans h216
  have h230 := (k224 _ e56).trans h217
  have h231 := (k224 _ (Ne.symm e58)).trans h219
  have h232 := (k224 _ (Ne.symm e60)).trans h210
  have h233 := (k224 _ (Ne.symm e63)).trans h220
  have k234 : ∀ zz : Nat, zz ≠ aa19 0 → zz ≠ aa19 1 → zz ≠ aa19 2 → zz ≠ aa19 3 → zz ≠ aa19 4 → M222 zz = M0 zz := fun zz z0 z1 z2 z3 z4 => (k224 zz z1).trans (k221 zz z0 z1 z2 z3 z4)
  refine x_aload_n C dX8_copy_52 rfl rfl ?_
  refine x_get C gcX8 h230 6 rfl q1144 rfl dX8_copy_53 ?_
  refine x_iload_n C dX8_copy_56 rfl rfl ?_
  refine x_aload_n C dX8_copy_57 rfl rfl ?_
  refine x_get C gcX8 h225 6 rfl q1144 rfl dX8_copy_58 ?_
  refine x_iload_n C dX8_copy_61 rfl rfl ?_
  refine y_iald (i := 4) C h227 rfl (by omega) rfl dX8_copy_62 ?_
  refine y_iast (i := 4) C h231 rfl (by omega) rfl dX8_copy_63 (fun M235 h236 k237 => ?_)
  have h238 := (k237 _ e31).trans h225
  have h239 := (k237 _ e35).trans h226
  have h240 := (k237 _ e39).trans h227
  have h241 := (k237 _ e43).trans h228
  have h242 := (k237 _ e47).trans h229
  have h243 := (k237 _ e57).trans h230
  have h244 := (k237 _ e58).trans h223
  have h245 := (k237 _ (Ne.symm e61)).trans h232
  have h246 := (k237 _ (Ne.symm e64)).trans h233
  have k247 : ∀ zz : Nat, zz ≠ aa19 0 → zz ≠ aa19 1 → zz ≠ aa19 2 → zz ≠ aa19 3 → zz ≠ aa19 4 → M235 zz = M0 zz := fun zz z0 z1 z2 z3 z4 => (k237 zz z2).trans (k234 zz z0 z1 z2 z3 z4)
  refine x_aload_n C dX8_copy_64 rfl rfl ?_
  refine x_get C gcX8 h243 7 rfl q1147 rfl dX8_copy_65 ?_
  refine x_iload_n C dX8_copy_68 rfl rfl ?_
  refine x_aload_n C dX8_copy_69 rfl rfl ?_
  refine x_get C gcX8 h238 7 rfl q1147 rfl dX8_copy_70 ?_
  refine x_iload_n C dX8_copy_73 rfl rfl ?_
  refine y_iald (i := 4) C h241 rfl (by omega) rfl dX8_copy_74 ?_
  refine y_iast (i := 4) C h245 rfl (by omega) rfl dX8_copy_75 (fun M248 h249 k250 => ?_)
  have h251 := (k250 _ e32).trans h238
  have h252 := (k250 _ e36).trans h239
  have h253 := (k250 _ e40).trans h240
  have h254 := (k250 _ e44).trans h241
  have h255 := (k250 _ e48).trans h242
  have h256 := (k250 _ e59).trans h243
  have h257 := (k250 _ e60).trans h244
  have h258 := (k250 _ e61).trans h236
  have h259 := (k250 _ (Ne.symm e65)).trans h246
  have k260 : ∀ zz : Nat, zz ≠ aa19 0 → zz ≠ aa19 1 → zz ≠ aa19 2 → zz ≠ aa19 3 → zz ≠ aa19 4 → M248 zz = M0 zz := fun zz z0 z1 z2 z3 z4 => (k250 zz z3).trans (k247 zz z0 z1 z2 z3 z4)
  refine x_iincN (z := 1) C dX8_copy_76 rfl (gs1_2 rfl) rfl ?_
  refine x_goto (tgt := 34) C dX8_copy_79 rfl ?_
  refine x_iload_n C dX8_copy_34 rfl rfl ?_
  refine x_bipush C dX8_copy_35 kb_16 ?_
  refine x_icmp_geF (tgt := 82) C (by decide +kernel) dX8_copy_37 rfl ?_
  refine x_aload_n C dX8_copy_40 rfl rfl ?_
  refine x_get C gcX8 h256 5 rfl q1141 rfl dX8_copy_41 ?_
  refine x_iload_n C dX8_copy_44 rfl rfl ?_
  refine x_aload_n C dX8_copy_45 rfl rfl ?_
  refine x_get C gcX8 h251 5 rfl q1141 rfl dX8_copy_46 ?_
  refine x_iload_n C dX8_copy_49 rfl rfl ?_
  refine y_iald (i := 5) C h252 rfl (by omega) rfl dX8_copy_50 ?_
  refine y_iast (i := 5) C h257 rfl (by omega) rfl dX8_copy_51 (fun M261 h262 k263 => ?_)
  have h264 := (k263 _ e30).trans h251
  have h265 := (k263 _ e34).trans h252
  have h266 := (k263 _ e38).trans h253
  have h267 := (k263 _ e42).trans h254
  have h268 := (k263 _ e46).trans h255
  have h269 := (k263 _ e56).trans h256
  have h270 := (k263 _ (Ne.symm e58)).trans h258
  have h271 := (k263 _ (Ne.symm e60)).trans h249
  have h272 := (k263 _ (Ne.symm e63)).trans h259
  have k273 : ∀ zz : Nat, zz ≠ aa19 0 → zz ≠ aa19 1 → zz ≠ aa19 2 → zz ≠ aa19 3 → zz ≠ aa19 4 → M261 zz = M0 zz := fun zz z0 z1 z2 z3 z4 => (k263 zz z1).trans (k260 zz z0 z1 z2 z3 z4)
  refine x_aload_n C dX8_copy_52 rfl rfl ?_
  refine x_get C gcX8 h269 6 rfl q1144 rfl dX8_copy_53 ?_
  refine x_iload_n C dX8_copy_56 rfl rfl ?_
  refine x_aload_n C dX8_copy_57 rfl rfl ?_
  refine x_get C gcX8 h264 6 rfl q1144 rfl dX8_copy_58 ?_
  refine x_iload_n C dX8_copy_61 rfl rfl ?_
  refine y_iald (i := 5) C h266 rfl (by omega) rfl dX8_copy_62 ?_
  refine y_iast (i := 5) C h270 rfl (by omega) rfl dX8_copy_63 (fun M274 h275 k276 => ?_)
  have h277 := (k276 _ e31).trans h264
  have h278 := (k276 _ e35).trans h265
  have h279 := (k276 _ e39).trans h266
  have h280 := (k276 _ e43).trans h267
  have h281 := (k276 _ e47).trans h268
  have h282 := (k276 _ e57).trans h269
  have h283 := (k276 _ e58).trans h262
  have h284 := (k276 _ (Ne.symm e61)).trans h271
  have h285 := (k276 _ (Ne.symm e64)).trans h272
  have k286 : ∀ zz : Nat, zz ≠ aa19 0 → zz ≠ aa19 1 → zz ≠ aa19 2 → zz ≠ aa19 3 → zz ≠ aa19 4 → M274 zz = M0 zz := fun zz z0 z1 z2 z3 z4 => (k276 zz z2).trans (k273 zz z0 z1 z2 z3 z4)
  refine x_aload_n C dX8_copy_64 rfl rfl ?_
  refine x_get C gcX8 h282 7 rfl q1147 rfl dX8_copy_65 ?_
  refine x_iload_n C dX8_copy_68 rfl rfl ?_
  refine x_aload_n C dX8_copy_69 rfl rfl ?_
  refine x_get C gcX8 h277 7 rfl q1147 rfl dX8_copy_70 ?_
  refine x_iload_n C dX8_copy_73 rfl rfl ?_
  refine y_iald (i := 5) C h280 rfl (by omega) rfl dX8_copy_74 ?_
  refine y_iast (i := 5) C h284 rfl (by omega) rfl dX8_copy_75 (fun M287 h288 k289 => ?_)
  have h290 := (k289 _ e32).trans h277
  have h291 := (k289 _ e36).trans h278
  have h292 := (k289 _ e40).trans h279
  have h293 := (k289 _ e44).trans h280
  have h294 := (k289 _ e48).trans h281
  have h295 := (k289 _ e59).trans h282
  have h296 := (k289 _ e60).trans h283
  have h297 := (k289 _ e61).trans h275
  have h298 := (k289 _ (Ne.symm e65)).trans h285
  have k299 : ∀ zz : Nat, zz ≠ aa19 0 → zz ≠ aa19 1 → zz ≠ aa19 2 → zz ≠ aa19 3 → zz ≠ aa19 4 → M287 zz = M0 zz := fun zz z0 z1 z2 z3 z4 => (k289 zz z3).trans (k286 zz z0 z1 z2 z3 z4)
  refine x_iincN (z := 1) C dX8_copy_76 rfl (gs1_2 rfl) rfl ?_
  refine x_goto (tgt := 34) C dX8_copy_79 rfl ?_
  refine x_iload_n C dX8_copy_34 rfl rfl ?_
  refine x_bipush C dX8_copy_35 kb_16 ?_
  refine x_icmp_geF (tgt := 82) C (by decide +kernel) dX8_copy_37 rfl ?_
  refine x_aload_n C dX8_copy_40 rfl rfl ?_
  refine x_get C gcX8 h295 5 rfl q1141 rfl dX8_copy_41 ?_
  refine x_iload_n C dX8_copy_44 rfl rfl ?_
  refine x_aload_n C dX8_copy_45 rfl rfl ?_
  refine x_get C gcX8 h290 5 rfl q1141 rfl dX8_copy_46 ?_
  refine x_iload_n C dX8_copy_49 rfl rfl ?_
  refine y_iald (i := 6) C h291 rfl (by omega) rfl dX8_copy_50 ?_
  refine y_iast (i := 6) C h296 rfl (by omega) rfl dX8_copy_51 (fun M300 h301 k302 => ?_)
  have h303 := (k302 _ e30).trans h290
  have h304 := (k302 _ e34).trans h291
  have h305 := (k302 _ e38).trans h292
  have h306 := (k302 _ e42).trans h293
  have h307 := (k302 _ e46).trans h294
  have h308 := (k302 _ e56).trans h295
  have h309 := (k302 _ (Ne.symm e58)).trans h297
  have h310 := (k302 _ (Ne.symm e60)).trans h288
  have h311 := (k302 _ (Ne.symm e63)).trans h298
  have k312 : ∀ zz : Nat, zz ≠ aa19 0 → zz ≠ aa19 1 → zz ≠ aa19 2 → zz ≠ aa19 3 → zz ≠ aa19 4 → M300 zz = M0 zz := fun zz z0 z1 z2 z3 z4 => (k302 zz z1).trans (k299 zz z0 z1 z2 z3 z4)
  refine x_aload_n C dX8_copy_52 rfl rfl ?_
  refine x_get C gcX8 h308 6 rfl q1144 rfl dX8_copy_53 ?_
  refine x_iload_n C dX8_copy_56 rfl rfl ?_
  refine x_aload_n C dX8_copy_57 rfl rfl ?_
  refine x_get C gcX8 h303 6 rfl q1144 rfl dX8_copy_58 ?_
  refine x_iload_n C dX8_copy_61 rfl rfl ?_
  refine y_iald (i := 6) C h305 rfl (by omega) rfl dX8_copy_62 ?_
  refine y_iast (i := 6) C h309 rfl (by omega) rfl dX8_copy_63 (fun M313 h314 k315 => ?_)
  have h316 := (k315 _ e31).trans h303
  have h317 := (k315 _ e35).trans h304
  have h318 := (k315 _ e39).trans h305
  have h319 := (k315 _ e43).trans h306
  have h320 := (k315 _ e47).trans h307
  have h321 := (k315 _ e57).trans h308
  have h322 := (k315 _ e58).trans h301
  have h323 := (k315 _ (Ne.symm e61)).trans h310
  have h324 := (k315 _ (Ne.symm e64)).trans h311
  have k325 : ∀ zz : Nat, zz ≠ aa19 0 → zz ≠ aa19 1 → zz ≠ aa19 2 → zz ≠ aa19 3 → zz ≠ aa19 4 → M313 zz = M0 zz := fun zz z0 z1 z2 z3 z4 => (k315 zz z2).trans (k312 zz z0 z1 z2 z3 z4)
  refine x_aload_n C dX8_copy_64 rfl rfl ?_
  refine x_get C gcX8 h321 7 rfl q1147 rfl dX8_copy_65 ?_
  refine x_iload_n C dX8_copy_68 rfl rfl ?_
  refine x_aload_n C dX8_copy_69 rfl rfl ?_
  refine x_get C gcX8 h316 7 rfl q1147 rfl dX8_copy_70 ?_
  refine x_iload_n C dX8_copy_73 rfl rfl ?_
  refine y_iald (i := 6) C h319 rfl (by omega) rfl dX8_copy_74 ?_
  refine y_iast (i := 6) C h323 rfl (by omega) rfl dX8_copy_75 (fun M326 h327 k328 => ?_)
  have h329 := (k328 _ e32).trans h316
  have h330 := (k328 _ e36).trans h317
  have h331 := (k328 _ e40).trans h318
  have h332 := (k328 _ e44).trans h319
  have h333 := (k328 _ e48).trans h320
  have h334 := (k328 _ e59).trans h321
  have h335 := (k328 _ e60).trans h322
  have h336 := (k328 _ e61).trans h314
  have h337 := (k328 _ (Ne.symm e65)).trans h324
  have k338 : ∀ zz : Nat, zz ≠ aa19 0 → zz ≠ aa19 1 → zz ≠ aa19 2 → zz ≠ aa19 3 → zz ≠ aa19 4 → M326 zz = M0 zz := fun zz z0 z1 z2 z3 z4 => (k328 zz z3).trans (k325 zz z0 z1 z2 z3 z4)
  refine x_iincN (z := 1) C dX8_copy_76 rfl (gs1_2 rfl) rfl ?_
  refine x_goto (tgt := 34) C dX8_copy_79 rfl ?_
  refine x_iload_n C dX8_copy_34 rfl rfl ?_
  refine x_bipush C dX8_copy_35 kb_16 ?_
  refine x_icmp_geF (tgt := 82) C (by decide +kernel) dX8_copy_37 rfl ?_
  refine x_aload_n C dX8_copy_40 rfl rfl ?_
  refine x_get C gcX8 h334 5 rfl q1141 rfl dX8_copy_41 ?_
  refine x_iload_n C dX8_copy_44 rfl rfl ?_
  refine x_aload_n C dX8_copy_45 rfl rfl ?_
  refine x_get C gcX8 h329 5 rfl q1141 rfl dX8_copy_46 ?_
  refine x_iload_n C dX8_copy_49 rfl rfl ?_
  refine y_iald (i := 7) C h330 rfl (by omega) rfl dX8_copy_50 ?_
  refine y_iast (i := 7) C h335 rfl (by omega) rfl dX8_copy_51 (fun M339 h340 k341 => ?_)
  have h342 := (k341 _ e30).trans h329
  have h343 := (k341 _ e34).trans h330
  have h344 := (k341 _ e38).trans h331
  have h345 := (k341 _ e42).trans h332
  have h346 := (k341 _ e46).trans h333
  have h347 := (k341 _ e56).trans h334
  have h348 := (k341 _ (Ne.symm e58)).trans h336
  have h349 := (k341 _ (Ne.symm e60)).trans h327
  have h350 := (k341 _ (Ne.symm e63)).trans h337
  have k351 : ∀ zz : Nat, zz ≠ aa19 0 → zz ≠ aa19 1 → zz ≠ aa19 2 → zz ≠ aa19 3 → zz ≠ aa19 4 → M339 zz = M0 zz := fun zz z0 z1 z2 z3 z4 => (k341 zz z1).trans (k338 zz z0 z1 z2 z3 z4)
  refine x_aload_n C dX8_copy_52 rfl rfl ?_
  refine x_get C gcX8 h347 6 rfl q1144 rfl dX8_copy_53 ?_
  refine x_iload_n C dX8_copy_56 rfl rfl ?_
  refine x_aload_n C dX8_copy_57 rfl rfl ?_
  refine x_get C gcX8 h342 6 rfl q1144 rfl dX8_copy_58 ?_
  refine x_iload_n C dX8_copy_61 rfl rfl ?_
  refine y_iald (i := 7) C h344 rfl (by omega) rfl dX8_copy_62 ?_
  refine y_iast (i := 7) C h348 rfl (by omega) rfl dX8_copy_63 (fun M352 h353 k354 => ?_)
  have h355 := (k354 _ e31).trans h342
  have h356 := (k354 _ e35).trans h343
  have h357 := (k354 _ e39).trans h344
  have h358 := (k354 _ e43).trans h345
  have h359 := (k354 _ e47).trans h346
  have h360 := (k354 _ e57).trans h347
  have h361 := (k354 _ e58).trans h340
  have h362 := (k354 _ (Ne.symm e61)).trans h349
  have h363 := (k354 _ (Ne.symm e64)).trans h350
  have k364 : ∀ zz : Nat, zz ≠ aa19 0 → zz ≠ aa19 1 → zz ≠ aa19 2 → zz ≠ aa19 3 → zz ≠ aa19 4 → M352 zz = M0 zz := fun zz z0 z1 z2 z3 z4 => (k354 zz z2).trans (k351 zz z0 z1 z2 z3 z4)
  refine x_aload_n C dX8_copy_64 rfl rfl ?_
  refine x_get C gcX8 h360 7 rfl q1147 rfl dX8_copy_65 ?_
  refine x_iload_n C dX8_copy_68 rfl rfl ?_
  refine x_aload_n C dX8_copy_69 rfl rfl ?_
  refine x_get C gcX8 h355 7 rfl q1147 rfl dX8_copy_70 ?_
  refine x_iload_n C dX8_copy_73 rfl rfl ?_
  refine y_iald (i := 7) C h358 rfl (by omega) rfl dX8_copy_74 ?_
  refine y_iast (i := 7) C h362 rfl (by omega) rfl dX8_copy_75 (fun M365 h366 k367 => ?_)
  have h368 := (k367 _ e32).trans h355
  have h369 := (k367 _ e36).trans h356
  have h370 := (k367 _ e40).trans h357
  have h371 := (k367 _ e44).trans h358
  have h372 := (k367 _ e48).trans h359
  have h373 := (k367 _ e59).trans h360
  have h374 := (k367 _ e60).trans h361
  have h375 := (k367 _ e61).trans h353
  have h376 := (k367 _ (Ne.symm e65)).trans h363
  have k377 : ∀ zz : Nat, zz ≠ aa19 0 → zz ≠ aa19 1 → zz ≠ aa19 2 → zz ≠ aa19 3 → zz ≠ aa19 4 → M365 zz = M0 zz := fun zz z0 z1 z2 z3 z4 => (k367 zz z3).trans (k364 zz z0 z1 z2 z3 z4)
  refine x_iincN (z := 1) C dX8_copy_76 rfl (gs1_2 rfl) rfl ?_
  refine x_goto (tgt := 34) C dX8_copy_79 rfl ?_
  refine x_iload_n C dX8_copy_34 rfl rfl ?_
  refine x_bipush C dX8_copy_35 kb_16 ?_
  refine x_icmp_geF (tgt := 82) C (by decide +kernel) dX8_copy_37 rfl ?_
  refine x_aload_n C dX8_copy_40 rfl rfl ?_
  refine x_get C gcX8 h373 5 rfl q1141 rfl dX8_copy_41 ?_
  refine x_iload_n C dX8_copy_44 rfl rfl ?_
  refine x_aload_n C dX8_copy_45 rfl rfl ?_
  refine x_get C gcX8 h368 5 rfl q1141 rfl dX8_copy_46 ?_
  refine x_iload_n C dX8_copy_49 rfl rfl ?_
  refine y_iald (i := 8) C h369 rfl (by omega) rfl dX8_copy_50 ?_
  refine y_iast (i := 8) C h374 rfl (by omega) rfl dX8_copy_51 (fun M378 h379 k380 => ?_)
  have h381 := (k380 _ e30).trans h368
  have h382 := (k380 _ e34).trans h369
  have h383 := (k380 _ e38).trans h370
  have h384 := (k380 _ e42).trans h371
  have h385 := (k380 _ e46).trans h372
  have h386 := (k380 _ e56).trans h373
  have h387 := (k380 _ (Ne.symm e58)).trans h375
  have h388 := (k380 _ (Ne.symm e60)).trans h366
  have h389 := (k380 _ (Ne.symm e63)).trans h376
  have k390 : ∀ zz : Nat, zz ≠ aa19 0 → zz ≠ aa19 1 → zz ≠ aa19 2 → zz ≠ aa19 3 → zz ≠ aa19 4 → M378 zz = M0 zz := fun zz z0 z1 z2 z3 z4 => (k380 zz z1).trans (k377 zz z0 z1 z2 z3 z4)
  refine x_aload_n C dX8_copy_52 rfl rfl ?_
  refine x_get C gcX8 h386 6 rfl q1144 rfl dX8_copy_53 ?_
  refine x_iload_n C dX8_copy_56 rfl rfl ?_
  refine x_aload_n C dX8_copy_57 rfl rfl ?_
  refine x_get C gcX8 h381 6 rfl q1144 rfl dX8_copy_58 ?_
  refine x_iload_n C dX8_copy_61 rfl rfl ?_
  refine y_iald (i := 8) C h383 rfl (by omega) rfl dX8_copy_62 ?_
  refine y_iast (i := 8) C h387 rfl (by omega) rfl dX8_copy_63 (fun M391 h392 k393 => ?_)
  have h394 := (k393 _ e31).trans h381
  have h395 := (k393 _ e35).trans h382
  have h396 := (k393 _ e39).trans h383
  have h397 := (k393 _ e43).trans h384
  have h398 := (k393 _ e47).trans h385
  have h399 := (k393 _ e57).trans h386
  have h400 := (k393 _ e58).trans h379
  have h401 := (k393 _ (Ne.symm e61)).trans h388
  have h402 := (k393 _ (Ne.symm e64)).trans h389
  have k403 : ∀ zz : Nat, zz ≠ aa19 0 → zz ≠ aa19 1 → zz ≠ aa19 2 → zz ≠ aa19 3 → zz ≠ aa19 4 → M391 zz = M0 zz := fun zz z0 z1 z2 z3 z4 => (k393 zz z2).trans (k390 zz z0 z1 z2 z3 z4)
  refine x_aload_n C dX8_copy_64 rfl rfl ?_
  refine x_get C gcX8 h399 7 rfl q1147 rfl dX8_copy_65 ?_
  refine x_iload_n C dX8_copy_68 rfl rfl ?_
  refine x_aload_n C dX8_copy_69 rfl rfl ?_
  refine x_get C gcX8 h394 7 rfl q1147 rfl dX8_copy_70 ?_
  refine x_iload_n C dX8_copy_73 rfl rfl ?_
  refine y_iald (i := 8) C h397 rfl (by omega) rfl dX8_copy_74 ?_
  refine y_iast (i := 8) C h401 rfl (by omega) rfl dX8_copy_75 (fun M404 h405 k406 => ?_)
  have h407 := (k406 _ e32).trans h394
  have h408 := (k406 _ e36).trans h395
  have h409 := (k406 _ e40).trans h396
  have h410 := (k406 _ e44).trans h397
  have h411 := (k406 _ e48).trans h398
  have h412 := (k406 _ e59).trans h399
  have h413 := (k406 _ e60).trans h400
  have h414 := (k406 _ e61).trans h392
  have h415 := (k406 _ (Ne.symm e65)).trans h402
  have k416 : ∀ zz : Nat, zz ≠ aa19 0 → zz ≠ aa19 1 → zz ≠ aa19 2 → zz ≠ aa19 3 → zz ≠ aa19 4 → M404 zz = M0 zz := fun zz z0 z1 z2 z3 z4 => (k406 zz z3).trans (k403 zz z0 z1 z2 z3 z4)
  refine x_iincN (z := 1) C dX8_copy_76 rfl (gs1_2 rfl) rfl ?_
  refine x_goto (tgt := 34) C dX8_copy_79 rfl ?_
  refine x_iload_n C dX8_copy_34 rfl rfl ?_
  refine x_bipush C dX8_copy_35 kb_16 ?_
  refine x_icmp_geF (tgt := 82) C (by decide +kernel) dX8_copy_37 rfl ?_
  refine x_aload_n C dX8_copy_40 rfl rfl ?_
  refine x_get C gcX8 h412 5 rfl q1141 rfl dX8_copy_41 ?_
  refine x_iload_n C dX8_copy_44 rfl rfl ?_
  refine x_aload_n C dX8_copy_45 rfl rfl ?_
  refine x_get C gcX8 h407 5 rfl q1141 rfl dX8_copy_46 ?_
  refine x_iload_n C dX8_copy_49 rfl rfl ?_
  refine y_iald (i := 9) C h408 rfl (by omega) rfl dX8_copy_50 ?_
  refine y_iast (i := 9) C h413 rfl (by omega) rfl dX8_copy_51 (fun M417 h418 k419 => ?_)
  have h420 := (k419 _ e30).trans h407
  have h421 := (k419 _ e34).trans h408
  have h422 := (k419 _ e38).trans h409
  have h423 := (k419 _ e42).trans h410
  have h424 := (k419 _ e46).trans h411
  have h425 := (k419 _ e56).trans h412
  have h426 := (k419 _ (Ne.symm e58)).trans h414
  have h427 := (k419 _ (Ne.symm e60)).trans h405
  have h428 := (k419 _ (Ne.symm e63)).trans h415
  have k429 : ∀ zz : Nat, zz ≠ aa19 0 → zz ≠ aa19 1 → zz ≠ aa19 2 → zz ≠ aa19 3 → zz ≠ aa19 4 → M417 zz = M0 zz := fun zz z0 z1 z2 z3 z4 => (k419 zz z1).trans (k416 zz z0 z1 z2 z3 z4)
  refine x_aload_n C dX8_copy_52 rfl rfl ?_
  refine x_get C gcX8 h425 6 rfl q1144 rfl dX8_copy_53 ?_
  refine x_iload_n C dX8_copy_56 rfl rfl ?_
  refine x_aload_n C dX8_copy_57 rfl rfl ?_
  refine x_get C gcX8 h420 6 rfl q1144 rfl dX8_copy_58 ?_
  refine x_iload_n C dX8_copy_61 rfl rfl ?_
  refine y_iald (i := 9) C h422 rfl (by omega) rfl dX8_copy_62 ?_
  refine y_iast (i := 9) C h426 rfl (by omega) rfl dX8_copy_63 (fun M430 h431 k432 => ?_)
  have h433 := (k432 _ e31).trans h420
  have h434 := (k432 _ e35).trans h421
  have h435 := (k432 _ e39).trans h422
  have h436 := (k432 _ e43).trans h423
  have h437 := (k432 _ e47).trans h424
  have h438 := (k432 _ e57).trans h425
  have h439 := (k432 _ e58).trans h418
  have h440 := (k432 _ (Ne.symm e61)).trans h427
  have h441 := (k432 _ (Ne.symm e64)).trans h428
  have k442 : ∀ zz : Nat, zz ≠ aa19 0 → zz ≠ aa19 1 → zz ≠ aa19 2 → zz ≠ aa19 3 → zz ≠ aa19 4 → M430 zz = M0 zz := fun zz z0 z1 z2 z3 z4 => (k432 zz z2).trans (k429 zz z0 z1 z2 z3 z4)
  refine x_aload_n C dX8_copy_64 rfl rfl ?_
  refine x_get C gcX8 h438 7 rfl q1147 rfl dX8_copy_65 ?_
  refine x_iload_n C dX8_copy_68 rfl rfl ?_
  refine x_aload_n C dX8_copy_69 rfl rfl ?_
  refine x_get C gcX8 h433 7 rfl q1147 rfl dX8_copy_70 ?_
  refine x_iload_n C dX8_copy_73 rfl rfl ?_
  refine y_iald (i := 9) C h436 rfl (by omega) rfl dX8_copy_74 ?_
  refine y_iast (i := 9) C h440 rfl (by omega) rfl dX8_copy_75 (fun M443 h444 k445 => ?_)
  have h446 := (k445 _ e32).trans h433
  have h447 := (k445 _ e36).trans h434
  have h448 := (k445 _ e40).trans h435
  have h449 := (k445 _ e44).trans h436
  have h450 := (k445 _ e48).trans h437
  have h451 := (k445 _ e59).trans h438
  have h452 := (k445 _ e60).trans h439
  have h453 := (k445 _ e61).trans h431
  have h454 := (k445 _ (Ne.symm e65)).trans h441
  have k455 : ∀ zz : Nat, zz ≠ aa19 0 → zz ≠ aa19 1 → zz ≠ aa19 2 → zz ≠ aa19 3 → zz ≠ aa19 4 → M443 zz = M0 zz := fun zz z0 z1 z2 z3 z4 => (k445 zz z3).trans (k442 zz z0 z1 z2 z3 z4)
  refine x_iincN (z := 1) C dX8_copy_76 rfl (gs1_2 rfl) rfl ?_
  refine x_goto (tgt := 34) C dX8_copy_79 rfl ?_
  refine x_iload_n C dX8_copy_34 rfl rfl ?_
  refine x_bipush C dX8_copy_35 kb_16 ?_
  refine x_icmp_geF (tgt := 82) C (by decide +kernel) dX8_copy_37 rfl ?_
  refine x_aload_n C dX8_copy_40 rfl rfl ?_
  refine x_get C gcX8 h451 5 rfl q1141 rfl dX8_copy_41 ?_
  refine x_iload_n C dX8_copy_44 rfl rfl ?_
  refine x_aload_n C dX8_copy_45 rfl rfl ?_
  refine x_get C gcX8 h446 5 rfl q1141 rfl dX8_copy_46 ?_
  refine x_iload_n C dX8_copy_49 rfl rfl ?_
  refine y_iald (i := 10) C h447 rfl (by omega) rfl dX8_copy_50 ?_
  refine y_iast (i := 10) C h452 rfl (by omega) rfl dX8_copy_51 (fun M456 h457 k458 => ?_)
  have h459 := (k458 _ e30).trans h446
  have h460 := (k458 _ e34).trans h447
  have h461 := (k458 _ e38).trans h448
  have h462 := (k458 _ e42).trans h449
  have h463 := (k458 _ e46).trans h450
  have h464 := (k458 _ e56).trans h451
  have h465 := (k458 _ (Ne.symm e58)).trans h453
  have h466 := (k458 _ (Ne.symm e60)).trans h444
  have h467 := (k458 _ (Ne.symm e63)).trans h454
  have k468 : ∀ zz : Nat, zz ≠ aa19 0 → zz ≠ aa19 1 → zz ≠ aa19 2 → zz ≠ aa19 3 → zz ≠ aa19 4 → M456 zz = M0 zz := fun zz z0 z1 z2 z3 z4 => (k458 zz z1).trans (k455 zz z0 z1 z2 z3 z4)
  refine x_aload_n C dX8_copy_52 rfl rfl ?_
  refine x_get C gcX8 h464 6 rfl q1144 rfl dX8_copy_53 ?_
  refine x_iload_n C dX8_copy_56 rfl rfl ?_
  refine x_aload_n C dX8_copy_57 rfl rfl ?_
  refine x_get C gcX8 h459 6 rfl q1144 rfl dX8_copy_58 ?_
  refine x_iload_n C dX8_copy_61 rfl rfl ?_
  refine y_iald (i := 10) C h461 rfl (by omega) rfl dX8_copy_62 ?_
  refine y_iast (i := 10) C h465 rfl (by omega) rfl dX8_copy_63 (fun M469 h470 k471 => ?_)
  have h472 := (k471 _ e31).trans h459
  have h473 := (k471 _ e35).trans h460
  have h474 := (k471 _ e39).trans h461
  have h475 := (k471 _ e43).trans h462
  have h476 := (k471 _ e47).trans h463
  have h477 := (k471 _ e57).trans h464
  have h478 := (k471 _ e58).trans h457
  have h479 := (k471 _ (Ne.symm e61)).trans h466
  have h480 := (k471 _ (Ne.symm e64)).trans h467
  have k481 : ∀ zz : Nat, zz ≠ aa19 0 → zz ≠ aa19 1 → zz ≠ aa19 2 → zz ≠ aa19 3 → zz ≠ aa19 4 → M469 zz = M0 zz := fun zz z0 z1 z2 z3 z4 => (k471 zz z2).trans (k468 zz z0 z1 z2 z3 z4)
  refine x_aload_n C dX8_copy_64 rfl rfl ?_
  refine x_get C gcX8 h477 7 rfl q1147 rfl dX8_copy_65 ?_
  refine x_iload_n C dX8_copy_68 rfl rfl ?_
  refine x_aload_n C dX8_copy_69 rfl rfl ?_
  refine x_get C gcX8 h472 7 rfl q1147 rfl dX8_copy_70 ?_
  refine x_iload_n C dX8_copy_73 rfl rfl ?_
  refine y_iald (i := 10) C h475 rfl (by omega) rfl dX8_copy_74 ?_
  refine y_iast (i := 10) C h479 rfl (by omega) rfl dX8_copy_75 (fun M482 h483 k484 => ?_)
  have h485 := (k484 _ e32).trans h472
  have h486 := (k484 _ e36).trans h473
  have h487 := (k484 _ e40).trans h474
  have h488 := (k484 _ e44).trans h475
  have h489 := (k484 _ e48).trans h476
  have h490 := (k484 _ e59).trans h477
  have h491 := (k484 _ e60).trans h478
  have h492 := (k484 _ e61).trans h470
  have h493 := (k484 _ (Ne.symm e65)).trans h480
  have k494 : ∀ zz : Nat, zz ≠ aa19 0 → zz ≠ aa19 1 → zz ≠ aa19 2 → zz ≠ aa19 3 → zz ≠ aa19 4 → M482 zz = M0 zz := fun zz z0 z1 z2 z3 z4 => (k484 zz z3).trans (k481 zz z0 z1 z2 z3 z4)
  refine x_iincN (z := 1) C dX8_copy_76 rfl (gs1_2 rfl) rfl ?_
  refine x_goto (tgt := 34) C dX8_copy_79 rfl ?_
  refine x_iload_n C dX8_copy_34 rfl rfl ?_
  refine x_bipush C dX8_copy_35 kb_16 ?_
  refine x_icmp_geF (tgt := 82) C (by decide +kernel) dX8_copy_37 rfl ?_
  refine x_aload_n C dX8_copy_40 rfl rfl ?_
  refine x_get C gcX8 h490 5 rfl q1141 rfl dX8_copy_41 ?_
  refine x_iload_n C dX8_copy_44 rfl rfl ?_
  refine x_aload_n C dX8_copy_45 rfl rfl ?_
  refine x_get C gcX8 h485 5 rfl q1141 rfl dX8_copy_46 ?_
  refine x_iload_n C dX8_copy_49 rfl rfl ?_
  refine y_iald (i := 11) C h486 rfl (by omega) rfl dX8_copy_50 ?_
  refine y_iast (i := 11) C h491 rfl (by omega) rfl dX8_copy_51 (fun M495 h496 k497 => ?_)
  have h498 := (k497 _ e30).trans h485
  have h499 := (k497 _ e34).trans h486
  have h500 := (k497 _ e38).trans h487
  have h501 := (k497 _ e42).trans h488
  have h502 := (k497 _ e46).trans h489
  have h503 := (k497 _ e56).trans h490
  have h504 := (k497 _ (Ne.symm e58)).trans h492
  have h505 := (k497 _ (Ne.symm e60)).trans h483
  have h506 := (k497 _ (Ne.symm e63)).trans h493
  have k507 : ∀ zz : Nat, zz ≠ aa19 0 → zz ≠ aa19 1 → zz ≠ aa19 2 → zz ≠ aa19 3 → zz ≠ aa19 4 → M495 zz = M0 zz := fun zz z0 z1 z2 z3 z4 => (k497 zz z1).trans (k494 zz z0 z1 z2 z3 z4)
  refine x_aload_n C dX8_copy_52 rfl rfl ?_
  refine x_get C gcX8 h503 6 rfl q1144 rfl dX8_copy_53 ?_
  refine x_iload_n C dX8_copy_56 rfl rfl ?_
  refine x_aload_n C dX8_copy_57 rfl rfl ?_
  refine x_get C gcX8 h498 6 rfl q1144 rfl dX8_copy_58 ?_
  refine x_iload_n C dX8_copy_61 rfl rfl ?_
  refine y_iald (i := 11) C h500 rfl (by omega) rfl dX8_copy_62 ?_
  refine y_iast (i := 11) C h504 rfl (by omega) rfl dX8_copy_63 (fun M508 h509 k510 => ?_)
  have h511 := (k510 _ e31).trans h498
  have h512 := (k510 _ e35).trans h499
  have h513 := (k510 _ e39).trans h500
  have h514 := (k510 _ e43).trans h501
  have h515 := (k510 _ e47).trans h502
  have h516 := (k510 _ e57).trans h503
  have h517 := (k510 _ e58).trans h496
  have h518 := (k510 _ (Ne.symm e61)).trans h505
  have h519 := (k510 _ (Ne.symm e64)).trans h506
  have k520 : ∀ zz : Nat, zz ≠ aa19 0 → zz ≠ aa19 1 → zz ≠ aa19 2 → zz ≠ aa19 3 → zz ≠ aa19 4 → M508 zz = M0 zz := fun zz z0 z1 z2 z3 z4 => (k510 zz z2).trans (k507 zz z0 z1 z2 z3 z4)
  refine x_aload_n C dX8_copy_64 rfl rfl ?_
  refine x_get C gcX8 h516 7 rfl q1147 rfl dX8_copy_65 ?_
  refine x_iload_n C dX8_copy_68 rfl rfl ?_
  refine x_aload_n C dX8_copy_69 rfl rfl ?_
  refine x_get C gcX8 h511 7 rfl q1147 rfl dX8_copy_70 ?_
  refine x_iload_n C dX8_copy_73 rfl rfl ?_
  refine y_iald (i := 11) C h514 rfl (by omega) rfl dX8_copy_74 ?_
  refine y_iast (i := 11) C h518 rfl (by omega) rfl dX8_copy_75 (fun M521 h522 k523 => ?_)
  have h524 := (k523 _ e32).trans h511
  have h525 := (k523 _ e36).trans h512
  have h526 := (k523 _ e40).trans h513
  have h527 := (k523 _ e44).trans h514
  have h528 := (k523 _ e48).trans h515
  have h529 := (k523 _ e59).trans h516
  have h530 := (k523 _ e60).trans h517
  have h531 := (k523 _ e61).trans h509
  have h532 := (k523 _ (Ne.symm e65)).trans h519
  have k533 : ∀ zz : Nat, zz ≠ aa19 0 → zz ≠ aa19 1 → zz ≠ aa19 2 → zz ≠ aa19 3 → zz ≠ aa19 4 → M521 zz = M0 zz := fun zz z0 z1 z2 z3 z4 => (k523 zz z3).trans (k520 zz z0 z1 z2 z3 z4)
  refine x_iincN (z := 1) C dX8_copy_76 rfl (gs1_2 rfl) rfl ?_
  refine x_goto (tgt := 34) C dX8_copy_79 rfl ?_
  refine x_iload_n C dX8_copy_34 rfl rfl ?_
  refine x_bipush C dX8_copy_35 kb_16 ?_
  refine x_icmp_geF (tgt := 82) C (by decide +kernel) dX8_copy_37 rfl ?_
  refine x_aload_n C dX8_copy_40 rfl rfl ?_
  refine x_get C gcX8 h529 5 rfl q1141 rfl dX8_copy_41 ?_
  refine x_iload_n C dX8_copy_44 rfl rfl ?_
  refine x_aload_n C dX8_copy_45 rfl rfl ?_
  refine x_get C gcX8 h524 5 rfl q1141 rfl dX8_copy_46 ?_
  refine x_iload_n C dX8_copy_49 rfl rfl ?_
  refine y_iald (i := 12) C h525 rfl (by omega) rfl dX8_copy_50 ?_
  refine y_iast (i := 12) C h530 rfl (by omega) rfl dX8_copy_51 (fun M534 h535 k536 => ?_)
  have h537 := (k536 _ e30).trans h524
  have h538 := (k536 _ e34).trans h525
  have h539 := (k536 _ e38).trans h526
  have h540 := (k536 _ e42).trans h527
  have h541 := (k536 _ e46).trans h528
  have h542 := (k536 _ e56).trans h529
  have h543 := (k536 _ (Ne.symm e58)).trans h531
  have h544 := (k536 _ (Ne.symm e60)).trans h522
  have h545 := (k536 _ (Ne.symm e63)).trans h532
  have k546 : ∀ zz : Nat, zz ≠ aa19 0 → zz ≠ aa19 1 → zz ≠ aa19 2 → zz ≠ aa19 3 → zz ≠ aa19 4 → M534 zz = M0 zz := fun zz z0 z1 z2 z3 z4 => (k536 zz z1).trans (k533 zz z0 z1 z2 z3 z4)
  refine x_aload_n C dX8_copy_52 rfl rfl ?_
  refine x_get C gcX8 h542 6 rfl q1144 rfl dX8_copy_53 ?_
  refine x_iload_n C dX8_copy_56 rfl rfl ?_
  refine x_aload_n C dX8_copy_57 rfl rfl ?_
  refine x_get C gcX8 h537 6 rfl q1144 rfl dX8_copy_58 ?_
  refine x_iload_n C dX8_copy_61 rfl rfl ?_
  refine y_iald (i := 12) C h539 rfl (by omega) rfl dX8_copy_62 ?_
  refine y_iast (i := 12) C h543 rfl (by omega) rfl dX8_copy_63 (fun M547 h548 k549 => ?_)
  have h550 := (k549 _ e31).trans h537
  have h551 := (k549 _ e35).trans h538
  have h552 := (k549 _ e39).trans h539
  have h553 := (k549 _ e43).trans h540
  have h554 := (k549 _ e47).trans h541
  have h555 := (k549 _ e57).trans h542
  have h556 := (k549 _ e58).trans h535
  have h557 := (k549 _ (Ne.symm e61)).trans h544
  have h558 := (k549 _ (Ne.symm e64)).trans h545
  have k559 : ∀ zz : Nat, zz ≠ aa19 0 → zz ≠ aa19 1 → zz ≠ aa19 2 → zz ≠ aa19 3 → zz ≠ aa19 4 → M547 zz = M0 zz := fun zz z0 z1 z2 z3 z4 => (k549 zz z2).trans (k546 zz z0 z1 z2 z3 z4)
  refine x_aload_n C dX8_copy_64 rfl rfl ?_
  refine x_get C gcX8 h555 7 rfl q1147 rfl dX8_copy_65 ?_
  refine x_iload_n C dX8_copy_68 rfl rfl ?_
  refine x_aload_n C dX8_copy_69 rfl rfl ?_
  refine x_get C gcX8 h550 7 rfl q1147 rfl dX8_copy_70 ?_
  refine x_iload_n C dX8_copy_73 rfl rfl ?_
  refine y_iald (i := 12) C h553 rfl (by omega) rfl dX8_copy_74 ?_
  refine y_iast (i := 12) C h557 rfl (by omega) rfl dX8_copy_75 (fun M560 h561 k562 => ?_)
  have h563 := (k562 _ e32).trans h550
  have h564 := (k562 _ e36).trans h551
  have h565 := (k562 _ e40).trans h552
  have h566 := (k562 _ e44).trans h553
  have h567 := (k562 _ e48).trans h554
  have h568 := (k562 _ e59).trans h555
  have h569 := (k562 _ e60).trans h556
  have h570 := (k562 _ e61).trans h548
  have h571 := (k562 _ (Ne.symm e65)).trans h558
  have k572 : ∀ zz : Nat, zz ≠ aa19 0 → zz ≠ aa19 1 → zz ≠ aa19 2 → zz ≠ aa19 3 → zz ≠ aa19 4 → M560 zz = M0 zz := fun zz z0 z1 z2 z3 z4 => (k562 zz z3).trans (k559 zz z0 z1 z2 z3 z4)
  refine x_iincN (z := 1) C dX8_copy_76 rfl (gs1_2 rfl) rfl ?_
  refine x_goto (tgt := 34) C dX8_copy_79 rfl ?_
  refine x_iload_n C dX8_copy_34 rfl rfl ?_
  refine x_bipush C dX8_copy_35 kb_16 ?_
  refine x_icmp_geF (tgt := 82) C (by decide +kernel) dX8_copy_37 rfl ?_
  refine x_aload_n C dX8_copy_40 rfl rfl ?_
  refine x_get C gcX8 h568 5 rfl q1141 rfl dX8_copy_41 ?_
  refine x_iload_n C dX8_copy_44 rfl rfl ?_
  refine x_aload_n C dX8_copy_45 rfl rfl ?_
  refine x_get C gcX8 h563 5 rfl q1141 rfl dX8_copy_46 ?_
  refine x_iload_n C dX8_copy_49 rfl rfl ?_
  refine y_iald (i := 13) C h564 rfl (by omega) rfl dX8_copy_50 ?_
  refine y_iast (i := 13) C h569 rfl (by omega) rfl dX8_copy_51 (fun M573 h574 k575 => ?_)
  have h576 := (k575 _ e30).trans h563
  have h577 := (k575 _ e34).trans h564
  have h578 := (k575 _ e38).trans h565
  have h579 := (k575 _ e42).trans h566
  have h580 := (k575 _ e46).trans h567
  have h581 := (k575 _ e56).trans h568
  have h582 := (k575 _ (Ne.symm e58)).trans h570
  have h583 := (k575 _ (Ne.symm e60)).trans h561
  have h584 := (k575 _ (Ne.symm e63)).trans h571
  have k585 : ∀ zz : Nat, zz ≠ aa19 0 → zz ≠ aa19 1 → zz ≠ aa19 2 → zz ≠ aa19 3 → zz ≠ aa19 4 → M573 zz = M0 zz := fun zz z0 z1 z2 z3 z4 => (k575 zz z1).trans (k572 zz z0 z1 z2 z3 z4)
  refine x_aload_n C dX8_copy_52 rfl rfl ?_
  refine x_get C gcX8 h581 6 rfl q1144 rfl dX8_copy_53 ?_
  refine x_iload_n C dX8_copy_56 rfl rfl ?_
  refine x_aload_n C dX8_copy_57 rfl rfl ?_
  refine x_get C gcX8 h576 6 rfl q1144 rfl dX8_copy_58 ?_
  refine x_iload_n C dX8_copy_61 rfl rfl ?_
  refine y_iald (i := 13) C h578 rfl (by omega) rfl dX8_copy_62 ?_
  refine y_iast (i := 13) C h582 rfl (by omega) rfl dX8_copy_63 (fun M586 h587 k588 => ?_)
  have h589 := (k588 _ e31).trans h576
  have h590 := (k588 _ e35).trans h577
  have h591 := (k588 _ e39).trans h578
  have h592 := (k588 _ e43).trans h579
  have h593 := (k588 _ e47).trans h580
  have h594 := (k588 _ e57).trans h581
  have h595 := (k588 _ e58).trans h574
  have h596 := (k588 _ (Ne.symm e61)).trans h583
  have h597 := (k588 _ (Ne.symm e64)).trans h584
  have k598 : ∀ zz : Nat, zz ≠ aa19 0 → zz ≠ aa19 1 → zz ≠ aa19 2 → zz ≠ aa19 3 → zz ≠ aa19 4 → M586 zz = M0 zz := fun zz z0 z1 z2 z3 z4 => (k588 zz z2).trans (k585 zz z0 z1 z2 z3 z4)
  refine x_aload_n C dX8_copy_64 rfl rfl ?_
  refine x_get C gcX8 h594 7 rfl q1147 rfl dX8_copy_65 ?_
  refine x_iload_n C dX8_copy_68 rfl rfl ?_
  refine x_aload_n C dX8_copy_69 rfl rfl ?_
  refine x_get C gcX8 h589 7 rfl q1147 rfl dX8_copy_70 ?_
  refine x_iload_n C dX8_copy_73 rfl rfl ?_
  refine y_iald (i := 13) C h592 rfl (by omega) rfl dX8_copy_74 ?_
  refine y_iast (i := 13) C h596 rfl (by omega) rfl dX8_copy_75 (fun M599 h600 k601 => ?_)
  have h602 := (k601 _ e32).trans h589
  have h603 := (k601 _ e36).trans h590
  have h604 := (k601 _ e40).trans h591
  have h605 := (k601 _ e44).trans h592
  have h606 := (k601 _ e48).trans h593
  have h607 := (k601 _ e59).trans h594
  have h608 := (k601 _ e60).trans h595
  have h609 := (k601 _ e61).trans h587
  have h610 := (k601 _ (Ne.symm e65)).trans h597
  have k611 : ∀ zz : Nat, zz ≠ aa19 0 → zz ≠ aa19 1 → zz ≠ aa19 2 → zz ≠ aa19 3 → zz ≠ aa19 4 → M599 zz = M0 zz := fun zz z0 z1 z2 z3 z4 => (k601 zz z3).trans (k598 zz z0 z1 z2 z3 z4)
  refine x_iincN (z := 1) C dX8_copy_76 rfl (gs1_2 rfl) rfl ?_
  refine x_goto (tgt := 34) C dX8_copy_79 rfl ?_
  refine x_iload_n C dX8_copy_34 rfl rfl ?_
  refine x_bipush C dX8_copy_35 kb_16 ?_
  refine x_icmp_geF (tgt := 82) C (by decide +kernel) dX8_copy_37 rfl ?_
  refine x_aload_n C dX8_copy_40 rfl rfl ?_
  refine x_get C gcX8 h607 5 rfl q1141 rfl dX8_copy_41 ?_
  refine x_iload_n C dX8_copy_44 rfl rfl ?_
  refine x_aload_n C dX8_copy_45 rfl rfl ?_
  refine x_get C gcX8 h602 5 rfl q1141 rfl dX8_copy_46 ?_
  refine x_iload_n C dX8_copy_49 rfl rfl ?_
  refine y_iald (i := 14) C h603 rfl (by omega) rfl dX8_copy_50 ?_
  refine y_iast (i := 14) C h608 rfl (by omega) rfl dX8_copy_51 (fun M612 h613 k614 => ?_)
  have h615 := (k614 _ e30).trans h602
  have h616 := (k614 _ e34).trans h603
  have h617 := (k614 _ e38).trans h604
  have h618 := (k614 _ e42).trans h605
  have h619 := (k614 _ e46).trans h606
  have h620 := (k614 _ e56).trans h607
  have h621 := (k614 _ (Ne.symm e58)).trans h609
  have h622 := (k614 _ (Ne.symm e60)).trans h600
  have h623 := (k614 _ (Ne.symm e63)).trans h610
  have k624 : ∀ zz : Nat, zz ≠ aa19 0 → zz ≠ aa19 1 → zz ≠ aa19 2 → zz ≠ aa19 3 → zz ≠ aa19 4 → M612 zz = M0 zz := fun zz z0 z1 z2 z3 z4 => (k614 zz z1).trans (k611 zz z0 z1 z2 z3 z4)
  refine x_aload_n C dX8_copy_52 rfl rfl ?_
  refine x_get C gcX8 h620 6 rfl q1144 rfl dX8_copy_53 ?_
  refine x_iload_n C dX8_copy_56 rfl rfl ?_
  refine x_aload_n C dX8_copy_57 rfl rfl ?_
  refine x_get C gcX8 h615 6 rfl q1144 rfl dX8_copy_58 ?_
  refine x_iload_n C dX8_copy_61 rfl rfl ?_
  refine y_iald (i := 14) C h617 rfl (by omega) rfl dX8_copy_62 ?_
  refine y_iast (i := 14) C h621 rfl (by omega) rfl dX8_copy_63 (fun M625 h626 k627 => ?_)
  have h628 := (k627 _ e31).trans h615
  have h629 := (k627 _ e35).trans h616
  have h630 := (k627 _ e39).trans h617
  have h631 := (k627 _ e43).trans h618
  have h632 := (k627 _ e47).trans h619
  have h633 := (k627 _ e57).trans h620
  have h634 := (k627 _ e58).trans h613
  have h635 := (k627 _ (Ne.symm e61)).trans h622
  have h636 := (k627 _ (Ne.symm e64)).trans h623
  have k637 : ∀ zz : Nat, zz ≠ aa19 0 → zz ≠ aa19 1 → zz ≠ aa19 2 → zz ≠ aa19 3 → zz ≠ aa19 4 → M625 zz = M0 zz := fun zz z0 z1 z2 z3 z4 => (k627 zz z2).trans (k624 zz z0 z1 z2 z3 z4)
  refine x_aload_n C dX8_copy_64 rfl rfl ?_
  refine x_get C gcX8 h633 7 rfl q1147 rfl dX8_copy_65 ?_
  refine x_iload_n C dX8_copy_68 rfl rfl ?_
  refine x_aload_n C dX8_copy_69 rfl rfl ?_
  refine x_get C gcX8 h628 7 rfl q1147 rfl dX8_copy_70 ?_
  refine x_iload_n C dX8_copy_73 rfl rfl ?_
  refine y_iald (i := 14) C h631 rfl (by omega) rfl dX8_copy_74 ?_
  refine y_iast (i := 14) C h635 rfl (by omega) rfl dX8_copy_75 (fun M638 h639 k640 => ?_)
  have h641 := (k640 _ e32).trans h628
  have h642 := (k640 _ e36).trans h629
  have h643 := (k640 _ e40).trans h630
  have h644 := (k640 _ e44).trans h631
  have h645 := (k640 _ e48).trans h632
  have h646 := (k640 _ e59).trans h633
  have h647 := (k640 _ e60).trans h634
  have h648 := (k640 _ e61).trans h626
  have h649 := (k640 _ (Ne.symm e65)).trans h636
  have k650 : ∀ zz : Nat, zz ≠ aa19 0 → zz ≠ aa19 1 → zz ≠ aa19 2 → zz ≠ aa19 3 → zz ≠ aa19 4 → M638 zz = M0 zz := fun zz z0 z1 z2 z3 z4 => (k640 zz z3).trans (k637 zz z0 z1 z2 z3 z4)
  refine x_iincN (z := 1) C dX8_copy_76 rfl (gs1_2 rfl) rfl ?_
  refine x_goto (tgt := 34) C dX8_copy_79 rfl ?_
  refine x_iload_n C dX8_copy_34 rfl rfl ?_
  refine x_bipush C dX8_copy_35 kb_16 ?_
  refine x_icmp_geF (tgt := 82) C (by decide +kernel) dX8_copy_37 rfl ?_
  refine x_aload_n C dX8_copy_40 rfl rfl ?_
  refine x_get C gcX8 h646 5 rfl q1141 rfl dX8_copy_41 ?_
  refine x_iload_n C dX8_copy_44 rfl rfl ?_
  refine x_aload_n C dX8_copy_45 rfl rfl ?_
  refine x_get C gcX8 h641 5 rfl q1141 rfl dX8_copy_46 ?_
  refine x_iload_n C dX8_copy_49 rfl rfl ?_
  refine y_iald (i := 15) C h642 rfl (by omega) rfl dX8_copy_50 ?_
  refine y_iast (i := 15) C h647 rfl (by omega) rfl dX8_copy_51 (fun M651 h652 k653 => ?_)
  have h654 := (k653 _ e30).trans h641
  have h655 := (k653 _ e34).trans h642
  have h656 := (k653 _ e38).trans h643
  have h657 := (k653 _ e42).trans h644
  have h658 := (k653 _ e46).trans h645
  have h659 := (k653 _ e56).trans h646
  have h660 := (k653 _ (Ne.symm e58)).trans h648
  have h661 := (k653 _ (Ne.symm e60)).trans h639
  have h662 := (k653 _ (Ne.symm e63)).trans h649
  have k663 : ∀ zz : Nat, zz ≠ aa19 0 → zz ≠ aa19 1 → zz ≠ aa19 2 → zz ≠ aa19 3 → zz ≠ aa19 4 → M651 zz = M0 zz := fun zz z0 z1 z2 z3 z4 => (k653 zz z1).trans (k650 zz z0 z1 z2 z3 z4)
  refine x_aload_n C dX8_copy_52 rfl rfl ?_
  refine x_get C gcX8 h659 6 rfl q1144 rfl dX8_copy_53 ?_
  refine x_iload_n C dX8_copy_56 rfl rfl ?_
  refine x_aload_n C dX8_copy_57 rfl rfl ?_
  refine x_get C gcX8 h654 6 rfl q1144 rfl dX8_copy_58 ?_
  refine x_iload_n C dX8_copy_61 rfl rfl ?_
  refine y_iald (i := 15) C h656 rfl (by omega) rfl dX8_copy_62 ?_
  refine y_iast (i := 15) C h660 rfl (by omega) rfl dX8_copy_63 (fun M664 h665 k666 => ?_)
  have h667 := (k666 _ e31).trans h654
  have h668 := (k666 _ e35).trans h655
  have h669 := (k666 _ e39).trans h656
  have h670 := (k666 _ e43).trans h657
  have h671 := (k666 _ e47).trans h658
  have h672 := (k666 _ e57).trans h659
  have h673 := (k666 _ e58).trans h652
  have h674 := (k666 _ (Ne.symm e61)).trans h661
  have h675 := (k666 _ (Ne.symm e64)).trans h662
  have k676 : ∀ zz : Nat, zz ≠ aa19 0 → zz ≠ aa19 1 → zz ≠ aa19 2 → zz ≠ aa19 3 → zz ≠ aa19 4 → M664 zz = M0 zz := fun zz z0 z1 z2 z3 z4 => (k666 zz z2).trans (k663 zz z0 z1 z2 z3 z4)
  refine x_aload_n C dX8_copy_64 rfl rfl ?_
  refine x_get C gcX8 h672 7 rfl q1147 rfl dX8_copy_65 ?_
  refine x_iload_n C dX8_copy_68 rfl rfl ?_
  refine x_aload_n C dX8_copy_69 rfl rfl ?_
  refine x_get C gcX8 h667 7 rfl q1147 rfl dX8_copy_70 ?_
  refine x_iload_n C dX8_copy_73 rfl rfl ?_
  refine y_iald (i := 15) C h670 rfl (by omega) rfl dX8_copy_74 ?_
  refine y_iast (i := 15) C h674 rfl (by omega) rfl dX8_copy_75 (fun M677 h678 k679 => ?_)
  have h680 := (k679 _ e32).trans h667
  have h681 := (k679 _ e36).trans h668
  have h682 := (k679 _ e40).trans h669
  have h683 := (k679 _ e44).trans h670
  have h684 := (k679 _ e48).trans h671
  have h685 := (k679 _ e59).trans h672
  have h686 := (k679 _ e60).trans h673
  have h687 := (k679 _ e61).trans h665
  have h688 := (k679 _ (Ne.symm e65)).trans h675
  have k689 : ∀ zz : Nat, zz ≠ aa19 0 → zz ≠ aa19 1 → zz ≠ aa19 2 → zz ≠ aa19 3 → zz ≠ aa19 4 → M677 zz = M0 zz := fun zz z0 z1 z2 z3 z4 => (k679 zz z3).trans (k676 zz z0 z1 z2 z3 z4)
  refine x_iincN (z := 1) C dX8_copy_76 rfl (gs1_2 rfl) rfl ?_
  refine x_goto (tgt := 34) C dX8_copy_79 rfl ?_
  refine x_iload_n C dX8_copy_34 rfl rfl ?_
  refine x_bipush C dX8_copy_35 kb_16 ?_
  refine x_icmp_geT (tgt := 82) C (by decide +kernel) dX8_copy_37 rfl ?_
  refine x_iconst C dX8_copy_82 kc_0 ?_
  refine x_istore_n C dX8_copy_83 rfl (gs1_2 rfl) rfl ?_
  refine x_iload_n C dX8_copy_84 rfl rfl ?_
  refine x_iconst C dX8_copy_85 kc_4 ?_
  refine x_icmp_geF (tgt := 107) C (by decide +kernel) dX8_copy_86 rfl ?_
  refine x_aload_n C dX8_copy_89 rfl rfl ?_
  refine x_get C gcX8 h685 15 rfl q1171 rfl dX8_copy_90 ?_
  refine x_iload_n C dX8_copy_93 rfl rfl ?_
  refine x_aload_n C dX8_copy_94 rfl rfl ?_
  refine x_get C gcX8 h680 15 rfl q1171 rfl dX8_copy_95 ?_
  refine x_iload_n C dX8_copy_98 rfl rfl ?_
  refine y_iald (i := 0) C h684 rfl (by omega) rfl dX8_copy_99 ?_
  refine y_iast (i := 0) C h688 rfl (by omega) rfl dX8_copy_100 (fun M690 h691 k692 => ?_)
  have h693 := (k692 _ e33).trans h680
  have h694 := (k692 _ e37).trans h681
  have h695 := (k692 _ e41).trans h682
  have h696 := (k692 _ e45).trans h683
  have h697 := (k692 _ e49).trans h684
  have h698 := (k692 _ e62).trans h685
  have h699 := (k692 _ e63).trans h686
  have h700 := (k692 _ e64).trans h687
  have h701 := (k692 _ e65).trans h678
  have k702 : ∀ zz : Nat, zz ≠ aa19 0 → zz ≠ aa19 1 → zz ≠ aa19 2 → zz ≠ aa19 3 → zz ≠ aa19 4 → M690 zz = M0 zz := fun zz z0 z1 z2 z3 z4 => (k692 zz z4).trans (k689 zz z0 z1 z2 z3 z4)
  refine x_iincN (z := 1) C dX8_copy_101 rfl (gs1_2 rfl) rfl ?_
  refine x_goto (tgt := 84) C dX8_copy_104 rfl ?_
  refine x_iload_n C dX8_copy_84 rfl rfl ?_
  refine x_iconst C dX8_copy_85 kc_4 ?_
  refine x_icmp_geF (tgt := 107) C (by decide +kernel) dX8_copy_86 rfl ?_
  refine x_aload_n C dX8_copy_89 rfl rfl ?_
  refine x_get C gcX8 h698 15 rfl q1171 rfl dX8_copy_90 ?_
  refine x_iload_n C dX8_copy_93 rfl rfl ?_
  refine x_aload_n C dX8_copy_94 rfl rfl ?_
  refine x_get C gcX8 h693 15 rfl q1171 rfl dX8_copy_95 ?_
  refine x_iload_n C dX8_copy_98 rfl rfl ?_
  refine y_iald (i := 1) C h697 rfl (by omega) rfl dX8_copy_99 ?_
  refine y_iast (i := 1) C h691 rfl (by omega) rfl dX8_copy_100 (fun M703 h704 k705 => ?_)
  have h706 := (k705 _ e33).trans h693
  have h707 := (k705 _ e37).trans h694
  have h708 := (k705 _ e41).trans h695
  have h709 := (k705 _ e45).trans h696
  have h710 := (k705 _ e49).trans h697
  have h711 := (k705 _ e62).trans h698
  have h712 := (k705 _ e63).trans h699
  have h713 := (k705 _ e64).trans h700
  have h714 := (k705 _ e65).trans h701
  have k715 : ∀ zz : Nat, zz ≠ aa19 0 → zz ≠ aa19 1 → zz ≠ aa19 2 → zz ≠ aa19 3 → zz ≠ aa19 4 → M703 zz = M0 zz := fun zz z0 z1 z2 z3 z4 => (k705 zz z4).trans (k702 zz z0 z1 z2 z3 z4)
  refine x_iincN (z := 1) C dX8_copy_101 rfl (gs1_2 rfl) rfl ?_
  refine x_goto (tgt := 84) C dX8_copy_104 rfl ?_
  refine x_iload_n C dX8_copy_84 rfl rfl ?_
  refine x_iconst C dX8_copy_85 kc_4 ?_
  refine x_icmp_geF (tgt := 107) C (by decide +kernel) dX8_copy_86 rfl ?_
  refine x_aload_n C dX8_copy_89 rfl rfl ?_
  refine x_get C gcX8 h711 15 rfl q1171 rfl dX8_copy_90 ?_
  refine x_iload_n C dX8_copy_93 rfl rfl ?_
  refine x_aload_n C dX8_copy_94 rfl rfl ?_
  refine x_get C gcX8 h706 15 rfl q1171 rfl dX8_copy_95 ?_
  refine x_iload_n C dX8_copy_98 rfl rfl ?_
  refine y_iald (i := 2) C h710 rfl (by omega) rfl dX8_copy_99 ?_
  refine y_iast (i := 2) C h704 rfl (by omega) rfl dX8_copy_100 (fun M716 h717 k718 => ?_)
  have h719 := (k718 _ e33).trans h706
  have h720 := (k718 _ e37).trans h707
  have h721 := (k718 _ e41).trans h708
  have h722 := (k718 _ e45).trans h709
  have h723 := (k718 _ e49).trans h710
  have h724 := (k718 _ e62).trans h711
  have h725 := (k718 _ e63).trans h712
  have h726 := (k718 _ e64).trans h713
  have h727 := (k718 _ e65).trans h714
  have k728 : ∀ zz : Nat, zz ≠ aa19 0 → zz ≠ aa19 1 → zz ≠ aa19 2 → zz ≠ aa19 3 → zz ≠ aa19 4 → M716 zz = M0 zz := fun zz z0 z1 z2 z3 z4 => (k718 zz z4).trans (k715 zz z0 z1 z2 z3 z4)
  refine x_iincN (z := 1) C dX8_copy_101 rfl (gs1_2 rfl) rfl ?_
  refine x_goto (tgt := 84) C dX8_copy_104 rfl ?_
  refine x_iload_n C dX8_copy_84 rfl rfl ?_
  refine x_iconst C dX8_copy_85 kc_4 ?_
  refine x_icmp_geF (tgt := 107) C (by decide +kernel) dX8_copy_86 rfl ?_
  refine x_aload_n C dX8_copy_89 rfl rfl ?_
  refine x_get C gcX8 h724 15 rfl q1171 rfl dX8_copy_90 ?_
  refine x_iload_n C dX8_copy_93 rfl rfl ?_
  refine x_aload_n C dX8_copy_94 rfl rfl ?_
  refine x_get C gcX8 h719 15 rfl q1171 rfl dX8_copy_95 ?_
  refine x_iload_n C dX8_copy_98 rfl rfl ?_
  refine y_iald (i := 3) C h723 rfl (by omega) rfl dX8_copy_99 ?_
  refine y_iast (i := 3) C h717 rfl (by omega) rfl dX8_copy_100 (fun M729 h730 k731 => ?_)
  have h732 := (k731 _ e33).trans h719
  have h733 := (k731 _ e37).trans h720
  have h734 := (k731 _ e41).trans h721
  have h735 := (k731 _ e45).trans h722
  have h736 := (k731 _ e49).trans h723
  have h737 := (k731 _ e62).trans h724
  have h738 := (k731 _ e63).trans h725
  have h739 := (k731 _ e64).trans h726
  have h740 := (k731 _ e65).trans h727
  have k741 : ∀ zz : Nat, zz ≠ aa19 0 → zz ≠ aa19 1 → zz ≠ aa19 2 → zz ≠ aa19 3 → zz ≠ aa19 4 → M729 zz = M0 zz := fun zz z0 z1 z2 z3 z4 => (k731 zz z4).trans (k728 zz z0 z1 z2 z3 z4)
  refine x_iincN (z := 1) C dX8_copy_101 rfl (gs1_2 rfl) rfl ?_
  refine x_goto (tgt := 84) C dX8_copy_104 rfl ?_
  refine x_iload_n C dX8_copy_84 rfl rfl ?_
  refine x_iconst C dX8_copy_85 kc_4 ?_
  refine x_icmp_geT (tgt := 107) C (by decide +kernel) dX8_copy_86 rfl ?_
  refine x_aload_n C dX8_copy_107 rfl rfl ?_
  refine x_aload_n C dX8_copy_108 rfl rfl ?_
  refine x_get C gcX8 h732 9 rfl q1153 rfl dX8_copy_109 ?_
  refine y_put (fs' := [.int (v 0), .int (v 1), .int (v 2), .int (nI q), .int (nI (q / 4)), .ref (aa19 1), .ref (aa19 2), .ref (aa19 3), .int (v 8), .int (v 9), .int (-1), .int (-1), .int (v 12), .int (-999999), .int (nI 0), .ref (aa19 4), .int (nI 0)]) C gcX8 h737 9 rfl q1153 rfl rfl rfl rfl rfl dX8_copy_112 (fun M742 h743 k744 => ?_)
  have h745 := (k744 _ e7).trans h732
  have h746 := (k744 _ e8).trans h733
  have h747 := (k744 _ e9).trans h734
  have h748 := (k744 _ e10).trans h735
  have h749 := (k744 _ e11).trans h736
  have h750 := (k744 _ (Ne.symm e56)).trans h738
  have h751 := (k744 _ (Ne.symm e57)).trans h739
  have h752 := (k744 _ (Ne.symm e59)).trans h740
  have h753 := (k744 _ (Ne.symm e62)).trans h730
  have k754 : ∀ zz : Nat, zz ≠ aa19 0 → zz ≠ aa19 1 → zz ≠ aa19 2 → zz ≠ aa19 3 → zz ≠ aa19 4 → M742 zz = M0 zz := fun zz z0 z1 z2 z3 z4 => (k744 zz z0).trans (k741 zz z0 z1 z2 z3 z4)
  refine x_aload_n C dX8_copy_115 rfl rfl ?_
  refine x_aload_n C dX8_copy_116 rfl rfl ?_
  refine x_get C gcX8 h745 10 rfl q1156 rfl dX8_copy_117 ?_
  refine y_put (fs' := [.int (v 0), .int (v 1), .int (v 2), .int (nI q), .int (nI (q / 4)), .ref (aa19 1), .ref (aa19 2), .ref (aa19 3), .int (v 8), .int (v 9), .int (v 10), .int (-1), .int (v 12), .int (-999999), .int (nI 0), .ref (aa19 4), .int (nI 0)]) C gcX8 h743 10 rfl q1156 rfl rfl rfl rfl rfl dX8_copy_120 (fun M755 h756 k757 => ?_)
  have h758 := (k757 _ e7).trans h745
  have h759 := (k757 _ e8).trans h746
  have h760 := (k757 _ e9).trans h747
  have h761 := (k757 _ e10).trans h748
  have h762 := (k757 _ e11).trans h749
  have h763 := (k757 _ (Ne.symm e56)).trans h750
  have h764 := (k757 _ (Ne.symm e57)).trans h751
  have h765 := (k757 _ (Ne.symm e59)).trans h752
  have h766 := (k757 _ (Ne.symm e62)).trans h753
  have k767 : ∀ zz : Nat, zz ≠ aa19 0 → zz ≠ aa19 1 → zz ≠ aa19 2 → zz ≠ aa19 3 → zz ≠ aa19 4 → M755 zz = M0 zz := fun zz z0 z1 z2 z3 z4 => (k757 zz z0).trans (k754 zz z0 z1 z2 z3 z4)
  refine x_aload_n C dX8_copy_123 rfl rfl ?_
  refine x_aload_n C dX8_copy_124 rfl rfl ?_
  refine x_get C gcX8 h758 11 rfl q1159 rfl dX8_copy_125 ?_
  refine y_put (fs' := [.int (v 0), .int (v 1), .int (v 2), .int (nI q), .int (nI (q / 4)), .ref (aa19 1), .ref (aa19 2), .ref (aa19 3), .int (v 8), .int (v 9), .int (v 10), .int (v 11), .int (v 12), .int (-999999), .int (nI 0), .ref (aa19 4), .int (nI 0)]) C gcX8 h756 11 rfl q1159 rfl rfl rfl rfl rfl dX8_copy_128 (fun M768 h769 k770 => ?_)
  have h771 := (k770 _ e7).trans h758
  have h772 := (k770 _ e8).trans h759
  have h773 := (k770 _ e9).trans h760
  have h774 := (k770 _ e10).trans h761
  have h775 := (k770 _ e11).trans h762
  have h776 := (k770 _ (Ne.symm e56)).trans h763
  have h777 := (k770 _ (Ne.symm e57)).trans h764
  have h778 := (k770 _ (Ne.symm e59)).trans h765
  have h779 := (k770 _ (Ne.symm e62)).trans h766
  have k780 : ∀ zz : Nat, zz ≠ aa19 0 → zz ≠ aa19 1 → zz ≠ aa19 2 → zz ≠ aa19 3 → zz ≠ aa19 4 → M768 zz = M0 zz := fun zz z0 z1 z2 z3 z4 => (k770 zz z0).trans (k767 zz z0 z1 z2 z3 z4)
  refine x_aload_n C dX8_copy_131 rfl rfl ?_
  refine x_aload_n C dX8_copy_132 rfl rfl ?_
  refine x_get C gcX8 h771 13 rfl q1165 rfl dX8_copy_133 ?_
  refine y_put (fs' := [.int (v 0), .int (v 1), .int (v 2), .int (nI q), .int (nI (q / 4)), .ref (aa19 1), .ref (aa19 2), .ref (aa19 3), .int (v 8), .int (v 9), .int (v 10), .int (v 11), .int (v 12), .int (v 13), .int (nI 0), .ref (aa19 4), .int (nI 0)]) C gcX8 h769 13 rfl q1165 rfl rfl rfl rfl rfl dX8_copy_136 (fun M781 h782 k783 => ?_)
  have h784 := (k783 _ e7).trans h771
  have h785 := (k783 _ e8).trans h772
  have h786 := (k783 _ e9).trans h773
  have h787 := (k783 _ e10).trans h774
  have h788 := (k783 _ e11).trans h775
  have h789 := (k783 _ (Ne.symm e56)).trans h776
  have h790 := (k783 _ (Ne.symm e57)).trans h777
  have h791 := (k783 _ (Ne.symm e59)).trans h778
  have h792 := (k783 _ (Ne.symm e62)).trans h779
  have k793 : ∀ zz : Nat, zz ≠ aa19 0 → zz ≠ aa19 1 → zz ≠ aa19 2 → zz ≠ aa19 3 → zz ≠ aa19 4 → M781 zz = M0 zz := fun zz z0 z1 z2 z3 z4 => (k783 zz z0).trans (k780 zz z0 z1 z2 z3 z4)
  refine x_aload_n C dX8_copy_139 rfl rfl ?_
  refine x_aload_n C dX8_copy_140 rfl rfl ?_
  refine x_get C gcX8 h784 14 rfl q1168 rfl dX8_copy_141 ?_
  refine y_put (fs' := [.int (v 0), .int (v 1), .int (v 2), .int (nI q), .int (nI (q / 4)), .ref (aa19 1), .ref (aa19 2), .ref (aa19 3), .int (v 8), .int (v 9), .int (v 10), .int (v 11), .int (v 12), .int (v 13), .int (v 14), .ref (aa19 4), .int (nI 0)]) C gcX8 h782 14 rfl q1168 rfl rfl rfl rfl rfl dX8_copy_144 (fun M794 h795 k796 => ?_)
  have h797 := (k796 _ e7).trans h784
  have h798 := (k796 _ e8).trans h785
  have h799 := (k796 _ e9).trans h786
  have h800 := (k796 _ e10).trans h787
  have h801 := (k796 _ e11).trans h788
  have h802 := (k796 _ (Ne.symm e56)).trans h789
  have h803 := (k796 _ (Ne.symm e57)).trans h790
  have h804 := (k796 _ (Ne.symm e59)).trans h791
  have h805 := (k796 _ (Ne.symm e62)).trans h792
  have k806 : ∀ zz : Nat, zz ≠ aa19 0 → zz ≠ aa19 1 → zz ≠ aa19 2 → zz ≠ aa19 3 → zz ≠ aa19 4 → M794 zz = M0 zz := fun zz z0 z1 z2 z3 z4 => (k796 zz z0).trans (k793 zz z0 z1 z2 z3 z4)
  refine x_aload_n C dX8_copy_147 rfl rfl ?_
  refine x_aload_n C dX8_copy_148 rfl rfl ?_
  refine x_get C gcX8 h797 16 rfl q1173 rfl dX8_copy_149 ?_
  refine y_put (fs' := [.int (v 0), .int (v 1), .int (v 2), .int (nI q), .int (nI (q / 4)), .ref (aa19 1), .ref (aa19 2), .ref (aa19 3), .int (v 8), .int (v 9), .int (v 10), .int (v 11), .int (v 12), .int (v 13), .int (v 14), .ref (aa19 4), .int (v 16)]) C gcX8 h795 16 rfl q1173 rfl (by rcases hsh with q9 | q9 <;> rw [q9] <;> decide +kernel) (by rcases hsh with q9 | q9 <;> rw [q9] <;> decide +kernel) rfl rfl dX8_copy_152 (fun M807 h808 k809 => ?_)
  have h810 := (k809 _ e7).trans h797
  have h811 := (k809 _ e8).trans h798
  have h812 := (k809 _ e9).trans h799
  have h813 := (k809 _ e10).trans h800
  have h814 := (k809 _ e11).trans h801
  have h815 := (k809 _ (Ne.symm e56)).trans h802
  have h816 := (k809 _ (Ne.symm e57)).trans h803
  have h817 := (k809 _ (Ne.symm e59)).trans h804
  have h818 := (k809 _ (Ne.symm e62)).trans h805
  have k819 : ∀ zz : Nat, zz ≠ aa19 0 → zz ≠ aa19 1 → zz ≠ aa19 2 → zz ≠ aa19 3 → zz ≠ aa19 4 → M807 zz = M0 zz := fun zz z0 z1 z2 z3 z4 => (k809 zz z0).trans (k806 zz z0 z1 z2 z3 z4)
  refine x_aload_n C dX8_copy_155 rfl rfl ?_
  refine x_aret C dX8_copy_156 ⟨Nat.le_of_ble_eq_true rfl, Nat.le_of_ble_eq_true rfl⟩ ⟨aa19, rfl, ⟨?_, Eq.trans h815 ?_, Eq.trans h816 ?_, Eq.trans h817 ?_, Eq.trans h818 ?_⟩, n0_0, (hN0 _ (Ne.symm e56) n25), (hN0 _ (Ne.symm e57) n26), (hN0 _ (Ne.symm e59) n27), (hN0 _ (Ne.symm e62) n28), k819⟩
  · rw [hv3, hv4]; exact h808
  · exact congrArg (fun y => some ((r2, 200 + i2), (.inl (G.2.1 0, 16, .inl y) : va_E))) (clipI_eq (fun j hj => by rcases (by omega : j = 0 ∨ j = 1 ∨ j = 2 ∨ j = 3 ∨ j = 4 ∨ j = 5 ∨ j = 6 ∨ j = 7 ∨ j = 8 ∨ j = 9 ∨ j = 10 ∨ j = 11 ∨ j = 12 ∨ j = 13 ∨ j = 14 ∨ j = 15) with rfl | rfl | rfl | rfl | rfl | rfl | rfl | rfl | rfl | rfl | rfl | rfl | rfl | rfl | rfl | rfl <;> simp [upd]))
  · exact congrArg (fun y => some ((r2, 210 + i2), (.inl (G.2.1 0, 16, .inl y) : va_E))) (clipI_eq (fun j hj => by rcases (by omega : j = 0 ∨ j = 1 ∨ j = 2 ∨ j = 3 ∨ j = 4 ∨ j = 5 ∨ j = 6 ∨ j = 7 ∨ j = 8 ∨ j = 9 ∨ j = 10 ∨ j = 11 ∨ j = 12 ∨ j = 13 ∨ j = 14 ∨ j = 15) with rfl | rfl | rfl | rfl | rfl | rfl | rfl | rfl | rfl | rfl | rfl | rfl | rfl | rfl | rfl | rfl <;> simp [upd]))
  · exact congrArg (fun y => some ((r2, 220 + i2), (.inl (G.2.1 0, 16, .inl y) : va_E))) (clipI_eq (fun j hj => by rcases (by omega : j = 0 ∨ j = 1 ∨ j = 2 ∨ j = 3 ∨ j = 4 ∨ j = 5 ∨ j = 6 ∨ j = 7 ∨ j = 8 ∨ j = 9 ∨ j = 10 ∨ j = 11 ∨ j = 12 ∨ j = 13 ∨ j = 14 ∨ j = 15) with rfl | rfl | rfl | rfl | rfl | rfl | rfl | rfl | rfl | rfl | rfl | rfl | rfl | rfl | rfl | rfl <;> simp [upd]))
  · exact congrArg (fun y => some ((r2, 230 + i2), (.inl (G.2.1 0, 4, .inl y) : va_E))) (clipI_eq (fun j hj => by rcases (by omega : j = 0 ∨ j = 1 ∨ j = 2 ∨ j = 3) with rfl | rfl | rfl | rfl <;> simp [upd]))
