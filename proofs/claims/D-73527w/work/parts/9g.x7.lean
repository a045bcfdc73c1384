set_option maxRecDepth 100000
theorem mi_X6_book : gMV RX6 yX6_book cX6_book 5 none 4 := ⟨q1878, qs41, q140, q1879, by decide +kernel⟩
set_option maxHeartbeats 4000000 in
set_option maxRecDepth 100000 in
theorem met_X6_book (l : Launch) {G : gG} (hG : gOK G) {M0 : gM} {r x : Nat} {ba : Nat → Nat} {B : Nat → Int32} {D : Nat → Nat → Int32} {xx : Nat → Nat → Nat → Int32} {Z : Nat → Int64} {st : List Nat} {ex : Nat → Prop} {sb : Int64} {t u : Nat} {v a : Int32} (hBX : BX G r ba x B D xx Z st ex sb M0) (hr4 : 4 ≤ r) (hK : dN (B 1865) ≤ 8 ∧ dN (B 1867) ≤ 40) (ht4 : t < 4) (hu4 : u < 4) : Met l yX6_book (ws_ yX6_book cX6_book 5 none) ({ frames := 5, cells := 2, slots := 105, locals := 154 }) (gPre G M0 [.ref (ba 0), .int (nI t), .int (nI u), .int (v), .int (a)]) (gQ G (gV (fun M1 => BX G r ba x (pBook B t u v a) D xx Z st ex sb M1 ∧ gFl (fun l => l = (r, 13) ∨ l = (r, 14) ∨ l = (r, 0) ∨ l = (r, 70 + t)) M0 M1))) 2 105 (gA G) := by
  refine gMet (L0 := [some (.ref (ba 0)), some (.int (nI t)), some (.int (nI u)), some (.int (v)), some (.int (a))]) RX6 hG (by decide +kernel) rfl (Nat.le_of_ble_eq_true rfl) rfl ?_
  intro p e s m args below meth c C hnm
  obtain ⟨en, hdq, hen⟩ := hBX.2.2.2.2.1
  have hBC := hBX.1
  have n1 : ¬ (fun l => l = (r, 13) ∨ l = (r, 14) ∨ l = (r, 0) ∨ l = (r, 70 + t)) (1, 2) := fun q => by rcases q with q | q | q | q <;> (have := congrArg Prod.fst q; dsimp only at this; omega)
  obtain ⟨elq1, capq1, hdq1, fqq1, hdeq1, hccq1⟩ := id hdq
  refine x_aload_n C dX6_book_0 rfl rfl ?_
  refine x_get C gcX6 hBC.1 10 rfl q532 rfl dX6_book_1 ?_
  refine x_V0I C (met_J12_size l C.1 hdeq1) mi_J12_size q1880 gcJ12 hdeq1.1 ⟨rfl, rfl⟩ rfl ⟨Nat.le_of_ble_eq_true rfl, Nat.le_of_ble_eq_true rfl⟩ rfl dX6_book_4 (fun r3 M2 hr => ?_)
  obtain ⟨hr, rfl⟩ := hr
  rw [hr]
  refine x_bipush C dX6_book_7 kb_40 ?_
  refine x_icmp_neN (tgt := 20) C (by omega) (by omega) dX6_book_9 rfl (fun c9 => ?_) (fun c9 => ?_)
  · -- 20
    have hq9 : DQ G (r, 13) (r, 14) (ba 13) (pMany B) en M0 := by rw [pMany_lt (by omega)]; exact hdq
    refine x_aload_n C dX6_book_20 rfl rfl ?_
    refine x_get C gcX6 hBC.1 10 rfl q532 rfl dX6_book_21 ?_
    refine y_new (fs := [.int (nI 0), .int (nI 0), .int (nI 0), .int (nI 0), .int (nI 0)]) C (fun a => (1, 2)) gcX14 q1720 q1897 q172 rfl ⟨Nat.le_of_ble_eq_true rfl, Nat.le_of_ble_eq_true rfl⟩ dX6_book_24 (fun a4 M5 n6 g7 h8 k9 => ?_)
    have e10 : ba 0 ≠ a4 := gM_nn hBC.1 n6
    have e11 : ba 1 ≠ a4 := gM_nn hBC.2.1 n6
    have e12 : ba 2 ≠ a4 := gM_nn (hBC.2.2.1 0 (by omega)) n6
    have e13 : ba 3 ≠ a4 := gM_nn (hBC.2.2.1 1 (by omega)) n6
    have e14 : ba 4 ≠ a4 := gM_nn (hBC.2.2.1 2 (by omega)) n6
    have e15 : ba 5 ≠ a4 := gM_nn (hBC.2.2.1 3 (by omega)) n6
    have e16 : ba 6 ≠ a4 := gM_nn (hBC.2.2.1 4 (by omega)) n6
    have e17 : ba 7 ≠ a4 := gM_nn (hBC.2.2.2.2.2.2.1 0 (by omega)) n6
    have e18 : ba 8 ≠ a4 := gM_nn (hBC.2.2.2.2.2.2.1 1 (by omega)) n6
    have e19 : ba 9 ≠ a4 := gM_nn hBC.2.2.2.2.2.2.2.1 n6
    have e20 : ba 13 ≠ a4 := gM_nn hdeq1.1 n6
    have h21 := (k9 _ e10).trans hBC.1
    have h22 := (k9 _ e11).trans hBC.2.1
    have h23 := (k9 _ e12).trans (hBC.2.2.1 0 (by omega))
    have h24 := (k9 _ e13).trans (hBC.2.2.1 1 (by omega))
    have h25 := (k9 _ e14).trans (hBC.2.2.1 2 (by omega))
    have h26 := (k9 _ e15).trans (hBC.2.2.1 3 (by omega))
    have h27 := (k9 _ e16).trans (hBC.2.2.1 4 (by omega))
    have h28 := (k9 _ e17).trans (hBC.2.2.2.2.2.2.1 0 (by omega))
    have h29 := (k9 _ e18).trans (hBC.2.2.2.2.2.2.1 1 (by omega))
    have h30 := (k9 _ e19).trans hBC.2.2.2.2.2.2.2.1
    have h31 := (k9 _ e20).trans hdeq1.1
    have k32 : ∀ zz : Nat, zz ≠ a4 → M5 zz = M0 zz := fun zz z0 => k9 zz z0
    refine x_dup C dX6_book_27 rfl ?_
    refine x_aload_n C dX6_book_28 rfl rfl ?_
    refine x_get C gcX6 h21 13 rfl q537 rfl dX6_book_29 ?_
    refine x_iload_n C dX6_book_32 rfl rfl ?_
    refine x_iload_n C dX6_book_33 rfl rfl ?_
    refine x_iload_n C dX6_book_34 rfl rfl ?_
    refine x_iload C dX6_book_35 rfl ?_
    refine x_I5 C (met_X14_init l C.1 h8) mi_X14_init q1898 ⟨rfl, rfl⟩ rfl ⟨Nat.le_of_ble_eq_true rfl, Nat.le_of_ble_eq_true rfl⟩ rfl dX6_book_37 (fun M33 hr => ?_)
    obtain ⟨h34, k35⟩ := hr
    have h36 := (k35 _ e10).trans h21
    have h37 := (k35 _ e11).trans h22
    have h38 := (k35 _ e12).trans h23
    have h39 := (k35 _ e13).trans h24
    have h40 := (k35 _ e14).trans h25
    have h41 := (k35 _ e15).trans h26
    have h42 := (k35 _ e16).trans h27
    have h43 := (k35 _ e17).trans h28
    have h44 := (k35 _ e18).trans h29
    have h45 := (k35 _ e19).trans h30
    have h46 := (k35 _ e20).trans h31
    have k47 : ∀ zz : Nat, zz ≠ a4 → M33 zz = M0 zz := fun zz z0 => (k35 zz z0).trans (k32 zz z0)
    have hb48 := hBC.keep (ρ := fun _ => False) (gFl.nw n6 k47) (fun _ _ q => q)
    have hq49 := hq9.keep (ρ := fun _ => False) (gFl.nw n6 k47) (fun q => q) (fun q => q)
    have f50 := (gFl.rf (ρ := (fun l => l = (r, 13) ∨ l = (r, 14) ∨ l = (r, 0) ∨ l = (r, 70 + t))) (M := M0)).tr (gFl.nw (ρ := (fun l => l = (r, 13) ∨ l = (r, 14) ∨ l = (r, 0) ∨ l = (r, 70 + t))) n6 k47)
    obtain ⟨elq51, capq51, hdq51, fqq51, hdeq51, hccq51⟩ := id hq49
    refine x_V1V C (met_J12_addFirst l C.1 hq49 (by have := pMany_le B; omega) (fun i hi => ⟨_, _, f50.keep (hen i (by have := pMany_le B; have := hK.2; unfold pMany at hi; split at hi <;> omega)) n1⟩) h34) mi_J12_addFirst q1918 gcJ12 hdeq51.1 ⟨rfl, rfl⟩ rfl ⟨Nat.le_of_ble_eq_true rfl, Nat.le_of_ble_eq_true rfl⟩ rfl dX6_book_40 (fun M52 hr => ?_)
    obtain ⟨hq53, f54⟩ := hr
    have f55 := f50.tr (f54.mono (fun i j q => q.elim Or.inl (fun q => Or.inr (Or.inl q))))
    have hb56 := hb48.keep f54 (fun j hj e => by rcases e with e | e <;> (have := congrArg Prod.snd e; dsimp only at this; omega))
    have h57 := f54.keep h34 (fun q => by rcases q with q | q <;> (have := congrArg Prod.fst q; dsimp only at this; omega))
    refine x_aload_n C dX6_book_43 rfl rfl ?_
    refine x_get C gcX6 hb56.1 7 rfl q526 rfl dX6_book_44 ?_
    refine x_iload_n C dX6_book_47 rfl rfl ?_
    refine y_aaldR (ty := .array .int) (i := t) (b := ba (70 + t)) C 6 rfl rfl (hb56.2.2.1 4 (by omega)) rfl (by omega) rfl rfl dX6_book_48 ?_
    refine x_iload_n C dX6_book_49 rfl rfl ?_
    refine x_dup2 C dX6_book_50 rfl rfl ?_
    refine y_iald (i := u) C (hb56.r4 (t := t) (by omega)) rfl (by omega) rfl dX6_book_51 ?_
    refine x_iload_n C dX6_book_52 rfl rfl ?_
    refine x_iadd C dX6_book_53 ?_
    refine y_iast (i := u) C (hb56.r4 (t := t) (by omega)) rfl (by omega) rfl dX6_book_54 (fun M58 h59 k60 => ?_)
    have hb61 := hb56.tot ht4 hu4 h59 k60
    have f62 := f55.tr (gFl.of1 (ρ := (fun l => l = (r, 13) ∨ l = (r, 14) ∨ l = (r, 0) ∨ l = (r, 70 + t))) (hb56.r4 (t := t) (by omega)) h59 k60 (Or.inr (Or.inr (Or.inr rfl))))
    have h63 := hq53.keep (gFl.of1 (ρ := fun l => l = (r, 70 + t)) (hb56.r4 (t := t) (by omega)) h59 k60 rfl) (fun q => by have := congrArg Prod.snd q; dsimp only at this; omega) (fun q => by have := congrArg Prod.snd q; dsimp only at this; omega)
    have h64 := (k60 _ (gM_ne h57 (hb56.r4 (t := t) (by omega)) (by omega))).trans h57
    refine x_aload_n C dX6_book_55 rfl rfl ?_
    refine x_dup C dX6_book_56 rfl ?_
    refine x_get C gcX6 hb61.1 14 rfl q539 rfl dX6_book_57 ?_
    refine x_iconst C dX6_book_60 kc_1 ?_
    refine x_iadd C dX6_book_61 ?_
    refine y_put (fs' := [.ref (ba 1), .ref (ba 2), .ref (ba 3), .ref (ba 4), .ref (ba 5), .ref (ba 7), .ref (ba 8), .ref (ba 6), .ref (ba 11), .ref (ba 12), .ref (ba 13), .ref (ba 15), .ref (ba 9), .int (B 0), .int ((B 1866) + (nI 1)), .ref (x)]) C gcX6 hb61.1 14 rfl q539 rfl rfl rfl rfl rfl dX6_book_62 (fun M65 h66 k67 => ?_)
    have h68 := (k67 _ (gM_ne hb61.2.1 hb61.1 (by omega))).trans hb61.2.1
    have h69 := (k67 _ (gM_ne (hb61.2.2.1 0 (by omega)) hb61.1 (by omega))).trans (hb61.2.2.1 0 (by omega))
    have h70 := (k67 _ (gM_ne (hb61.2.2.1 1 (by omega)) hb61.1 (by omega))).trans (hb61.2.2.1 1 (by omega))
    have h71 := (k67 _ (gM_ne (hb61.2.2.1 2 (by omega)) hb61.1 (by omega))).trans (hb61.2.2.1 2 (by omega))
    have h72 := (k67 _ (gM_ne (hb61.2.2.1 3 (by omega)) hb61.1 (by omega))).trans (hb61.2.2.1 3 (by omega))
    have h73 := (k67 _ (gM_ne (hb61.2.2.1 4 (by omega)) hb61.1 (by omega))).trans (hb61.2.2.1 4 (by omega))
    have h74 := (k67 _ (gM_ne (hb61.2.2.2.2.2.2.1 0 (by omega)) hb61.1 (by omega))).trans (hb61.2.2.2.2.2.2.1 0 (by omega))
    have h75 := (k67 _ (gM_ne (hb61.2.2.2.2.2.2.1 1 (by omega)) hb61.1 (by omega))).trans (hb61.2.2.2.2.2.2.1 1 (by omega))
    have h76 := (k67 _ (gM_ne hb61.2.2.2.2.2.2.2.1 hb61.1 (by omega))).trans hb61.2.2.2.2.2.2.2.1
    have k77 : ∀ zz : Nat, zz ≠ ba 0 → M65 zz = M58 zz := fun zz z0 => k67 zz z0
    refine x_vret C dX6_book_65 ⟨Nat.le_of_ble_eq_true rfl, Nat.le_of_ble_eq_true rfl⟩ ⟨hBX.book (en := en) ht4 hu4 hr4 hK (hb61.flds h66 k77) (h63.keep (gFl.of1 (ρ := fun l => l = (r, 0)) hb61.1 h66 k77 rfl) (fun q => by have := congrArg Prod.snd q; dsimp only at this; omega) (fun q => by have := congrArg Prod.snd q; dsimp only at this; omega)) hen ((k77 _ (gM_ne h64 hb61.1 (by omega))).trans h64) (f62.tr (gFl.of1 hb61.1 h66 k77 (Or.inr (Or.inr (Or.inl rfl))))), ?_⟩
    exact f62.tr (gFl.of1 hb61.1 h66 k77 (Or.inr (Or.inr (Or.inl rfl))))
  · -- 12
    refine x_aload_n C dX6_book_12 rfl rfl ?_
    refine x_get C gcX6 hBC.1 10 rfl q532 rfl dX6_book_13 ?_
    refine x_V0R C (met_J12_removeLast l C.1 hdq (by omega)) mi_J12_removeLast q1881 gcJ12 hdeq1.1 ⟨rfl, rfl⟩ rfl ⟨Nat.le_of_ble_eq_true rfl, Nat.le_of_ble_eq_true rfl⟩ rfl dX6_book_16 (fun r79 M78 hr => ?_)
    obtain ⟨rfl, hq80, f81⟩ := hr
    rw [← pMany_40 c9] at hq80
    have f82 : gFl (fun l => l = (r, 13) ∨ l = (r, 14) ∨ l = (r, 0) ∨ l = (r, 70 + t)) M0 M78 := f81.mono (fun i j q => q.elim Or.inl (fun q => Or.inr (Or.inl q)))
    have hb83 := hBC.keep f81 (fun j hj e => by rcases e with e | e <;> (have := congrArg Prod.snd e; dsimp only at this; omega))
    obtain ⟨elq84, capq84, hdq84, fqq84, hdeq84, hccq84⟩ := id hq80
    refine x_pop C dX6_book_19 rfl ?_
    refine x_aload_n C dX6_book_20 rfl rfl ?_
    refine x_get C gcX6 hb83.1 10 rfl q532 rfl dX6_book_21 ?_
    refine y_new (fs := [.int (nI 0), .int (nI 0), .int (nI 0), .int (nI 0), .int (nI 0)]) C (fun a => (1, 2)) gcX14 q1720 q1897 q172 rfl ⟨Nat.le_of_ble_eq_true rfl, Nat.le_of_ble_eq_true rfl⟩ dX6_book_24 (fun a85 M86 n87 g88 h89 k90 => ?_)
    have e91 : ba 0 ≠ a85 := gM_nn hb83.1 n87
    have e92 : ba 1 ≠ a85 := gM_nn hb83.2.1 n87
    have e93 : ba 2 ≠ a85 := gM_nn (hb83.2.2.1 0 (by omega)) n87
    have e94 : ba 3 ≠ a85 := gM_nn (hb83.2.2.1 1 (by omega)) n87
    have e95 : ba 4 ≠ a85 := gM_nn (hb83.2.2.1 2 (by omega)) n87
    have e96 : ba 5 ≠ a85 := gM_nn (hb83.2.2.1 3 (by omega)) n87
    have e97 : ba 6 ≠ a85 := gM_nn (hb83.2.2.1 4 (by omega)) n87
    have e98 : ba 7 ≠ a85 := gM_nn (hb83.2.2.2.2.2.2.1 0 (by omega)) n87
    have e99 : ba 8 ≠ a85 := gM_nn (hb83.2.2.2.2.2.2.1 1 (by omega)) n87
    have e100 : ba 9 ≠ a85 := gM_nn hb83.2.2.2.2.2.2.2.1 n87
    have e101 : ba 13 ≠ a85 := gM_nn hdeq84.1 n87
    have h102 := (k90 _ e91).trans hb83.1
    have h103 := (k90 _ e92).trans hb83.2.1
    have h104 := (k90 _ e93).trans (hb83.2.2.1 0 (by omega))
    have h105 := (k90 _ e94).trans (hb83.2.2.1 1 (by omega))
    have h106 := (k90 _ e95).trans (hb83.2.2.1 2 (by omega))
    have h107 := (k90 _ e96).trans (hb83.2.2.1 3 (by omega))
    have h108 := (k90 _ e97).trans (hb83.2.2.1 4 (by omega))
    have h109 := (k90 _ e98).trans (hb83.2.2.2.2.2.2.1 0 (by omega))
    have h110 := (k90 _ e99).trans (hb83.2.2.2.2.2.2.1 1 (by omega))
    have h111 := (k90 _ e100).trans hb83.2.2.2.2.2.2.2.1
    have h112 := (k90 _ e101).trans hdeq84.1
    have k113 : ∀ zz : Nat, zz ≠ a85 → M86 zz = M78 zz := fun zz z0 => k90 zz z0
    refine x_dup C dX6_book_27 rfl ?_
    refine x_aload_n C dX6_book_28 rfl rfl ?_
    refine x_get C gcX6 h102 13 rfl q537 rfl dX6_book_29 ?_
    refine x_iload_n C dX6_book_32 rfl rfl ?_
    refine x_iload_n C dX6_book_33 rfl rfl ?_
    refine x_iload_n C dX6_book_34 rfl rfl ?_
    refine x_iload C dX6_book_35 rfl ?_
    refine x_I5 C (met_X14_init l C.1 h89) mi_X14_init q1898 ⟨rfl, rfl⟩ rfl ⟨Nat.le_of_ble_eq_true rfl, Nat.le_of_ble_eq_true rfl⟩ rfl dX6_book_37 (fun M114 hr => ?_)
    obtain ⟨h115, k116⟩ := hr
    have h117 := (k116 _ e91).trans h102
    have h118 := (k116 _ e92).trans h103
    have h119 := (k116 _ e93).trans h104
    have h120 := (k116 _ e94).trans h105
    have h121 := (k116 _ e95).trans h106
    have h122 := (k116 _ e96).trans h107
    have h123 := (k116 _ e97).trans h108
    have h124 := (k116 _ e98).trans h109
    have h125 := (k116 _ e99).trans h110
    have h126 := (k116 _ e100).trans h111
    have h127 := (k116 _ e101).trans h112
    have k128 : ∀ zz : Nat, zz ≠ a85 → M114 zz = M78 zz := fun zz z0 => (k116 zz z0).trans (k113 zz z0)
    have hb129 := hb83.keep (ρ := fun _ => False) (gFl.nw n87 k128) (fun _ _ q => q)
    have hq130 := hq80.keep (ρ := fun _ => False) (gFl.nw n87 k128) (fun q => q) (fun q => q)
    have f131 := f82.tr (gFl.nw (ρ := (fun l => l = (r, 13) ∨ l = (r, 14) ∨ l = (r, 0) ∨ l = (r, 70 + t))) n87 k128)
    obtain ⟨elq132, capq132, hdq132, fqq132, hdeq132, hccq132⟩ := id hq130
    refine x_V1V C (met_J12_addFirst l C.1 hq130 (by have := pMany_le B; omega) (fun i hi => ⟨_, _, f131.keep (hen i (by have := pMany_le B; have := hK.2; unfold pMany at hi; split at hi <;> omega)) n1⟩) h115) mi_J12_addFirst q1918 gcJ12 hdeq132.1 ⟨rfl, rfl⟩ rfl ⟨Nat.le_of_ble_eq_true rfl, Nat.le_of_ble_eq_true rfl⟩ rfl dX6_book_40 (fun M133 hr => ?_)
    obtain ⟨hq134, f135⟩ := hr
    have f136 := f131.tr (f135.mono (fun i j q => q.elim Or.inl (fun q => Or.inr (Or.inl q))))
    have hb137 := hb129.keep f135 (fun j hj e => by rcases e with e | e <;> (have := congrArg Prod.snd e; dsimp only at this; omega))
    have h138 := f135.keep h115 (fun q => by rcases q with q | q <;> (have := congrArg Prod.fst q; dsimp only at this; omega))
    refine x_aload_n C dX6_book_43 rfl rfl ?_
    refine x_get C gcX6 hb137.1 7 rfl q526 rfl dX6_book_44 ?_
    refine x_iload_n C dX6_book_47 rfl rfl ?_
    refine y_aaldR (ty := .array .int) (i := t) (b := ba (70 + t)) C 6 rfl rfl (hb137.2.2.1 4 (by omega)) rfl (by omega) rfl rfl dX6_book_48 ?_
    refine x_iload_n C dX6_book_49 rfl rfl ?_
    refine x_dup2 C dX6_book_50 rfl rfl ?_
    refine y_iald (i := u) C (hb137.r4 (t := t) (by omega)) rfl (by omega) rfl dX6_book_51 ?_
    refine x_iload_n C dX6_book_52 rfl rfl ?_
    refine x_iadd C dX6_book_53 ?_
    refine y_iast (i := u) C (hb137.r4 (t := t) (by omega)) rfl (by omega) rfl dX6_book_54 (fun M139 h140 k141 => ?_)
    have hb142 := hb137.tot ht4 hu4 h140 k141
    have f143 := f136.tr (gFl.of1 (ρ := (fun l => l = (r, 13) ∨ l = (r, 14) ∨ l = (r, 0) ∨ l = (r, 70 + t))) (hb137.r4 (t := t) (by omega)) h140 k141 (Or.inr (Or.inr (Or.inr rfl))))
    have h144 := hq134.keep (gFl.of1 (ρ := fun l => l = (r, 70 + t)) (hb137.r4 (t := t) (by omega)) h140 k141 rfl) (fun q => by have := congrArg Prod.snd q; dsimp only at this; omega) (fun q => by have := congrArg Prod.snd q; dsimp only at this; omega)
    have h145 := (k141 _ (gM_ne h138 (hb137.r4 (t := t) (by omega)) (by omega))).trans h138
    refine x_aload_n C dX6_book_55 rfl rfl ?_
    refine x_dup C dX6_book_56 rfl ?_
    refine x_get C gcX6 hb142.1 14 rfl q539 rfl dX6_book_57 ?_
    refine x_iconst C dX6_book_60 kc_1 ?_
    refine x_iadd C dX6_book_61 ?_
    refine y_put (fs' := [.ref (ba 1), .ref (ba 2), .ref (ba 3), .ref (ba 4), .ref (ba 5), .ref (ba 7), .ref (ba 8), .ref (ba 6), .ref (ba 11), .ref (ba 12), .ref (ba 13), .ref (ba 15), .ref (ba 9), .int (B 0), .int ((B 1866) + (nI 1)), .ref (x)]) C gcX6 hb142.1 14 rfl q539 rfl rfl rfl rfl rfl dX6_book_62 (fun M146 h147 k148 => ?_)
    have h149 := (k148 _ (gM_ne hb142.2.1 hb142.1 (by omega))).trans hb142.2.1
    have h150 := (k148 _ (gM_ne (hb142.2.2.1 0 (by omega)) hb142.1 (by omega))).trans (hb142.2.2.1 0 (by omega))
    have h151 := (k148 _ (gM_ne (hb142.2.2.1 1 (by omega)) hb142.1 (by omega))).trans (hb142.2.2.1 1 (by omega))
    have h152 := (k148 _ (gM_ne (hb142.2.2.1 2 (by omega)) hb142.1 (by omega))).trans (hb142.2.2.1 2 (by omega))
    have h153 := (k148 _ (gM_ne (hb142.2.2.1 3 (by omega)) hb142.1 (by omega))).trans (hb142.2.2.1 3 (by omega))
    have h154 := (k148 _ (gM_ne (hb142.2.2.1 4 (by omega)) hb142.1 (by omega))).trans (hb142.2.2.1 4 (by omega))
    have h155 := (k148 _ (gM_ne (hb142.2.2.2.2.2.2.1 0 (by omega)) hb142.1 (by omega))).trans (hb142.2.2.2.2.2.2.1 0 (by omega))
    have h156 := (k148 _ (gM_ne (hb142.2.2.2.2.2.2.1 1 (by omega)) hb142.1 (by omega))).trans (hb142.2.2.2.2.2.2.1 1 (by omega))
    have h157 := (k148 _ (gM_ne hb142.2.2.2.2.2.2.2.1 hb142.1 (by omega))).trans hb142.2.2.2.2.2.2.2.1
    have k158 : ∀ zz : Nat, zz ≠ ba 0 → M146 zz = M139 zz := fun zz z0 => k148 zz z0
    refine x_vret C dX6_book_65 ⟨Nat.le_of_ble_eq_true rfl, Nat.le_of_ble_eq_true rfl⟩ ⟨hBX.book (en := en) ht4 hu4 hr4 hK (hb142.flds h147 k158) (h144.keep (gFl.of1 (ρ := fun l => l = (r, 0)) hb142.1 h147 k158 rfl) (fun q => by have := congrArg Prod.snd q; dsimp only at this; omega) (fun q => by have := congrArg Prod.snd q; dsimp only at this; omega)) hen ((k158 _ (gM_ne h145 hb142.1 (by omega))).trans h145) (f143.tr (gFl.of1 hb142.1 h147 k158 (Or.inr (Or.inr (Or.inl rfl))))), ?_⟩
    exact f143.tr (gFl.of1 hb142.1 h147 k158 (Or.inr (Or.inr (Or.inl rfl))))
