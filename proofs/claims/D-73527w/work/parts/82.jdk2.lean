set_option maxRecDepth 100000
theorem mi_J11_unlink : gMV RJ11 yJ11_unlink cJ11_unlink 5 (some (.object "java/lang/Object")) 1 := ⟨q2012, q2013, q139, q2014, by decide +kernel⟩
set_option maxHeartbeats 4000000 in
set_option maxRecDepth 100000 in
theorem met_J11_unlink (l : Launch) {G : gG} (hG : gOK G) {M0 : gM} {l0 lN : Nat × Nat} {hd n : Nat} {mc : Int32} {nd it : Nat → Nat} {i : Nat} (h : LL l0 lN hd n mc nd it M0) (hi : i < n) : Met l yJ11_unlink (ws_ yJ11_unlink cJ11_unlink 5 (some (.object "java/lang/Object"))) ({ frames := 0, cells := 0, slots := 0, locals := 0 }) (gPre G M0 [.ref (hd), .ref (nd i)]) (gQ G (gR (fun r M1 => it i = r ∧ LL l0 lN hd (n - 1) (mc + nI 1) (fun j => if j < i then nd j else nd (j + 1)) (fun j => if j < i then it j else it (j + 1)) M1 ∧ gFl (ro2 l0 lN) M0 M1))) 0 0 (gA G) := by
  refine gMet (L0 := [some (.ref (hd)), some (.ref (nd i)), none, none, none]) RJ11 hG (by decide +kernel) rfl (Nat.le_of_ble_eq_true rfl) rfl ?_
  intro p e s m args below meth c C hnm
  have hnb := h.2.2.2.2
  have hp := h.hdr (by omega)
  rcases Nat.eq_zero_or_pos i with h0 | h0
  · -- first True
    rcases Nat.lt_or_ge (i + 1) n with hl | hl
    · -- more True
      have hq : M0 (nd i) = some (lN, .inr (11, [.ref (it i), .ref (nd (i + 1)), .null])) := by have := h.nod (i := i) (by omega); rw [if_pos hl, if_pos h0] at this; exact this
      have n1 := h.ne (i := i) (by omega)
      have hx := h.prv (i := i + 1) (by omega) (by omega)
      rw [show i + 1 - 1 = i by omega] at hx
      have n2 := h.ne (i := i + 1) (by omega)
      have n3 := h.nne (i := i) (j := i + 1) (by omega) (by omega) (by omega)
      refine x_aload_n C dJ11_unlink_0 rfl rfl ?_
      refine x_get C gcJ30 hq 0 rfl q1231 rfl dJ11_unlink_1 ?_
      refine x_astore_n C dJ11_unlink_4 rfl (gs1_2 rfl) rfl ?_
      refine x_aload_n C dJ11_unlink_5 rfl rfl ?_
      refine x_get C gcJ30 hq 1 rfl q1234 rfl dJ11_unlink_6 ?_
      refine x_astore_n C dJ11_unlink_9 rfl (gs1_3 rfl) rfl ?_
      refine x_aload_n C dJ11_unlink_10 rfl rfl ?_
      refine x_get C gcJ30 hq 2 rfl q1236 rfl dJ11_unlink_11 ?_
      refine x_astoreN C dJ11_unlink_14 (gs1_4 rfl) rfl ?_
      refine x_aloadN C dJ11_unlink_16 rfl ?_
      refine x_ifnonnullN C dJ11_unlink_18 ?_
      refine x_aload_n C dJ11_unlink_21 rfl rfl ?_
      refine x_aload_n C dJ11_unlink_22 rfl rfl ?_
      refine y_put (fs' := [.int (mc), .int (nI n), .ref (nd (i + 1)), .ref (nd (n - 1))]) C gcJ11 hp 2 rfl q369 rfl rfl rfl rfl rfl dJ11_unlink_23 (fun M1 h2 k3 => ?_)
      have h4 := (k3 _ (Ne.symm n1)).trans hq
      have h5 := (k3 _ (Ne.symm n2)).trans hx
      have k6 : ∀ q : Nat, q ≠ hd → M1 q = M0 q := fun q z0 => k3 q z0
      refine x_goto (tgt := 40) C dJ11_unlink_26 rfl ?_
      refine x_aload_n C dJ11_unlink_40 rfl rfl ?_
      refine x_ifnonnull (tgt := 53) C dJ11_unlink_41 rfl ?_
      refine x_aload_n C dJ11_unlink_53 rfl rfl ?_
      refine x_aloadN C dJ11_unlink_54 rfl ?_
      refine y_put (fs' := [.ref (it (i + 1)), va_rf (if i + 1 + 1 < n then some (nd (i + 1 + 1)) else none), .null]) C gcJ30 h5 2 rfl q1236 rfl rfl rfl rfl rfl dJ11_unlink_56 (fun M7 h8 k9 => ?_)
      have h10 := (k9 _ n2).trans h2
      have h11 := (k9 _ n3).trans h4
      have k12 : ∀ q : Nat, q ≠ hd → q ≠ nd (i + 1) → M7 q = M0 q := fun q z0 z1 => (k9 q z1).trans (k6 q z0)
      refine x_aload_n C dJ11_unlink_59 rfl rfl ?_
      refine x_null C dJ11_unlink_60 ?_
      refine y_put (fs' := [.ref (it i), .null, .null]) C gcJ30 h11 1 rfl q1234 rfl rfl rfl rfl rfl dJ11_unlink_61 (fun M13 h14 k15 => ?_)
      have h16 := (k15 _ n1).trans h10
      have h17 := (k15 _ (Ne.symm n3)).trans h8
      have k18 : ∀ q : Nat, q ≠ hd → q ≠ nd (i + 1) → q ≠ nd i → M13 q = M0 q := fun q z0 z1 z2 => (k15 q z2).trans (k12 q z0 z1)
      refine x_aload_n C dJ11_unlink_64 rfl rfl ?_
      refine x_null C dJ11_unlink_65 ?_
      refine y_put (fs' := [.null, .null, .null]) C gcJ30 h14 0 rfl q1231 rfl rfl rfl rfl rfl dJ11_unlink_66 (fun M19 h20 k21 => ?_)
      have h22 := (k21 _ n1).trans h16
      have h23 := (k21 _ (Ne.symm n3)).trans h17
      have k24 : ∀ q : Nat, q ≠ hd → q ≠ nd (i + 1) → q ≠ nd i → M19 q = M0 q := fun q z0 z1 z2 => (k21 q z2).trans (k18 q z0 z1 z2)
      refine x_aload_n C dJ11_unlink_69 rfl rfl ?_
      refine x_dup C dJ11_unlink_70 rfl ?_
      refine x_get C gcJ11 h22 1 rfl q367 rfl dJ11_unlink_71 ?_
      refine x_iconst C dJ11_unlink_74 kc_1 ?_
      refine x_isubN C (by omega) dJ11_unlink_75 ?_
      refine y_put (fs' := [.int (mc), .int (nI (n - 1)), .ref (nd (i + 1)), .ref (nd (n - 1))]) C gcJ11 h22 1 rfl q367 rfl rfl rfl rfl rfl dJ11_unlink_76 (fun M25 h26 k27 => ?_)
      have h28 := (k27 _ (Ne.symm n1)).trans h20
      have h29 := (k27 _ (Ne.symm n2)).trans h23
      have k30 : ∀ q : Nat, q ≠ hd → q ≠ nd (i + 1) → q ≠ nd i → M25 q = M0 q := fun q z0 z1 z2 => (k27 q z0).trans (k24 q z0 z1 z2)
      refine x_aload_n C dJ11_unlink_79 rfl rfl ?_
      refine x_dup C dJ11_unlink_80 rfl ?_
      refine x_getS C gcJ11 h26 0 rfl q375 q373 rfl dJ11_unlink_81 ?_
      refine x_iconst C dJ11_unlink_84 kc_1 ?_
      refine x_iadd C dJ11_unlink_85 ?_
      refine y_putS (fs' := [.int (mc + (nI 1)), .int (nI (n - 1)), .ref (nd (i + 1)), .ref (nd (n - 1))]) C gcJ11 h26 0 rfl q375 q373 rfl rfl rfl rfl rfl dJ11_unlink_86 (fun M31 h32 k33 => ?_)
      have h34 := (k33 _ (Ne.symm n1)).trans h28
      have h35 := (k33 _ (Ne.symm n2)).trans h29
      have k36 : ∀ q : Nat, q ≠ hd → q ≠ nd (i + 1) → q ≠ nd i → M31 q = M0 q := fun q z0 z1 z2 => (k33 q z0).trans (k30 q z0 z1 z2)
      refine x_aload_n C dJ11_unlink_89 rfl rfl ?_
      have g := h.cut (i := i) (by omega) (by rw [if_neg (show ¬ n - 1 = 0 by omega), if_neg (show ¬ n - 1 = 0 by omega), if_pos (show i = 0 by omega), if_neg (show ¬ i + 1 = n by omega)]; have q9 := h32; rw [show nd (i + 1) = nd 1 by rw [h0]] at q9; exact q9) h34 (fun q => absurd q (by omega)) (fun _ => by rw [if_pos (show i = 0 by omega)]; exact h35) (fun z za zb zc zd => k36 z za (zd (by omega)) zb)
      exact x_aret C dJ11_unlink_90 ⟨Nat.le_of_ble_eq_true rfl, Nat.le_of_ble_eq_true rfl⟩ ⟨rfl, g⟩
    · -- more False
      have hq : M0 (nd i) = some (lN, .inr (11, [.ref (it i), .null, .null])) := by have := h.nod (i := i) (by omega); rw [if_neg (show ¬ i + 1 < n by omega), if_pos h0] at this; exact this
      have n1 := h.ne (i := i) (by omega)
      refine x_aload_n C dJ11_unlink_0 rfl rfl ?_
      refine x_get C gcJ30 hq 0 rfl q1231 rfl dJ11_unlink_1 ?_
      refine x_astore_n C dJ11_unlink_4 rfl (gs1_2 rfl) rfl ?_
      refine x_aload_n C dJ11_unlink_5 rfl rfl ?_
      refine x_get C gcJ30 hq 1 rfl q1234 rfl dJ11_unlink_6 ?_
      refine x_astore_nN C dJ11_unlink_9 rfl (gs1_3 rfl) rfl ?_
      refine x_aload_n C dJ11_unlink_10 rfl rfl ?_
      refine x_get C gcJ30 hq 2 rfl q1236 rfl dJ11_unlink_11 ?_
      refine x_astoreN C dJ11_unlink_14 (gs1_4 rfl) rfl ?_
      refine x_aloadN C dJ11_unlink_16 rfl ?_
      refine x_ifnonnullN C dJ11_unlink_18 ?_
      refine x_aload_n C dJ11_unlink_21 rfl rfl ?_
      refine x_aload_nN C dJ11_unlink_22 rfl rfl ?_
      refine y_put (fs' := [.int (mc), .int (nI n), .null, .ref (nd (n - 1))]) C gcJ11 hp 2 rfl q369 rfl rfl rfl rfl rfl dJ11_unlink_23 (fun M37 h38 k39 => ?_)
      have h40 := (k39 _ (Ne.symm n1)).trans hq
      have k41 : ∀ q : Nat, q ≠ hd → M37 q = M0 q := fun q z0 => k39 q z0
      refine x_goto (tgt := 40) C dJ11_unlink_26 rfl ?_
      refine x_aload_nN C dJ11_unlink_40 rfl rfl ?_
      refine x_ifnonnullN C dJ11_unlink_41 ?_
      refine x_aload_n C dJ11_unlink_44 rfl rfl ?_
      refine x_aloadN C dJ11_unlink_45 rfl ?_
      refine y_put (fs' := [.int (mc), .int (nI n), .null, .null]) C gcJ11 h38 3 rfl q370 rfl rfl rfl rfl rfl dJ11_unlink_47 (fun M42 h43 k44 => ?_)
      have h45 := (k44 _ (Ne.symm n1)).trans h40
      have k46 : ∀ q : Nat, q ≠ hd → M42 q = M0 q := fun q z0 => (k44 q z0).trans (k41 q z0)
      refine x_goto (tgt := 64) C dJ11_unlink_50 rfl ?_
      refine x_aload_n C dJ11_unlink_64 rfl rfl ?_
      refine x_null C dJ11_unlink_65 ?_
      refine y_put (fs' := [.null, .null, .null]) C gcJ30 h45 0 rfl q1231 rfl rfl rfl rfl rfl dJ11_unlink_66 (fun M47 h48 k49 => ?_)
      have h50 := (k49 _ n1).trans h43
      have k51 : ∀ q : Nat, q ≠ hd → q ≠ nd i → M47 q = M0 q := fun q z0 z1 => (k49 q z1).trans (k46 q z0)
      refine x_aload_n C dJ11_unlink_69 rfl rfl ?_
      refine x_dup C dJ11_unlink_70 rfl ?_
      refine x_get C gcJ11 h50 1 rfl q367 rfl dJ11_unlink_71 ?_
      refine x_iconst C dJ11_unlink_74 kc_1 ?_
      refine x_isubN C (by omega) dJ11_unlink_75 ?_
      refine y_put (fs' := [.int (mc), .int (nI (n - 1)), .null, .null]) C gcJ11 h50 1 rfl q367 rfl rfl rfl rfl rfl dJ11_unlink_76 (fun M52 h53 k54 => ?_)
      have h55 := (k54 _ (Ne.symm n1)).trans h48
      have k56 : ∀ q : Nat, q ≠ hd → q ≠ nd i → M52 q = M0 q := fun q z0 z1 => (k54 q z0).trans (k51 q z0 z1)
      refine x_aload_n C dJ11_unlink_79 rfl rfl ?_
      refine x_dup C dJ11_unlink_80 rfl ?_
      refine x_getS C gcJ11 h53 0 rfl q375 q373 rfl dJ11_unlink_81 ?_
      refine x_iconst C dJ11_unlink_84 kc_1 ?_
      refine x_iadd C dJ11_unlink_85 ?_
      refine y_putS (fs' := [.int (mc + (nI 1)), .int (nI (n - 1)), .null, .null]) C gcJ11 h53 0 rfl q375 q373 rfl rfl rfl rfl rfl dJ11_unlink_86 (fun M57 h58 k59 => ?_)
      have h60 := (k59 _ (Ne.symm n1)).trans h55
      have k61 : ∀ q : Nat, q ≠ hd → q ≠ nd i → M57 q = M0 q := fun q z0 z1 => (k59 q z0).trans (k56 q z0 z1)
      refine x_aload_n C dJ11_unlink_89 rfl rfl ?_
      have g := h.cut (i := i) (by omega) (by rw [if_pos (show n - 1 = 0 by omega), if_pos (show n - 1 = 0 by omega)]; exact h58) h60 (fun q => absurd q (by omega)) (fun q => absurd q (by omega)) (fun z za zb zc zd => k61 z za zb)
      exact x_aret C dJ11_unlink_90 ⟨Nat.le_of_ble_eq_true rfl, Nat.le_of_ble_eq_true rfl⟩ ⟨rfl, g⟩
  · -- first False
    rcases Nat.lt_or_ge (i + 1) n with hl | hl
    · -- more True
      have hq : M0 (nd i) = some (lN, .inr (11, [.ref (it i), .ref (nd (i + 1)), .ref (nd (i - 1))])) := by have := h.nod (i := i) (by omega); rw [if_pos hl, if_neg (show ¬ i = 0 by omega)] at this; exact this
      have n1 := h.ne (i := i) (by omega)
      have hx := h.prv (i := i + 1) (by omega) (by omega)
      rw [show i + 1 - 1 = i by omega] at hx
      have n2 := h.ne (i := i + 1) (by omega)
      have n3 := h.nne (i := i) (j := i + 1) (by omega) (by omega) (by omega)
      have hy := h.nxt (i := i - 1) (by omega)
      rw [show i - 1 + 1 = i by omega] at hy
      have n4 := h.ne (i := i - 1) (by omega)
      have n5 := h.nne (i := i) (j := i - 1) (by omega) (by omega) (by omega)
      have n6 := h.nne (i := i - 1) (j := i + 1) (by omega) (by omega) (by omega)
      refine x_aload_n C dJ11_unlink_0 rfl rfl ?_
      refine x_get C gcJ30 hq 0 rfl q1231 rfl dJ11_unlink_1 ?_
      refine x_astore_n C dJ11_unlink_4 rfl (gs1_2 rfl) rfl ?_
      refine x_aload_n C dJ11_unlink_5 rfl rfl ?_
      refine x_get C gcJ30 hq 1 rfl q1234 rfl dJ11_unlink_6 ?_
      refine x_astore_n C dJ11_unlink_9 rfl (gs1_3 rfl) rfl ?_
      refine x_aload_n C dJ11_unlink_10 rfl rfl ?_
      refine x_get C gcJ30 hq 2 rfl q1236 rfl dJ11_unlink_11 ?_
      refine x_astore C dJ11_unlink_14 (gs1_4 rfl) rfl ?_
      refine x_aload C dJ11_unlink_16 rfl ?_
      refine x_ifnonnull (tgt := 29) C dJ11_unlink_18 rfl ?_
      refine x_aload C dJ11_unlink_29 rfl ?_
      refine x_aload_n C dJ11_unlink_31 rfl rfl ?_
      refine y_put (fs' := [.ref (it (i - 1)), .ref (nd (i + 1)), va_rf (if i - 1 = 0 then none else some (nd (i - 1 - 1)))]) C gcJ30 hy 1 rfl q1234 rfl rfl rfl rfl rfl dJ11_unlink_32 (fun M62 h63 k64 => ?_)
      have h65 := (k64 _ n4).trans hp
      have h66 := (k64 _ n5).trans hq
      have h67 := (k64 _ (Ne.symm n6)).trans hx
      have k68 : ∀ q : Nat, q ≠ nd (i - 1) → M62 q = M0 q := fun q z0 => k64 q z0
      refine x_aload_n C dJ11_unlink_35 rfl rfl ?_
      refine x_null C dJ11_unlink_36 ?_
      refine y_put (fs' := [.ref (it i), .ref (nd (i + 1)), .null]) C gcJ30 h66 2 rfl q1236 rfl rfl rfl rfl rfl dJ11_unlink_37 (fun M69 h70 k71 => ?_)
      have h72 := (k71 _ n1).trans h65
      have h73 := (k71 _ (Ne.symm n3)).trans h67
      have h74 := (k71 _ (Ne.symm n5)).trans h63
      have k75 : ∀ q : Nat, q ≠ nd (i - 1) → q ≠ nd i → M69 q = M0 q := fun q z0 z1 => (k71 q z1).trans (k68 q z0)
      refine x_aload_n C dJ11_unlink_40 rfl rfl ?_
      refine x_ifnonnull (tgt := 53) C dJ11_unlink_41 rfl ?_
      refine x_aload_n C dJ11_unlink_53 rfl rfl ?_
      refine x_aload C dJ11_unlink_54 rfl ?_
      refine y_put (fs' := [.ref (it (i + 1)), va_rf (if i + 1 + 1 < n then some (nd (i + 1 + 1)) else none), .ref (nd (i - 1))]) C gcJ30 h73 2 rfl q1236 rfl rfl rfl rfl rfl dJ11_unlink_56 (fun M76 h77 k78 => ?_)
      have h79 := (k78 _ n2).trans h72
      have h80 := (k78 _ n3).trans h70
      have h81 := (k78 _ n6).trans h74
      have k82 : ∀ q : Nat, q ≠ nd (i - 1) → q ≠ nd i → q ≠ nd (i + 1) → M76 q = M0 q := fun q z0 z1 z2 => (k78 q z2).trans (k75 q z0 z1)
      refine x_aload_n C dJ11_unlink_59 rfl rfl ?_
      refine x_null C dJ11_unlink_60 ?_
      refine y_put (fs' := [.ref (it i), .null, .null]) C gcJ30 h80 1 rfl q1234 rfl rfl rfl rfl rfl dJ11_unlink_61 (fun M83 h84 k85 => ?_)
      have h86 := (k85 _ n1).trans h79
      have h87 := (k85 _ (Ne.symm n3)).trans h77
      have h88 := (k85 _ (Ne.symm n5)).trans h81
      have k89 : ∀ q : Nat, q ≠ nd (i - 1) → q ≠ nd i → q ≠ nd (i + 1) → M83 q = M0 q := fun q z0 z1 z2 => (k85 q z1).trans (k82 q z0 z1 z2)
      refine x_aload_n C dJ11_unlink_64 rfl rfl ?_
      refine x_null C dJ11_unlink_65 ?_
      refine y_put (fs' := [.null, .null, .null]) C gcJ30 h84 0 rfl q1231 rfl rfl rfl rfl rfl dJ11_unlink_66 (fun M90 h91 k92 => ?_)
      have h93 := (k92 _ n1).trans h86
      have h94 := (k92 _ (Ne.symm n3)).trans h87
      have h95 := (k92 _ (Ne.symm n5)).trans h88
      have k96 : ∀ q : Nat, q ≠ nd (i - 1) → q ≠ nd i → q ≠ nd (i + 1) → M90 q = M0 q := fun q z0 z1 z2 => (k92 q z1).trans (k89 q z0 z1 z2)
      refine x_aload_n C dJ11_unlink_69 rfl rfl ?_
      refine x_dup C dJ11_unlink_70 rfl ?_
      refine x_get C gcJ11 h93 1 rfl q367 rfl dJ11_unlink_71 ?_
      refine x_iconst C dJ11_unlink_74 kc_1 ?_
      refine x_isubN C (by omega) dJ11_unlink_75 ?_
      refine y_put (fs' := [.int (mc), .int (nI (n - 1)), .ref (nd 0), .ref (nd (n - 1))]) C gcJ11 h93 1 rfl q367 rfl rfl rfl rfl rfl dJ11_unlink_76 (fun M97 h98 k99 => ?_)
      have h100 := (k99 _ (Ne.symm n1)).trans h91
      have h101 := (k99 _ (Ne.symm n2)).trans h94
      have h102 := (k99 _ (Ne.symm n4)).trans h95
      have k103 : ∀ q : Nat, q ≠ nd (i - 1) → q ≠ nd i → q ≠ nd (i + 1) → q ≠ hd → M97 q = M0 q := fun q z0 z1 z2 z3 => (k99 q z3).trans (k96 q z0 z1 z2)
      refine x_aload_n C dJ11_unlink_79 rfl rfl ?_
      refine x_dup C dJ11_unlink_80 rfl ?_
      refine x_getS C gcJ11 h98 0 rfl q375 q373 rfl dJ11_unlink_81 ?_
      refine x_iconst C dJ11_unlink_84 kc_1 ?_
      refine x_iadd C dJ11_unlink_85 ?_
      refine y_putS (fs' := [.int (mc + (nI 1)), .int (nI (n - 1)), .ref (nd 0), .ref (nd (n - 1))]) C gcJ11 h98 0 rfl q375 q373 rfl rfl rfl rfl rfl dJ11_unlink_86 (fun M104 h105 k106 => ?_)
      have h107 := (k106 _ (Ne.symm n1)).trans h100
      have h108 := (k106 _ (Ne.symm n2)).trans h101
      have h109 := (k106 _ (Ne.symm n4)).trans h102
      have k110 : ∀ q : Nat, q ≠ nd (i - 1) → q ≠ nd i → q ≠ nd (i + 1) → q ≠ hd → M104 q = M0 q := fun q z0 z1 z2 z3 => (k106 q z3).trans (k103 q z0 z1 z2 z3)
      refine x_aload_n C dJ11_unlink_89 rfl rfl ?_
      have g := h.cut (i := i) (by omega) (by rw [if_neg (show ¬ n - 1 = 0 by omega), if_neg (show ¬ n - 1 = 0 by omega), if_neg (show ¬ i = 0 by omega), if_neg (show ¬ i + 1 = n by omega)]; exact h105) h107 (fun _ => by rw [if_pos (show i + 1 < n by omega)]; exact h109) (fun _ => by rw [if_neg (show ¬ i = 0 by omega)]; exact h108) (fun z za zb zc zd => k110 z (zc (by omega)) zb (zd (by omega)) za)
      exact x_aret C dJ11_unlink_90 ⟨Nat.le_of_ble_eq_true rfl, Nat.le_of_ble_eq_true rfl⟩ ⟨rfl, g⟩
    · -- more False
      have hq : M0 (nd i) = some (lN, .inr (11, [.ref (it i), .null, .ref (nd (i - 1))])) := by have := h.nod (i := i) (by omega); rw [if_neg (show ¬ i + 1 < n by omega), if_neg (show ¬ i = 0 by omega)] at this; exact this
      have n1 := h.ne (i := i) (by omega)
      have hy := h.nxt (i := i - 1) (by omega)
      rw [show i - 1 + 1 = i by omega] at hy
      have n4 := h.ne (i := i - 1) (by omega)
      have n5 := h.nne (i := i) (j := i - 1) (by omega) (by omega) (by omega)
      refine x_aload_n C dJ11_unlink_0 rfl rfl ?_
      refine x_get C gcJ30 hq 0 rfl q1231 rfl dJ11_unlink_1 ?_
      refine x_astore_n C dJ11_unlink_4 rfl (gs1_2 rfl) rfl ?_
      refine x_aload_n C dJ11_unlink_5 rfl rfl ?_
      refine x_get C gcJ30 hq 1 rfl q1234 rfl dJ11_unlink_6 ?_
      refine x_astore_nN C dJ11_unlink_9 rfl (gs1_3 rfl) rfl ?_
      refine x_aload_n C dJ11_unlink_10 rfl rfl ?_
      refine x_get C gcJ30 hq 2 rfl q1236 rfl dJ11_unlink_11 ?_
      refine x_astore C dJ11_unlink_14 (gs1_4 rfl) rfl ?_
      refine x_aload C dJ11_unlink_16 rfl ?_
      refine x_ifnonnull (tgt := 29) C dJ11_unlink_18 rfl ?_
      refine x_aload C dJ11_unlink_29 rfl ?_
      refine x_aload_nN C dJ11_unlink_31 rfl rfl ?_
      refine y_put (fs' := [.ref (it (i - 1)), .null, va_rf (if i - 1 = 0 then none else some (nd (i - 1 - 1)))]) C gcJ30 hy 1 rfl q1234 rfl rfl rfl rfl rfl dJ11_unlink_32 (fun M111 h112 k113 => ?_)
      have h114 := (k113 _ n4).trans hp
      have h115 := (k113 _ n5).trans hq
      have k116 : ∀ q : Nat, q ≠ nd (i - 1) → M111 q = M0 q := fun q z0 => k113 q z0
      refine x_aload_n C dJ11_unlink_35 rfl rfl ?_
      refine x_null C dJ11_unlink_36 ?_
      refine y_put (fs' := [.ref (it i), .null, .null]) C gcJ30 h115 2 rfl q1236 rfl rfl rfl rfl rfl dJ11_unlink_37 (fun M117 h118 k119 => ?_)
      have h120 := (k119 _ n1).trans h114
      have h121 := (k119 _ (Ne.symm n5)).trans h112
      have k122 : ∀ q : Nat, q ≠ nd (i - 1) → q ≠ nd i → M117 q = M0 q := fun q z0 z1 => (k119 q z1).trans (k116 q z0)
      refine x_aload_nN C dJ11_unlink_40 rfl rfl ?_
      refine x_ifnonnullN C dJ11_unlink_41 ?_
      refine x_aload_n C dJ11_unlink_44 rfl rfl ?_
      refine x_aload C dJ11_unlink_45 rfl ?_
      refine y_put (fs' := [.int (mc), .int (nI n), .ref (nd 0), .ref (nd (i - 1))]) C gcJ11 h120 3 rfl q370 rfl rfl rfl rfl rfl dJ11_unlink_47 (fun M123 h124 k125 => ?_)
      have h126 := (k125 _ (Ne.symm n1)).trans h118
      have h127 := (k125 _ (Ne.symm n4)).trans h121
      have k128 : ∀ q : Nat, q ≠ nd (i - 1) → q ≠ nd i → q ≠ hd → M123 q = M0 q := fun q z0 z1 z2 => (k125 q z2).trans (k122 q z0 z1)
      refine x_goto (tgt := 64) C dJ11_unlink_50 rfl ?_
      refine x_aload_n C dJ11_unlink_64 rfl rfl ?_
      refine x_null C dJ11_unlink_65 ?_
      refine y_put (fs' := [.null, .null, .null]) C gcJ30 h126 0 rfl q1231 rfl rfl rfl rfl rfl dJ11_unlink_66 (fun M129 h130 k131 => ?_)
      have h132 := (k131 _ n1).trans h124
      have h133 := (k131 _ (Ne.symm n5)).trans h127
      have k134 : ∀ q : Nat, q ≠ nd (i - 1) → q ≠ nd i → q ≠ hd → M129 q = M0 q := fun q z0 z1 z2 => (k131 q z1).trans (k128 q z0 z1 z2)
      refine x_aload_n C dJ11_unlink_69 rfl rfl ?_
      refine x_dup C dJ11_unlink_70 rfl ?_
      refine x_get C gcJ11 h132 1 rfl q367 rfl dJ11_unlink_71 ?_
      refine x_iconst C dJ11_unlink_74 kc_1 ?_
      refine x_isubN C (by omega) dJ11_unlink_75 ?_
      refine y_put (fs' := [.int (mc), .int (nI (n - 1)), .ref (nd 0), .ref (nd (i - 1))]) C gcJ11 h132 1 rfl q367 rfl rfl rfl rfl rfl dJ11_unlink_76 (fun M135 h136 k137 => ?_)
      have h138 := (k137 _ (Ne.symm n1)).trans h130
      have h139 := (k137 _ (Ne.symm n4)).trans h133
      have k140 : ∀ q : Nat, q ≠ nd (i - 1) → q ≠ nd i → q ≠ hd → M135 q = M0 q := fun q z0 z1 z2 => (k137 q z2).trans (k134 q z0 z1 z2)
      refine x_aload_n C dJ11_unlink_79 rfl rfl ?_
      refine x_dup C dJ11_unlink_80 rfl ?_
      refine x_getS C gcJ11 h136 0 rfl q375 q373 rfl dJ11_unlink_81 ?_
      refine x_iconst C dJ11_unlink_84 kc_1 ?_
      refine x_iadd C dJ11_unlink_85 ?_
      refine y_putS (fs' := [.int (mc + (nI 1)), .int (nI (n - 1)), .ref (nd 0), .ref (nd (i - 1))]) C gcJ11 h136 0 rfl q375 q373 rfl rfl rfl rfl rfl dJ11_unlink_86 (fun M141 h142 k143 => ?_)
      have h144 := (k143 _ (Ne.symm n1)).trans h138
      have h145 := (k143 _ (Ne.symm n4)).trans h139
      have k146 : ∀ q : Nat, q ≠ nd (i - 1) → q ≠ nd i → q ≠ hd → M141 q = M0 q := fun q z0 z1 z2 => (k143 q z2).trans (k140 q z0 z1 z2)
      refine x_aload_n C dJ11_unlink_89 rfl rfl ?_
      have g := h.cut (i := i) (by omega) (by rw [if_neg (show ¬ n - 1 = 0 by omega), if_neg (show ¬ n - 1 = 0 by omega), if_neg (show ¬ i = 0 by omega), if_pos (show i + 1 = n by omega)]; have q9 := h142; rw [show nd (i - 1) = nd (n - 1 - 1) by rw [show i = n - 1 by omega]] at q9; exact q9) h144 (fun _ => by rw [if_neg (show ¬ i + 1 < n by omega)]; exact h145) (fun q => absurd q (by omega)) (fun z za zb zc zd => k146 z (zc (by omega)) zb za)
      exact x_aret C dJ11_unlink_90 ⟨Nat.le_of_ble_eq_true rfl, Nat.le_of_ble_eq_true rfl⟩ ⟨rfl, g⟩
theorem mi_J11_unlinkFirst : gMV RJ11 yJ11_unlinkFirst cJ11_unlinkFirst 4 (some (.object "java/lang/Object")) 1 := ⟨q1666, qs33, q139, q1667, by decide +kernel⟩
set_option maxHeartbeats 4000000 in
set_option maxRecDepth 100000 in
theorem met_J11_unlinkFirst (l : Launch) {G : gG} (hG : gOK G) {M0 : gM} {l0 lN : Nat × Nat} {hd n : Nat} {mc : Int32} {nd it : Nat → Nat} (h : LL l0 lN hd n mc nd it M0) (hn : 0 < n) : Met l yJ11_unlinkFirst (ws_ yJ11_unlinkFirst cJ11_unlinkFirst 4 (some (.object "java/lang/Object"))) ({ frames := 0, cells := 0, slots := 0, locals := 0 }) (gPre G M0 [.ref (hd), .ref (nd 0)]) (gQ G (gR (fun r M1 => it 0 = r ∧ LL l0 lN hd (n - 1) (mc + nI 1) (fun j => if j < 0 then nd j else nd (j + 1)) (fun j => if j < 0 then it j else it (j + 1)) M1 ∧ gFl (ro2 l0 lN) M0 M1))) 0 0 (gA G) := by
  refine gMet (L0 := [some (.ref (hd)), some (.ref (nd 0)), none, none]) RJ11 hG (by decide +kernel) rfl (Nat.le_of_ble_eq_true rfl) rfl ?_
  intro p e s m args below meth c C hnm
  have hnb := h.2.2.2.2
  have hp := h.hdr (by omega)
  have h0 : (0 : Nat) = 0 := rfl
  rcases Nat.lt_or_ge (0 + 1) n with hl | hl
  · -- more True
    have hq : M0 (nd 0) = some (lN, .inr (11, [.ref (it 0), .ref (nd (0 + 1)), .null])) := by have := h.nod (i := 0) (by omega); rw [if_pos hl, if_pos h0] at this; exact this
    have n1 := h.ne (i := 0) (by omega)
    have hx := h.prv (i := 0 + 1) (by omega) (by omega)
    rw [show 0 + 1 - 1 = 0 by omega] at hx
    have n2 := h.ne (i := 0 + 1) (by omega)
    have n3 := h.nne (i := 0) (j := 0 + 1) (by omega) (by omega) (by omega)
    refine x_aload_n C dJ11_unlinkFirst_0 rfl rfl ?_
    refine x_get C gcJ30 hq 0 rfl q1231 rfl dJ11_unlinkFirst_1 ?_
    refine x_astore_n C dJ11_unlinkFirst_4 rfl (gs1_2 rfl) rfl ?_
    refine x_aload_n C dJ11_unlinkFirst_5 rfl rfl ?_
    refine x_get C gcJ30 hq 1 rfl q1234 rfl dJ11_unlinkFirst_6 ?_
    refine x_astore_n C dJ11_unlinkFirst_9 rfl (gs1_3 rfl) rfl ?_
    refine x_aload_n C dJ11_unlinkFirst_10 rfl rfl ?_
    refine x_null C dJ11_unlinkFirst_11 ?_
    refine y_put (fs' := [.null, .ref (nd (0 + 1)), .null]) C gcJ30 hq 0 rfl q1231 rfl rfl rfl rfl rfl dJ11_unlinkFirst_12 (fun M1 h2 k3 => ?_)
    have h4 := (k3 _ n1).trans hp
    have h5 := (k3 _ (Ne.symm n3)).trans hx
    have k6 : ∀ q : Nat, q ≠ nd 0 → M1 q = M0 q := fun q z0 => k3 q z0
    refine x_aload_n C dJ11_unlinkFirst_15 rfl rfl ?_
    refine x_null C dJ11_unlinkFirst_16 ?_
    refine y_put (fs' := [.null, .null, .null]) C gcJ30 h2 1 rfl q1234 rfl rfl rfl rfl rfl dJ11_unlinkFirst_17 (fun M7 h8 k9 => ?_)
    have h10 := (k9 _ n1).trans h4
    have h11 := (k9 _ (Ne.symm n3)).trans h5
    have k12 : ∀ q : Nat, q ≠ nd 0 → M7 q = M0 q := fun q z0 => (k9 q z0).trans (k6 q z0)
    refine x_aload_n C dJ11_unlinkFirst_20 rfl rfl ?_
    refine x_aload_n C dJ11_unlinkFirst_21 rfl rfl ?_
    refine y_put (fs' := [.int (mc), .int (nI n), .ref (nd (0 + 1)), .ref (nd (n - 1))]) C gcJ11 h10 2 rfl q369 rfl rfl rfl rfl rfl dJ11_unlinkFirst_22 (fun M13 h14 k15 => ?_)
    have h16 := (k15 _ (Ne.symm n1)).trans h8
    have h17 := (k15 _ (Ne.symm n2)).trans h11
    have k18 : ∀ q : Nat, q ≠ nd 0 → q ≠ hd → M13 q = M0 q := fun q z0 z1 => (k15 q z1).trans (k12 q z0)
    refine x_aload_n C dJ11_unlinkFirst_25 rfl rfl ?_
    refine x_ifnonnull (tgt := 37) C dJ11_unlinkFirst_26 rfl ?_
    refine x_aload_n C dJ11_unlinkFirst_37 rfl rfl ?_
    refine x_null C dJ11_unlinkFirst_38 ?_
    refine y_put (fs' := [.ref (it (0 + 1)), va_rf (if 0 + 1 + 1 < n then some (nd (0 + 1 + 1)) else none), .null]) C gcJ30 h17 2 rfl q1236 rfl rfl rfl rfl rfl dJ11_unlinkFirst_39 (fun M19 h20 k21 => ?_)
    have h22 := (k21 _ n2).trans h14
    have h23 := (k21 _ n3).trans h16
    have k24 : ∀ q : Nat, q ≠ nd 0 → q ≠ hd → q ≠ nd (0 + 1) → M19 q = M0 q := fun q z0 z1 z2 => (k21 q z2).trans (k18 q z0 z1)
    refine x_aload_n C dJ11_unlinkFirst_42 rfl rfl ?_
    refine x_dup C dJ11_unlinkFirst_43 rfl ?_
    refine x_get C gcJ11 h22 1 rfl q367 rfl dJ11_unlinkFirst_44 ?_
    refine x_iconst C dJ11_unlinkFirst_47 kc_1 ?_
    refine x_isubN C (by omega) dJ11_unlinkFirst_48 ?_
    refine y_put (fs' := [.int (mc), .int (nI (n - 1)), .ref (nd (0 + 1)), .ref (nd (n - 1))]) C gcJ11 h22 1 rfl q367 rfl rfl rfl rfl rfl dJ11_unlinkFirst_49 (fun M25 h26 k27 => ?_)
    have h28 := (k27 _ (Ne.symm n1)).trans h23
    have h29 := (k27 _ (Ne.symm n2)).trans h20
    have k30 : ∀ q : Nat, q ≠ nd 0 → q ≠ hd → q ≠ nd (0 + 1) → M25 q = M0 q := fun q z0 z1 z2 => (k27 q z1).trans (k24 q z0 z1 z2)
    refine x_aload_n C dJ11_unlinkFirst_52 rfl rfl ?_
    refine x_dup C dJ11_unlinkFirst_53 rfl ?_
    refine x_getS C gcJ11 h26 0 rfl q375 q373 rfl dJ11_unlinkFirst_54 ?_
    refine x_iconst C dJ11_unlinkFirst_57 kc_1 ?_
    refine x_iadd C dJ11_unlinkFirst_58 ?_
    refine y_putS (fs' := [.int (mc + (nI 1)), .int (nI (n - 1)), .ref (nd (0 + 1)), .ref (nd (n - 1))]) C gcJ11 h26 0 rfl q375 q373 rfl rfl rfl rfl rfl dJ11_unlinkFirst_59 (fun M31 h32 k33 => ?_)
    have h34 := (k33 _ (Ne.symm n1)).trans h28
    have h35 := (k33 _ (Ne.symm n2)).trans h29
    have k36 : ∀ q : Nat, q ≠ nd 0 → q ≠ hd → q ≠ nd (0 + 1) → M31 q = M0 q := fun q z0 z1 z2 => (k33 q z1).trans (k30 q z0 z1 z2)
    refine x_aload_n C dJ11_unlinkFirst_62 rfl rfl ?_
    have g := h.cut (i := 0) (by omega) (by rw [if_neg (show ¬ n - 1 = 0 by omega), if_neg (show ¬ n - 1 = 0 by omega), if_pos (show 0 = 0 by omega), if_neg (show ¬ 0 + 1 = n by omega)]; exact (show _ from h32)) h34 (fun q => absurd q (by omega)) (fun _ => h35) (fun z za zb zc zd => k36 z zb za (zd (by omega)))
    exact x_aret C dJ11_unlinkFirst_63 ⟨Nat.le_of_ble_eq_true rfl, Nat.le_of_ble_eq_true rfl⟩ ⟨rfl, g⟩
  · -- more False
    have hq : M0 (nd 0) = some (lN, .inr (11, [.ref (it 0), .null, .null])) := by have := h.nod (i := 0) (by omega); rw [if_neg (show ¬ 0 + 1 < n by omega), if_pos h0] at this; exact this
    have n1 := h.ne (i := 0) (by omega)
    refine x_aload_n C dJ11_unlinkFirst_0 rfl rfl ?_
    refine x_get C gcJ30 hq 0 rfl q1231 rfl dJ11_unlinkFirst_1 ?_
    refine x_astore_n C dJ11_unlinkFirst_4 rfl (gs1_2 rfl) rfl ?_
    refine x_aload_n C dJ11_unlinkFirst_5 rfl rfl ?_
    refine x_get C gcJ30 hq 1 rfl q1234 rfl dJ11_unlinkFirst_6 ?_
    refine x_astore_nN C dJ11_unlinkFirst_9 rfl (gs1_3 rfl) rfl ?_
    refine x_aload_n C dJ11_unlinkFirst_10 rfl rfl ?_
    refine x_null C dJ11_unlinkFirst_11 ?_
    refine y_put (fs' := [.null, .null, .null]) C gcJ30 hq 0 rfl q1231 rfl rfl rfl rfl rfl dJ11_unlinkFirst_12 (fun M37 h38 k39 => ?_)
    have h40 := (k39 _ n1).trans hp
    have k41 : ∀ q : Nat, q ≠ nd 0 → M37 q = M0 q := fun q z0 => k39 q z0
    refine x_aload_n C dJ11_unlinkFirst_15 rfl rfl ?_
    refine x_null C dJ11_unlinkFirst_16 ?_
    refine y_put (fs' := [.null, .null, .null]) C gcJ30 h38 1 rfl q1234 rfl rfl rfl rfl rfl dJ11_unlinkFirst_17 (fun M42 h43 k44 => ?_)
    have h45 := (k44 _ n1).trans h40
    have k46 : ∀ q : Nat, q ≠ nd 0 → M42 q = M0 q := fun q z0 => (k44 q z0).trans (k41 q z0)
    refine x_aload_n C dJ11_unlinkFirst_20 rfl rfl ?_
    refine x_aload_nN C dJ11_unlinkFirst_21 rfl rfl ?_
    refine y_put (fs' := [.int (mc), .int (nI n), .null, .ref (nd (n - 1))]) C gcJ11 h45 2 rfl q369 rfl rfl rfl rfl rfl dJ11_unlinkFirst_22 (fun M47 h48 k49 => ?_)
    have h50 := (k49 _ (Ne.symm n1)).trans h43
    have k51 : ∀ q : Nat, q ≠ nd 0 → q ≠ hd → M47 q = M0 q := fun q z0 z1 => (k49 q z1).trans (k46 q z0)
    refine x_aload_nN C dJ11_unlinkFirst_25 rfl rfl ?_
    refine x_ifnonnullN C dJ11_unlinkFirst_26 ?_
    refine x_aload_n C dJ11_unlinkFirst_29 rfl rfl ?_
    refine x_null C dJ11_unlinkFirst_30 ?_
    refine y_put (fs' := [.int (mc), .int (nI n), .null, .null]) C gcJ11 h48 3 rfl q370 rfl rfl rfl rfl rfl dJ11_unlinkFirst_31 (fun M52 h53 k54 => ?_)
    have h55 := (k54 _ (Ne.symm n1)).trans h50
    have k56 : ∀ q : Nat, q ≠ nd 0 → q ≠ hd → M52 q = M0 q := fun q z0 z1 => (k54 q z1).trans (k51 q z0 z1)
    refine x_goto (tgt := 42) C dJ11_unlinkFirst_34 rfl ?_
    refine x_aload_n C dJ11_unlinkFirst_42 rfl rfl ?_
    refine x_dup C dJ11_unlinkFirst_43 rfl ?_
    refine x_get C gcJ11 h53 1 rfl q367 rfl dJ11_unlinkFirst_44 ?_
    refine x_iconst C dJ11_unlinkFirst_47 kc_1 ?_
    refine x_isubN C (by omega) dJ11_unlinkFirst_48 ?_
    refine y_put (fs' := [.int (mc), .int (nI (n - 1)), .null, .null]) C gcJ11 h53 1 rfl q367 rfl rfl rfl rfl rfl dJ11_unlinkFirst_49 (fun M57 h58 k59 => ?_)
    have h60 := (k59 _ (Ne.symm n1)).trans h55
    have k61 : ∀ q : Nat, q ≠ nd 0 → q ≠ hd → M57 q = M0 q := fun q z0 z1 => (k59 q z1).trans (k56 q z0 z1)
    refine x_aload_n C dJ11_unlinkFirst_52 rfl rfl ?_
    refine x_dup C dJ11_unlinkFirst_53 rfl ?_
    refine x_getS C gcJ11 h58 0 rfl q375 q373 rfl dJ11_unlinkFirst_54 ?_
    refine x_iconst C dJ11_unlinkFirst_57 kc_1 ?_
    refine x_iadd C dJ11_unlinkFirst_58 ?_
    refine y_putS (fs' := [.int (mc + (nI 1)), .int (nI (n - 1)), .null, .null]) C gcJ11 h58 0 rfl q375 q373 rfl rfl rfl rfl rfl dJ11_unlinkFirst_59 (fun M62 h63 k64 => ?_)
    have h65 := (k64 _ (Ne.symm n1)).trans h60
    have k66 : ∀ q : Nat, q ≠ nd 0 → q ≠ hd → M62 q = M0 q := fun q z0 z1 => (k64 q z1).trans (k61 q z0 z1)
    refine x_aload_n C dJ11_unlinkFirst_62 rfl rfl ?_
    have g := h.cut (i := 0) (by omega) (by rw [if_pos (show n - 1 = 0 by omega), if_pos (show n - 1 = 0 by omega)]; exact h63) h65 (fun q => absurd q (by omega)) (fun q => absurd q (by omega)) (fun z za zb zc zd => k66 z zb za)
    exact x_aret C dJ11_unlinkFirst_63 ⟨Nat.le_of_ble_eq_true rfl, Nat.le_of_ble_eq_true rfl⟩ ⟨rfl, g⟩
theorem mi_J11_unlinkLast : gMV RJ11 yJ11_unlinkLast cJ11_unlinkLast 4 (some (.object "java/lang/Object")) 1 := ⟨q2306, qs51, q139, q2307, by decide +kernel⟩
set_option maxHeartbeats 4000000 in
set_option maxRecDepth 100000 in
theorem met_J11_unlinkLast (l : Launch) {G : gG} (hG : gOK G) {M0 : gM} {l0 lN : Nat × Nat} {hd n : Nat} {mc : Int32} {nd it : Nat → Nat} (h : LL l0 lN hd n mc nd it M0) (hn : 0 < n) : Met l yJ11_unlinkLast (ws_ yJ11_unlinkLast cJ11_unlinkLast 4 (some (.object "java/lang/Object"))) ({ frames := 0, cells := 0, slots := 0, locals := 0 }) (gPre G M0 [.ref (hd), .ref (nd (n - 1))]) (gQ G (gR (fun r M1 => it (n - 1) = r ∧ LL l0 lN hd (n - 1) (mc + nI 1) (fun j => if j < n - 1 then nd j else nd (j + 1)) (fun j => if j < n - 1 then it j else it (j + 1)) M1 ∧ gFl (ro2 l0 lN) M0 M1))) 0 0 (gA G) := by
  refine gMet (L0 := [some (.ref (hd)), some (.ref (nd (n - 1))), none, none]) RJ11 hG (by decide +kernel) rfl (Nat.le_of_ble_eq_true rfl) rfl ?_
  intro p e s m args below meth c C hnm
  have hnb := h.2.2.2.2
  have hp := h.hdr (by omega)
  have hl : n ≤ n - 1 + 1 := by omega
  rcases Nat.eq_zero_or_pos (n - 1) with h0 | h0
  · -- first True
    have hq : M0 (nd (n - 1)) = some (lN, .inr (11, [.ref (it (n - 1)), .null, .null])) := by have := h.nod (i := n - 1) (by omega); rw [if_neg (show ¬ n - 1 + 1 < n by omega), if_pos h0] at this; exact this
    have n1 := h.ne (i := n - 1) (by omega)
    refine x_aload_n C dJ11_unlinkLast_0 rfl rfl ?_
    refine x_get C gcJ30 hq 0 rfl q1231 rfl dJ11_unlinkLast_1 ?_
    refine x_astore_n C dJ11_unlinkLast_4 rfl (gs1_2 rfl) rfl ?_
    refine x_aload_n C dJ11_unlinkLast_5 rfl rfl ?_
    refine x_get C gcJ30 hq 2 rfl q1236 rfl dJ11_unlinkLast_6 ?_
    refine x_astore_nN C dJ11_unlinkLast_9 rfl (gs1_3 rfl) rfl ?_
    refine x_aload_n C dJ11_unlinkLast_10 rfl rfl ?_
    refine x_null C dJ11_unlinkLast_11 ?_
    refine y_put (fs' := [.null, .null, .null]) C gcJ30 hq 0 rfl q1231 rfl rfl rfl rfl rfl dJ11_unlinkLast_12 (fun M1 h2 k3 => ?_)
    have h4 := (k3 _ n1).trans hp
    have k5 : ∀ q : Nat, q ≠ nd (n - 1) → M1 q = M0 q := fun q z0 => k3 q z0
    refine x_aload_n C dJ11_unlinkLast_15 rfl rfl ?_
    refine x_null C dJ11_unlinkLast_16 ?_
    refine y_put (fs' := [.null, .null, .null]) C gcJ30 h2 2 rfl q1236 rfl rfl rfl rfl rfl dJ11_unlinkLast_17 (fun M6 h7 k8 => ?_)
    have h9 := (k8 _ n1).trans h4
    have k10 : ∀ q : Nat, q ≠ nd (n - 1) → M6 q = M0 q := fun q z0 => (k8 q z0).trans (k5 q z0)
    refine x_aload_n C dJ11_unlinkLast_20 rfl rfl ?_
    refine x_aload_nN C dJ11_unlinkLast_21 rfl rfl ?_
    refine y_put (fs' := [.int (mc), .int (nI n), .ref (nd 0), .null]) C gcJ11 h9 3 rfl q370 rfl rfl rfl rfl rfl dJ11_unlinkLast_22 (fun M11 h12 k13 => ?_)
    have h14 := (k13 _ (Ne.symm n1)).trans h7
    have k15 : ∀ q : Nat, q ≠ nd (n - 1) → q ≠ hd → M11 q = M0 q := fun q z0 z1 => (k13 q z1).trans (k10 q z0)
    refine x_aload_nN C dJ11_unlinkLast_25 rfl rfl ?_
    refine x_ifnonnullN C dJ11_unlinkLast_26 ?_
    refine x_aload_n C dJ11_unlinkLast_29 rfl rfl ?_
    refine x_null C dJ11_unlinkLast_30 ?_
    refine y_put (fs' := [.int (mc), .int (nI n), .null, .null]) C gcJ11 h12 2 rfl q369 rfl rfl rfl rfl rfl dJ11_unlinkLast_31 (fun M16 h17 k18 => ?_)
    have h19 := (k18 _ (Ne.symm n1)).trans h14
    have k20 : ∀ q : Nat, q ≠ nd (n - 1) → q ≠ hd → M16 q = M0 q := fun q z0 z1 => (k18 q z1).trans (k15 q z0 z1)
    refine x_goto (tgt := 42) C dJ11_unlinkLast_34 rfl ?_
    refine x_aload_n C dJ11_unlinkLast_42 rfl rfl ?_
    refine x_dup C dJ11_unlinkLast_43 rfl ?_
    refine x_get C gcJ11 h17 1 rfl q367 rfl dJ11_unlinkLast_44 ?_
    refine x_iconst C dJ11_unlinkLast_47 kc_1 ?_
    refine x_isubN C (by omega) dJ11_unlinkLast_48 ?_
    refine y_put (fs' := [.int (mc), .int (nI (n - 1)), .null, .null]) C gcJ11 h17 1 rfl q367 rfl rfl rfl rfl rfl dJ11_unlinkLast_49 (fun M21 h22 k23 => ?_)
    have h24 := (k23 _ (Ne.symm n1)).trans h19
    have k25 : ∀ q : Nat, q ≠ nd (n - 1) → q ≠ hd → M21 q = M0 q := fun q z0 z1 => (k23 q z1).trans (k20 q z0 z1)
    refine x_aload_n C dJ11_unlinkLast_52 rfl rfl ?_
    refine x_dup C dJ11_unlinkLast_53 rfl ?_
    refine x_getS C gcJ11 h22 0 rfl q375 q373 rfl dJ11_unlinkLast_54 ?_
    refine x_iconst C dJ11_unlinkLast_57 kc_1 ?_
    refine x_iadd C dJ11_unlinkLast_58 ?_
    refine y_putS (fs' := [.int (mc + (nI 1)), .int (nI (n - 1)), .null, .null]) C gcJ11 h22 0 rfl q375 q373 rfl rfl rfl rfl rfl dJ11_unlinkLast_59 (fun M26 h27 k28 => ?_)
    have h29 := (k28 _ (Ne.symm n1)).trans h24
    have k30 : ∀ q : Nat, q ≠ nd (n - 1) → q ≠ hd → M26 q = M0 q := fun q z0 z1 => (k28 q z1).trans (k25 q z0 z1)
    refine x_aload_n C dJ11_unlinkLast_62 rfl rfl ?_
    have g := h.cut (i := n - 1) (by omega) (by rw [if_pos (show n - 1 = 0 by omega), if_pos (show n - 1 = 0 by omega)]; exact h27) h29 (fun q => absurd q (by omega)) (fun q => absurd q (by omega)) (fun z za zb zc zd => k30 z zb za)
    exact x_aret C dJ11_unlinkLast_63 ⟨Nat.le_of_ble_eq_true rfl, Nat.le_of_ble_eq_true rfl⟩ ⟨rfl, g⟩
  · -- first False
    have hq : M0 (nd (n - 1)) = some (lN, .inr (11, [.ref (it (n - 1)), .null, .ref (nd (n - 1 - 1))])) := by have := h.nod (i := n - 1) (by omega); rw [if_neg (show ¬ n - 1 + 1 < n by omega), if_neg (show ¬ n - 1 = 0 by omega)] at this; exact this
    have n1 := h.ne (i := n - 1) (by omega)
    have hy := h.nxt (i := n - 1 - 1) (by omega)
    rw [show n - 1 - 1 + 1 = n - 1 by omega] at hy
    have n4 := h.ne (i := n - 1 - 1) (by omega)
    have n5 := h.nne (i := n - 1) (j := n - 1 - 1) (by omega) (by omega) (by omega)
    refine x_aload_n C dJ11_unlinkLast_0 rfl rfl ?_
    refine x_get C gcJ30 hq 0 rfl q1231 rfl dJ11_unlinkLast_1 ?_
    refine x_astore_n C dJ11_unlinkLast_4 rfl (gs1_2 rfl) rfl ?_
    refine x_aload_n C dJ11_unlinkLast_5 rfl rfl ?_
    refine x_get C gcJ30 hq 2 rfl q1236 rfl dJ11_unlinkLast_6 ?_
    refine x_astore_n C dJ11_unlinkLast_9 rfl (gs1_3 rfl) rfl ?_
    refine x_aload_n C dJ11_unlinkLast_10 rfl rfl ?_
    refine x_null C dJ11_unlinkLast_11 ?_
    refine y_put (fs' := [.null, .null, .ref (nd (n - 1 - 1))]) C gcJ30 hq 0 rfl q1231 rfl rfl rfl rfl rfl dJ11_unlinkLast_12 (fun M31 h32 k33 => ?_)
    have h34 := (k33 _ n1).trans hp
    have h35 := (k33 _ (Ne.symm n5)).trans hy
    have k36 : ∀ q : Nat, q ≠ nd (n - 1) → M31 q = M0 q := fun q z0 => k33 q z0
    refine x_aload_n C dJ11_unlinkLast_15 rfl rfl ?_
    refine x_null C dJ11_unlinkLast_16 ?_
    refine y_put (fs' := [.null, .null, .null]) C gcJ30 h32 2 rfl q1236 rfl rfl rfl rfl rfl dJ11_unlinkLast_17 (fun M37 h38 k39 => ?_)
    have h40 := (k39 _ n1).trans h34
    have h41 := (k39 _ (Ne.symm n5)).trans h35
    have k42 : ∀ q : Nat, q ≠ nd (n - 1) → M37 q = M0 q := fun q z0 => (k39 q z0).trans (k36 q z0)
    refine x_aload_n C dJ11_unlinkLast_20 rfl rfl ?_
    refine x_aload_n C dJ11_unlinkLast_21 rfl rfl ?_
    refine y_put (fs' := [.int (mc), .int (nI n), .ref (nd 0), .ref (nd (n - 1 - 1))]) C gcJ11 h40 3 rfl q370 rfl rfl rfl rfl rfl dJ11_unlinkLast_22 (fun M43 h44 k45 => ?_)
    have h46 := (k45 _ (Ne.symm n1)).trans h38
    have h47 := (k45 _ (Ne.symm n4)).trans h41
    have k48 : ∀ q : Nat, q ≠ nd (n - 1) → q ≠ hd → M43 q = M0 q := fun q z0 z1 => (k45 q z1).trans (k42 q z0)
    refine x_aload_n C dJ11_unlinkLast_25 rfl rfl ?_
    refine x_ifnonnull (tgt := 37) C dJ11_unlinkLast_26 rfl ?_
    refine x_aload_n C dJ11_unlinkLast_37 rfl rfl ?_
    refine x_null C dJ11_unlinkLast_38 ?_
    refine y_put (fs' := [.ref (it (n - 1 - 1)), .null, va_rf (if n - 1 - 1 = 0 then none else some (nd (n - 1 - 1 - 1)))]) C gcJ30 h47 1 rfl q1234 rfl rfl rfl rfl rfl dJ11_unlinkLast_39 (fun M49 h50 k51 => ?_)
    have h52 := (k51 _ n4).trans h44
    have h53 := (k51 _ n5).trans h46
    have k54 : ∀ q : Nat, q ≠ nd (n - 1) → q ≠ hd → q ≠ nd (n - 1 - 1) → M49 q = M0 q := fun q z0 z1 z2 => (k51 q z2).trans (k48 q z0 z1)
    refine x_aload_n C dJ11_unlinkLast_42 rfl rfl ?_
    refine x_dup C dJ11_unlinkLast_43 rfl ?_
    refine x_get C gcJ11 h52 1 rfl q367 rfl dJ11_unlinkLast_44 ?_
    refine x_iconst C dJ11_unlinkLast_47 kc_1 ?_
    refine x_isubN C (by omega) dJ11_unlinkLast_48 ?_
    refine y_put (fs' := [.int (mc), .int (nI (n - 1)), .ref (nd 0), .ref (nd (n - 1 - 1))]) C gcJ11 h52 1 rfl q367 rfl rfl rfl rfl rfl dJ11_unlinkLast_49 (fun M55 h56 k57 => ?_)
    have h58 := (k57 _ (Ne.symm n1)).trans h53
    have h59 := (k57 _ (Ne.symm n4)).trans h50
    have k60 : ∀ q : Nat, q ≠ nd (n - 1) → q ≠ hd → q ≠ nd (n - 1 - 1) → M55 q = M0 q := fun q z0 z1 z2 => (k57 q z1).trans (k54 q z0 z1 z2)
    refine x_aload_n C dJ11_unlinkLast_52 rfl rfl ?_
    refine x_dup C dJ11_unlinkLast_53 rfl ?_
    refine x_getS C gcJ11 h56 0 rfl q375 q373 rfl dJ11_unlinkLast_54 ?_
    refine x_iconst C dJ11_unlinkLast_57 kc_1 ?_
    refine x_iadd C dJ11_unlinkLast_58 ?_
    refine y_putS (fs' := [.int (mc + (nI 1)), .int (nI (n - 1)), .ref (nd 0), .ref (nd (n - 1 - 1))]) C gcJ11 h56 0 rfl q375 q373 rfl rfl rfl rfl rfl dJ11_unlinkLast_59 (fun M61 h62 k63 => ?_)
    have h64 := (k63 _ (Ne.symm n1)).trans h58
    have h65 := (k63 _ (Ne.symm n4)).trans h59
    have k66 : ∀ q : Nat, q ≠ nd (n - 1) → q ≠ hd → q ≠ nd (n - 1 - 1) → M61 q = M0 q := fun q z0 z1 z2 => (k63 q z1).trans (k60 q z0 z1 z2)
    refine x_aload_n C dJ11_unlinkLast_62 rfl rfl ?_
    have g := h.cut (i := n - 1) (by omega) (by rw [if_neg (show ¬ n - 1 = 0 by omega), if_neg (show ¬ n - 1 = 0 by omega), if_neg (show ¬ n - 1 = 0 by omega), if_pos (show n - 1 + 1 = n by omega)]; exact h62) h64 (fun _ => by rw [if_neg (show ¬ n - 1 + 1 < n by omega)]; exact h65) (fun q => absurd q (by omega)) (fun z za zb zc zd => k66 z zb za (zc (by omega)))
    exact x_aret C dJ11_unlinkLast_63 ⟨Nat.le_of_ble_eq_true rfl, Nat.le_of_ble_eq_true rfl⟩ ⟨rfl, g⟩
theorem mi_J11_removeFirst : gMV RJ11 yJ11_removeFirst cJ11_removeFirst 2 (some (.object "java/lang/Object")) 0 := ⟨q1659, q1660, q139, q1661, by decide +kernel⟩
set_option maxHeartbeats 4000000 in
set_option maxRecDepth 100000 in
theorem met_J11_removeFirst (l : Launch) {G : gG} (hG : gOK G) {M0 : gM} {l0 lN : Nat × Nat} {hd n : Nat} {mc : Int32} {nd it : Nat → Nat} (h : LL l0 lN hd n mc nd it M0) (hn : 0 < n) : Met l yJ11_removeFirst (ws_ yJ11_removeFirst cJ11_removeFirst 2 (some (.object "java/lang/Object"))) ({ frames := 1, cells := 0, slots := 0, locals := 23 }) (gPre G M0 [.ref (hd)]) (gQ G (gR (fun r M1 => it 0 = r ∧ LL l0 lN hd (n - 1) (mc + nI 1) (fun j => if j < 0 then nd j else nd (j + 1)) (fun j => if j < 0 then it j else it (j + 1)) M1 ∧ gFl (ro2 l0 lN) M0 M1))) 0 0 (gA G) := by
  refine gMet (L0 := [some (.ref (hd)), none]) RJ11 hG (by decide +kernel) rfl (Nat.le_of_ble_eq_true rfl) rfl ?_
  intro p e s m args below meth c C hnm
  have hp := h.hdr hn
  refine x_aload_n C dJ11_removeFirst_0 rfl rfl ?_
  refine x_get C gcJ11 hp 2 rfl q369 rfl dJ11_removeFirst_1 ?_
  refine x_astore_n C dJ11_removeFirst_4 rfl (gs1_1 rfl) rfl ?_
  refine x_aload_n C dJ11_removeFirst_5 rfl rfl ?_
  refine x_ifnonnull (tgt := 17) C dJ11_removeFirst_6 rfl ?_
  refine x_aload_n C dJ11_removeFirst_17 rfl rfl ?_
  refine x_aload_n C dJ11_removeFirst_18 rfl rfl ?_
  refine x_V1R C (met_J11_unlinkFirst l C.1 h (by omega)) mi_J11_unlinkFirst q1664 gcJ11 hp ⟨rfl, rfl⟩ rfl ⟨Nat.le_of_ble_eq_true rfl, Nat.le_of_ble_eq_true rfl⟩ rfl dJ11_removeFirst_19 (fun r2 M1 hr => ?_)
  obtain ⟨rfl, hr⟩ := hr
  exact x_aret C dJ11_removeFirst_22 ⟨Nat.le_of_ble_eq_true rfl, Nat.le_of_ble_eq_true rfl⟩ ⟨rfl, hr⟩
theorem mi_J11_removeLast : gMV RJ11 yJ11_removeLast cJ11_removeLast 2 (some (.object "java/lang/Object")) 0 := ⟨q2301, q2302, q139, q2303, by decide +kernel⟩
set_option maxHeartbeats 4000000 in
set_option maxRecDepth 100000 in
theorem met_J11_removeLast (l : Launch) {G : gG} (hG : gOK G) {M0 : gM} {l0 lN : Nat × Nat} {hd n : Nat} {mc : Int32} {nd it : Nat → Nat} (h : LL l0 lN hd n mc nd it M0) (hn : 0 < n) : Met l yJ11_removeLast (ws_ yJ11_removeLast cJ11_removeLast 2 (some (.object "java/lang/Object"))) ({ frames := 1, cells := 0, slots := 0, locals := 23 }) (gPre G M0 [.ref (hd)]) (gQ G (gR (fun r M1 => it (n - 1) = r ∧ LL l0 lN hd (n - 1) (mc + nI 1) (fun j => if j < n - 1 then nd j else nd (j + 1)) (fun j => if j < n - 1 then it j else it (j + 1)) M1 ∧ gFl (ro2 l0 lN) M0 M1))) 0 0 (gA G) := by
  refine gMet (L0 := [some (.ref (hd)), none]) RJ11 hG (by decide +kernel) rfl (Nat.le_of_ble_eq_true rfl) rfl ?_
  intro p e s m args below meth c C hnm
  have hp := h.hdr hn
  refine x_aload_n C dJ11_removeLast_0 rfl rfl ?_
  refine x_get C gcJ11 hp 3 rfl q370 rfl dJ11_removeLast_1 ?_
  refine x_astore_n C dJ11_removeLast_4 rfl (gs1_1 rfl) rfl ?_
  refine x_aload_n C dJ11_removeLast_5 rfl rfl ?_
  refine x_ifnonnull (tgt := 17) C dJ11_removeLast_6 rfl ?_
  refine x_aload_n C dJ11_removeLast_17 rfl rfl ?_
  refine x_aload_n C dJ11_removeLast_18 rfl rfl ?_
  refine x_V1R C (met_J11_unlinkLast l C.1 h (by omega)) mi_J11_unlinkLast q2304 gcJ11 hp ⟨rfl, rfl⟩ rfl ⟨Nat.le_of_ble_eq_true rfl, Nat.le_of_ble_eq_true rfl⟩ rfl dJ11_removeLast_19 (fun r2 M1 hr => ?_)
  obtain ⟨rfl, hr⟩ := hr
  exact x_aret C dJ11_removeLast_22 ⟨Nat.le_of_ble_eq_true rfl, Nat.le_of_ble_eq_true rfl⟩ ⟨rfl, hr⟩
theorem mi_J11_clear : gMV RJ11 yJ11_clear cJ11_clear 3 none 0 := ⟨q1550, q1551, q139, q1552, by decide +kernel⟩
set_option maxHeartbeats 4000000 in
set_option maxRecDepth 100000 in
theorem met_J11_clear (l : Launch) {G : gG} (hG : gOK G) {M0 : gM} {l0 lN : Nat × Nat} {hd n : Nat} {mc : Int32} {nd it : Nat → Nat} (h : LL l0 lN hd n mc nd it M0) : Met l yJ11_clear (ws_ yJ11_clear cJ11_clear 3 none) ({ frames := 0, cells := 0, slots := 0, locals := 0 }) (gPre G M0 [.ref (hd)]) (gQ G (gV (fun M1 => LL l0 lN hd 0 (mc + nI 1) nd it M1 ∧ gFl (ro2 l0 lN) M0 M1))) 0 0 (gA G) := by
  refine gMet (L0 := [some (.ref (hd)), none, none]) RJ11 hG (by decide +kernel) rfl (Nat.le_of_ble_eq_true rfl) rfl ?_
  intro p e s m args below meth c C hnm
  have hnb := h.2.2.2.2
  refine x_aload_n C dJ11_clear_0 rfl rfl ?_
  refine x_get C gcJ11 h.1 2 rfl q369 rfl dJ11_clear_1 ?_
  refine x_astore_nq C dJ11_clear_4 rfl (gs1_1 rfl) rfl ?_
  rw [show (if n = 0 then none else some (nd 0)) = (if 0 < n then some (nd 0) else none) by by_cases q : n = 0; rw [if_pos q, if_neg (by omega)]; rw [if_neg q, if_pos (by omega)]]
  refine x_loop (head := 5) (E := n) (fun k M => (M hd = some (l0, .inr (2, [.int mc, .int (nI n), va_rf (if n = 0 then none else some (nd 0)), va_rf (if n = 0 then none else some (nd (n - 1)))])) ∧ (∀ j, k ≤ j → j < n → M (nd j) = M0 (nd j)) ∧ gFl (ro2 l0 lN) M0 M)) (fun k => [some (.ref hd), some (va_rf (if k < n then some (nd k) else none)), none]) ⟨h.1, fun j _ _ => rfl, gFl.rf⟩ (fun k M hk hI ih => ?_)
  obtain ⟨hH, hJ, hF⟩ := hI
  by_cases hkn : k < n
  · -- a node
    rw [if_pos hkn]
    have hq := (hJ k (Nat.le_refl _) hkn).trans (h.nod hkn)
    have hne := h.ne hkn
    refine x_aload_n C dJ11_clear_5 rfl rfl ?_
    refine x_ifnull C dJ11_clear_6 ?_
    refine x_aload_n C dJ11_clear_9 rfl rfl ?_
    refine x_get C gcJ30 hq 1 rfl q1234 rfl dJ11_clear_10 ?_
    refine x_astore_nq C dJ11_clear_13 rfl (gs1_2 rfl) rfl ?_
    refine x_aload_n C dJ11_clear_14 rfl rfl ?_
    refine x_null C dJ11_clear_15 ?_
    refine y_put (fs' := [.null, va_rf (if k + 1 < n then some (nd (k + 1)) else none), va_rf (if k = 0 then none else some (nd (k - 1)))]) C gcJ30 hq 0 rfl q1231 rfl rfl rfl rfl rfl dJ11_clear_16 (fun M1 h2 k3 => ?_)
    have h4 := (k3 _ hne).trans hH
    have k5 : ∀ q : Nat, q ≠ nd k → M1 q = M q := fun q z0 => k3 q z0
    refine x_aload_n C dJ11_clear_19 rfl rfl ?_
    refine x_null C dJ11_clear_20 ?_
    refine y_put (fs' := [.null, .null, va_rf (if k = 0 then none else some (nd (k - 1)))]) C gcJ30 h2 1 rfl q1234 rfl rfl rfl rfl rfl dJ11_clear_21 (fun M6 h7 k8 => ?_)
    have h9 := (k8 _ hne).trans h4
    have k10 : ∀ q : Nat, q ≠ nd k → M6 q = M q := fun q z0 => (k8 q z0).trans (k5 q z0)
    refine x_aload_n C dJ11_clear_24 rfl rfl ?_
    refine x_null C dJ11_clear_25 ?_
    refine y_put (fs' := [.null, .null, .null]) C gcJ30 h7 2 rfl q1236 rfl rfl rfl rfl rfl dJ11_clear_26 (fun M11 h12 k13 => ?_)
    have h14 := (k13 _ hne).trans h9
    have k15 : ∀ q : Nat, q ≠ nd k → M11 q = M q := fun q z0 => (k13 q z0).trans (k10 q z0)
    refine x_aload_nq C dJ11_clear_29 rfl rfl ?_
    refine x_astore_nq C dJ11_clear_30 rfl (gs1_1 rfl) rfl ?_
    refine x_goto (tgt := 5) C dJ11_clear_31 rfl ?_
    refine x_wk [true, true, false] rfl (ih hkn _ ⟨h14, fun j a b => ?_, hF.tr (gFl.of1 (i := lN.1) (j := lN.2) hq h12 k15 (Or.inr rfl))⟩)
    exact (k15 _ (h.nne b hkn (by omega))).trans (hJ j (by omega) b)
  · -- none
    obtain rfl : k = n := by omega
    rw [if_neg hkn]
    refine x_aload_nN C dJ11_clear_5 rfl rfl ?_
    refine x_ifnullN (tgt := 34) C dJ11_clear_6 rfl ?_
    refine x_aload_n C dJ11_clear_34 rfl rfl ?_
    refine x_aload_n C dJ11_clear_35 rfl rfl ?_
    refine x_null C dJ11_clear_36 ?_
    refine x_dup_x1 C dJ11_clear_37 rfl rfl ?_
    refine y_put (fs' := [.int (mc), .int (nI k), va_rf (if k = 0 then none else some (nd 0)), .null]) C gcJ11 hH 3 rfl q370 rfl rfl rfl rfl rfl dJ11_clear_38 (fun M1 h2 k3 => ?_)
    have k4 : ∀ q : Nat, q ≠ hd → M1 q = M q := fun q z0 => k3 q z0
    refine y_put (fs' := [.int (mc), .int (nI k), .null, .null]) C gcJ11 h2 2 rfl q369 rfl rfl rfl rfl rfl dJ11_clear_41 (fun M5 h6 k7 => ?_)
    have k8 : ∀ q : Nat, q ≠ hd → M5 q = M q := fun q z0 => (k7 q z0).trans (k4 q z0)
    refine x_aload_n C dJ11_clear_44 rfl rfl ?_
    refine x_iconst C dJ11_clear_45 kc_0 ?_
    refine y_put (fs' := [.int (mc), .int (nI 0), .null, .null]) C gcJ11 h6 1 rfl q367 rfl rfl rfl rfl rfl dJ11_clear_46 (fun M9 h10 k11 => ?_)
    have k12 : ∀ q : Nat, q ≠ hd → M9 q = M q := fun q z0 => (k11 q z0).trans (k8 q z0)
    refine x_aload_n C dJ11_clear_49 rfl rfl ?_
    refine x_dup C dJ11_clear_50 rfl ?_
    refine x_getS C gcJ11 h10 0 rfl q375 q373 rfl dJ11_clear_51 ?_
    refine x_iconst C dJ11_clear_54 kc_1 ?_
    refine x_iadd C dJ11_clear_55 ?_
    refine y_putS (fs' := [.int (mc + (nI 1)), .int (nI 0), .null, .null]) C gcJ11 h10 0 rfl q375 q373 rfl rfl rfl rfl rfl dJ11_clear_56 (fun M13 h14 k15 => ?_)
    have k16 : ∀ q : Nat, q ≠ hd → M13 q = M q := fun q z0 => (k15 q z0).trans (k12 q z0)
    exact x_vret C dJ11_clear_59 ⟨Nat.le_of_ble_eq_true rfl, Nat.le_of_ble_eq_true rfl⟩ ⟨⟨h14, fun i hi => absurd hi (by omega), fun i j hi => absurd hi (by omega), h.2.2.2.1, by omega⟩, hF.tr (gFl.of1 (i := l0.1) (j := l0.2) hH h14 k16 (Or.inl rfl))⟩
