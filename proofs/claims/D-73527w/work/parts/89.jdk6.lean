set_option maxRecDepth 100000
theorem mi_J12_addFirst : gMV RJ12 yJ12_addFirst cJ12_addFirst 3 none 1 := ⟨q1919, q1920, q141, q1921, by decide +kernel⟩
set_option maxHeartbeats 4000000 in
set_option maxRecDepth 100000 in
theorem met_J12_addFirst (l : Launch) {G : gG} (hG : gOK G) {M0 : gM} {l0 lE : Nat × Nat} {d n : Nat} {en : Nat → Nat} {x : Nat} (h : DQ G l0 lE d n en M0) (hn : n ≤ 40) (hE : ∀ i, i < n → ∃ lb fs, M0 (en i) = some (lb, .inr (29, fs))) {lx : Nat × Nat} {fx : List Value} (hx : M0 x = some (lx, .inr (29, fx))) : Met l yJ12_addFirst (ws_ yJ12_addFirst cJ12_addFirst 3 none) ({ frames := 4, cells := 1, slots := 100, locals := 132 }) (gPre G M0 [.ref (d), .ref (x)]) (gQ G (gV (fun M1 => DQ G l0 lE d (n + 1) (fun i => if i = 0 then x else en (i - 1)) M1 ∧ gFl (ro2 l0 lE) M0 M1))) 1 100 (gA G) := by
  refine gMet (L0 := [some (.ref (d)), some (.ref (x)), none]) RJ12 hG (by decide +kernel) rfl (Nat.le_of_ble_eq_true rfl) rfl ?_
  intro p e s m args below meth c C hnm
  obtain ⟨el, cap, hd, f, h, hcc⟩ := h
  obtain ⟨hnc, hhc, hcb, hff, hll⟩ := h.2.2
  have hde := h.ne
  have hmt : (hd + n) % cap < cap := Nat.mod_lt _ (by omega)
  have hxd : x ≠ d := fun e => by rw [e, h.1] at hx; cases hx
  have hxe : x ≠ el := fun e => by rw [e, h.2.1] at hx; cases hx
  have hdm : (hd + cap - 1) % cap < cap := Nat.mod_lt _ (by omega)
  have hmt2 : ((hd + n) % cap + 1) % cap < cap := Nat.mod_lt _ (by omega)
  refine x_aload_n C dJ12_addFirst_0 rfl rfl ?_
  refine x_ifnonnull (tgt := 12) C dJ12_addFirst_1 rfl ?_
  refine x_aload_n C dJ12_addFirst_12 rfl rfl ?_
  refine x_get C gcJ12 h.1 0 rfl q463 rfl dJ12_addFirst_13 ?_
  refine x_astore_n C dJ12_addFirst_16 rfl (gs1_2 rfl) rfl ?_
  refine x_aload_n C dJ12_addFirst_17 rfl rfl ?_
  refine x_aload_n C dJ12_addFirst_18 rfl rfl ?_
  refine x_aload_n C dJ12_addFirst_19 rfl rfl ?_
  refine x_get C gcJ12 h.1 1 rfl q466 rfl dJ12_addFirst_20 ?_
  refine x_aload_n C dJ12_addFirst_23 rfl rfl ?_
  refine y_alen C 3 rfl h.2.1 dJ12_addFirst_24 ?_
  refine x_S2I C (met_J12_dec l C.1 (by omega) (by omega)) mi_J12_dec q1889 ⟨rfl, rfl⟩ rfl ⟨Nat.le_of_ble_eq_true rfl, Nat.le_of_ble_eq_true rfl⟩ rfl dJ12_addFirst_25 (fun r2 M1 hr => ?_)
  obtain ⟨hr, rfl⟩ := hr
  rw [hr]
  refine x_dup_x1 C dJ12_addFirst_28 rfl rfl ?_
  refine y_put (fs' := [.ref (el), .int (nI ((hd + cap - 1) % cap)), .int (nI ((hd + n) % cap))]) C gcJ12 h.1 1 rfl q466 rfl rfl rfl rfl rfl dJ12_addFirst_29 (fun M3 h4 k5 => ?_)
  have h6 := (k5 _ (Ne.symm hde)).trans h.2.1
  have h7 := (k5 _ hxd).trans hx
  have k8 : ∀ zz : Nat, zz ≠ d → M3 zz = M0 zz := fun zz z0 => k5 zz z0
  refine x_aload_n C dJ12_addFirst_32 rfl rfl ?_
  refine y_aastO (E := "java/lang/Object") (i := (hd + cap - 1) % cap) C 3 rfl h6 h7 gcX14 q2993 rfl hdm (Nat.ble_eq_true_of_le (by omega)) dJ12_addFirst_33 (fun M9 h10 k11 => ?_)
  have h12 := (k11 _ hde).trans h4
  have h13 := (k11 _ hxe).trans h7
  have k14 : ∀ zz : Nat, zz ≠ d → zz ≠ el → M9 zz = M0 zz := fun zz z0 z1 => (k11 zz z1).trans (k8 zz z0)
  refine x_aload_n C dJ12_addFirst_34 rfl rfl ?_
  refine x_get C gcJ12 h12 1 rfl q466 rfl dJ12_addFirst_35 ?_
  refine x_aload_n C dJ12_addFirst_38 rfl rfl ?_
  refine x_get C gcJ12 h12 2 rfl q467 rfl dJ12_addFirst_39 ?_
  refine x_icmp_neN (tgt := 50) C (by omega) (by omega) dJ12_addFirst_42 rfl (fun c42 => ?_) (fun c42 => ?_)
  · -- 50
    have hn1 : n + 1 < cap := by
      rcases Nat.lt_or_ge (n + 1) cap with z | z; exact z; exact absurd (by rw [show hd + cap - 1 = hd + n by omega]) c42
    refine x_vret C dJ12_addFirst_50 ⟨Nat.le_of_ble_eq_true rfl, Nat.le_of_ble_eq_true rfl⟩ ⟨⟨el, cap, (hd + cap - 1) % cap, va_up f ((hd + cap - 1) % cap) (some x), ⟨?_, h10, hn1, hdm, hcb, fun i hi => ?_, hll⟩, hcc⟩, ?_⟩
    · rw [show ((hd + cap - 1) % cap + (n + 1)) % cap = (hd + n) % cap by rw [Nat.mod_add_mod, show hd + cap - 1 + (n + 1) = hd + n + cap by omega, Nat.add_mod_right]]; exact h12
    · rcases Nat.eq_zero_or_pos i with z | z
      · subst z; rw [Nat.add_zero, Nat.mod_mod, va_up_self]; rfl
      · have e1 : ((hd + cap - 1) % cap + i) % cap = (hd + (i - 1)) % cap := by rw [Nat.mod_add_mod, show hd + cap - 1 + i = hd + (i - 1) + cap by omega, Nat.add_mod_right]
        have e2 : (hd + (i - 1)) % cap ≠ (hd + cap - 1) % cap := fun q => by have := mod_inj (a := hd) (i := i - 1) (j := cap - 1) (c := cap) hhc (by omega) (by omega) (by rw [q, show hd + (cap - 1) = hd + cap - 1 by omega]); omega
        rw [e1, va_up_ne _ _ e2, hff (i - 1) (by omega)]; dsimp only; rw [if_neg (by omega)]
    ·
      refine gFl.ofL [d, el] (fun z hz => k14 z (fun e => hz (by rw [e]; simp)) (fun e => hz (by rw [e]; simp))) (fun z hz x hx => ?_)
      simp only [List.mem_cons, List.not_mem_nil, or_false] at hz
      rcases hz with rfl | rfl
      · rw [h.1] at hx; cases hx; exact ⟨Or.inl rfl, _, h12⟩
      · rw [h.2.1] at hx; cases hx; exact ⟨Or.inr rfl, _, h10⟩
  · -- 45
    have hn1 : n = cap - 1 := by
      refine (mod_inj (a := hd) (i := cap - 1) (j := n) (c := cap) hhc (by omega) hnc ?_).symm
      rw [show hd + (cap - 1) = hd + cap - 1 by omega]; omega
    have hcg : cap = 17 ∨ cap = 36 := by omega
    have hD : M9 d = some (l0, .inr (3, [.ref el, .int (nI ((hd + cap - 1) % cap)), .int (nI ((hd + cap - 1) % cap))])) := by have z := h12; rwa [← c42] at z
    have hff9 : ∀ i, i < cap → va_up f ((hd + cap - 1) % cap) (some x) (((hd + cap - 1) % cap + i) % cap) = some ((fun i => if i = 0 then x else en (i - 1)) i) := by
      intro i hi
      rcases Nat.eq_zero_or_pos i with z | z
      · subst z; rw [Nat.add_zero, Nat.mod_mod, va_up_self]; rfl
      · have e1 : ((hd + cap - 1) % cap + i) % cap = (hd + (i - 1)) % cap := by rw [Nat.mod_add_mod, show hd + cap - 1 + i = hd + (i - 1) + cap by omega, Nat.add_mod_right]
        have e2 : (hd + (i - 1)) % cap ≠ (hd + cap - 1) % cap := fun q => by have := mod_inj (a := hd) (i := i - 1) (j := cap - 1) (c := cap) hhc (by omega) (by omega) (by rw [q, show hd + (cap - 1) = hd + cap - 1 by omega]); omega
        rw [e1, va_up_ne _ _ e2, hff (i - 1) (by omega)]
        dsimp only
        rw [if_neg (by omega)]
    have hel9 : ∀ i, i < cap → ∀ y, va_up f ((hd + cap - 1) % cap) (some x) i = some y → ∃ lb fs, M9 y = some (lb, .inr (29, fs)) := by
      intro i hi y hy
      have key : ∃ lb fs, M0 y = some (lb, .inr (29, fs)) := by
        by_cases z : i = ((hd + cap - 1) % cap)
        · rw [z, va_up_self] at hy; cases hy; exact ⟨_, _, hx⟩
        · rw [va_up_ne _ _ z] at hy
          obtain ⟨k9, hk9, e9⟩ : ∃ k9, k9 < cap ∧ (hd + k9) % cap = i := by
            rcases Nat.lt_or_ge i hd with q | q
            · exact ⟨i + cap - hd, by omega, by rw [show hd + (i + cap - hd) = i + cap by omega, Nat.add_mod_right, Nat.mod_eq_of_lt hi]⟩
            · exact ⟨i - hd, by omega, by rw [show hd + (i - hd) = i by omega, Nat.mod_eq_of_lt hi]⟩
          have hk8 : k9 < n := by rcases Nat.lt_or_ge k9 n with q | q; exact q; exact absurd (by rw [← e9, show k9 = cap - 1 by omega, show hd + (cap - 1) = hd + cap - 1 by omega]) z
          rw [← e9, hff k9 hk8] at hy; cases hy; exact hE k9 hk8
      obtain ⟨lb, fs, hz⟩ := key
      exact ⟨lb, fs, (k14 y (fun e => by rw [e, h.1] at hz; cases hz) (fun e => by rw [e, h.2.1] at hz; cases hz)).trans hz⟩
    have hF1 : gFl (ro2 l0 lE) M0 M9 := by
      refine gFl.ofL [d, el] (fun z hz => k14 z (fun e => hz (by rw [e]; simp)) (fun e => hz (by rw [e]; simp))) (fun z hz x hx => ?_)
      simp only [List.mem_cons, List.not_mem_nil, or_false] at hz
      rcases hz with rfl | rfl
      · rw [h.1] at hx; cases hx; exact ⟨Or.inl rfl, _, h12⟩
      · rw [h.2.1] at hx; cases hx; exact ⟨Or.inr rfl, _, h10⟩
    refine x_aload_n C dJ12_addFirst_45 rfl rfl ?_
    refine x_iconst C dJ12_addFirst_46 kc_1 ?_
    refine x_V1V C (met_J12_grow l C.1 hD h10 hdm hcg hff9 hel9 hll) mi_J12_grow q1726 gcJ12 h12 ⟨rfl, rfl⟩ rfl ⟨Nat.le_of_ble_eq_true rfl, Nat.le_of_ble_eq_true rfl⟩ rfl dJ12_addFirst_47 (fun M15 hr => ?_)
    rw [show cap = n + 1 by omega] at hr
    exact x_vret C dJ12_addFirst_50 ⟨Nat.le_of_ble_eq_true rfl, Nat.le_of_ble_eq_true rfl⟩ ⟨hr.1, hF1.tr hr.2⟩
theorem mi_J12_addLast : gMV RJ12 yJ12_addLast cJ12_addLast 3 none 1 := ⟨q1722, q1723, q141, q1724, by decide +kernel⟩
set_option maxHeartbeats 4000000 in
set_option maxRecDepth 100000 in
theorem met_J12_addLast (l : Launch) {G : gG} (hG : gOK G) {M0 : gM} {l0 lE : Nat × Nat} {d n : Nat} {en : Nat → Nat} {x : Nat} (h : DQ G l0 lE d n en M0) (hn : n ≤ 40) (hE : ∀ i, i < n → ∃ lb fs, M0 (en i) = some (lb, .inr (29, fs))) {lx : Nat × Nat} {fx : List Value} (hx : M0 x = some (lx, .inr (29, fx))) : Met l yJ12_addLast (ws_ yJ12_addLast cJ12_addLast 3 none) ({ frames := 4, cells := 1, slots := 100, locals := 132 }) (gPre G M0 [.ref (d), .ref (x)]) (gQ G (gV (fun M1 => DQ G l0 lE d (n + 1) (fun i => if i = n then x else en i) M1 ∧ gFl (ro2 l0 lE) M0 M1))) 1 100 (gA G) := by
  refine gMet (L0 := [some (.ref (d)), some (.ref (x)), none]) RJ12 hG (by decide +kernel) rfl (Nat.le_of_ble_eq_true rfl) rfl ?_
  intro p e s m args below meth c C hnm
  obtain ⟨el, cap, hd, f, h, hcc⟩ := h
  obtain ⟨hnc, hhc, hcb, hff, hll⟩ := h.2.2
  have hde := h.ne
  have hmt : (hd + n) % cap < cap := Nat.mod_lt _ (by omega)
  have hxd : x ≠ d := fun e => by rw [e, h.1] at hx; cases hx
  have hxe : x ≠ el := fun e => by rw [e, h.2.1] at hx; cases hx
  have hdm : (hd + cap - 1) % cap < cap := Nat.mod_lt _ (by omega)
  have hmt2 : ((hd + n) % cap + 1) % cap < cap := Nat.mod_lt _ (by omega)
  refine x_aload_n C dJ12_addLast_0 rfl rfl ?_
  refine x_ifnonnull (tgt := 12) C dJ12_addLast_1 rfl ?_
  refine x_aload_n C dJ12_addLast_12 rfl rfl ?_
  refine x_get C gcJ12 h.1 0 rfl q463 rfl dJ12_addLast_13 ?_
  refine x_astore_n C dJ12_addLast_16 rfl (gs1_2 rfl) rfl ?_
  refine x_aload_n C dJ12_addLast_17 rfl rfl ?_
  refine x_aload_n C dJ12_addLast_18 rfl rfl ?_
  refine x_get C gcJ12 h.1 2 rfl q467 rfl dJ12_addLast_19 ?_
  refine x_aload_n C dJ12_addLast_22 rfl rfl ?_
  refine y_aastO (E := "java/lang/Object") (i := (hd + n) % cap) C 3 rfl h.2.1 hx gcX14 q2993 rfl hmt (Nat.ble_eq_true_of_le (by omega)) dJ12_addLast_23 (fun M1 h2 k3 => ?_)
  have h4 := (k3 _ hde).trans h.1
  have h5 := (k3 _ hxe).trans hx
  have k6 : ∀ zz : Nat, zz ≠ el → M1 zz = M0 zz := fun zz z0 => k3 zz z0
  refine x_aload_n C dJ12_addLast_24 rfl rfl ?_
  refine x_get C gcJ12 h4 1 rfl q466 rfl dJ12_addLast_25 ?_
  refine x_aload_n C dJ12_addLast_28 rfl rfl ?_
  refine x_aload_n C dJ12_addLast_29 rfl rfl ?_
  refine x_get C gcJ12 h4 2 rfl q467 rfl dJ12_addLast_30 ?_
  refine x_aload_n C dJ12_addLast_33 rfl rfl ?_
  refine y_alen C 3 rfl h2 dJ12_addLast_34 ?_
  refine x_S2I C (met_J12_inc l C.1 (by omega) (by omega)) mi_J12_inc q1725 ⟨rfl, rfl⟩ rfl ⟨Nat.le_of_ble_eq_true rfl, Nat.le_of_ble_eq_true rfl⟩ rfl dJ12_addLast_35 (fun r8 M7 hr => ?_)
  obtain ⟨hr, rfl⟩ := hr
  rw [hr]
  refine x_dup_x1 C dJ12_addLast_38 rfl rfl ?_
  refine y_put (fs' := [.ref (el), .int (nI hd), .int (nI ((((hd + n) % cap) + 1) % cap))]) C gcJ12 h4 2 rfl q467 rfl rfl rfl rfl rfl dJ12_addLast_39 (fun M9 h10 k11 => ?_)
  have h12 := (k11 _ (Ne.symm hde)).trans h2
  have h13 := (k11 _ hxd).trans h5
  have k14 : ∀ zz : Nat, zz ≠ el → zz ≠ d → M9 zz = M0 zz := fun zz z0 z1 => (k11 zz z1).trans (k6 zz z0)
  refine x_icmp_neN (tgt := 50) C (by omega) (by omega) dJ12_addLast_42 rfl (fun c42 => ?_) (fun c42 => ?_)
  · -- 50
    have hn1 : n + 1 < cap := by
      rcases Nat.lt_or_ge (n + 1) cap with z | z; exact z; exact absurd (by rw [show n = cap - 1 by omega, Nat.mod_add_mod, show hd + (cap - 1) + 1 = hd + cap by omega, Nat.add_mod_right, Nat.mod_eq_of_lt hhc]) c42
    refine x_vret C dJ12_addLast_50 ⟨Nat.le_of_ble_eq_true rfl, Nat.le_of_ble_eq_true rfl⟩ ⟨⟨el, cap, hd, va_up f ((hd + n) % cap) (some x), ⟨?_, h12, hn1, hhc, hcb, fun i hi => ?_, hll⟩, hcc⟩, ?_⟩
    · rw [show (hd + (n + 1)) % cap = ((hd + n) % cap + 1) % cap by rw [Nat.mod_add_mod, show hd + n + 1 = hd + (n + 1) by omega]]; exact h10
    · by_cases z : i = n
      · subst z; rw [va_up_self]; dsimp only; rw [if_pos rfl]
      · rw [va_up_ne _ _ (fun q => z (mod_inj hhc (by omega) (by omega) q)), hff i (by omega)]; dsimp only; rw [if_neg z]
    ·
      refine gFl.ofL [el, d] (fun z hz => k14 z (fun e => hz (by rw [e]; simp)) (fun e => hz (by rw [e]; simp))) (fun z hz x hx => ?_)
      simp only [List.mem_cons, List.not_mem_nil, or_false] at hz
      rcases hz with rfl | rfl
      · rw [h.2.1] at hx; cases hx; exact ⟨Or.inr rfl, _, h12⟩
      · rw [h.1] at hx; cases hx; exact ⟨Or.inl rfl, _, h10⟩
  · -- 45
    have hn1 : n = cap - 1 := by
      have e9 : (hd + (n + 1)) % cap = hd := by rw [show hd + (n + 1) = hd + n + 1 by omega, ← Nat.mod_add_mod]; exact c42.symm
      rcases Nat.lt_or_ge (n + 1) cap with z | z
      · exact absurd (mod_inj (a := hd) (i := n + 1) (j := 0) (c := cap) hhc z (by omega) (by rw [e9, Nat.add_zero, Nat.mod_eq_of_lt hhc])) (by omega)
      · omega
    have hcg : cap = 17 ∨ cap = 36 := by omega
    have hD : M9 d = some (l0, .inr (3, [.ref el, .int (nI (hd)), .int (nI (hd))])) := by have z := h10; rwa [← c42] at z
    have hff9 : ∀ i, i < cap → va_up f ((hd + n) % cap) (some x) ((hd + i) % cap) = some ((fun i => if i = n then x else en i) i) := by
      intro i hi
      by_cases z : i = n
      · subst z; rw [va_up_self]; dsimp only; rw [if_pos rfl]
      · rw [va_up_ne _ _ (fun q => z (mod_inj hhc hi (by omega) q)), hff i (by omega)]; dsimp only; rw [if_neg z]
    have hel9 : ∀ i, i < cap → ∀ y, va_up f ((hd + n) % cap) (some x) i = some y → ∃ lb fs, M9 y = some (lb, .inr (29, fs)) := by
      intro i hi y hy
      have key : ∃ lb fs, M0 y = some (lb, .inr (29, fs)) := by
        by_cases z : i = ((hd + n) % cap)
        · rw [z, va_up_self] at hy; cases hy; exact ⟨_, _, hx⟩
        · rw [va_up_ne _ _ z] at hy
          obtain ⟨k9, hk9, e9⟩ : ∃ k9, k9 < cap ∧ (hd + k9) % cap = i := by
            rcases Nat.lt_or_ge i hd with q | q
            · exact ⟨i + cap - hd, by omega, by rw [show hd + (i + cap - hd) = i + cap by omega, Nat.add_mod_right, Nat.mod_eq_of_lt hi]⟩
            · exact ⟨i - hd, by omega, by rw [show hd + (i - hd) = i by omega, Nat.mod_eq_of_lt hi]⟩
          have hk8 : k9 < n := by rcases Nat.lt_or_ge k9 n with q | q; exact q; exact absurd (by rw [← e9, show k9 = n by omega]) z
          rw [← e9, hff k9 hk8] at hy; cases hy; exact hE k9 hk8
      obtain ⟨lb, fs, hz⟩ := key
      exact ⟨lb, fs, (k14 y (fun e => by rw [e, h.2.1] at hz; cases hz) (fun e => by rw [e, h.1] at hz; cases hz)).trans hz⟩
    have hF1 : gFl (ro2 l0 lE) M0 M9 := by
      refine gFl.ofL [el, d] (fun z hz => k14 z (fun e => hz (by rw [e]; simp)) (fun e => hz (by rw [e]; simp))) (fun z hz x hx => ?_)
      simp only [List.mem_cons, List.not_mem_nil, or_false] at hz
      rcases hz with rfl | rfl
      · rw [h.2.1] at hx; cases hx; exact ⟨Or.inr rfl, _, h12⟩
      · rw [h.1] at hx; cases hx; exact ⟨Or.inl rfl, _, h10⟩
    refine x_aload_n C dJ12_addLast_45 rfl rfl ?_
    refine x_iconst C dJ12_addLast_46 kc_1 ?_
    refine x_V1V C (met_J12_grow l C.1 hD h12 hhc hcg hff9 hel9 hll) mi_J12_grow q1726 gcJ12 h10 ⟨rfl, rfl⟩ rfl ⟨Nat.le_of_ble_eq_true rfl, Nat.le_of_ble_eq_true rfl⟩ rfl dJ12_addLast_47 (fun M15 hr => ?_)
    rw [show cap = n + 1 by omega] at hr
    exact x_vret C dJ12_addLast_50 ⟨Nat.le_of_ble_eq_true rfl, Nat.le_of_ble_eq_true rfl⟩ ⟨hr.1, hF1.tr hr.2⟩
theorem mi_J12_pollLast : gMV RJ12 yJ12_pollLast cJ12_pollLast 4 (some (.object "java/lang/Object")) 0 := ⟨q1886, q1887, q141, q1888, by decide +kernel⟩
set_option maxHeartbeats 4000000 in
set_option maxRecDepth 100000 in
theorem met_J12_pollLast (l : Launch) {G : gG} (hG : gOK G) {M0 : gM} {l0 lE : Nat × Nat} {d n : Nat} {en : Nat → Nat} (h : DQ G l0 lE d n en M0) (hn : 0 < n) : Met l yJ12_pollLast (ws_ yJ12_pollLast cJ12_pollLast 4 (some (.object "java/lang/Object"))) ({ frames := 1, cells := 0, slots := 0, locals := 21 }) (gPre G M0 [.ref (d)]) (gQ G (gR (fun r M1 => en (n - 1) = r ∧ DQ G l0 lE d (n - 1) en M1 ∧ gFl (ro2 l0 lE) M0 M1))) 0 0 (gA G) := by
  refine gMet (L0 := [some (.ref (d)), none, none, none]) RJ12 hG (by decide +kernel) rfl (Nat.le_of_ble_eq_true rfl) rfl ?_
  intro p e s m args below meth c C hnm
  obtain ⟨el, cap, hd, f, h, hcc⟩ := h
  obtain ⟨hnc, hhc, hcb, hff, hll⟩ := h.2.2
  have hde := h.ne
  have hmt : (hd + n) % cap < cap := Nat.mod_lt _ (by omega)
  have het : ((hd + n) % cap + cap - 1) % cap = (hd + (n - 1)) % cap := by rw [show (hd + n) % cap + cap - 1 = (hd + n) % cap + (cap - 1) by omega, Nat.mod_add_mod, show hd + n + (cap - 1) = hd + (n - 1) + cap by omega, Nat.add_mod_right]
  refine x_aload_n C dJ12_pollLast_0 rfl rfl ?_
  refine x_get C gcJ12 h.1 0 rfl q463 rfl dJ12_pollLast_1 ?_
  refine x_dup C dJ12_pollLast_4 rfl ?_
  refine x_astore_n C dJ12_pollLast_5 rfl (gs1_1 rfl) rfl ?_
  refine x_aload_n C dJ12_pollLast_6 rfl rfl ?_
  refine x_get C gcJ12 h.1 2 rfl q467 rfl dJ12_pollLast_7 ?_
  refine x_aload_n C dJ12_pollLast_10 rfl rfl ?_
  refine y_alen C 3 rfl h.2.1 dJ12_pollLast_11 ?_
  refine x_S2I C (met_J12_dec l C.1 (by omega) (by omega)) mi_J12_dec q1889 ⟨rfl, rfl⟩ rfl ⟨Nat.le_of_ble_eq_true rfl, Nat.le_of_ble_eq_true rfl⟩ rfl dJ12_pollLast_12 (fun r2 M1 hr => ?_)
  obtain ⟨hr, rfl⟩ := hr
  rw [hr]
  refine x_dup C dJ12_pollLast_15 rfl ?_
  refine x_istore_n C dJ12_pollLast_16 rfl (gs1_2 rfl) rfl ?_
  refine x_S2R C (met_J12_elementAt l C.1 h.2.1 (Nat.mod_lt _ (by omega)) (by omega) (by rw [het]; exact hff (n - 1) (by omega))) mi_J12_elementAt q1892 ⟨rfl, rfl⟩ rfl ⟨Nat.le_of_ble_eq_true rfl, Nat.le_of_ble_eq_true rfl⟩ rfl dJ12_pollLast_17 (fun r4 M3 hr => ?_)
  obtain ⟨hr, rfl⟩ := hr
  rw [hr]
  refine x_astore_n C dJ12_pollLast_20 rfl (gs1_3 rfl) rfl ?_
  refine x_aload_n C dJ12_pollLast_21 rfl rfl ?_
  refine x_ifnull C dJ12_pollLast_22 ?_
  refine x_aload_n C dJ12_pollLast_25 rfl rfl ?_
  refine x_aload_n C dJ12_pollLast_26 rfl rfl ?_
  refine x_iload_n C dJ12_pollLast_27 rfl rfl ?_
  refine x_dup_x1 C dJ12_pollLast_28 rfl rfl ?_
  refine y_put (fs' := [.ref (el), .int (nI hd), .int (nI ((((hd + n) % cap) + cap - 1) % cap))]) C gcJ12 h.1 2 rfl q467 rfl rfl rfl rfl rfl dJ12_pollLast_29 (fun M5 h6 k7 => ?_)
  have h8 := (k7 _ (Ne.symm hde)).trans h.2.1
  have k9 : ∀ zz : Nat, zz ≠ d → M5 zz = M0 zz := fun zz z0 => k7 zz z0
  refine x_null C dJ12_pollLast_32 ?_
  refine y_aastN (i := (((hd + n) % cap) + cap - 1) % cap) (E := "java/lang/Object") C 3 rfl h8 rfl (Nat.mod_lt _ (by omega)) (Nat.ble_eq_true_of_le (by omega)) dJ12_pollLast_33 (fun M10 h11 k12 => ?_)
  have h13 := (k12 _ hde).trans h6
  have k14 : ∀ zz : Nat, zz ≠ d → zz ≠ el → M10 zz = M0 zz := fun zz z0 z1 => (k12 zz z1).trans (k9 zz z0)
  refine x_aload_n C dJ12_pollLast_34 rfl rfl ?_
  refine x_aret C dJ12_pollLast_35 ⟨Nat.le_of_ble_eq_true rfl, Nat.le_of_ble_eq_true rfl⟩ ⟨rfl, ⟨el, cap, hd, va_up f (((hd + n) % cap + cap - 1) % cap) none, ⟨?_, h11, by omega, hhc, hcb, fun i hi => ?_, hll⟩, hcc⟩, ?_⟩
  · rw [← het]; exact h13
  · rw [va_up_ne _ _ (fun q => by rw [het] at q; have := mod_inj hhc (by omega) (by omega) q; omega)]; exact hff i (by omega)
  ·
    refine gFl.ofL [d, el] (fun z hz => k14 z (fun e => hz (by rw [e]; simp)) (fun e => hz (by rw [e]; simp))) (fun z hz x hx => ?_)
    simp only [List.mem_cons, List.not_mem_nil, or_false] at hz
    rcases hz with rfl | rfl
    · rw [h.1] at hx; cases hx; exact ⟨Or.inl rfl, _, h13⟩
    · rw [h.2.1] at hx; cases hx; exact ⟨Or.inr rfl, _, h11⟩
theorem mi_J12_removeLast : gMV RJ12 yJ12_removeLast cJ12_removeLast 2 (some (.object "java/lang/Object")) 0 := ⟨q1882, q1883, q141, q1884, by decide +kernel⟩
set_option maxHeartbeats 4000000 in
set_option maxRecDepth 100000 in
theorem met_J12_removeLast (l : Launch) {G : gG} (hG : gOK G) {M0 : gM} {l0 lE : Nat × Nat} {d n : Nat} {en : Nat → Nat} (h : DQ G l0 lE d n en M0) (hn : 0 < n) : Met l yJ12_removeLast (ws_ yJ12_removeLast cJ12_removeLast 2 (some (.object "java/lang/Object"))) ({ frames := 2, cells := 0, slots := 0, locals := 44 }) (gPre G M0 [.ref (d)]) (gQ G (gR (fun r M1 => en (n - 1) = r ∧ DQ G l0 lE d (n - 1) en M1 ∧ gFl (ro2 l0 lE) M0 M1))) 0 0 (gA G) := by
  refine gMet (L0 := [some (.ref (d)), none]) RJ12 hG (by decide +kernel) rfl (Nat.le_of_ble_eq_true rfl) rfl ?_
  intro p e s m args below meth c C hnm
  obtain ⟨el, cap, hd, f, h', hcc⟩ := id h
  replace h' := h'.1
  refine x_aload_n C dJ12_removeLast_0 rfl rfl ?_
  refine x_V0R C (met_J12_pollLast l C.1 h hn) mi_J12_pollLast q1885 gcJ12 h' ⟨rfl, rfl⟩ rfl ⟨Nat.le_of_ble_eq_true rfl, Nat.le_of_ble_eq_true rfl⟩ rfl dJ12_removeLast_1 (fun r2 M1 hr => ?_)
  obtain ⟨rfl, g1⟩ := hr
  refine x_astore_n C dJ12_removeLast_4 rfl (gs1_1 rfl) rfl ?_
  refine x_aload_n C dJ12_removeLast_5 rfl rfl ?_
  refine x_ifnonnull (tgt := 17) C dJ12_removeLast_6 rfl ?_
  refine x_aload_n C dJ12_removeLast_17 rfl rfl ?_
  exact x_aret C dJ12_removeLast_18 ⟨Nat.le_of_ble_eq_true rfl, Nat.le_of_ble_eq_true rfl⟩ ⟨rfl, g1⟩
theorem mi_J32_init : gMI yJ32_init cJ32_init 2 1 := ⟨q1697, q171, q1698, rfl, by decide +kernel⟩
set_option maxHeartbeats 4000000 in
set_option maxRecDepth 100000 in
theorem met_J32_init (l : Launch) {G : gG} (hG : gOK G) {M0 : gM} {l0 lE : Nat × Nat} {d n : Nat} {en : Nat → Nat} {el cap hd : Nat} {f : Nat → Option Nat} {a : Nat} {lab : Nat × Nat} (h : DQe G l0 lE d n el cap hd f en M0) (h0 : M0 a = some (lab, .inr (13, [.int (nI 0), .int (nI 0), .int (nI 0), .null]))) (hl : ¬ lab = l0) (hlN : ¬ lab = lE) : Met l yJ32_init (ws_ yJ32_init cJ32_init 2 none) ({ frames := 2, cells := 0, slots := 0, locals := 42 }) (gPre G M0 [.ref (a), .ref (d)]) (gQ G (gV (fun M1 => M1 a = some (lab, .inr (13, [.int (nI hd), .int (nI n), .int (-1), .ref d])) ∧ ∀ q, q ≠ a → M1 q = M0 q))) 0 0 (gA G) := by
  refine gMet (L0 := [some (.ref (a)), some (.ref (d))]) RJ32 hG (by decide +kernel) rfl (Nat.le_of_ble_eq_true rfl) rfl ?_
  intro p e s m args below meth c C hnm
  have hda : d ≠ a := fun q => by have z := h.1; rw [q, h0] at z; exact hl (congrArg Prod.fst (Option.some.inj z))
  refine x_aload_n C dJ32_init_0 rfl rfl ?_
  refine x_aload_n C dJ32_init_1 rfl rfl ?_
  refine y_putF (fs' := [.int (nI 0), .int (nI 0), .int (nI 0), .ref (d)]) C (hnm rfl) gcJ32 h0 3 rfl q1710 rfl rfl rfl rfl rfl rfl dJ32_init_2 (fun M1 h2 k3 => ?_)
  have h4 := (k3 _ hda).trans h.1
  have k5 : ∀ zz : Nat, zz ≠ a → M1 zz = M0 zz := fun zz z0 => k3 zz z0
  refine x_aload_n C dJ32_init_5 rfl rfl ?_
  refine x_objInit C q1699 q182 q183 rfl dJ32_init_6 ?_
  refine x_aload_n C dJ32_init_9 rfl rfl ?_
  refine x_aload_n C dJ32_init_10 rfl rfl ?_
  refine x_get C gcJ32 h2 3 rfl q1710 rfl dJ32_init_11 ?_
  refine x_V0I C (met_J12_size l C.1 (h.keep (ρ := fun z => z = lab) (gFl.of1 (i := lab.1) (j := lab.2) h0 h2 k5 rfl) (fun q => hl q.symm) (fun q => hlN q.symm))) mi_J12_size q1700 gcJ12 h4 ⟨rfl, rfl⟩ rfl ⟨Nat.le_of_ble_eq_true rfl, Nat.le_of_ble_eq_true rfl⟩ rfl dJ32_init_14 (fun r7 M6 hr => ?_)
  obtain ⟨hr, rfl⟩ := hr
  rw [hr]
  refine y_put (fs' := [.int (nI 0), .int (nI n), .int (nI 0), .ref (d)]) C gcJ32 h2 1 rfl q1708 rfl rfl rfl rfl rfl dJ32_init_17 (fun M8 h9 k10 => ?_)
  have h11 := (k10 _ hda).trans h4
  have k12 : ∀ zz : Nat, zz ≠ a → M8 zz = M0 zz := fun zz z0 => (k10 zz z0).trans (k5 zz z0)
  refine x_aload_n C dJ32_init_20 rfl rfl ?_
  refine x_iconst C dJ32_init_21 kc_m1 ?_
  refine y_put (fs' := [.int (nI 0), .int (nI n), .int ((-1)), .ref (d)]) C gcJ32 h9 2 rfl q1709 rfl rfl rfl rfl rfl dJ32_init_22 (fun M13 h14 k15 => ?_)
  have h16 := (k15 _ hda).trans h11
  have k17 : ∀ zz : Nat, zz ≠ a → M13 zz = M0 zz := fun zz z0 => (k15 zz z0).trans (k12 zz z0)
  refine x_aload_n C dJ32_init_25 rfl rfl ?_
  refine x_aload_n C dJ32_init_26 rfl rfl ?_
  refine x_get C gcJ12 h16 1 rfl q465 rfl dJ32_init_27 ?_
  refine y_put (fs' := [.int (nI hd), .int (nI n), .int ((-1)), .ref (d)]) C gcJ32 h14 0 rfl q1707 rfl rfl rfl rfl rfl dJ32_init_30 (fun M18 h19 k20 => ?_)
  have h21 := (k20 _ hda).trans h16
  have k22 : ∀ zz : Nat, zz ≠ a → M18 zz = M0 zz := fun zz z0 => (k20 zz z0).trans (k17 zz z0)
  exact x_vret C dJ32_init_33 ⟨Nat.le_of_ble_eq_true rfl, Nat.le_of_ble_eq_true rfl⟩ ⟨h19, k22⟩
theorem mi_J12_iterator : gMV RJ12 yJ12_iterator cJ12_iterator 1 (some (.object "java/util/Iterator")) 0 := ⟨q1691, q1692, q141, q1693, by decide +kernel⟩
set_option maxHeartbeats 4000000 in
set_option maxRecDepth 100000 in
theorem met_J12_iterator (l : Launch) {G : gG} (hG : gOK G) {M0 : gM} {l0 lE : Nat × Nat} {d n : Nat} {en : Nat → Nat} {el cap hd : Nat} {f : Nat → Option Nat} (h : DQe G l0 lE d n el cap hd f en M0) (hl : ¬ l0.1 = 2) (hlN : ¬ lE.1 = 2) : Met l yJ12_iterator (ws_ yJ12_iterator cJ12_iterator 1 (some (.object "java/util/Iterator"))) ({ frames := 3, cells := 1, slots := 4, locals := 63 }) (gPre G M0 [.ref (d)]) (gQ G (gR (fun r M1 => M0 r = none ∧ M1 r = some ((2, 0), .inr (13, [.int (nI hd), .int (nI n), .int (-1), .ref d])) ∧ ∀ z, z ≠ r → M1 z = M0 z))) 1 4 (gA G) := by
  refine gMet (L0 := [some (.ref (d))]) RJ12 hG (by decide +kernel) rfl (Nat.le_of_ble_eq_true rfl) rfl ?_
  intro p e s m args below meth c C hnm
  refine y_new (fs := [.int (nI 0), .int (nI 0), .int (nI 0), .null]) C (fun a => (2, 0)) gcJ32 q1694 q1695 q171 rfl ⟨Nat.le_of_ble_eq_true rfl, Nat.le_of_ble_eq_true rfl⟩ dJ12_iterator_0 (fun a1 M2 n3 g4 h5 k6 => ?_)
  have e7 : d ≠ a1 := gM_nn h.1 n3
  have h8 := (k6 _ e7).trans h.1
  have k9 : ∀ zz : Nat, zz ≠ a1 → M2 zz = M0 zz := fun zz z0 => k6 zz z0
  refine x_dup C dJ12_iterator_3 rfl ?_
  refine x_aload_n C dJ12_iterator_4 rfl rfl ?_
  refine x_I1 C (met_J32_init l C.1 (h.keep (ρ := fun _ => False) (gFl.ofL [a1] (fun z hz => k9 z (fun e => hz (by rw [e]; exact List.mem_cons_self))) (fun z hz x hx => by rw [List.mem_singleton.mp hz, n3] at hx; cases hx)) (fun q => q) (fun q => q)) h5 (fun q => hl (by rw [← q])) (fun q => hlN (by rw [← q]))) mi_J32_init q1696 ⟨rfl, rfl⟩ rfl ⟨Nat.le_of_ble_eq_true rfl, Nat.le_of_ble_eq_true rfl⟩ rfl dJ12_iterator_5 (fun M10 hr => ?_)
  obtain ⟨h11, k12⟩ := hr
  have h13 := (k12 _ e7).trans h8
  have k14 : ∀ zz : Nat, zz ≠ a1 → M10 zz = M0 zz := fun zz z0 => (k12 zz z0).trans (k9 zz z0)
  exact x_aret C dJ12_iterator_8 ⟨Nat.le_of_ble_eq_true rfl, Nat.le_of_ble_eq_true rfl⟩ ⟨n3, h11, k14⟩
set_option maxHeartbeats 4000000 in
set_option maxRecDepth 100000 in
theorem met_J32_hasNext (l : Launch) {G : gG} (hG : gOK G) {M0 : gM} {l0 lE : Nat × Nat} {d n : Nat} {en : Nat → Nat} {el cap hd : Nat} {f : Nat → Option Nat} {q i : Nat} {lr : Int32} (h : DQe G l0 lE d n el cap hd f en M0) (t : M0 q = some ((2, 0), .inr (13, [.int (nI ((hd + i) % cap)), .int (nI (n - i)), .int lr, .ref d]))) : Met l yJ32_hasNext (ws_ yJ32_hasNext cJ32_hasNext 1 (some .boolean)) ({ frames := 0, cells := 0, slots := 0, locals := 0 }) (gPre G M0 [.ref (q)]) (gQ G (gI (fun r M1 => M1 = M0 ∧ (if i < n then nI 1 else nI 0) = r))) 0 0 (gA G) := by
  refine gMet (L0 := [some (.ref (q))]) RJ32 hG (by decide +kernel) rfl (Nat.le_of_ble_eq_true rfl) rfl ?_
  intro p e s m args below meth c C hnm
  obtain ⟨hnc, hhc, hcb, hff, hll⟩ := h.2.2
  have hde := h.ne
  refine x_aload_n C dJ32_hasNext_0 rfl rfl ?_
  refine x_get C gcJ32 t 1 rfl q1708 rfl dJ32_hasNext_1 ?_
  refine x_if_leN (tgt := 11) C (by omega) dJ32_hasNext_4 rfl (fun c4 => ?_) (fun c4 => ?_)
  · -- 11
    refine x_iconst C dJ32_hasNext_11 kc_0 ?_
    exact x_zret C (by decide +kernel) dJ32_hasNext_12 ⟨Nat.le_of_ble_eq_true rfl, Nat.le_of_ble_eq_true rfl⟩ ⟨rfl, if_neg (by omega)⟩
  · -- 7
    refine x_iconst C dJ32_hasNext_7 kc_1 ?_
    refine x_goto (tgt := 12) C dJ32_hasNext_8 rfl ?_
    exact x_zret C (by decide +kernel) dJ32_hasNext_12 ⟨Nat.le_of_ble_eq_true rfl, Nat.le_of_ble_eq_true rfl⟩ ⟨rfl, if_pos (by omega)⟩
set_option maxHeartbeats 4000000 in
set_option maxRecDepth 100000 in
theorem met_J32_next (l : Launch) {G : gG} (hG : gOK G) {M0 : gM} {l0 lE : Nat × Nat} {d n : Nat} {en : Nat → Nat} {el cap hd : Nat} {f : Nat → Option Nat} {q i : Nat} {lr : Int32} (h : DQe G l0 lE d n el cap hd f en M0) (t : M0 q = some ((2, 0), .inr (13, [.int (nI ((hd + i) % cap)), .int (nI (n - i)), .int lr, .ref d]))) (hi : i < n) (hl : ¬ l0.1 = 2) (hlN : ¬ lE.1 = 2) : Met l yJ32_next (ws_ yJ32_next cJ32_next 3 (some (.object "java/lang/Object"))) ({ frames := 1, cells := 0, slots := 0, locals := 22 }) (gPre G M0 [.ref (q)]) (gQ G (gR (fun r M1 => en i = r ∧ M1 q = some ((2, 0), .inr (13, [.int (nI ((hd + (i + 1)) % cap)), .int (nI (n - (i + 1))), .int (nI ((hd + i) % cap)), .ref d])) ∧ ∀ z, z ≠ q → M1 z = M0 z))) 0 0 (gA G) := by
  refine gMet (L0 := [some (.ref (q)), none, none]) RJ32 hG (by decide +kernel) rfl (Nat.le_of_ble_eq_true rfl) rfl ?_
  intro p e s m args below meth c C hnm
  obtain ⟨hnc, hhc, hcb, hff, hll⟩ := h.2.2
  have hde := h.ne
  have hqd : d ≠ q := fun e => by have z := h.1; rw [e, t] at z; exact hl (congrArg (fun y => y.1.1) (Option.some.inj z)).symm
  have hqe : el ≠ q := fun e => by have z := h.2.1; rw [e, t] at z; exact hlN (congrArg (fun y => y.1.1) (Option.some.inj z)).symm
  have hmi : (hd + i) % cap < cap := Nat.mod_lt _ (by omega)
  refine x_aload_n C dJ32_next_0 rfl rfl ?_
  refine x_get C gcJ32 t 1 rfl q1708 rfl dJ32_next_1 ?_
  refine x_if_gtT (tgt := 15) C (Int32.not_le.mp (nI_nle (by omega) (by omega))) dJ32_next_4 rfl ?_
  refine x_aload_n C dJ32_next_15 rfl rfl ?_
  refine x_get C gcJ32 t 3 rfl q1710 rfl dJ32_next_16 ?_
  refine x_get C gcJ12 h.1 0 rfl q464 rfl dJ32_next_19 ?_
  refine x_astore_n C dJ32_next_22 rfl (gs1_1 rfl) rfl ?_
  refine x_aload_n C dJ32_next_23 rfl rfl ?_
  refine x_aload_n C dJ32_next_24 rfl rfl ?_
  refine x_get C gcJ32 t 0 rfl q1707 rfl dJ32_next_25 ?_
  refine x_S2R C (met_J12_nonNullElementAt l C.1 h.2.1 hmi (by omega) (hff i hi)) mi_J12_nonNullElementAt q1091 ⟨rfl, rfl⟩ rfl ⟨Nat.le_of_ble_eq_true rfl, Nat.le_of_ble_eq_true rfl⟩ rfl dJ32_next_28 (fun r2 M1 hr => ?_)
  obtain ⟨hr, rfl⟩ := hr
  rw [hr]
  refine x_astore_n C dJ32_next_31 rfl (gs1_2 rfl) rfl ?_
  refine x_aload_n C dJ32_next_32 rfl rfl ?_
  refine x_aload_n C dJ32_next_33 rfl rfl ?_
  refine x_aload_n C dJ32_next_34 rfl rfl ?_
  refine x_get C gcJ32 t 0 rfl q1707 rfl dJ32_next_35 ?_
  refine x_dup_x1 C dJ32_next_38 rfl rfl ?_
  refine y_put (fs' := [.int (nI ((hd + i) % cap)), .int (nI (n - i)), .int (nI ((hd + i) % cap)), .ref (d)]) C gcJ32 t 2 rfl q1709 rfl rfl rfl rfl rfl dJ32_next_39 (fun M3 h4 k5 => ?_)
  have h6 := (k5 _ hqd).trans h.1
  have h7 := (k5 _ hqe).trans h.2.1
  have k8 : ∀ zz : Nat, zz ≠ q → M3 zz = M0 zz := fun zz z0 => k5 zz z0
  refine x_aload_n C dJ32_next_42 rfl rfl ?_
  refine y_alen C 3 rfl h7 dJ32_next_43 ?_
  refine x_S2I C (met_J12_inc l C.1 hmi (by omega)) mi_J12_inc q1094 ⟨rfl, rfl⟩ rfl ⟨Nat.le_of_ble_eq_true rfl, Nat.le_of_ble_eq_true rfl⟩ rfl dJ32_next_44 (fun r10 M9 hr => ?_)
  obtain ⟨hr, rfl⟩ := hr
  rw [hr, show ((hd + i) % cap + 1) % cap = (hd + (i + 1)) % cap by rw [Nat.mod_add_mod, show hd + i + 1 = hd + (i + 1) by omega]]
  refine y_put (fs' := [.int (nI ((hd + (i + 1)) % cap)), .int (nI (n - i)), .int (nI ((hd + i) % cap)), .ref (d)]) C gcJ32 h4 0 rfl q1707 rfl rfl rfl rfl rfl dJ32_next_47 (fun M11 h12 k13 => ?_)
  have h14 := (k13 _ hqd).trans h6
  have h15 := (k13 _ hqe).trans h7
  have k16 : ∀ zz : Nat, zz ≠ q → M11 zz = M0 zz := fun zz z0 => (k13 zz z0).trans (k8 zz z0)
  refine x_aload_n C dJ32_next_50 rfl rfl ?_
  refine x_dup C dJ32_next_51 rfl ?_
  refine x_get C gcJ32 h12 1 rfl q1708 rfl dJ32_next_52 ?_
  refine x_iconst C dJ32_next_55 kc_1 ?_
  refine x_isubN C (by omega) dJ32_next_56 ?_
  rw [show n - i - 1 = n - (i + 1) by omega]
  refine y_put (fs' := [.int (nI ((hd + (i + 1)) % cap)), .int (nI (n - (i + 1))), .int (nI ((hd + i) % cap)), .ref (d)]) C gcJ32 h12 1 rfl q1708 rfl rfl rfl rfl rfl dJ32_next_57 (fun M17 h18 k19 => ?_)
  have h20 := (k19 _ hqd).trans h14
  have h21 := (k19 _ hqe).trans h15
  have k22 : ∀ zz : Nat, zz ≠ q → M17 zz = M0 zz := fun zz z0 => (k19 zz z0).trans (k16 zz z0)
  refine x_aload_n C dJ32_next_60 rfl rfl ?_
  exact x_aret C dJ32_next_61 ⟨Nat.le_of_ble_eq_true rfl, Nat.le_of_ble_eq_true rfl⟩ ⟨rfl, h18, k22⟩
