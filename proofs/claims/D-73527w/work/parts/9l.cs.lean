set_option maxRecDepth 100000
/-! ASSETS THAT COME, one by one -/
theorem gFl.old {ρ : Nat × Nat → Prop} {M0 M M1 : gM} {q : Nat} (f : gFl ρ M0 M) (hq : M0 q = none) (k : ∀ z, z ≠ q → M1 z = M z) : gFl ρ M0 M1 := fun a x hx => by
  have e : a ≠ q := fun e => by rw [e, hq] at hx; cases hx
  rw [k a e]
  exact f a x hx
def CS (B : Nat → Int32) (n k0 : Nat) (st s' : List Nat) (xx xx' : Nat → Nat → Nat → Int32) : Prop := k0 ≤ dN (B 1865) ∧ dN (B 1865) ≤ 8 ∧ s' = st ++ List.range' k0 (dN (B 1865) - k0) ∧ (∀ a, a < k0 → xx' a = xx a) ∧ ∀ a, k0 ≤ a → a < dN (B 1865) → xx' a = fun j => if j = 0 then upd (fun _ => 0) (n / 4) (B (2084 + 48 * a)) else fun _ => 0
section CSS
variable {B : Nat → Int32} {n k0 k t u : Nat} {st s' : List Nat} {xx xx' xx2 : Nat → Nat → Nat → Int32} {tax span : Int32}
theorem CS.rf (h : dN (B 1865) = k0) (h8 : k0 ≤ 8) : CS B n k0 st st xx xx := ⟨by omega, by omega, by rw [h, Nat.sub_self]; simp, fun _ _ => rfl, fun a h1 h2 => absurd h2 (by omega)⟩
theorem CS.mem (h : CS B n k0 st s' xx xx') (hst : ∀ a ∈ st, a < k0) : ∀ a ∈ s', a < dN (B 1865) := fun a ha => by
  obtain ⟨h1, h2, rfl, -⟩ := h
  rcases List.mem_append.mp ha with q | q
  · have := hst a q; omega
  · have := List.mem_range'_1.mp q; omega
theorem CS.len (h : CS B n k0 st s' xx xx') : s'.length ≤ st.length + 8 := by
  obtain ⟨h1, h2, rfl, -⟩ := h
  rw [List.length_append, List.length_range']
  omega
theorem CS.acq (h : CS B n k0 st s' xx xx') (hk : dN (B 1865) = k) (hk8 : k < 8) (hB0 : B 0 = nI n) (hn6 : n < 64) (ht : t < 4) (hu : u < 3) (hx : ∀ a, a ≠ k → xx2 a = xx' a) (hxk : xx2 k = fun j => if j = 0 then upd (fun _ => 0) (n / 4) (nI t) else fun _ => 0) : CS (pAcq B t u tax span) n k0 st (s' ++ [k]) xx xx2 := by
  obtain ⟨h1, h2, h3, h4, h5⟩ := h
  have hpn : pNow B = n := by unfold pNow; rw [hB0, dN_nI (by omega)]
  have at' := fun j => pAcq_at (tax := tax) (span := span) hk.symm hpn hk8 ht hn6 hu j
  have e65 : dN (pAcq B t u tax span 1865) = k + 1 := by rw [at', if_pos rfl, dN_nI (by omega)]
  refine ⟨by omega, by omega, ?_, fun a ha => (hx a (by omega)).trans (h4 a ha), fun a ha1 ha2 => ?_⟩
  · rw [e65, h3, hk, show k + 1 - k0 = (k - k0) + 1 by omega, List.range'_1_concat, show k0 + (k - k0) = k by omega, List.append_assoc]
  · rw [e65] at ha2
    by_cases c : a = k
    · subst c
      rw [hxk, at', if_neg (by omega), if_pos (by omega), if_neg (by omega), if_neg (by omega), if_neg (by omega), if_neg (by omega), if_pos (by omega)]
    · rw [hx a c, h5 a ha1 (by omega), at', if_neg (by omega), if_neg (by omega)]
      unfold pAdd upd
      rw [if_neg (by omega)]
end CSS
