set_option maxRecDepth 100000
theorem wFr_s : ∀ k, k < 13 → wFr (k + 1) = wFr k + (wLn k + 1) ∧ wFr k + wLn k < 68 := by decide
theorem wFr_13 : wFr 13 = 68 := by decide
theorem wd_32 : ∀ k, k < 13 → wdA (wFr k + wLn k) = nI 32 := by decide +kernel
theorem wd_n32 : ∀ k, k < 13 → ∀ j, j < wLn k → ¬ wdA (wFr k + j) = nI 32 := by decide +kernel
theorem m_alen {G : gG} {p : Program} {l : Launch} {e : Env} {R : Room} {s : State} {m : MethodId} {args : Array Value} {below : List Frame} {meth : Method} {c : Code} {cc : ByteArray} {nL : Nat} {own : String} {ret : Option FieldType} {Q : State → Prop} {M M0 : gM} {k n pc : Nat} {L : List (Option Value)} {st : List Value} {ad : Nat → Nat} {σ : mS} (C : gC G p e s m args meth c cc nL own ret) (h : MF G ad M0 σ M) (j : Nat) {N : Nat} (hj : j < 7) (hN : mlen j = N) (d : decode cc pc = .ok (.arraylength, 1)) (kk : gX G p l e R s m args below meth c nL Q M k n (pc + 1) L (.int (nI N) :: st)) : gX G p l e R s m args below meth c nL Q M k n pc L (.ref (ad (j + 1)) :: st) := by
  subst hN
  exact x_alen C 0 rfl (h.1.2.1 j hj) d kk
theorem wFr_le : ∀ k, k ≤ 13 → wFr k ≤ 68 := by decide
