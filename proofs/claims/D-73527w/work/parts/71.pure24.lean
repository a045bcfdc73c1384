set_option maxRecDepth 100000
/-- a text that was read is told -/
def tTx (σ : mS) (tr : Nat) : mS := tCp (tCp (tCp (tCp (tCp (si σ 11 (nI tr)) 2 32) 3 48) 4 48) 5 20) 6 7
/-- heads as they are told -/
def pHd (A : Nat → Nat → Int32) : Nat → Nat → Int32
  | 0 => fun _ => nI 0
  | n + 1 => upd (upd (pHd A n) (1281 + 2 * n) (A 2 (8 * n + 4))) (1281 + 2 * n + 1) (A 2 (8 * n + 5))
theorem pHd_ne (A : Nat → Nat → Int32) {j : Nat} : ∀ n, n ≤ 4 → j < 1281 ∨ 1289 ≤ j → pHd A n j = nI 0
  | 0, _, _ => rfl
  | n + 1, hn, hj => by
    show upd (upd (pHd A n) (1281 + 2 * n) _) (1281 + 2 * n + 1) _ j = nI 0
    rw [pk_un (by omega), pk_un (by omega)]
    exact pHd_ne A n (by omega) hj
/-- a text begins -/
def pBeg (A : Nat → Nat → Int32) (T : Nat) : Nat → Int32 := pComes A (pHd A T)
def tKT (σ : mS) (tr : Nat) : mS := sb (si (si (si (tTx σ tr) 21 (nI 0)) 22 (nI 0)) 23 (nI 0)) 0 (pBeg (mA (tTx σ tr)) tr)
theorem z_0 {S : mS} : sb S 0 (fun j => if j < 0 then nI 0 else mK S 0 j) = S := by
  have e : (fun j => if j < 0 then nI 0 else mK S 0 j) = mK S 0 := by
    funext j
    rw [if_neg (by omega)]
  rw [e, sb_self]
theorem z_s {f : Nat → Int32} {n : Nat} : upd (fun j => if j < n then nI 0 else f j) n (nI 0) = (fun j => if j < n + 1 then nI 0 else f j) := by
  funext j
  unfold upd
  by_cases h : j = n
  · rw [if_pos h, if_pos (by omega)]
  · rw [if_neg h]
    by_cases h2 : j < n
    · simp only [if_pos h2]; rw [if_pos (by omega)]
    · simp only [if_neg h2]; rw [if_neg (by omega)]
theorem z_e {S : mS} {f : Nat → Int32} : flat (mK (sb S 0 (fun j => if j < 2468 then nI 0 else f j))) = flat (mK (sb S 0 (fun _ => nI 0))) := by
  funext j
  show (if j / 2468 = 0 then (fun j => if j < 2468 then nI 0 else f j) else mK S (j / 2468)) (j % 2468) = (if j / 2468 = 0 then (fun _ => nI 0) else mK S (j / 2468)) (j % 2468)
  by_cases e : j / 2468 = 0
  · rw [if_pos e, if_pos e]
    exact if_pos (Nat.mod_lt _ (by omega))
  · rw [if_neg e, if_neg e]
