set_option maxRecDepth 100000
/-- in the array a n cells from i on are as f says -/
def sMap (s : mS) (a i n : Nat) (f : Nat → Int32) : mS := (s.1, (fun b => if b = a then (fun j => if i ≤ j ∧ j < i + n then f j else s.2.1 a j) else s.2.1 b), s.2.2)
theorem sMap_0 (s : mS) (a i : Nat) (f : Nat → Int32) : sMap s a i 0 f = s := by
  have e : (fun b => if b = a then (fun j => if i ≤ j ∧ j < i + 0 then f j else s.2.1 a j) else s.2.1 b) = s.2.1 := by
    funext b j
    by_cases h : b = a
    · subst h
      rw [if_pos rfl]
      exact if_neg (by omega)
    · rw [if_neg h]
  unfold sMap
  rw [e]
theorem sMap_s {s : mS} {a i n : Nat} {f : Nat → Int32} {v : Int32} (hv : v = f (i + n)) : sa (sMap s a i n f) a (i + n) v = sMap s a i (n + 1) f := by
  have e : upd2 (sMap s a i n f).2.1 a (i + n) v = (sMap s a i (n + 1) f).2.1 := by
    funext b j
    unfold upd2
    by_cases h : b = a
    · subst h
      rw [if_pos rfl]
      show upd ((sMap s b i n f).2.1 b) (i + n) v j = (if b = b then (fun j => if i ≤ j ∧ j < i + (n + 1) then f j else s.2.1 b j) else s.2.1 b) j
      rw [if_pos rfl]
      show upd (if b = b then (fun j => if i ≤ j ∧ j < i + n then f j else s.2.1 b j) else s.2.1 b) (i + n) v j = (if i ≤ j ∧ j < i + (n + 1) then f j else s.2.1 b j)
      rw [if_pos rfl]
      unfold upd
      by_cases h2 : j = i + n
      · rw [if_pos h2, if_pos (by omega), h2]; exact hv
      · rw [if_neg h2]
        by_cases h3 : i ≤ j ∧ j < i + n
        · simp only [if_pos h3]; rw [if_pos (by omega)]
        · simp only [if_neg h3]; rw [if_neg (by omega)]
    · rw [if_neg h]
      show (if b = a then _ else s.2.1 b) j = (if b = a then _ else s.2.1 b) j
      rw [if_neg h, if_neg h]
  unfold sa
  rw [e]
  rfl
theorem sMap_r {s : mS} {a i n j : Nat} {f : Nat → Int32} (h : ¬ (i ≤ j ∧ j < i + n)) : mA (sMap s a i n f) a j = mA s a j := by
  show (if a = a then (fun j => if i ≤ j ∧ j < i + n then f j else s.2.1 a j) else s.2.1 a) j = _
  rw [if_pos rfl]
  exact if_neg h
/-- the byte k of five ints -/
def pByte (a b c d e : Int32) (k : Nat) : Int32 := ((if k < 4 then a else if k < 8 then b else if k < 12 then c else if k < 16 then d else e) >>> ((nI 24 - nI (8 * (k % 4))) &&& 31)) &&& nI 255
def tPlain (σ : mS) : mS := si (sa (sMap (si σ 12 (nI 0)) 6 7 7 (fun _ => nI 0)) 6 8 (nI 100)) 18 (nI 0)
def tCp (σ : mS) (a n : Nat) : mS := sMap σ a 0 n (fun j => mA σ a (n + j))
def tFeed (σ : mS) (ts : Nat) (a b c d e : Int32) : mS := si (sMap σ 0 ts 20 (fun j => pByte a b c d e (j - ts))) 1 (nI (ts + 20))
theorem sMap_s0 {s : mS} {a n : Nat} {f : Nat → Int32} {v : Int32} (hv : v = f n) : sa (sMap s a 0 n f) a n v = sMap s a 0 (n + 1) f := by
  have e := sMap_s (s := s) (a := a) (i := 0) (n := n) (f := f) (v := v) (by rw [Nat.zero_add]; exact hv)
  rwa [Nat.zero_add] at e
theorem sQ.fd {σ σ' : mS} {ts : Nat} {a b c d e : Int32} (h : sQ σ σ') : sQ (tFeed σ ts a b c d e) (si (sMap σ' 0 ts 20 (fun j => pByte a b c d e (j - ts))) 1 (nI (ts + 20))) := by
  unfold tFeed
  refine sQ.sI ⟨?_, h.2.1, h.2.2⟩
  show (fun q => if q = 0 then _ else σ'.2.1 q) = (fun q => if q = 0 then _ else σ.2.1 q)
  have e1 : σ'.2.1 = σ.2.1 := h.1
  rw [e1]
theorem cpA_s {σ : mS} {a n i : Nat} (h : i < n) : sa (sMap σ a 0 i (fun j => mA σ a (n + j))) a i (mA (sMap σ a 0 i (fun j => mA σ a (n + j))) a (n + i)) = sMap σ a 0 (i + 1) (fun j => mA σ a (n + j)) := by
  have e : mA (sMap σ a 0 i (fun j => mA σ a (n + j))) a (n + i) = mA σ a (n + i) := sMap_r (by omega)
  rw [e]
  exact sMap_s0 rfl
