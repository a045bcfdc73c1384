set_option maxRecDepth 100000
/-! AN ENTRY IS BOOKED -/
theorem pBook_at {B : Nat → Int32} {t u : Nat} {v a : Int32} (ht : t < 4) (hu : u < 4) (j : Nat) : pBook B t u v a j = if j = 2068 + 4 * t + u then B j + v else if j = 1866 then B j + nI 1 else if j = 1867 then nI (pMany B + 1) else if j = 1872 then a else if j = 1871 then v else if j = 1870 then nI u else if j = 1869 then nI t else if j = 1868 then B 0 else if 1873 ≤ j ∧ j < 1873 + 5 * pMany B then B (j - 5) else B j := by
  have hm : pMany B ≤ 39 := by
    unfold pMany
    by_cases h : dN (B 1867) < 40
    · rw [if_pos h]; omega
    · rw [if_neg h]; omega
  unfold pBook pAdd upd pShift
  by_cases h1 : j = 2068 + 4 * t + u
  · subst h1
    rw [if_pos rfl, if_pos rfl, if_neg (by omega), if_neg (by omega), if_neg (by omega), if_neg (by omega), if_neg (by omega), if_neg (by omega), if_neg (by omega), if_neg (by omega)]
  rw [if_neg h1, if_neg h1]
  by_cases h2 : j = 1866
  · subst h2
    rw [if_pos rfl, if_pos rfl, if_neg (by omega), if_neg (by omega), if_neg (by omega), if_neg (by omega), if_neg (by omega), if_neg (by omega), if_neg (by omega)]
  rw [if_neg h2, if_neg h2]
  by_cases h3 : j = 1867
  · rw [if_pos h3, if_pos h3]
  rw [if_neg h3, if_neg h3]
  by_cases h4 : j = 1872
  · rw [if_pos h4, if_pos h4]
  rw [if_neg h4, if_neg h4]
  by_cases h5 : j = 1871
  · rw [if_pos h5, if_pos h5]
  rw [if_neg h5, if_neg h5]
  by_cases h6 : j = 1870
  · rw [if_pos h6, if_pos h6]
  rw [if_neg h6, if_neg h6]
  by_cases h7 : j = 1869
  · rw [if_pos h7, if_pos h7]
  rw [if_neg h7, if_neg h7]
  by_cases h8 : j = 1868
  · rw [if_pos h8, if_pos h8]
  rw [if_neg h8, if_neg h8]
  by_cases h9 : 1873 ≤ j ∧ j < 1873 + 5 * pMany B
  · rw [if_pos h9, if_pos (by omega)]
  · rw [if_neg h9, if_neg (by omega)]
theorem pMany_le (B : Nat → Int32) : pMany B ≤ 39 := by
  unfold pMany
  by_cases h : dN (B 1867) < 40
  · rw [if_pos h]; omega
  · rw [if_neg h]; omega
section BKS
variable {G : gG} {r : Nat} {ba : Nat → Nat} {x : Nat} {B : Nat → Int32} {D : Nat → Nat → Int32} {xx : Nat → Nat → Nat → Int32} {Z : Nat → Int64} {st : List Nat} {ex : Nat → Prop} {sb : Int64} {M M' : gM}
theorem BX.book {t u e : Nat} {v a : Int32} {en : Nat → Nat} (h : BX G r ba x B D xx Z st ex sb M) (ht : t < 4) (hu : u < 4) (hr : 4 ≤ r) (hK : dN (B 1865) ≤ 8 ∧ dN (B 1867) ≤ 40)
    (hc : BC G r ba x (pQS B) (bf (upd B (2068 + 4 * t + u) (B (2068 + 4 * t + u) + v)) D) (bo B) (B 0) (B 1866 + nI 1) Z M')
    (hq : DQ G (r, 13) (r, 14) (ba 13) (pMany B + 1) (fun i => if i = 0 then e else en (i - 1)) M') (hen : EN en B M) (he : M' e = some ((1, 2), .inr (29, [.int (B 0), .int (nI t), .int (nI u), .int v, .int a])))
    (f : gFl (fun l => l = (r, 13) ∨ l = (r, 14) ∨ l = (r, 0) ∨ l = (r, 70 + t)) M M') : BX G r ba x (pBook B t u v a) D xx Z st ex sb M' := by
  obtain ⟨-, ⟨mc, nd, g2⟩, ⟨mc', nd', g3⟩, g4, -, g7⟩ := h
  have hm := pMany_le B
  have at' := fun j => pBook_at (B := B) (v := v) (a := a) ht hu j
  have nn : ∀ i, i ≠ 13 → i ≠ 14 → i ≠ 0 → i ≠ 70 + t → ¬ ((r, i) = (r, 13) ∨ (r, i) = (r, 14) ∨ (r, i) = (r, 0) ∨ (r, i) = (r, 70 + t)) := fun i h1 h2 h3 h4 q => by
    rcases q with q | q | q | q
    · exact h1 (congrArg Prod.snd q)
    · exact h2 (congrArg Prod.snd q)
    · exact h3 (congrArg Prod.snd q)
    · exact h4 (congrArg Prod.snd q)
  have n1 : ¬ ((1, 2) = (r, 13) ∨ (1, 2) = (r, 14) ∨ (1, 2) = (r, 0) ∨ (1, 2) = (r, 70 + t)) := fun q => by
    rcases q with q | q | q | q <;> (have := congrArg Prod.fst q; dsimp only at this; omega)
  have lo : ∀ j, j < 1866 ∨ 2084 ≤ j → pBook B t u v a j = B j := fun j hj => pBook_ne ht hu hj
  have hk7 : dN (pBook B t u v a 1867) = pMany B + 1 := by
    rw [at' 1867, if_neg (by omega), if_neg (by omega), if_pos rfl, dN_nI (by omega)]
  refine ⟨?_, ⟨mc, nd, ?_⟩, ⟨mc', nd', g3.keep f (nn _ (by omega) (by omega) (by omega) (by omega)) (nn _ (by omega) (by omega) (by omega) (by omega))⟩, fun b hb hx => ?_, ⟨_, by rw [hk7]; exact hq, fun i hi => ?_⟩, g7.keep f (nn _ (by omega) (by omega) (by omega) (by omega)) (nn _ (by omega) (by omega) (by omega) (by omega))⟩
  · rw [lo 0 (by omega), show pBook B t u v a 1866 = B 1866 + nI 1 by rw [at' 1866, if_neg (by omega), if_pos rfl]]
    refine hc.cg (fun t' q' k' a1 a2 a3 => ?_) (fun j t' q' a1 a2 a3 => ?_) (fun i t' a1 a2 => ?_)
    · unfold pQS; rw [lo _ (by omega)]
    · have b9 := bl_b a3
      unfold bf
      by_cases c0 : j = 0
      · rw [if_pos c0, if_pos c0, lo _ (by omega)]; unfold upd; rw [if_neg (by omega)]
      rw [if_neg c0, if_neg c0]
      by_cases c1 : j = 1
      · rw [if_pos c1, if_pos c1, lo _ (by omega)]; unfold upd; rw [if_neg (by omega)]
      rw [if_neg c1, if_neg c1]
      by_cases c2 : j = 2
      · rw [if_pos c2, if_pos c2, lo _ (by omega)]; unfold upd; rw [if_neg (by omega)]
      rw [if_neg c2, if_neg c2]
      by_cases c3 : j = 3
      · rw [if_pos c3, if_pos c3]
      rw [if_neg c3, if_neg c3, at' _]
      unfold upd
      by_cases c4 : 2068 + 4 * t' + q' = 2068 + 4 * t + u
      · rw [if_pos c4, if_pos c4, c4]
      · rw [if_neg c4, if_neg c4, if_neg (by omega), if_neg (by omega), if_neg (by omega), if_neg (by omega), if_neg (by omega), if_neg (by omega), if_neg (by omega), if_neg (by omega)]
    · unfold bo; rw [lo _ (by omega)]
  · rw [lo 1865 (by omega)]; exact g2.keep f (nn _ (by omega) (by omega) (by omega) (by omega)) (nn _ (by omega) (by omega) (by omega) (by omega))
  · rw [lo 1865 (by omega)] at hb
    refine ((g4 b hb hx).keep f (nn _ (by omega) (by omega) (by omega) (by omega)) (nn _ (by omega) (by omega) (by omega) (by omega)) (nn _ (by omega) (by omega) (by omega) (by omega)) (nn _ (by omega) (by omega) (by omega) (by omega)) (nn _ (by omega) (by omega) (by omega) (by omega))).cg (fun _ _ => rfl) (fun i _ => ?_) (fun _ _ _ _ => rfl)
    unfold vA
    simp only [lo _ (Or.inr (show 2084 ≤ 2084 + 48 * b + 3 by omega)), lo _ (Or.inr (show 2084 ≤ 2084 + 48 * b + 4 by omega)), lo _ (Or.inr (show 2084 ≤ 2084 + 48 * b + 5 by omega)), lo _ (Or.inr (show 2084 ≤ 2084 + 48 * b + 2 by omega)), lo _ (Or.inr (show 2084 ≤ 2084 + 48 * b + 47 by omega)), lo _ (Or.inr (show 2084 ≤ 2084 + 48 * b + 6 by omega)), lo _ (Or.inr (show 2084 ≤ 2084 + 48 * b + 7 by omega)), lo _ (Or.inr (show 2084 ≤ 2084 + 48 * b + 8 by omega)), lo _ (Or.inr (show 2084 ≤ 2084 + 48 * b + 1 by omega)), lo _ (Or.inr (show 2084 ≤ 2084 + 48 * b + 11 by omega)), lo _ (Or.inr (show 2084 ≤ 2084 + 48 * b + 12 by omega)), lo _ (Or.inr (show 2084 ≤ 2084 + 48 * b + 9 by omega))]
  · rw [hk7] at hi
    have hm2 : pMany B ≤ dN (B 1867) := by
      unfold pMany
      by_cases z : dN (B 1867) < 40
      · rw [if_pos z]; omega
      · rw [if_neg z]; omega
    by_cases h0 : i = 0
    · subst h0
      show M' (if 0 = 0 then e else en (0 - 1)) = _
      rw [if_pos rfl, he]
      have s0 : pBook B t u v a (1868 + 5 * 0) = B 0 := by rw [at' _, if_neg (by omega), if_neg (by omega), if_neg (by omega), if_neg (by omega), if_neg (by omega), if_neg (by omega), if_neg (by omega), if_pos rfl]
      have s1 : pBook B t u v a (1868 + 5 * 0 + 1) = nI t := by rw [at' _, if_neg (by omega), if_neg (by omega), if_neg (by omega), if_neg (by omega), if_neg (by omega), if_neg (by omega), if_pos rfl]
      have s2 : pBook B t u v a (1868 + 5 * 0 + 2) = nI u := by rw [at' _, if_neg (by omega), if_neg (by omega), if_neg (by omega), if_neg (by omega), if_neg (by omega), if_pos rfl]
      have s3 : pBook B t u v a (1868 + 5 * 0 + 3) = v := by rw [at' _, if_neg (by omega), if_neg (by omega), if_neg (by omega), if_neg (by omega), if_pos rfl]
      have s4 : pBook B t u v a (1868 + 5 * 0 + 4) = a := by rw [at' _, if_neg (by omega), if_neg (by omega), if_neg (by omega), if_pos rfl]
      rw [s0, s1, s2, s3, s4]
    · show M' (if i = 0 then e else en (i - 1)) = _
      rw [if_neg h0]
      have sh : ∀ k, k < 5 → pBook B t u v a (1868 + 5 * i + k) = B (1868 + 5 * (i - 1) + k) := fun k hk => by
        rw [at' _, if_neg (by omega), if_neg (by omega), if_neg (by omega), if_neg (by omega), if_neg (by omega), if_neg (by omega), if_neg (by omega), if_neg (by omega), if_pos (by omega), show 1868 + 5 * i + k - 5 = 1868 + 5 * (i - 1) + k by omega]
      have s0 := sh 0 (by omega)
      rw [Nat.add_zero, Nat.add_zero] at s0
      rw [s0, sh 1 (by omega), sh 2 (by omega), sh 3 (by omega), sh 4 (by omega)]
      exact f.keep (hen (i - 1) (by omega)) n1
end BKS
theorem BC.tot {G : gG} {r x : Nat} {ba : Nat → Nat} {B : Nat → Int32} {D : Nat → Nat → Int32} {s : Nat → Nat → Nat → Int64} {o : Nat → Nat → Int32} {nw en : Int32} {Z : Nat → Int64} {M M' : gM} {t u : Nat} {v : Int32} (h : BC G r ba x s (bf B D) o nw en Z M) (ht : t < 4) (hu : u < 4) (h1 : M' (ba (70 + t)) = some ((r, 70 + t), .inl (G.2.1 0, 4, .inl (clipI 4 (upd (bf B D 4 t) u v))))) (kk : ∀ z, z ≠ ba (70 + t) → M' z = M z) : BC G r ba x s (bf (upd B (2068 + 4 * t + u) v) D) o nw en Z M' := by
  have ne : ∀ i, i ≠ 2068 + 4 * t + u → upd B (2068 + 4 * t + u) v i = B i := fun i hi => if_neg hi
  have e9 : clipI 4 (upd (bf B D 4 t) u v) = clipI 4 (bf (upd B (2068 + 4 * t + u) v) D 4 t) := clipI_eq (fun i hi => by
    show (if i = u then v else bf B D 4 t i) = _
    by_cases e : i = u
    · rw [if_pos e, e]
      show v = upd B (2068 + 4 * t + u) v (2068 + 4 * t + u)
      unfold upd; rw [if_pos rfl]
    · rw [if_neg e]
      show B (2068 + 4 * t + i) = upd B (2068 + 4 * t + u) v (2068 + 4 * t + i)
      rw [ne _ (by omega)])
  rw [e9] at h1
  refine h.row (f' := bf (upd B (2068 + 4 * t + u) v) D) (j := 4) (by omega) ht h1 kk (fun j t' q' a1 a2 a3 a4 => ?_)
  have b9 := bl_b a3
  unfold bf
  by_cases c0 : j = 0
  · rw [if_pos c0, if_pos c0, ne _ (by omega)]
  rw [if_neg c0, if_neg c0]
  by_cases c1 : j = 1
  · rw [if_pos c1, if_pos c1, ne _ (by omega)]
  rw [if_neg c1, if_neg c1]
  by_cases c2 : j = 2
  · rw [if_pos c2, if_pos c2, ne _ (by omega)]
  rw [if_neg c2, if_neg c2]
  by_cases c3 : j = 3
  · rw [if_pos c3, if_pos c3]
  rw [if_neg c3, if_neg c3, ne _ (by omega)]
theorem pMany_40 {B : Nat → Int32} (h : dN (B 1867) = 40) : pMany B = dN (B 1867) - 1 := by
  unfold pMany
  rw [if_neg (by omega), h]
theorem pMany_lt {B : Nat → Int32} (h : dN (B 1867) < 40) : pMany B = dN (B 1867) := by
  unfold pMany
  rw [if_pos h]
