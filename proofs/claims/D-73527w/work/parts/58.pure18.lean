set_option maxRecDepth 100000
/-! READING: what a step of it makes of the state, and whether it is right -/
def wN (σ : mS) : Prop := ∃ n sp, mI σ 7 = nI n ∧ mI σ 6 = nI sp ∧ n ≤ sp ∧ sp ≤ 700 ∧ mA σ 1 = wdA
theorem tTok_eq {σ : mS} {n sp : Nat} (h7 : mI σ 7 = nI n) (h6 : mI σ 6 = nI sp) (h : n ≤ sp) (h2 : sp ≤ 700) : tTok σ = tTokA σ (mA σ 0) sp (pTkA (mA σ 0) sp n) := by
  unfold tTok
  rw [h7, h6, dN_nI (by omega), dN_nI (by omega)]
theorem met_tok (l : Launch) {G : gG} (hG : gOK G) {ad : Nat → Nat} {σ : mS} {M0 : gM} (h : MR G ad σ M0) (hN : wN σ) : Met l yX9_token (ws_ yX9_token cX9_token 1 none) ({ frames := 1, cells := 0, slots := 0, locals := 27 }) (gPre G M0 [.ref (ad 0)]) (gQ G (gV (fun M1 => MF G ad M0 (tTok σ) M1))) 0 0 (gA G) := by
  obtain ⟨n, sp, h7, h6, hl, hl2, hw⟩ := hN
  rw [tTok_eq h7 h6 hl hl2]
  exact met_X9_token l hG h h6 hl hl2 h7 rfl hw
/-- all but what is read stays -/
def sT (σ σ' : mS) : Prop := mA σ' = mA σ ∧ mK σ' = mK σ ∧ (∀ k, k ≠ 4 → k ≠ 5 → k ≠ 7 → k ≠ 8 → k ≠ 9 → k ≠ 10 → k ≠ 19 → mI σ' k = mI σ k)
theorem sT.rf {σ : mS} : sT σ σ := ⟨rfl, rfl, fun _ _ _ _ _ _ _ _ => rfl⟩
theorem sT.tr {σ σ' σ'' : mS} (h : sT σ σ') (h2 : sT σ' σ'') : sT σ σ'' := ⟨h2.1.trans h.1, h2.2.1.trans h.2.1, fun k a b c d e f g => (h2.2.2 k a b c d e f g).trans (h.2.2 k a b c d e f g)⟩
theorem sT.tk {σ : mS} {n k w a : Int32} : sT σ (tk σ n k w a) := ⟨rfl, rfl, fun j _ _ h7 h8 h9 h10 _ => by
  show upd (upd (upd (upd σ.1 7 n) 8 k) 9 w) 10 a j = _
  rw [pk_un h10, pk_un h9, pk_un h8, pk_un h7]⟩
theorem sT.s19 {σ : mS} {v : Int32} : sT σ (si σ 19 v) := ⟨rfl, rfl, fun j _ _ _ _ _ _ h => pk_un h⟩
theorem tTokA_ex {σ : mS} {tp : Nat → Int32} {sp a : Nat} (ha : a ≤ sp) : ∃ n k w, n ≤ sp ∧ a ≤ n ∧ (k = nI 0 ∨ a < n) ∧ (a = sp → k = nI 0) ∧ tTokA σ tp sp a = tk σ (nI n) k w (nI a) := by
  unfold tTokA
  by_cases h0 : a = sp
  · rw [if_pos h0]; exact ⟨a, nI 0, _, ha, Nat.le_refl _, Or.inl rfl, fun _ => rfl, rfl⟩
  · rw [if_neg h0]
    have hlt : a < sp := by omega
    by_cases h1 : isSm (tp a)
    · rw [if_pos h1]
      have e : pScan isSm tp sp a = pScan isSm tp sp (a + 1) := pScan_s hlt h1
      have hb := pScan_b (P := isSm) (tp := tp) (sp := sp) (n := a + 1) (by omega)
      rw [e]
      unfold pTkW
      split
      · split
        · exact ⟨_, _, _, hb.2, by omega, Or.inr (by omega), fun q => absurd q h0, rfl⟩
        · exact ⟨_, _, _, hb.2, by omega, Or.inr (by omega), fun q => absurd q h0, rfl⟩
      · exact ⟨_, _, _, hb.2, by omega, Or.inr (by omega), fun q => absurd q h0, rfl⟩
    · rw [if_neg h1]
      by_cases h2 : isDg (tp a)
      · rw [if_pos h2]
        have e : pScan isDg tp sp a = pScan isDg tp sp (a + 1) := pScan_s hlt h2
        have hb := pScan_b (P := isDg) (tp := tp) (sp := sp) (n := a + 1) (by omega)
        rw [e]
        exact ⟨_, _, _, hb.2, by omega, Or.inr (by omega), fun q => absurd q h0, rfl⟩
      · rw [if_neg h2]
        split
        · exact ⟨_, _, _, by omega, by omega, Or.inr (by omega), fun q => absurd q h0, rfl⟩
        · exact ⟨_, _, _, by omega, by omega, Or.inr (by omega), fun q => absurd q h0, rfl⟩
theorem tk7 {σ : mS} {n k w a : Int32} : mI (tk σ n k w a) 7 = n := by
  show upd (upd (upd (upd σ.1 7 n) 8 k) 9 w) 10 a 7 = n
  rw [pk_un (by omega), pk_un (by omega), pk_un (by omega), pk_us]
theorem tk8 {σ : mS} {n k w a : Int32} : mI (tk σ n k w a) 8 = k := by
  show upd (upd (upd (upd σ.1 7 n) 8 k) 9 w) 10 a 8 = k
  rw [pk_un (by omega), pk_un (by omega), pk_us]
/-- how far reading has to go -/
def mu (σ : mS) : Nat := 2 * (dN (mI σ 6) - dN (mI σ 7)) + (if mI σ 8 = nI 0 then 0 else 1)
theorem wN.tok {σ : mS} (h : wN σ) : wN (tTok σ) ∧ sT σ (tTok σ) ∧ mu (tTok σ) ≤ mu σ ∧ (¬ mI σ 8 = nI 0 → mu (tTok σ) < mu σ) := by
  obtain ⟨n, sp, h7, h6, hl, hl2, hw⟩ := h
  rw [tTok_eq h7 h6 hl hl2]
  have hb := pScan_b (P := isBl) (tp := mA σ 0) (sp := sp) (n := n) hl
  have ha : pTkA (mA σ 0) sp n ≤ sp := hb.2
  have hna : n ≤ pTkA (mA σ 0) sp n := hb.1
  obtain ⟨m, k, w, h1, h2, h3, h4, e⟩ := tTokA_ex (σ := σ) (tp := mA σ 0) ha
  rw [e]
  have h6' : mI (tk σ (nI m) k w (nI (pTkA (mA σ 0) sp n))) 6 = nI sp := by rw [← h6]; exact sT.tk.2.2 6 (by decide) (by decide) (by decide) (by decide) (by decide) (by decide) (by decide)
  have eμ : mu (tk σ (nI m) k w (nI (pTkA (mA σ 0) sp n))) = 2 * (sp - m) + (if k = nI 0 then 0 else 1) := by
    unfold mu
    rw [h6', tk7, tk8, dN_nI (by omega), dN_nI (by omega)]
  have eμ0 : mu σ = 2 * (sp - n) + (if mI σ 8 = nI 0 then 0 else 1) := by
    unfold mu
    rw [h6, h7, dN_nI (by omega), dN_nI (by omega)]
  refine ⟨⟨m, sp, tk7, h6', h1, hl2, hw⟩, sT.tk, ?_, ?_⟩
  · rw [eμ, eμ0]
    by_cases hk : k = nI 0
    · rw [if_pos hk]; omega
    · rw [if_neg hk]
      have := h3.resolve_left hk
      omega
  · intro h8
    rw [eμ, eμ0, if_neg h8]
    by_cases hk : k = nI 0
    · rw [if_pos hk]; omega
    · rw [if_neg hk]
      have := h3.resolve_left hk
      omega
theorem wN.si {σ : mS} (h : wN σ) {j : Nat} {v : Int32} (h6 : j ≠ 6) (h7 : j ≠ 7) : wN (si σ j v) := by
  obtain ⟨n, sp, e7, e6, hl, hl2, hw⟩ := h
  exact ⟨n, sp, (pk_un (Ne.symm h7)).trans e7, (pk_un (Ne.symm h6)).trans e6, hl, hl2, hw⟩
theorem wN.sa {σ : mS} (h : wN σ) {a i : Nat} {v : Int32} (h1 : a ≠ 1) : wN (sa σ a i v) := by
  obtain ⟨n, sp, e7, e6, hl, hl2, hw⟩ := h
  refine ⟨n, sp, e7, e6, hl, hl2, ?_⟩
  show (if 1 = a then _ else mA σ 1) = wdA
  rw [if_neg (Ne.symm h1)]; exact hw
def gWr (σ : mS) (k : Nat) : mS := si (si σ 4 (nI k)) 5 (mI σ 10)
def gNum (lo hi : Int32) (σ : mS) : Bool × mS := if mI σ 8 = nI 3 then (if iI (mI σ 9) lo hi then (true, tTok (si σ 19 (mI σ 9))) else (false, gWr σ 2)) else (false, gWr σ 1)
def gB (p : Bool × mS) (f : mS → Bool × mS) : Bool × mS := if p.1 = true then f p.2 else p
theorem gB_t {p : Bool × mS} {f : mS → Bool × mS} {s : mS} (h : p = (true, s)) : gB p f = f s := by subst h; rfl
theorem gB_f {p : Bool × mS} {f : mS → Bool × mS} {s : mS} (h : p = (false, s)) : gB p f = (false, s) := by subst h; rfl
def gP (G : gG) (ad : Nat → Nat) (M0 : gM) (p : Bool × mS) (r : Int32) (M1 : gM) : Prop := MF G ad M0 p.2 M1 ∧ (if p.1 = true then nI 1 else nI 0) = r
section GP
variable {G : gG} {ad : Nat → Nat} {M0 M1 : gM} {p : Bool × mS} {r : Int32} {s : mS}
theorem gP_t (h : MF G ad M0 s M1) (e : p = (true, s)) : gP G ad M0 p (nI 1) M1 := by subst e; exact ⟨h, rfl⟩
theorem gP_f (h : MF G ad M0 s M1) (e : p = (false, s)) : gP G ad M0 p (nI 0) M1 := by subst e; exact ⟨h, rfl⟩
theorem gP_c (h : gP G ad M0 p r M1) : (∃ s, p = (true, s) ∧ MF G ad M0 s M1 ∧ nI 1 = r) ∨ (∃ s, p = (false, s) ∧ MF G ad M0 s M1 ∧ nI 0 = r) := by
  obtain ⟨q, s⟩ := p
  cases q with
  | true => exact Or.inl ⟨s, rfl, h.1, h.2⟩
  | false => exact Or.inr ⟨s, rfl, h.1, h.2⟩
end GP
