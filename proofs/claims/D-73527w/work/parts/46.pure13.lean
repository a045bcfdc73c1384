set_option maxRecDepth 100000
theorem un_sb (σ : mS) (u : Nat) (B : Nat → Int32) : sb (tUn (sb σ 0 B) u) 0 B = tUn (sb σ 0 B) u := by
  have q := sb_self (tUn (sb σ 0 B) u) 0
  rwa [mK_un0, mK_sb] at q
section GW
variable {G : gG} {ad : Nat → Nat} {M0 M : gM} {σ σ1 σ2 : mS} {u : Nat} {B B' : Nat → Int32} {r : Int32} {q : Option (Nat → Int32) × Int32}
theorem gw_y (h : MF G ad M0 (sb σ2 0 B') M) (h2 : sQ (tUn (sb σ1 0 B) u) σ2) (h1 : sQ σ σ1) (hq : q = (some B', r)) : ∃ σ', sQ (tW σ u B q.1) σ' ∧ MF G ad M0 σ' M ∧ q.2 = r := by
  subst hq
  exact ⟨_, (h1.sb.un.tr h2).sb, h, rfl⟩
theorem gw_n (h : MF G ad M0 (sb σ1 0 B) M) (h1 : sQ σ σ1) (hq : q = (none, r)) : ∃ σ', sQ (tW σ u B q.1) σ' ∧ MF G ad M0 σ' M ∧ q.2 = r := by
  subst hq
  exact ⟨_, h1.sb, h, rfl⟩
end GW
theorem iI_m2 {q : Int32} {a w : Nat} (hw : w < 64) (ha : a < 64) (h : iI q (nI a) (nI w - nI 1)) : ∃ n, q = nI n ∧ a ≤ n ∧ n < w := by
  have h1 := Int32.le_iff_toInt_le.mp h.1
  have h2 := Int32.le_iff_toInt_le.mp h.2
  have e : (nI w - nI 1).toInt = (w : Int) - 1 := by
    rcases Nat.eq_zero_or_pos w with rfl | hp
    · decide +kernel
    · rw [pk_sub (by omega), nI_toInt (by omega)]; omega
  rw [e] at h2
  rw [nI_toInt (by omega)] at h1
  refine ⟨q.toInt.toNat, ?_, by omega, by omega⟩
  apply Int32.toInt_inj.mp
  rw [nI_toInt (by omega)]
  omega
abbrev oB := Option (Nat → Int32) × Int32
def qSale (T : Nat) (B : Nat → Int32) (t k x : Int32) : oB := if iT T t then (if iI k (nI 0) (nI 1) then (if iI x (nI 1) (nI 99999) then (some (pAdd B (1 + 320 * (dN t) + 5 * (pNow B) + (dN k)) x), pAdd B (1 + 320 * (dN t) + 5 * (pNow B) + (dN k)) x (1 + 320 * (dN t) + 5 * (pNow B) + (dN k))) else (none, -1)) else (none, -1)) else (none, -1)
def qBuy (T : Nat) (B : Nat → Int32) (t k x : Int32) : oB := if iT T t then (if iI k (nI 0) (nI 2) then (if iI x (nI 1) (nI 9999) then (some (pAdd B (1 + 320 * (dN t) + 5 * (pNow B) + (2 + dN k)) x), pAdd B (1 + 320 * (dN t) + 5 * (pNow B) + (2 + dN k)) x (1 + 320 * (dN t) + 5 * (pNow B) + (2 + dN k))) else (none, -1)) else (none, -1)) else (none, -1)
def qLate (T : Nat) (B : Nat → Int32) (t q k x : Int32) : oB := if iT T t then (if iI q (nI (4 * (pNow B / 4))) (nI (pNow B) - nI 1) then (if iI k (nI 0) (nI 4) then (if iI x (nI 1) (nI 9999) then (some (pAdd B (1 + 320 * (dN t) + 5 * (dN q) + (dN k)) x), pAdd B (1 + 320 * (dN t) + 5 * (dN q) + (dN k)) x (1 + 320 * (dN t) + 5 * (dN q) + (dN k))) else (none, -1)) else (none, -1)) else (none, -1)) else (none, -1)
def qHds (T : Nat) (B : Nat → Int32) (t own whl : Int32) : oB := if iT T t then (if iI whl (nI 0) (nI 999) then (if iI own (nI 0) whl then (some (upd (upd B (1281 + 2 * dN t) own) (1281 + 2 * dN t + 1) whl), nI 1) else (none, nI 0)) else (none, nI 0)) else (none, nI 0)
def qAcq (T : Nat) (B : Nat → Int32) (t k tax span : Int32) : oB := if iT T t then (if iI k (nI 0) (nI 2) then (if iI tax (nI 1) (nI 99999) then (if span = nI 5 then (if dN (B 1865) = 8 then (none, -2) else (some (pAcq B (dN t) (dN k) tax span), nI (dN (B 1865)))) else if span = nI 10 then (if dN (B 1865) = 8 then (none, -2) else (some (pAcq B (dN t) (dN k) tax span), nI (dN (B 1865)))) else (none, -1)) else (none, -1)) else (none, -1)) else (none, -1)
def qUse (B : Nat → Int32) (a k : Int32) : oB := if iA B a then (if iI k (nI 0) (nI 2) then (if iG B (dN a) then (none, nI 0) else (if pNow B / 4 - dN (B (2084 + 48 * (dN a) + 5)) / 4 = 0 then (none, nI 0) else (some (upd B (2084 + 48 * (dN a) + 2) k), nI 1))) else (none, nI 0)) else (none, nI 0)
def pSell (B : Nat → Int32) (a k : Nat) (cap : Int32) : oB := if iG B a then (none, -2) else (some (upd (upd B (2084 + 48 * a + 7) (nI (k + 1))) (2084 + 48 * a + 8) cap), pBeh B a)
def qSell (B : Nat → Int32) (a k cap : Int32) : oB := if iA B a then (if iI k (nI 0) (nI 2) then (if dN k = 2 then (if iI cap (-1) (-1) then pSell B (dN a) (dN k) cap else (none, -1)) else (if iI cap (-1) (nI 99999) then pSell B (dN a) (dN k) cap else (none, -1))) else (none, -1)) else (none, -1)
def qHand (T : Nat) (B : Nat → Int32) (a t : Int32) : oB := if iA B a then (if iT T t then (if iG B (dN a) then (none, -2) else (some (upd B (2084 + 48 * (dN a) + 1) t), B (2084 + 48 * (dN a) + 1))) else (none, -1)) else (none, -1)
def pClN (A : Nat → Nat → Int32) (T : Nat) (B : Nat → Int32) : Nat → Nat → Int32
  | 0 => B
  | n + 1 => pClose A T (pClN A T B n)
theorem wB_clN {T : Nat} {A : Nat → Nat → Int32} (hw : wT T A) {B : Nat → Int32} (h : wB T B) : ∀ n, pNow B + n ≤ 63 → wB T (pClN A T B n) ∧ pNow (pClN A T B n) = pNow B + n
  | 0, _ => ⟨h, rfl⟩
  | n + 1, hn => by
    obtain ⟨h1, h2⟩ := wB_clN hw h n (by omega)
    obtain ⟨h3, h4⟩ := wB_close hw h1 (by omega)
    exact ⟨h3, by show pNow (pClose A T (pClN A T B n)) = _; omega⟩
def qClose (A : Nat → Nat → Int32) (T : Nat) (B : Nat → Int32) (n : Int32) : oB := if iI n (nI 1) (nI 16) then (if pNow B + dN n ≤ 63 then (some (pClN A T B (dN n)), pClN A T B (dN n) 1866 - B 1866) else (none, -2)) else (none, -1)
