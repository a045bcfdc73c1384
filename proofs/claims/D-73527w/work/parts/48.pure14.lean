set_option maxRecDepth 100000
def tBack (σ : mS) (u : Nat) : mS := sb (si σ 22 (nI (u - 1))) 0 (mK σ (3 + (u - 1)))
def tUndo (σ : mS) (u : Nat) : mS := if u = 0 then σ else tBack σ u
def qUndo (u : Nat) : Int32 := if u = 0 then (-1) else nI (u - 1)
def tKeep (σ : mS) : mS := si (sb σ 2 (mK σ 0)) 23 (nI 1)
def tImg (σ : mS) : mS := si (sb σ 0 (mK σ 2)) 22 (nI 0)
def tRet (σ : mS) : mS := if mI σ 23 = 0 then σ else tImg σ
def qRet (σ : mS) : Int32 := if mI σ 23 = 0 then (-1) else mK σ 2 0
theorem sQ.sI {σ σ' : mS} {j : Nat} {v : Int32} (h : sQ σ σ') : sQ (si σ j v) (si σ' j v) := ⟨h.1, h.2.1, fun k h2 h27 => by
  show upd (mI σ') j v k = upd (mI σ) j v k
  unfold upd
  by_cases e : k = j
  · rw [if_pos e, if_pos e]
  · rw [if_neg e, if_neg e]; exact h.2.2 k h2 h27⟩
theorem sQ.bk {σ σ' : mS} {u : Nat} (h : sQ σ σ') : sQ (tBack σ u) (tBack σ' u) := by
  unfold tBack
  rw [h.2.1 (3 + (u - 1)) (by omega)]
  exact h.sI.sb
theorem sQ.kp {σ σ' : mS} (h : sQ σ σ') : sQ (tKeep σ) (tKeep σ') := by
  unfold tKeep
  rw [h.2.1 0 (by omega)]
  exact h.sb.sI
theorem sQ.im {σ σ' : mS} (h : sQ σ σ') : sQ (tImg σ) (tImg σ') := by
  unfold tImg
  rw [h.2.1 2 (by omega)]
  exact h.sb.sI
theorem kp_sb (σ : mS) : sb (tKeep σ) 0 (mK σ 0) = tKeep σ := sb_self (tKeep σ) 0
theorem im_sb (σ : mS) : sb (tImg σ) 0 (mK σ 2) = tImg σ := sb_self (tImg σ) 0
/-- what is tried in bank 1 isn't seen -/
theorem sQ_b1 {σ σ1 σ3 : mS} {B X : Nat → Int32} (h1 : sQ σ σ1) (h3 : sE (si (sb σ1 0 B) 21 (nI 1)) σ3) (hb : mI σ 21 = nI 0) : sQ (sb σ 0 B) (si (sb σ3 1 X) 21 (nI 0)) := by
  refine ⟨h3.1.trans h1.1, fun c hc => ?_, fun k h2 h27 => ?_⟩
  · show (if c = 1 then X else mK σ3 c) = (if c = 0 then B else mK σ c)
    rw [if_neg hc, h3.2.1]
    show (if c = 0 then B else mK σ1 c) = _
    by_cases e : c = 0
    · rw [if_pos e, if_pos e]
    · rw [if_neg e, if_neg e]; exact h1.2.1 c hc
  · show upd (mI σ3) 21 (nI 0) k = mI σ k
    by_cases e : k = 21
    · subst e; rw [pk_us, hb]
    · rw [pk_un e, h3.2.2.1 k h27]
      show upd (mI σ1) 21 (nI 1) k = mI σ k
      rw [pk_un e]; exact h1.2.2 k h2 h27
theorem gq3 {G : gG} {ad : Nat → Nat} {M0 M : gM} {σ σ' : mS} {x r : Int32} (h : MF G ad M0 σ' M) (hs : sQ σ σ') (hr : x = r) : ∃ σ', sQ σ σ' ∧ MF G ad M0 σ' M ∧ x = r := ⟨σ', hs, h, hr⟩
def qTried (A : Nat → Nat → Int32) (T : Nat) (B : Nat → Int32) (n t s : Int32) : Int32 := if iI n (nI 1) (nI 16) then (if iT T t then (if iI s (nI 0) (nI 3) then (if pNow B + dN n ≤ 63 then pClN A T B (dN n) (2068 + 4 * dN t + dN s) - B (2068 + 4 * dN t + dN s) else (-999999)) else (-999999)) else (-999999)) else (-999999)
def pNx (d : Int64) : Int64 := (d * 1103515245 + 12345) &&& 2147483647
def pDv (d : Int64) (m : Int32) : Int32 := (d / 65536 - d / 65536 / m.toInt64 * m.toInt64).toInt32
def pTot (B : Nat → Int32) (t : Nat) : Int32 := B (2068 + 4 * t) + B (2068 + 4 * t + 1) + B (2068 + 4 * t + 2) + B (2068 + 4 * t + 3)
def pChB (B : Nat → Int32) (t w : Nat) (d : Int64) : Nat → Int32 := pAdd (pAdd B (1 + 320 * t + 5 * w + 0) (pDv (pNx d) (nI 1000))) (1 + 320 * t + 5 * w + 1) (pDv (pNx (pNx d)) (nI 1000))
def pChD (d : Int64) : Nat → Int64
  | 0 => d
  | n + 1 => pNx (pNx (pChD d n))
def pCh (A : Nat → Nat → Int32) (T : Nat) (B : Nat → Int32) (t : Nat) (d : Int64) : Nat → Nat → Int32
  | 0 => B
  | n + 1 => pClose A T (pChB (pCh A T B t d n) t (pNow B + n) (pChD d n))
theorem wB_ch {T : Nat} {A : Nat → Nat → Int32} (hw : wT T A) {B : Nat → Int32} (h : wB T B) {t : Nat} (ht : t < 4) {d : Int64} : ∀ n, pNow B + n ≤ 63 → wB T (pCh A T B t d n) ∧ pNow (pCh A T B t d n) = pNow B + n
  | 0, _ => ⟨h, rfl⟩
  | n + 1, hn => by
    obtain ⟨h1, h2⟩ := wB_ch hw h ht (d := d) n (by omega)
    have e0 : ∀ X : Nat → Int32, ∀ d, pChB X t (pNow B + n) d 0 = X 0 := fun X d => by unfold pChB; rw [pAdd_ne (by omega), pAdd_ne (by omega)]
    have ep : pNow (pChB (pCh A T B t d n) t (pNow B + n) (pChD d n)) = pNow (pCh A T B t d n) := by show dN _ = dN _; rw [e0]
    have hb : wB T (pChB (pCh A T B t d n) t (pNow B + n) (pChD d n)) := by
      have ey : pYr (pChB (pCh A T B t d n) t (pNow B + n) (pChD d n)) = pYr (pCh A T B t d n) := by unfold pYr; rw [ep]
      show wBY T (fun _ => pYr _) _
      rw [ey]
      exact (wBY.add (wBY.add h1 (by omega)) (by omega))
    obtain ⟨h3, h4⟩ := wB_close hw hb (by rw [ep]; omega)
    exact ⟨h3, by show pNow (pClose A T _) = _; rw [h4, ep]; omega⟩
def qChance (A : Nat → Nat → Int32) (T : Nat) (B : Nat → Int32) (sd n t : Int32) : Int32 := if sd < (-1) then (-999999) else (if iI n (nI 1) (nI 8) then (if iT T t then (if pNow B + dN n ≤ 63 then pTot (pCh A T B (dN t) (if sd < 0 then A 6 3 else sd).toInt64 (dN n)) (dN t) - pTot B (dN t) else (-999999)) else (-999999)) else (-999999))
