/-! WHAT THE REFERENCE COMPUTES, in plain Lean: w its world, hs its head -/
set_option maxRecDepth 100000
section Rows
variable {E : gE} {I : gI} {d rc rs pc : Nat} {lv : List (Option Value)} {st : List Value} {h : gH} {Q : Outcome → gH → Prop} {a : Int}
theorem g_tsw {dflt lo hi : Int} {offs : Array Int} {len : Nat} (hd : decode I.2.1 pc = .ok (.tableswitch dflt lo hi offs, len)) (ha : in32 a) (kd : (a < lo ∨ hi < a) → ∃ t : Nat, (pc : Int) + dflt = (t : Int) ∧ GO E I d rc rs t lv st h Q) (ki : ∀ j : Nat, a = lo + j → a ≤ hi → ∃ (off : Int) (t : Nat), offs[j]? = some off ∧ (pc : Int) + off = (t : Int) ∧ GO E I d rc rs t lv st h Q) : GO E I d rc rs pc lv (vI a :: st) h Q := by
  by_cases hx : a < lo ∨ hi < a
  · obtain ⟨t, ht, kk⟩ := kd hx
    exact g_tswOut hd ha hx ht kk
  · obtain ⟨off, t, ho, ht, kk⟩ := ki (a - lo).toNat (by omega) (by omega)
    exact g_tswIn hd ha (by omega) (by omega) ho ht kk
end Rows
def clI (v : Int) : Int := max 0 (min 1000 v)
/-- a link's place in the head -/
def lkA (s a b : Int) : Int := if s = 3 then 1728 + 12 * a + b else 576 * s + 24 * a + b
/-- what a part of a law comes to -/
def partV (w hs : Int → Int) (k has ea : Int) : Int :=
  if w (220 + 3 * k + 1) = 0 then w (220 + 3 * k + 2) else if w (220 + 3 * k + 1) = 1 then has else if w (220 + 3 * k + 1) = 2 then 1000 - has else if w (220 + 3 * k + 1) = 3 then ea else if w (220 + 3 * k + 1) = 4 then hs 2017 else (hs 2016).tmod 24
/-- a term: parts multiplied and divided, from k on -/
def tmL (w hs : Int → Int) (e has ea : Int) : Nat → Int → Int → Option (Int × Int)
  | 0, k, t => some (k, t)
  | n + 1, k, t =>
    if k < e ∧ 3 ≤ w (220 + 3 * k) then
      if w (220 + 3 * k) ≠ 3 ∧ partV w hs k has ea = 0 then none
      else if -1000000000 ≤ (if w (220 + 3 * k) = 3 then t * partV w hs k has ea else t.tdiv (partV w hs k has ea)) ∧ (if w (220 + 3 * k) = 3 then t * partV w hs k has ea else t.tdiv (partV w hs k has ea)) ≤ 1000000000
        then tmL w hs e has ea n (k + 1) (if w (220 + 3 * k) = 3 then t * partV w hs k has ea else t.tdiv (partV w hs k has ea))
        else none
    else some (k, t)
def smL (w hs : Int → Int) (e has ea : Int) : Nat → Int → Int → Int
  | 0, _, s => s
  | n + 1, k, s =>
    if k < e then
      match tmL w hs e has ea (e - (k + 1)).toNat (k + 1) (partV w hs k has ea) with
      | none => 0
      | some (k', t) =>
        if -1000000000 ≤ (if w (220 + 3 * k) = 2 then s - t else s + t) ∧ (if w (220 + 3 * k) = 2 then s - t else s + t) ≤ 1000000000
          then smL w hs e has ea n k' (if w (220 + 3 * k) = 2 then s - t else s + t)
          else 0
    else s
def comes (w hs : Int → Int) (kl kn law has ea : Int) : Int :=
  if law = kl then kn else smL w hs (w (202 + 2 * law) + w (202 + 2 * law + 1)) has ea (w (202 + 2 * law + 1)).toNat (w (202 + 2 * law)) 0
def mChg (hs : Int → Int) (k v : Int) : Int → Int := upI hs k (clI (hs k + v))
def mGrow (w hs : Int → Int) (kl kn s a b e : Int) : Int → Int := mChg hs (lkA s a b) (comes w hs kl kn s (hs (lkA s a b)) (w (10 + e)))
/-- a head in order: strengths, the hour and how tired it is at most B -/
def HSok (B : Int) (hs : Int → Int) : Prop := (∀ k, 0 ≤ k → k < 2016 → 0 ≤ hs k ∧ hs k ≤ 1000) ∧ (0 ≤ hs 2016 ∧ hs 2016 ≤ B) ∧ (0 ≤ hs 2017 ∧ hs 2017 ≤ B)
/-- a world in order -/
def WFw (w : Int → Int) : Prop :=
  (0 ≤ w 1 ∧ w 1 ≤ 24) ∧ (0 ≤ w 2 ∧ w 2 ≤ 12) ∧ (0 ≤ w 3 ∧ w 3 ≤ 300) ∧ (0 ≤ w 4 ∧ w 4 ≤ 5000) ∧ (∀ s, 0 ≤ s → s < 4 → 0 ≤ w (5 + s) ∧ w (5 + s) ≤ 100) ∧ (∀ t, 0 ≤ t → t < 24 → 0 ≤ w (10 + t) ∧ w (10 + t) ≤ 9) ∧
  (∀ r, 0 ≤ r → r < w 2 → (2 ≤ w (34 + 14 * r) ∧ w (34 + 14 * r) ≤ 12) ∧ ∀ i, 0 ≤ i → i < w (34 + 14 * r) → 0 ≤ w (34 + 14 * r + 1 + i) ∧ w (34 + 14 * r + 1 + i) < w 1) ∧
  (∀ l, 0 ≤ l → l < 9 → 0 ≤ w (202 + 2 * l) ∧ 0 ≤ w (202 + 2 * l + 1) ∧ w (202 + 2 * l) + w (202 + 2 * l + 1) ≤ 300) ∧
  (∀ k, 0 ≤ k → k < 300 → (0 ≤ w (220 + 3 * k) ∧ w (220 + 3 * k) ≤ 4) ∧ (0 ≤ w (220 + 3 * k + 1) ∧ w (220 + 3 * k + 1) ≤ 5) ∧ (0 ≤ w (220 + 3 * k + 2) ∧ w (220 + 3 * k + 2) ≤ 1000))
theorem WFw.parts {w : Int → Int} (h : WFw w) {k : Int} (h0 : 0 ≤ k) (h1 : k < 300) : (0 ≤ w (220 + 3 * k) ∧ w (220 + 3 * k) ≤ 4) ∧ (0 ≤ w (220 + 3 * k + 1) ∧ w (220 + 3 * k + 1) ≤ 5) ∧ (0 ≤ w (220 + 3 * k + 2) ∧ w (220 + 3 * k + 2) ≤ 1000) := h.2.2.2.2.2.2.2.2 k h0 h1
theorem WFw.law {w : Int → Int} (h : WFw w) {l : Int} (h0 : 0 ≤ l) (h1 : l < 9) : 0 ≤ w (202 + 2 * l) ∧ 0 ≤ w (202 + 2 * l + 1) ∧ w (202 + 2 * l) + w (202 + 2 * l + 1) ≤ 300 := h.2.2.2.2.2.2.2.1 l h0 h1
theorem WFw.row {w : Int → Int} (h : WFw w) {r : Int} (h0 : 0 ≤ r) (h1 : r < w 2) : 2 ≤ w (34 + 14 * r) ∧ w (34 + 14 * r) ≤ 12 := (h.2.2.2.2.2.2.1 r h0 h1).1
theorem WFw.thing {w : Int → Int} (h : WFw w) {r i : Int} (h0 : 0 ≤ r) (h1 : r < w 2) (h2 : 0 ≤ i) (h3 : i < w (34 + 14 * r)) : 0 ≤ w (34 + 14 * r + 1 + i) ∧ w (34 + 14 * r + 1 + i) < w 1 := (h.2.2.2.2.2.2.1 r h0 h1).2 i h2 h3
theorem WFw.easy {w : Int → Int} (h : WFw w) {t : Int} (h0 : 0 ≤ t) (h1 : t < 24) : 0 ≤ w (10 + t) ∧ w (10 + t) ≤ 9 := h.2.2.2.2.2.1 t h0 h1
theorem WFw.lean {w : Int → Int} (h : WFw w) {s : Int} (h0 : 0 ≤ s) (h1 : s < 4) : 0 ≤ w (5 + s) ∧ w (5 + s) ≤ 100 := h.2.2.2.2.1 s h0 h1
theorem partV_in {w hs : Int → Int} {k has ea B : Int} (hw : WFw w) (hh : HSok B hs) (hB : B ≤ 1000000000) (h0 : 0 ≤ k) (h1 : k < 300) (ha : 0 ≤ has ∧ has ≤ 1000) (he : 0 ≤ ea ∧ ea ≤ 9) : 0 ≤ partV w hs k has ea ∧ partV w hs k has ea ≤ 1000000000 := by
  have hp := hw.parts h0 h1
  have ht := hh.2.2
  have ho := hh.2.1
  unfold partV
  repeat' split
  all_goals first | omega | skip
  rw [Int.tmod_eq_emod_of_nonneg ho.1]
  omega
theorem tmL_stop {w hs : Int → Int} {e has ea k t : Int} (h : ¬ (k < e ∧ 3 ≤ w (220 + 3 * k))) (n : Nat) : tmL w hs e has ea n k t = some (k, t) := by
  cases n with
  | zero => rfl
  | succ n => exact if_neg h
theorem clI_in (v : Int) : 0 ≤ clI v ∧ clI v ≤ 1000 := by unfold clI; omega
theorem mul_in {t b : Int} (ht : -1000000000 ≤ t ∧ t ≤ 1000000000) (hb : -1000000000 ≤ b ∧ b ≤ 1000000000) : -1000000000000000000 ≤ t * b ∧ t * b ≤ 1000000000000000000 := by
  have h1 : t.natAbs ≤ 1000000000 := by omega
  have h2 : b.natAbs ≤ 1000000000 := by omega
  have h3 : (t * b).natAbs ≤ 1000000000 * 1000000000 := by rw [Int.natAbs_mul]; exact Nat.mul_le_mul h1 h2
  omega
theorem tdiv_in {t b : Int} (ht : -1000000000 ≤ t ∧ t ≤ 1000000000) : -1000000000 ≤ t.tdiv b ∧ t.tdiv b ≤ 1000000000 := by
  have h1 : (t.tdiv b).natAbs ≤ t.natAbs := by rw [Int.natAbs_tdiv]; exact Nat.div_le_self _ _
  omega
