/-! WHAT THE REFERENCE COMPUTES: support, slips, learning, copies -/
set_option maxRecDepth 100000
theorem mul100 {x y : Int} (hx : 0 ≤ x ∧ x ≤ 100) (hy : 0 ≤ y ∧ y ≤ 1000) : 0 ≤ x * y ∧ x * y ≤ 100000 := by
  refine ⟨Int.mul_nonneg hx.1 hy.1, ?_⟩
  have h1 : x * y ≤ 100 * y := Int.mul_le_mul_of_nonneg_right hx.2 hy.1
  omega
/-- a thing's support, in hundredths -/
def mSum (w hs : Int → Int) (r i : Int) : Int :=
  if 0 < i then w 8 * hs (lkA 3 (thg w r i) i) + w (5 + 0) * hs (lkA 0 (thg w r (i - 1)) (thg w r i)) + w (5 + (0 + 1)) * hs (lkA (0 + 1) (thg w r (i - 1)) (thg w r i)) + w (5 + (0 + 1 + 1)) * hs (lkA (0 + 1 + 1) (thg w r (i - 1)) (thg w r i))
  else w 8 * hs (lkA 3 (thg w r i) i)
def mSup (w hs : Int → Int) (r i : Int) : Int := (mSum w hs r i).tdiv 100
theorem mSum_in {B : Int} {w hs : Int → Int} {r i : Int} (hw : WFw w) (hh : HSok B hs) (hr : 0 ≤ r) (hr1 : r < w 2) (hi : 0 ≤ i) (hi1 : i < w (34 + 14 * r)) : 0 ≤ mSum w hs r i ∧ mSum w hs r i ≤ 400000 := by
  have h1 := hw.1
  have h2 := hw.row hr hr1
  have tb := hw.thing hr hr1 hi hi1
  have k3 := lk_in (s := 3) (a := thg w r i) (b := i) (by omega) (by omega) tb.1 (by unfold thg; omega) hi (by omega) (by omega)
  have m3 := mul100 (hw.lean (s := 3) (by omega) (by omega)) (hh.1 _ k3.1 k3.2)
  have e8 : (5 + 3 : Int) = 8 := by decide
  rw [e8] at m3
  unfold mSum
  split
  · have ta := hw.thing hr hr1 (i := i - 1) (by omega) (by omega)
    have k0 := lk_in (s := 0) (a := thg w r (i - 1)) (b := thg w r i) (by omega) (by omega) ta.1 (by unfold thg; omega) tb.1 (by unfold thg; omega) (by omega)
    have k1 := lk_in (s := 0 + 1) (a := thg w r (i - 1)) (b := thg w r i) (by omega) (by omega) ta.1 (by unfold thg; omega) tb.1 (by unfold thg; omega) (by omega)
    have k2 := lk_in (s := 0 + 1 + 1) (a := thg w r (i - 1)) (b := thg w r i) (by omega) (by omega) ta.1 (by unfold thg; omega) tb.1 (by unfold thg; omega) (by omega)
    have m0 := mul100 (hw.lean (s := 0) (by omega) (by omega)) (hh.1 _ k0.1 k0.2)
    have m1 := mul100 (hw.lean (s := 0 + 1) (by omega) (by omega)) (hh.1 _ k1.1 k1.2)
    have m2 := mul100 (hw.lean (s := 0 + 1 + 1) (by omega) (by omega)) (hh.1 _ k2.1 k2.2)
    omega
  · omega
theorem mSup_in {B : Int} {w hs : Int → Int} {r i : Int} (hw : WFw w) (hh : HSok B hs) (hr : 0 ≤ r) (hr1 : r < w 2) (hi : 0 ≤ i) (hi1 : i < w (34 + 14 * r)) : 0 ≤ mSup w hs r i ∧ mSup w hs r i ≤ 4000 := by
  have h := mSum_in hw hh hr hr1 hi hi1
  unfold mSup
  rw [Int.tdiv_eq_ediv_of_nonneg h.1]
  omega
/-- the slips, bit by bit -/
def slL (w hs : Int → Int) (r : Int) : Nat → Int → Int32 → Int32
  | 0, _, z => z
  | n + 1, i, z => slL w hs r n (i + 1) (z ||| (if mSup w hs r i < w 4 then Int32.ofInt 1 <<< (Int32.ofInt i &&& 31) else Int32.ofInt 0))
def mSlips (w hs : Int → Int) (r : Int) : Int := (slL w hs r (w (34 + 14 * r)).toNat 0 (Int32.ofInt 0)).toInt
def mLrnL (w : Int → Int) (kl kn r : Int) : Nat → Int → Int → (Int → Int) → Int × (Int → Int)
  | 0, _, _, hs => (-1, hs)
  | f + 1, n, g, hs =>
    if (if mSlips w (mReads w hs kl kn r) r = 0 then g + 1 else 0) = 2 then (n, mReads w hs kl kn r)
    else mLrnL w kl kn r f (n + 1) (if mSlips w (mReads w hs kl kn r) r = 0 then g + 1 else 0) (mReads w hs kl kn r)
def mLearns (w hs : Int → Int) (kl kn r : Int) : Int × (Int → Int) := mLrnL w kl kn r 40 1 0 hs
theorem mLrnL_ok {w : Int → Int} {kl kn r : Int} (hw : WFw w) (hr : 0 ≤ r) (hr1 : r < w 2) : ∀ (f : Nat) (n g B : Int) (hs : Int → Int), HSok B hs → 1 ≤ n → n + f = 41 → HSok (B + f) (mLrnL w kl kn r f n g hs).2 ∧ ((mLrnL w kl kn r f n g hs).1 = -1 ∨ (n ≤ (mLrnL w kl kn r f n g hs).1 ∧ (mLrnL w kl kn r f n g hs).1 ≤ 40)) := by
  intro f
  induction f with
  | zero => intro n g B hs h _ _; exact ⟨h.mono (by omega), Or.inl rfl⟩
  | succ f ih =>
    intro n g B hs h h1 h2
    have g1 := h.reads (kl := kl) (kn := kn) hw hr hr1
    unfold mLrnL
    generalize (if mSlips w (mReads w hs kl kn r) r = 0 then g + 1 else 0) = u
    by_cases z : u = 2
    · rw [if_pos z]
      exact ⟨g1.mono (by omega), Or.inr ⟨by show n ≤ n; omega, by show n ≤ 40; omega⟩⟩
    · rw [if_neg z]
      have := ih (n + 1) u (B + 1) _ g1 (by omega) (by omega)
      exact ⟨this.1.mono (by omega), by omega⟩
theorem mLearns_ok {B : Int} {w hs : Int → Int} {kl kn r : Int} (hw : WFw w) (hr : 0 ≤ r) (hr1 : r < w 2) (h : HSok B hs) : HSok (B + 40) (mLearns w hs kl kn r).2 ∧ ((mLearns w hs kl kn r).1 = -1 ∨ (1 ≤ (mLearns w hs kl kn r).1 ∧ (mLearns w hs kl kn r).1 ≤ 40)) := by
  have := mLrnL_ok (kl := kl) (kn := kn) hw hr hr1 40 1 0 B hs h (by omega) (by omega)
  exact this
/-- n places of src from sO on, laid into dst from dO on -/
def cpyI (dst src : Int → Int) (dO sO n : Int) : Int → Int := fun j => if dO ≤ j ∧ j < dO + n then src (sO + (j - dO)) else dst j
theorem cpyI_0 {dst src : Int → Int} {dO sO : Int} : cpyI dst src dO sO 0 = dst := funext fun j => if_neg (by omega)
theorem cpyI_s {dst src : Int → Int} {dO sO n : Int} (h : 0 ≤ n) : upI (cpyI dst src dO sO n) (dO + n) (src (sO + n)) = cpyI dst src dO sO (n + 1) := by
  funext j
  by_cases e : j = dO + n
  · subst e
    rw [upI_at]
    unfold cpyI
    rw [if_pos (by omega), show sO + (dO + n - dO) = sO + n by omega]
  · rw [upI_ne e]
    unfold cpyI
    by_cases z : dO ≤ j ∧ j < dO + n
    · rw [if_pos z, if_pos (by omega)]
    · rw [if_neg z, if_neg (by omega)]
theorem cpyI_in {dst src : Int → Int} {dO sO n j : Int} (h : dO ≤ j) (h2 : j < dO + n) : cpyI dst src dO sO n j = src (sO + (j - dO)) := if_pos ⟨h, h2⟩
theorem cpyI_out {dst src : Int → Int} {dO sO n j : Int} (h : j < dO ∨ dO + n ≤ j) : cpyI dst src dO sO n j = dst j := if_neg (by omega)
