/-! WHAT THE REFERENCE COMPUTES: readings, hours -/
set_option maxRecDepth 100000
theorem GO.heapx {E : gE} {I : gI} {d rc rs pc : Nat} {lv : List (Option Value)} {st : List Value} {h h' : gH} {Q : Outcome → gH → Prop} (hx : ∀ H, gRel E h H → gRel E h' H) (kk : GO E I d rc rs pc lv st h' Q) : GO E I d rc rs pc lv st h Q := by
  intro p l e R s m args below meth c H locs k n ls hc a1 a2 a3 a4 hR hL hl
  exact kk p l e R s m args below meth c H locs k n ls hc a1 a2 a3 a4 (hx H hR) hL hl
theorem smL_in (w hs : Int → Int) (e has ea : Int) : ∀ (n : Nat) (k s : Int), (-1000000000 ≤ s ∧ s ≤ 1000000000) → -1000000000 ≤ smL w hs e has ea n k s ∧ smL w hs e has ea n k s ≤ 1000000000 := by
  intro n
  induction n with
  | zero => intro k s h; exact h
  | succ n ih =>
    intro k s h
    unfold smL
    split
    · split
      · omega
      · rename_i k' t' _
        generalize (if w (220 + 3 * k) = 2 then s - t' else s + t') = u
        by_cases z : -1000000000 ≤ u ∧ u ≤ 1000000000
        · rw [if_pos z]; exact ih _ _ z
        · rw [if_neg z]; omega
    · exact h
theorem comes_in {w hs : Int → Int} {kl kn law has ea : Int} (hkn : in32 kn) : -1000000000000 ≤ comes w hs kl kn law has ea ∧ comes w hs kl kn law has ea ≤ 1000000000000 := by
  unfold comes
  split
  · have := hkn.1; have := hkn.2; omega
  · have := smL_in w hs (w (202 + 2 * law) + w (202 + 2 * law + 1)) has ea (w (202 + 2 * law + 1)).toNat (w (202 + 2 * law)) 0 (by omega); omega
theorem lk_in {s a b : Int} (h0 : 0 ≤ s) (h1 : s ≤ 3) (ha : 0 ≤ a) (ha1 : a < 24) (hb : 0 ≤ b) (hb1 : b < 24) (hb2 : s = 3 → b < 12) : 0 ≤ lkA s a b ∧ lkA s a b < 2016 := by
  unfold lkA
  split <;> omega
theorem HSok.chg {B : Int} {hs : Int → Int} {k v : Int} (h : HSok B hs) (h0 : 0 ≤ k) (h1 : k < 2016) : HSok B (mChg hs k v) := by
  have hc := clI_in (hs k + v)
  refine ⟨fun j a b => ?_, ?_, ?_⟩
  · unfold mChg upI
    split
    · exact hc
    · exact h.1 j a b
  · unfold mChg upI
    rw [if_neg (by omega)]; exact h.2.1
  · unfold mChg upI
    rw [if_neg (by omega)]; exact h.2.2
def thg (w : Int → Int) (r i : Int) : Int := w (34 + 14 * r + 1 + i)
/-- the other links of a mix, from c on, n of them -/
def mMixL (w : Int → Int) (kl kn a b : Int) : Nat → Int → (Int → Int) → Int → Int
  | 0, _, hs => hs
  | n + 1, c, hs => mMixL w kl kn a b n (c + 1) (if c ≠ b ∧ 0 < hs (lkA 0 a c) then mChg hs (lkA 0 a c) (-(comes w hs kl kn 8 (hs (lkA 0 a c)) (w (10 + c)))) else hs)
def mRdG (w : Int → Int) (kl kn r i : Int) (hs : Int → Int) : Int → Int :=
  if i = 0 then mGrow w hs kl kn 3 (thg w r i) i (thg w r i)
  else if 1 < i then mGrow w (mGrow w (mGrow w (mGrow w hs kl kn 3 (thg w r i) i (thg w r i)) kl kn 0 (thg w r (i - 1)) (thg w r i) (thg w r i)) kl kn 1 (thg w r i) (thg w r (i - 1)) (thg w r (i - 1))) kl kn 2 (thg w r (i - 2)) (thg w r i) (thg w r i)
  else mGrow w (mGrow w (mGrow w hs kl kn 3 (thg w r i) i (thg w r i)) kl kn 0 (thg w r (i - 1)) (thg w r i) (thg w r i)) kl kn 1 (thg w r i) (thg w r (i - 1)) (thg w r (i - 1))
def mRdI (w : Int → Int) (kl kn r i : Int) (hs : Int → Int) : Int → Int :=
  if i = 0 then mRdG w kl kn r i hs else mMixL w kl kn (thg w r (i - 1)) (thg w r i) (w 1).toNat 0 (mRdG w kl kn r i hs)
def mRdL (w : Int → Int) (kl kn r : Int) : Nat → Int → (Int → Int) → Int → Int
  | 0, _, hs => hs
  | n + 1, i, hs => mRdL w kl kn r n (i + 1) (mRdI w kl kn r i hs)
def tire (hs : Int → Int) : Int → Int := upI hs 2017 (hs 2017 + 1)
def mReads (w hs : Int → Int) (kl kn r : Int) : Int → Int := tire (mRdL w kl kn r (w (34 + 14 * r)).toNat 0 hs)
/-- an hour: a link's fall -/
def mHrB (w : Int → Int) (kl kn s a : Int) : Nat → Int → (Int → Int) → Int → Int
  | 0, _, hs => hs
  | n + 1, b, hs => mHrB w kl kn s a n (b + 1) (if 0 < hs (lkA s a b) then mChg hs (lkA s a b) (-(comes w hs kl kn (4 + s) (hs (lkA s a b)) (w (10 + if s = 3 then a else b)))) else hs)
def mHrA (w : Int → Int) (kl kn s : Int) : Nat → Int → (Int → Int) → Int → Int
  | 0, _, hs => hs
  | n + 1, a, hs => mHrA w kl kn s n (a + 1) (mHrB w kl kn s a (if s = 3 then 12 else (w 1).toNat) 0 hs)
def mHrS (w : Int → Int) (kl kn : Int) : Nat → Int → (Int → Int) → Int → Int
  | 0, _, hs => hs
  | n + 1, s, hs => mHrS w kl kn n (s + 1) (mHrA w kl kn s (w 1).toNat 0 hs)
def hourly (hs : Int → Int) : Int → Int := upI (upI hs 2016 (hs 2016 + 1)) 2017 0
def mHour (w hs : Int → Int) (kl kn : Int) : Int → Int := hourly (mHrS w kl kn 4 0 hs)
def mHours (w : Int → Int) (kl kn : Int) : Nat → (Int → Int) → Int → Int
  | 0, hs => hs
  | n + 1, hs => mHours w kl kn n (mHour w hs kl kn)
theorem HSok.grow {B : Int} {w hs : Int → Int} {kl kn s a b e : Int} (h : HSok B hs) (h0 : 0 ≤ s) (h1 : s ≤ 3) (ha : 0 ≤ a) (ha1 : a < 24) (hb : 0 ≤ b) (hb1 : b < 24) (hb2 : s = 3 → b < 12) : HSok B (mGrow w hs kl kn s a b e) :=
  h.chg (lk_in h0 h1 ha ha1 hb hb1 hb2).1 (lk_in h0 h1 ha ha1 hb hb1 hb2).2
theorem HSok.mix {B : Int} {w : Int → Int} {kl kn a b : Int} (ha : 0 ≤ a) (ha1 : a < 24) : ∀ (n : Nat) (c : Int) (hs : Int → Int), HSok B hs → 0 ≤ c → c + n ≤ 24 → HSok B (mMixL w kl kn a b n c hs) := by
  intro n
  induction n with
  | zero => intro c hs h _ _; exact h
  | succ n ih =>
    intro c hs h h0 h1
    unfold mMixL
    refine ih _ _ ?_ (by omega) (by omega)
    split
    · exact h.chg (lk_in (by omega) (by omega) ha ha1 h0 (by omega) (by omega)).1 (lk_in (by omega) (by omega) ha ha1 h0 (by omega) (by omega)).2
    · exact h
theorem HSok.rdG {B : Int} {w hs : Int → Int} {kl kn r i : Int} (hw : WFw w) (h : HSok B hs) (hr : 0 ≤ r) (hr1 : r < w 2) (hi : 0 ≤ i) (hi1 : i < w (34 + 14 * r)) : HSok B (mRdG w kl kn r i hs) := by
  have h1 := hw.1
  have h2 := hw.row hr hr1
  have tb := hw.thing hr hr1 hi hi1
  unfold mRdG thg
  split
  · exact h.grow (by omega) (by omega) tb.1 (by omega) hi (by omega) (by omega)
  · rename_i z
    have ta := hw.thing hr hr1 (i := i - 1) (by omega) (by omega)
    have g1 := ((h.grow (w := w) (kl := kl) (kn := kn) (s := 3) (a := w (34 + 14 * r + 1 + i)) (b := i) (e := w (34 + 14 * r + 1 + i)) (by omega) (by omega) tb.1 (by omega) hi (by omega) (by omega)).grow (w := w) (kl := kl) (kn := kn) (s := 0) (a := w (34 + 14 * r + 1 + (i - 1))) (b := w (34 + 14 * r + 1 + i)) (e := w (34 + 14 * r + 1 + i)) (by omega) (by omega) ta.1 (by omega) tb.1 (by omega) (by omega)).grow (w := w) (kl := kl) (kn := kn) (s := 1) (a := w (34 + 14 * r + 1 + i)) (b := w (34 + 14 * r + 1 + (i - 1))) (e := w (34 + 14 * r + 1 + (i - 1))) (by omega) (by omega) tb.1 (by omega) ta.1 (by omega) (by omega)
    split
    · have t2 := hw.thing hr hr1 (i := i - 2) (by omega) (by omega)
      exact g1.grow (by omega) (by omega) t2.1 (by omega) tb.1 (by omega) (by omega)
    · exact g1
theorem HSok.rdI {B : Int} {w hs : Int → Int} {kl kn r i : Int} (hw : WFw w) (h : HSok B hs) (hr : 0 ≤ r) (hr1 : r < w 2) (hi : 0 ≤ i) (hi1 : i < w (34 + 14 * r)) : HSok B (mRdI w kl kn r i hs) := by
  have h1 := hw.1
  have g := h.rdG (kl := kl) (kn := kn) hw hr hr1 hi hi1
  unfold mRdI
  split
  · exact g
  · have ta := hw.thing hr hr1 (i := i - 1) (by omega) (by omega)
    exact HSok.mix ta.1 (by show w (34 + 14 * r + 1 + (i - 1)) < 24; omega) _ _ _ g (by omega) (by omega)
theorem HSok.rdL {B : Int} {w : Int → Int} {kl kn r : Int} (hw : WFw w) (hr : 0 ≤ r) (hr1 : r < w 2) : ∀ (n : Nat) (i : Int) (hs : Int → Int), HSok B hs → 0 ≤ i → i + n ≤ w (34 + 14 * r) → HSok B (mRdL w kl kn r n i hs) := by
  intro n
  induction n with
  | zero => intro i hs h _ _; exact h
  | succ n ih => intro i hs h h0 h1; exact ih _ _ (h.rdI hw hr hr1 h0 (by omega)) (by omega) (by omega)
theorem HSok.tire {B : Int} {hs : Int → Int} (h : HSok B hs) : HSok (B + 1) (tire hs) := by
  have h1 := h.2.1
  have h2 := h.2.2
  show HSok (B + 1) (upI hs 2017 (hs 2017 + 1))
  refine ⟨fun k a b => by rw [upI_ne (by omega)]; exact h.1 k a b, by rw [upI_ne (by omega)]; omega, by rw [upI_at]; omega⟩
theorem HSok.reads {B : Int} {w hs : Int → Int} {kl kn r : Int} (hw : WFw w) (h : HSok B hs) (hr : 0 ≤ r) (hr1 : r < w 2) : HSok (B + 1) (mReads w hs kl kn r) := by
  have h2 := hw.row hr hr1
  exact (HSok.rdL hw hr hr1 _ _ _ h (by omega) (by omega)).tire
theorem HSok.mono {B B' : Int} {hs : Int → Int} (h : HSok B hs) (hB : B ≤ B') : HSok B' hs := ⟨h.1, ⟨h.2.1.1, by have := h.2.1.2; omega⟩, ⟨h.2.2.1, by have := h.2.2.2; omega⟩⟩
theorem HSok.hrB {B : Int} {w : Int → Int} {kl kn s a : Int} (h0 : 0 ≤ s) (h1 : s ≤ 3) (ha : 0 ≤ a) (ha1 : a < 24) : ∀ (n : Nat) (b : Int) (hs : Int → Int), HSok B hs → 0 ≤ b → b + n ≤ 24 → (s = 3 → b + n ≤ 12) → HSok B (mHrB w kl kn s a n b hs) := by
  intro n
  induction n with
  | zero => intro c hs h _ _ _; exact h
  | succ n ih =>
    intro c hs h h2 h3 h4
    unfold mHrB
    refine ih _ _ ?_ (by omega) (by omega) (by omega)
    split
    · exact h.chg (lk_in h0 h1 ha ha1 h2 (by omega) (by omega)).1 (lk_in h0 h1 ha ha1 h2 (by omega) (by omega)).2
    · exact h
theorem HSok.hrA {B : Int} {w : Int → Int} {kl kn s : Int} (hw : WFw w) (h0 : 0 ≤ s) (h1 : s ≤ 3) : ∀ (n : Nat) (a : Int) (hs : Int → Int), HSok B hs → 0 ≤ a → a + n ≤ 24 → HSok B (mHrA w kl kn s n a hs) := by
  intro n
  have hn := hw.1
  induction n with
  | zero => intro c hs h _ _; exact h
  | succ n ih =>
    intro c hs h h2 h3
    unfold mHrA
    refine ih _ _ ?_ (by omega) (by omega)
    split
    · exact HSok.hrB h0 h1 h2 (by omega) _ _ _ h (by omega) (by omega) (by omega)
    · exact HSok.hrB h0 h1 h2 (by omega) _ _ _ h (by omega) (by omega) (by omega)
theorem HSok.hrS {B : Int} {w : Int → Int} {kl kn : Int} (hw : WFw w) : ∀ (n : Nat) (s : Int) (hs : Int → Int), HSok B hs → 0 ≤ s → s + n ≤ 4 → HSok B (mHrS w kl kn n s hs) := by
  intro n
  have hn := hw.1
  induction n with
  | zero => intro c hs h _ _; exact h
  | succ n ih =>
    intro c hs h h2 h3
    exact ih _ _ (HSok.hrA hw h2 (by omega) _ _ _ h (by omega) (by omega)) (by omega) (by omega)
theorem HSok.hour {B : Int} {w hs : Int → Int} {kl kn : Int} (hw : WFw w) (h : HSok B hs) (hB : 0 ≤ B) : HSok (B + 1) (mHour w hs kl kn) := by
  have g := HSok.hrS (kl := kl) (kn := kn) hw 4 0 hs h (by omega) (by omega)
  have h1 := g.2.1
  have h2 := g.2.2
  unfold mHour hourly
  refine ⟨fun k a b => by rw [upI_ne (by omega), upI_ne (by omega)]; exact g.1 k a b, by rw [upI_ne (by omega), upI_at]; omega, by rw [upI_at]; omega⟩
theorem HSok.hours {w : Int → Int} {kl kn : Int} (hw : WFw w) : ∀ (n : Nat) (B : Int) (hs : Int → Int), HSok B hs → 0 ≤ B → HSok (B + n) (mHours w kl kn n hs) := by
  intro n
  induction n with
  | zero => intro B hs h _; exact h.mono (by omega)
  | succ n ih =>
    intro B hs h hB
    exact (ih (B + 1) _ (h.hour hw hB) (by omega)).mono (by omega)
