/-! terms and sums that are read: what their trees come to -/
set_option maxRecDepth 100000
/-- the parts from b to e are the same -/
def pSame (w w' : Int → Int) (b e : Int) : Prop := ∀ k, b ≤ k → k < e → w' (220 + 3 * k) = w (220 + 3 * k) ∧ w' (220 + 3 * k + 1) = w (220 + 3 * k + 1) ∧ w' (220 + 3 * k + 2) = w (220 + 3 * k + 2)
section
variable {w w' hs : Int → Int} {has ea e e2 b k kt t : Int} {f fp f2 : SF}
theorem partV_ext (h : pSame w w' b e) (h1 : b ≤ k) (h2 : k < e) : partV w' hs k has ea = partV w hs k has ea := by
  obtain ⟨-, q1, q2⟩ := h k h1 h2
  unfold partV
  rw [q1, q2]
theorem stepT_ext (h : pSame w w' b e) (h1 : b ≤ k) (h2 : k < e) : stepT w' hs has ea k t = stepT w hs has ea k t := by
  unfold stepT
  rw [partV_ext h h1 h2, (h k h1 h2).1]
theorem tmF_ext (h : pSame w w' b e) : ∀ (n : Nat) (k t : Int), b ≤ k → k + n ≤ e → tmF w' hs has ea n k t = tmF w hs has ea n k t := by
  intro n
  induction n with
  | zero => intro k t _ _; rfl
  | succ n ih =>
    intro k t h1 h2
    show (stepT w' hs has ea k t).bind _ = (stepT w hs has ea k t).bind _
    rw [stepT_ext h h1 (by omega)]
    congr 1
    funext t'
    exact ih (k + 1) t' (by omega) (by omega)
theorem tmL_ext (h : pSame w w' b e) : ∀ (n : Nat) (k t : Int), b ≤ k → tmL w' hs e has ea n k t = tmL w hs e has ea n k t := by
  intro n
  induction n with
  | zero => intro k t _; rfl
  | succ n ih =>
    intro k t h1
    rw [tmL_s, tmL_s]
    by_cases c : k < e
    · rw [(h k h1 c).1, stepT_ext h h1 c]
      congr 1
      congr 1
      funext t'
      exact ih (k + 1) t' (by omega)
    · rw [if_neg (fun q => c q.1), if_neg (fun q => c q.1)]
theorem smO_same (h : pSame w w' b e) : ∀ (n : Nat) (k s : Int), b ≤ k → smO w' hs e has ea n k s = smO w hs e has ea n k s := by
  intro n
  induction n with
  | zero => intro k s _; rfl
  | succ n ih =>
    intro k s h1
    show (if k < e then _ else _) = (if k < e then _ else _)
    by_cases c : k < e
    · rw [if_pos c, if_pos c, partV_ext h h1 c, tmL_ext h _ _ _ (by omega)]
      cases hq : tmL w hs e has ea (e - (k + 1)).toNat (k + 1) (partV w hs k has ea) with
      | none => rfl
      | some q =>
        obtain ⟨k', t⟩ := q
        have hk := tmL_k _ _ _ _ _ hq (by omega)
        show (cutO _).bind _ = (cutO _).bind _
        rw [(h k h1 c).1]
        congr 1
        funext v
        exact ih k' v (by omega)
    · rw [if_neg c, if_neg c]
end
/-- the tree f is the term of the parts kt .. e - 1 -/
def TRM (w : Int → Int) (kt e : Int) (f : SF) : Prop := treeF f ∧ (0 ≤ kt ∧ kt < e) ∧ (∀ j, kt < j → j < e → 3 ≤ w (220 + 3 * j)) ∧ ∀ (hs : Int → Int) (B has ea : Int), HSok B hs → B ≤ 1000000000 → (0 ≤ has ∧ has ≤ 1000) → (0 ≤ ea ∧ ea ≤ 9) → valF f has ea (hs 2017) ((hs 2016).tmod 24) = tmF w hs has ea (e - (kt + 1)).toNat (kt + 1) (partV w hs kt has ea)
/-- the tree f is the sum of the parts b .. e - 1 -/
def SMS (w : Int → Int) (b e : Int) (f : SF) : Prop := treeF f ∧ (0 ≤ b ∧ b < e) ∧ ∀ (hs : Int → Int) (B has ea : Int), HSok B hs → B ≤ 1000000000 → (0 ≤ has ∧ has ≤ 1000) → (0 ≤ ea ∧ ea ≤ 9) → valF f has ea (hs 2017) ((hs 2016).tmod 24) = smO w hs e has ea (e - b).toNat b 0
/-- the tree f is the part k -/
def PRT (w : Int → Int) (k : Int) (f : SF) : Prop := treeF f ∧ ∀ (hs : Int → Int) (has ea : Int), valF f has ea (hs 2017) ((hs 2016).tmod 24) = some (partV w hs k has ea)
section
variable {w w' hs : Int → Int} {has ea e e2 b k kt t j kd n B : Int} {f fp f2 : SF}
theorem env_of (h : HSok B hs) (hB : B ≤ 1000000000) (h1 : 0 ≤ has ∧ has ≤ 1000) (h2 : 0 ≤ ea ∧ ea ≤ 9) : envOK has ea (hs 2017) ((hs 2016).tmod 24) := by
  have a := h.2.1
  have c := h.2.2
  refine ⟨h1, h2, by omega, Int.tmod_nonneg _ (by omega), ?_⟩
  have := Int.tmod_lt_of_pos (hs 2016) (b := 24) (by decide)
  omega
theorem PRT.amt (h : 0 ≤ n ∧ n ≤ 1000) (e1 : w (220 + 3 * k + 1) = 0) (e2 : w (220 + 3 * k + 2) = n) : PRT w k (sAmt n) := by
  refine ⟨treeF_amt h, fun hs has ea => ?_⟩
  show some n = _
  unfold partV
  rw [if_pos e1, e2]
theorem PRT.ask (h : 1 ≤ kd ∧ kd ≤ 5) (e1 : w (220 + 3 * k + 1) = kd) : PRT w k (sPart (kd - 1)) := by
  refine ⟨treeF_part, fun hs has ea => ?_⟩
  show some (if kd - 1 = 0 then has else if kd - 1 = 1 then 1000 - has else if kd - 1 = 2 then ea else if kd - 1 = 3 then hs 2017 else (hs 2016).tmod 24) = _
  unfold partV
  rw [e1]
  have q : kd = 1 ∨ kd = 2 ∨ kd = 3 ∨ kd = 4 ∨ kd = 5 := by omega
  rcases q with rfl | rfl | rfl | rfl | rfl <;> rfl
theorem TRM.one (h : PRT w k f) (h0 : 0 ≤ k) : TRM w k (k + 1) f := by
  refine ⟨h.1, ⟨h0, by omega⟩, fun j j1 j2 => absurd j2 (by omega), fun hs B has ea _ _ _ _ => ?_⟩
  rw [h.2, show (k + 1 - (k + 1)).toNat = 0 by omega]
  rfl
theorem TRM.snoc (h : TRM w kt e f) (hp : PRT w' e fp) (hs' : pSame w w' kt e) (hj : w' (220 + 3 * e) = 3 ∨ w' (220 + 3 * e) = 4) : TRM w' kt (e + 1) (sBoth (if w' (220 + 3 * e) = 3 then oTimes else oOver) f fp) := by
  obtain ⟨h1, h2, h3, h4⟩ := h
  have ht : treeF (sBoth (if w' (220 + 3 * e) = 3 then oTimes else oOver) f fp) := by
    rcases hj with q | q
    · rw [if_pos q]; exact treeF_both opT h1 hp.1
    · rw [if_neg (by omega)]; exact treeF_both opO h1 hp.1
  refine ⟨ht, ⟨h2.1, by omega⟩, fun j j1 j2 => ?_, fun hs B has ea a1 a2 a3 a4 => ?_⟩
  · by_cases c : j = e
    · subst c; omega
    · rw [(hs' j (by omega) (by omega)).1]; exact h3 j j1 (by omega)
  · have he := env_of a1 a2 a3 a4
    have e4 := h4 hs B has ea a1 a2 a3 a4
    rw [show (e + 1 - (kt + 1)).toNat = (e - (kt + 1)).toNat + 1 by omega, tmF_snoc, tmF_ext hs' _ _ _ (by omega) (by omega), partV_ext hs' (by omega) (by omega), ← e4, show kt + 1 + (((e - (kt + 1)).toNat : Nat) : Int) = e by omega]
    rcases hj with q | q
    · rw [if_pos q, valF_times h1 hp.1 he, hp.2]
      congr 1
      funext x
      show cutO (x * partV w' hs e has ea) = stepT w' hs has ea e x
      unfold stepT
      rw [if_neg (fun z => z.1 q), if_pos q]
    · rw [if_neg (by omega), valF_over h1 hp.1 he, hp.2]
      congr 1
      funext x
      show (if partV w' hs e has ea = 0 then none else cutO (x.tdiv (partV w' hs e has ea))) = stepT w' hs has ea e x
      unfold stepT
      by_cases c : partV w' hs e has ea = 0
      · rw [if_pos c, if_pos ⟨by omega, c⟩]
      · rw [if_neg c, if_neg (fun z => c z.2), if_neg (by omega)]
theorem TRM.tmL (h : TRM w kt e f) (a1 : HSok B hs) (a2 : B ≤ 1000000000) (a3 : 0 ≤ has ∧ has ≤ 1000) (a4 : 0 ≤ ea ∧ ea ≤ 9) : tmL w hs e has ea (e - (kt + 1)).toNat (kt + 1) (partV w hs kt has ea) = (valF f has ea (hs 2017) ((hs 2016).tmod 24)).map (fun t => (e, t)) := by
  obtain ⟨h1, h2, h3, h4⟩ := h
  rw [h4 hs B has ea a1 a2 a3 a4]
  have z := tmL_F (w := w) (hs := hs) (has := has) (ea := ea) (e := e) (e - (kt + 1)).toNat (e - (kt + 1)).toNat (kt + 1) (partV w hs kt has ea) (Nat.le_refl _) (by omega) (fun j j1 j2 => h3 j (by omega) (by omega)) (Or.inl (by omega))
  rw [show kt + 1 + (((e - (kt + 1)).toNat : Nat) : Int) = e by omega] at z
  exact z
theorem SMS.first (h : TRM w b e f) (hj : w (220 + 3 * b) = 0) : SMS w b e f := by
  have hb := h.2.1
  refine ⟨h.1, hb, fun hs B has ea a1 a2 a3 a4 => ?_⟩
  have hz := h.tmL a1 a2 a3 a4
  obtain ⟨n, hn⟩ : ∃ n, (e - b).toNat = n + 1 := ⟨(e - b).toNat - 1, by omega⟩
  rw [hn]
  show _ = (if b < e then _ else _)
  rw [if_pos hb.2, hz]
  cases hv : valF f has ea (hs 2017) ((hs 2016).tmod 24) with
  | none => rfl
  | some t =>
    have hr := valF_range h.1 (env_of a1 a2 a3 a4) hv
    show some t = (cutO (if w (220 + 3 * b) = 2 then 0 - t else 0 + t)).bind (smO w hs e has ea n e)
    rw [if_neg (by omega), Int.zero_add, show cutO t = some t from if_pos hr]
    show some t = smO w hs e has ea n e t
    cases n with
    | zero => rfl
    | succ n => exact (if_neg (by omega)).symm
theorem SMS.add (h : SMS w b e f) (hT : TRM w' e e2 f2) (hs' : pSame w w' b e) (hj : w' (220 + 3 * e) = 1 ∨ w' (220 + 3 * e) = 2) : SMS w' b e2 (sBoth (oAdd (if w' (220 + 3 * e) = 2 then 1 else 0)) f f2) := by
  obtain ⟨h1, h2, h3⟩ := h
  have hb := hT.2.1
  refine ⟨treeF_both opA h1 hT.1, ⟨h2.1, by omega⟩, fun hs B has ea a1 a2 a3 a4 => ?_⟩
  have he := env_of a1 a2 a3 a4
  rw [valF_add h1 hT.1 he, h3 hs B has ea a1 a2 a3 a4, ← smO_same hs' _ _ _ (Int.le_refl b)]
  rw [smO_ext (w := w') (hs := hs) (has := has) (ea := ea) (e := e) (e2 := e2) (by omega) (by omega) (hT.tmL a1 a2 a3 a4) (e - b).toNat (e2 - b).toNat b 0 (by omega) (by omega) (by omega)]
  congr 1
  funext x
  congr 1
  funext y
  rcases hj with q | q
  · rw [if_neg (show ¬ w' (220 + 3 * e) = 2 by omega), if_neg (show ¬ w' (220 + 3 * e) = 2 by omega), if_pos rfl]
  · rw [if_pos q, if_pos q, if_neg (by decide)]
/-- a law of these parts -/
theorem SMS.lawV {l kn : Int} (h : SMS w b e f) (hl : 0 ≤ l) (e1 : w' (202 + 2 * l) = b) (e2' : w' (202 + 2 * l + 1) = e - b) (hs' : pSame w w' b e) (a1 : HSok B hs) (a2 : B ≤ 1000000000) (a3 : 0 ≤ has ∧ has ≤ 1000) (a4 : 0 ≤ ea ∧ ea ≤ 9) : comes w' hs (-1) kn l has ea = sVal f has ea (hs 2017) ((hs 2016).tmod 24) := by
  unfold comes
  rw [if_neg (by omega), e1, e2', show b + (e - b) = e by omega, smL_O, smO_same hs' _ _ _ (Int.le_refl b), ← h.2.2 hs B has ea a1 a2 a3 a4]
  unfold valF sVal
  split <;> rfl
theorem comes_ext {l kn : Int} (hl : 0 ≤ l) (e1 : w' (202 + 2 * l) = w (202 + 2 * l)) (e2' : w' (202 + 2 * l + 1) = w (202 + 2 * l + 1)) (hs' : pSame w w' (w (202 + 2 * l)) (w (202 + 2 * l) + w (202 + 2 * l + 1))) : comes w' hs (-1) kn l has ea = comes w hs (-1) kn l has ea := by
  unfold comes
  rw [if_neg (by omega), if_neg (by omega), e1, e2', smL_O, smL_O, smO_same hs' _ _ _ (Int.le_refl _)]
theorem SUMg.up {av : Nat → Prop} {h : Nat → Option va_E} : ∀ (n a : Nat) (f : SF), SUMg av h n a f → SUMg av h (n + 1) a f := by
  intro n
  induction n with
  | zero => intro a f hS; exact hS.elim
  | succ n ih =>
    intro a f hS
    obtain ⟨q0, hS⟩ := hS
    refine ⟨q0, ?_⟩
    rcases hS with hc | hc | ⟨x, y, f1, f2, s1, s2, h3⟩
    · exact Or.inl hc
    · exact Or.inr (Or.inl hc)
    · exact Or.inr (Or.inr ⟨x, y, f1, f2, ih x f1 s1, ih y f2 s2, h3⟩)
theorem SUMg.ups {av : Nat → Prop} {h : Nat → Option va_E} {n m a : Nat} {f : SF} (hS : SUMg av h n a f) (hm : n ≤ m) : SUMg av h m a f := by
  obtain ⟨k, rfl⟩ : ∃ k, m = n + k := ⟨m - n, by omega⟩
  clear hm
  induction k with
  | zero => exact hS
  | succ k ih => exact SUMg.up _ _ _ ih
end
