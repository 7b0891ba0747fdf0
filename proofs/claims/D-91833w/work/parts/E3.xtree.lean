/-! what a tree of sums comes to, against a law's parts: in plain Lean -/
set_option maxRecDepth 100000
/-- what a tree comes to; none: broken -/
def valF (f : SF) (ha ea ti ho : Int) : Option Int := if (f ha ea ti ho 0).2 = 0 then some (f ha ea ti ho 0).1 else none
def cutO (v : Int) : Option Int := if -1000000000 ≤ v ∧ v ≤ 1000000000 then some v else none
abbrev envOK (ha ea ti ho : Int) : Prop := (0 ≤ ha ∧ ha ≤ 1000) ∧ (0 ≤ ea ∧ ea ≤ 9) ∧ (0 ≤ ti ∧ ti ≤ 1000000000) ∧ (0 ≤ ho ∧ ho ≤ 23)
/-- what is broken stays so -/
def staysF (f : SF) : Prop := ∀ ha ea ti ho : Int, envOK ha ea ti ho → (f ha ea ti ho 1).2 = 1
def treeF (f : SF) : Prop := sfIn f ∧ staysF f
theorem wthn_1 {v : Int} : wthn v 1 = (0, 1) := if_pos (Or.inl rfl)
theorem wthn_0 {v : Int} : (if (wthn v 0).2 = 0 then some (wthn v 0).1 else none) = cutO v := by
  unfold cutO
  by_cases c : -1000000000 ≤ v ∧ v ≤ 1000000000
  · rw [show wthn v 0 = (v, 0) from if_neg (by omega), if_pos c]; rfl
  · rw [show wthn v 0 = (0, 1) from if_pos (by omega), if_neg c]; rfl
theorem valF_range {f : SF} (hf : treeF f) {ha ea ti ho v : Int} (he : envOK ha ea ti ho) (h : valF f ha ea ti ho = some v) : -1000000000 ≤ v ∧ v ≤ 1000000000 := by
  unfold valF at h
  split at h
  · cases h; exact (hf.1 ha ea ti ho 0 ⟨he.1, he.2.1, he.2.2.1, he.2.2.2, Or.inl rfl⟩).1
  · cases h
theorem treeF_amt {c : Int} (h : 0 ≤ c ∧ c ≤ 1000) : treeF (sAmt c) := ⟨fun ha ea ti ho br b => ⟨by show -1000000000 ≤ c ∧ c ≤ 1000000000; omega, b.2.2.2.2⟩, fun _ _ _ _ _ => rfl⟩
theorem treeF_part {w : Int} : treeF (sPart w) := ⟨fun ha ea ti ho br b => ⟨by
  show -1000000000 ≤ (if w = 0 then ha else if w = 1 then 1000 - ha else if w = 2 then ea else if w = 3 then ti else ho) ∧ (if w = 0 then ha else if w = 1 then 1000 - ha else if w = 2 then ea else if w = 3 then ti else ho) ≤ 1000000000
  obtain ⟨b1, b2, b3, b4, b5⟩ := b
  split
  · omega
  · split
    · omega
    · split
      · omega
      · split <;> omega, b.2.2.2.2⟩, fun _ _ _ _ _ => rfl⟩
/-- an operation that keeps what is broken -/
def opOK (op : Int → Int → Int → Int × Int) : Prop := ∀ x y, (op x y 1).2 = 1
theorem treeF_both {op : Int → Int → Int → Int × Int} {f g : SF} (ho : opOK op) (hf : treeF f) (hg : treeF g) : treeF (sBoth op f g) := by
  refine ⟨fun ha ea ti hh br b => wthn_in, fun ha ea ti hh he => ?_⟩
  show (wthn _ _).2 = 1
  rw [hf.2 ha ea ti hh he, hg.2 ha ea ti hh he, ho _ _, wthn_1]
theorem valF_both {op : Int → Int → Int → Int × Int} {f g : SF} (ho : opOK op) (hf : treeF f) (hg : treeF g) {ha ea ti hh : Int} (he : envOK ha ea ti hh) :
    valF (sBoth op f g) ha ea ti hh = (valF f ha ea ti hh).bind fun x => (valF g ha ea ti hh).bind fun y => if (op x y 0).2 = 1 then none else if (op x y 0).2 = 0 then cutO (op x y 0).1 else valF (sBoth op f g) ha ea ti hh := by
  have rf := (hf.1 ha ea ti hh 0 ⟨he.1, he.2.1, he.2.2.1, he.2.2.2, Or.inl rfl⟩).2
  have rg := (hg.1 ha ea ti hh 0 ⟨he.1, he.2.1, he.2.2.1, he.2.2.2, Or.inl rfl⟩).2
  rcases rf with rf | rf
  · have vf : valF f ha ea ti hh = some (f ha ea ti hh 0).1 := if_pos rf
    rcases rg with rg | rg
    · have vg : valF g ha ea ti hh = some (g ha ea ti hh 0).1 := if_pos rg
      rw [vf, vg, Option.bind_some, Option.bind_some]
      by_cases c1 : (op (f ha ea ti hh 0).1 (g ha ea ti hh 0).1 0).2 = 1
      · rw [if_pos c1]
        unfold valF sBoth
        simp only [rf, rg, c1, wthn_1]
        rfl
      · rw [if_neg c1]
        by_cases c0 : (op (f ha ea ti hh 0).1 (g ha ea ti hh 0).1 0).2 = 0
        · rw [if_pos c0]
          unfold valF sBoth
          simp only [rf, rg, c0]
          exact wthn_0
        · rw [if_neg c0]
    · have vg : valF g ha ea ti hh = none := if_neg (by omega)
      rw [vf, vg, Option.bind_some, Option.bind_none]
      unfold valF sBoth
      simp only [rf, rg, ho (f ha ea ti hh 0).1 (g ha ea ti hh 0).1, wthn_1]
      rfl
  · have vf : valF f ha ea ti hh = none := if_neg (by omega)
    rw [vf, Option.bind_none]
    unfold valF sBoth
    simp only [rf, hg.2 ha ea ti hh he, ho (f ha ea ti hh 0).1 (g ha ea ti hh 1).1, wthn_1]
    rfl
theorem opT : opOK oTimes := fun _ _ => rfl
theorem opO : opOK oOver := fun x y => (if_pos (Or.inl rfl) : (if (1 : Int) = 1 ∨ y = 0 then (1 : Int) else 0) = 1)
theorem opA {l : Int} : opOK (oAdd l) := fun _ _ => rfl
section
variable {f g : SF} {ha ea ti hh : Int}
theorem valF_times (hf : treeF f) (hg : treeF g) (he : envOK ha ea ti hh) : valF (sBoth oTimes f g) ha ea ti hh = (valF f ha ea ti hh).bind fun x => (valF g ha ea ti hh).bind fun y => cutO (x * y) := by
  rw [valF_both opT hf hg he]
  rfl
theorem valF_over (hf : treeF f) (hg : treeF g) (he : envOK ha ea ti hh) : valF (sBoth oOver f g) ha ea ti hh = (valF f ha ea ti hh).bind fun x => (valF g ha ea ti hh).bind fun y => if y = 0 then none else cutO (x.tdiv y) := by
  rw [valF_both opO hf hg he]
  congr 1
  funext x
  congr 1
  funext y
  unfold oOver
  by_cases c : y = 0
  · rw [if_pos c]; simp [c]
  · rw [if_neg c]; simp [c]
theorem valF_add {l : Int} (hf : treeF f) (hg : treeF g) (he : envOK ha ea ti hh) : valF (sBoth (oAdd l) f g) ha ea ti hh = (valF f ha ea ti hh).bind fun x => (valF g ha ea ti hh).bind fun y => cutO (if l = 0 then x + y else x - y) := by
  rw [valF_both opA hf hg he]
  rfl
end
/-! the parts of a law -/
section
variable {w w' hs : Int → Int} {has ea e e2 k kt t : Int}
def stepT (w hs : Int → Int) (has ea k t : Int) : Option Int := if w (220 + 3 * k) ≠ 3 ∧ partV w hs k has ea = 0 then none else cutO (if w (220 + 3 * k) = 3 then t * partV w hs k has ea else t.tdiv (partV w hs k has ea))
def tmF (w hs : Int → Int) (has ea : Int) : Nat → Int → Int → Option Int
  | 0, _, t => some t
  | n + 1, k, t => (stepT w hs has ea k t).bind (tmF w hs has ea n (k + 1))
theorem tmF_snoc : ∀ (n : Nat) (k t : Int), tmF w hs has ea (n + 1) k t = (tmF w hs has ea n k t).bind (stepT w hs has ea (k + n)) := by
  intro n
  induction n with
  | zero =>
    intro k t
    show (stepT w hs has ea k t).bind (fun t => some t) = stepT w hs has ea (k + ((0 : Nat) : Int)) t
    rw [show k + ((0 : Nat) : Int) = k from Int.add_zero k]
    cases stepT w hs has ea k t <;> rfl
  | succ n ih =>
    intro k t
    show (stepT w hs has ea k t).bind (tmF w hs has ea (n + 1) (k + 1)) = ((stepT w hs has ea k t).bind (tmF w hs has ea n (k + 1))).bind (stepT w hs has ea (k + ((n + 1 : Nat) : Int)))
    cases stepT w hs has ea k t with
    | none => rfl
    | some t' =>
      show tmF w hs has ea (n + 1) (k + 1) t' = (tmF w hs has ea n (k + 1) t').bind _
      rw [ih (k + 1) t', show k + 1 + (n : Int) = k + ((n + 1 : Nat) : Int) by omega]
theorem tmL_s {n : Nat} : tmL w hs e has ea (n + 1) k t = if k < e ∧ 3 ≤ w (220 + 3 * k) then (stepT w hs has ea k t).bind (fun t' => tmL w hs e has ea n (k + 1) t') else some (k, t) := by
  show (if k < e ∧ 3 ≤ w (220 + 3 * k) then _ else _) = _
  by_cases c : k < e ∧ 3 ≤ w (220 + 3 * k)
  · rw [if_pos c, if_pos c]
    unfold stepT cutO
    by_cases c1 : w (220 + 3 * k) ≠ 3 ∧ partV w hs k has ea = 0
    · rw [if_pos c1, if_pos c1]; rfl
    · rw [if_neg c1, if_neg c1]
      by_cases c2 : -1000000000 ≤ (if w (220 + 3 * k) = 3 then t * partV w hs k has ea else t.tdiv (partV w hs k has ea)) ∧ (if w (220 + 3 * k) = 3 then t * partV w hs k has ea else t.tdiv (partV w hs k has ea)) ≤ 1000000000
      · rw [if_pos c2, if_pos c2]; rfl
      · rw [if_neg c2, if_neg c2]; rfl
  · rw [if_neg c, if_neg c]
/-- a term's parts, all of them -/
theorem tmL_F : ∀ (n m : Nat) (k t : Int), n ≤ m → k + n ≤ e → (∀ j, k ≤ j → j < k + n → 3 ≤ w (220 + 3 * j)) → (k + n = e ∨ w (220 + 3 * (k + n)) < 3) → tmL w hs e has ea m k t = (tmF w hs has ea n k t).map (fun t' => (k + n, t')) := by
  intro n
  induction n with
  | zero =>
    intro m k t h1 h2 h3 h4
    show _ = some (k + ((0 : Nat) : Int), t)
    rw [show k + ((0 : Nat) : Int) = k from Int.add_zero k] at h4 ⊢
    cases m with
    | zero => rfl
    | succ m => rw [tmL_s, if_neg (by omega)]
  | succ n ih =>
    intro m k t h1 h2 h3 h4
    obtain ⟨m, rfl⟩ : ∃ m', m = m' + 1 := ⟨m - 1, by omega⟩
    rw [tmL_s, if_pos ⟨by omega, h3 k (by omega) (by omega)⟩]
    show _ = ((stepT w hs has ea k t).bind (tmF w hs has ea n (k + 1))).map _
    cases stepT w hs has ea k t with
    | none => rfl
    | some t' =>
      show tmL w hs e has ea m (k + 1) t' = (tmF w hs has ea n (k + 1) t').map _
      have z := ih m (k + 1) t' (by omega) (by omega) (fun j j1 j2 => h3 j (by omega) (by omega)) (by rw [show k + 1 + (n : Int) = k + ((n + 1 : Nat) : Int) by omega]; exact h4)
      rw [show k + 1 + (n : Int) = k + ((n + 1 : Nat) : Int) by omega] at z
      exact z
/-- a term stops at what is no factor, wherever the law ends -/
theorem tmL_end : ∀ (n n2 : Nat) (k t : Int), k ≤ e → e ≤ e2 → w (220 + 3 * e) < 3 → e - k ≤ n → e2 - k ≤ n2 → tmL w hs e2 has ea n2 k t = tmL w hs e has ea n k t := by
  intro n
  induction n with
  | zero =>
    intro n2 k t h1 h2 h3 h4 h5
    have ek : k = e := by omega
    subst ek
    cases n2 with
    | zero => rfl
    | succ n2 => rw [tmL_s, if_neg (by omega)]; rfl
  | succ n ih =>
    intro n2 k t h1 h2 h3 h4 h5
    by_cases ek : k = e
    · subst ek
      rw [tmL_s, if_neg (by omega)]
      cases n2 with
      | zero => rfl
      | succ n2 => rw [tmL_s, if_neg (by omega)]
    · obtain ⟨m, rfl⟩ : ∃ m, n2 = m + 1 := ⟨n2 - 1, by omega⟩
      rw [tmL_s, tmL_s]
      by_cases c : 3 ≤ w (220 + 3 * k)
      · rw [if_pos ⟨by omega, c⟩, if_pos ⟨by omega, c⟩]
        congr 1
        funext t'
        exact ih m (k + 1) t' (by omega) h2 h3 (by omega) (by omega)
      · rw [if_neg (fun q => c q.2), if_neg (fun q => c q.2)]
theorem tmL_k : ∀ (n : Nat) (k t k' t' : Int), tmL w hs e has ea n k t = some (k', t') → k ≤ e → k ≤ k' ∧ k' ≤ e := by
  intro n
  induction n with
  | zero => intro k t k' t' h h1; cases h; omega
  | succ n ih =>
    intro k t k' t' h h1
    rw [tmL_s] at h
    split at h
    · rename_i c
      cases hs' : stepT w hs has ea k t with
      | none => rw [hs'] at h; cases h
      | some t2 =>
        rw [hs'] at h
        have := ih (k + 1) t2 k' t' h (by omega)
        omega
    · cases h; omega
def smO (w hs : Int → Int) (e has ea : Int) : Nat → Int → Int → Option Int
  | 0, _, s => some s
  | n + 1, k, s => if k < e then (tmL w hs e has ea (e - (k + 1)).toNat (k + 1) (partV w hs k has ea)).bind (fun q => (cutO (if w (220 + 3 * k) = 2 then s - q.2 else s + q.2)).bind (smO w hs e has ea n q.1)) else some s
theorem smL_O : ∀ (n : Nat) (k s : Int), smL w hs e has ea n k s = (smO w hs e has ea n k s).getD 0 := by
  intro n
  induction n with
  | zero => intro k s; rfl
  | succ n ih =>
    intro k s
    show (if k < e then _ else _) = (if k < e then _ else _ : Option Int).getD 0
    by_cases c : k < e
    · rw [if_pos c, if_pos c]
      cases tmL w hs e has ea (e - (k + 1)).toNat (k + 1) (partV w hs k has ea) with
      | none => rfl
      | some q =>
        obtain ⟨k', t⟩ := q
        show (if -1000000000 ≤ (if w (220 + 3 * k) = 2 then s - t else s + t) ∧ (if w (220 + 3 * k) = 2 then s - t else s + t) ≤ 1000000000 then smL w hs e has ea n k' (if w (220 + 3 * k) = 2 then s - t else s + t) else 0) = ((cutO (if w (220 + 3 * k) = 2 then s - t else s + t)).bind (smO w hs e has ea n k')).getD 0
        unfold cutO
        by_cases c2 : -1000000000 ≤ (if w (220 + 3 * k) = 2 then s - t else s + t) ∧ (if w (220 + 3 * k) = 2 then s - t else s + t) ≤ 1000000000
        · rw [if_pos c2, if_pos c2]; exact ih _ _
        · rw [if_neg c2, if_neg c2]; rfl
    · rw [if_neg c, if_neg c]; rfl
/-- one more term -/
theorem smO_ext (hj : w (220 + 3 * e) < 3) (h12 : e < e2) {T : Option Int} (hT : tmL w hs e2 has ea (e2 - (e + 1)).toNat (e + 1) (partV w hs e has ea) = T.map (fun t => (e2, t))) : ∀ (n n2 : Nat) (k s : Int), k ≤ e → e - k ≤ n → e2 - k ≤ n2 → smO w hs e2 has ea n2 k s = (smO w hs e has ea n k s).bind fun v => T.bind fun t => cutO (if w (220 + 3 * e) = 2 then v - t else v + t) := by
  have last : ∀ (n2 : Nat) (s : Int), e2 - e ≤ n2 → smO w hs e2 has ea n2 e s = T.bind fun t => cutO (if w (220 + 3 * e) = 2 then s - t else s + t) := by
    intro n2 s h
    obtain ⟨m, rfl⟩ : ∃ m, n2 = m + 1 := ⟨n2 - 1, by omega⟩
    show (if e < e2 then _ else _) = _
    rw [if_pos h12, hT]
    cases T with
    | none => rfl
    | some t =>
      show (cutO _).bind (smO w hs e2 has ea m e2) = cutO _
      cases cutO (if w (220 + 3 * e) = 2 then s - t else s + t) with
      | none => rfl
      | some v =>
        show smO w hs e2 has ea m e2 v = some v
        cases m with
        | zero => rfl
        | succ m => exact if_neg (by omega)
  intro n
  induction n with
  | zero =>
    intro n2 k s h1 h2 h3
    have ek : k = e := by omega
    subst ek
    rw [last n2 s h3]; rfl
  | succ n ih =>
    intro n2 k s h1 h2 h3
    by_cases ek : k = e
    · subst ek
      rw [last n2 s h3, show smO w hs k has ea (n + 1) k s = some s from if_neg (by omega)]; rfl
    · obtain ⟨m, rfl⟩ : ∃ m, n2 = m + 1 := ⟨n2 - 1, by omega⟩
      show (if k < e2 then _ else _) = (if k < e then _ else _ : Option Int).bind _
      rw [if_pos (by omega), if_pos (by omega), tmL_end (w := w) (hs := hs) (has := has) (ea := ea) (e := e) (e2 := e2) (e - (k + 1)).toNat (e2 - (k + 1)).toNat (k + 1) _ (by omega) (by omega) hj (by omega) (by omega)]
      cases hq : tmL w hs e has ea (e - (k + 1)).toNat (k + 1) (partV w hs k has ea) with
      | none => rfl
      | some q =>
        obtain ⟨k', t⟩ := q
        have hk := tmL_k _ _ _ _ _ hq (by omega)
        show (cutO _).bind (smO w hs e2 has ea m k') = ((cutO _).bind (smO w hs e has ea n k')).bind _
        cases cutO (if w (220 + 3 * k) = 2 then s - t else s + t) with
        | none => rfl
        | some v => exact ih m k' v (by omega) (by omega) (by omega)
end
