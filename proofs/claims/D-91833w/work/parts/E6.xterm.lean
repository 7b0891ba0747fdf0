/-! THE COMPONENT: the Reader reads a term -/
set_option maxRecDepth 100000
def tjL (tp : Int → Int) (sz : Int) : Nat → PS → PS
  | 0, P => P
  | f + 1, P => if isW tp wTimes P then tjL tp sz f (rpP tp sz 3 (PSadv tp sz P)) else if isW tp wOver P then tjL tp sz f (rpP tp sz 4 (PSadv tp sz P)) else P
/-- parts were added, no more -/
def KP (P X : PS) : Prop := P.2.2.2.2.2.2.1 3 ≤ X.2.2.2.2.2.2.1 3 ∧ ∀ y, y ≠ 3 → y < 220 + 3 * P.2.2.2.2.2.2.1 3 → X.2.2.2.2.2.2.1 y = P.2.2.2.2.2.2.1 y
theorem KP.refl {P : PS} : KP P P := ⟨Int.le_refl _, fun _ _ _ => rfl⟩
theorem KP.trans {P X Y : PS} (a : KP P X) (b : KP X Y) : KP P Y := ⟨Int.le_trans a.1 b.1, fun y h1 h2 => (b.2 y h1 (by have := a.1; omega)).trans (a.2 y h1 h2)⟩
theorem KP.same {P X : PS} {kt : Int} (a : KP P X) (h0 : 0 ≤ kt) : pSame P.2.2.2.2.2.2.1 X.2.2.2.2.2.2.1 kt (P.2.2.2.2.2.2.1 3) := fun k h1 h2 => ⟨a.2 _ (by omega) (by omega), a.2 _ (by omega) (by omega), a.2 _ (by omega) (by omega)⟩
section
variable {tp : Int → Int} {sz j : Int} {P X : PS} {bs : List Int}
theorem KP.pg {kd n : Int} (h3 : 0 ≤ P.2.2.2.2.2.2.1 3) {R : PS} (e : R.2.2.2.2.2.2.1 = pgF P.2.2.2.2.2.2.1 j kd n) : KP P R := by
  unfold KP
  rw [e]
  refine ⟨?_, fun y h1 h2 => pgF_ne h1 (Or.inl h2)⟩
  have := (pgF_at (j := j) (kd := kd) (n := n) h3).2.2.2
  omega
theorem nu_fresh {lo hi : Int} : (nuP tp sz lo hi P).2.2.2.2.2.2.2 = P.2.2.2.2.2.2 := by
  unfold nuP
  split
  · split
    · split <;> rfl
    · rfl
  · rfl
theorem nu_ge {lo hi : Int} (hP : PSt sz P) : P.1 ≤ (nuP tp sz lo hi P).2.1 := by
  have := hP.adv (tp := tp)
  have h1 := this.1.1
  unfold nuP
  split
  · split
    · split
      · show P.1 ≤ (PSadv tp sz P).1; omega
      · exact Int.le_refl _
    · exact Int.le_refl _
  · exact Int.le_refl _
theorem rp_all (hP : PSt sz P) (h3 : 0 ≤ P.2.2.2.2.2.2.1 3) : KP P (rpP tp sz j P) ∧ P.1 ≤ (rpP tp sz j P).1 ∧ ((rpP tp sz j P).2.2.2.2.1 = 0 → P.2.2.2.2.1 = 0 ∧ (rpP tp sz j P).2.2.2.2.2.2.1 (220 + 3 * P.2.2.2.2.2.2.1 3) = j ∧ (rpP tp sz j P).2.2.2.2.2.2.1 3 = P.2.2.2.2.2.2.1 3 + 1) := by
  have ad := hP.adv (tp := tp)
  have ad1 := ad.1.1
  unfold rpP
  by_cases z : P.2.2.2.2.1 = 0
  · rw [if_pos z]
    by_cases q : askP tp P = 0
    · rw [if_pos q]
      have ef := nu_fresh (tp := tp) (sz := sz) (P := P) (lo := 0) (hi := 1000)
      have ge := nu_ge (tp := tp) (lo := 0) (hi := 1000) hP
      unfold rpN
      by_cases w : (nuP tp sz 0 1000 P).2.2.2.2.2.1 = 0
      · rw [if_pos w]
        have ef1 : (nuP tp sz 0 1000 P).2.2.2.2.2.2.2.1 = P.2.2.2.2.2.2.1 := congrArg Prod.fst ef
        have eR : (PSf (pgF (nuP tp sz 0 1000 P).2.2.2.2.2.2.2.1 j 0 (nuP tp sz 0 1000 P).1) (nuP tp sz 0 1000 P).2).2.2.2.2.2.2.1 = pgF P.2.2.2.2.2.2.1 j 0 (nuP tp sz 0 1000 P).1 := by rw [ef1]; rfl
        have pa := pgF_at (j := j) (kd := 0) (n := (nuP tp sz 0 1000 P).1) h3
        exact ⟨KP.pg h3 eR, ge, fun _ => ⟨z, by rw [eR]; exact pa.1, by rw [eR]; exact pa.2.2.2⟩⟩
      · rw [if_neg w]
        refine ⟨?_, ge, fun y => absurd y w⟩
        unfold KP
        rw [show (nuP tp sz 0 1000 P).2.2.2.2.2.2.2.1 = P.2.2.2.2.2.2.1 from congrArg Prod.fst ef]
        exact ⟨Int.le_refl _, fun _ _ _ => rfl⟩
    · rw [if_neg q]
      have pa := pgF_at (j := j) (kd := askP tp P) (n := 0) h3
      exact ⟨KP.pg h3 (kd := askP tp P) (n := 0) rfl, by show P.1 ≤ (PSadv tp sz P).1; omega, fun _ => ⟨z, pa.1, pa.2.2.2⟩⟩
  · rw [if_neg z]
    exact ⟨KP.refl, Int.le_refl _, fun y => absurd y z⟩
theorem tjL_bad (h : P.2.2.2.2.1 ≠ 0) : ∀ f : Nat, tjL tp sz f P = P := by
  intro f
  cases f with
  | zero => rfl
  | succ f =>
    unfold tjL
    rw [if_neg (fun q => h q.1), if_neg (fun q => h q.1)]
theorem tj_all (hz : sz ≤ 900) : ∀ (f : Nat) (P : PS), PSok sz P → PSok sz (tjL tp sz f P) ∧ KP P (tjL tp sz f P) ∧ P.1 ≤ (tjL tp sz f P).1 ∧ (tjL tp sz f P).2.2.2.2.2.2.2 = P.2.2.2.2.2.2.2 := by
  intro f
  induction f with
  | zero => intro P h; exact ⟨h, KP.refl, Int.le_refl _, rfl⟩
  | succ f ih =>
    intro P h
    have st : ∀ (bs : List Int) (j : Int), 4 ≤ bs.length → isW tp bs P → 0 ≤ j ∧ j ≤ 4 → PSok sz (tjL tp sz f (rpP tp sz j (PSadv tp sz P))) ∧ KP P (tjL tp sz f (rpP tp sz j (PSadv tp sz P))) ∧ P.1 ≤ (tjL tp sz f (rpP tp sz j (PSadv tp sz P))).1 ∧ (tjL tp sz f (rpP tp sz j (PSadv tp sz P))).2.2.2.2.2.2.2 = P.2.2.2.2.2.2.2 := by
      intro bs j hb hi hj
      obtain ⟨a1, a2, a3, a4, a5⟩ := rw_step (tp := tp) h hz hb hi hj
      obtain ⟨b1, b2, b3, b4⟩ := ih _ a3
      have r1 := rp_all (tp := tp) (j := j) a1.1 a1.2.1.1.2.2.1.1
      have r2 := (h.1.adv (tp := tp)).1.1
      have r3 := (h.1.adv (tp := tp)).2.1
      exact ⟨b1, KP.trans (KP.trans (show KP P (PSadv tp sz P) from KP.refl) r1.1) b2, by have := r1.2.1; omega, b4.trans a4⟩
    unfold tjL
    by_cases z3 : isW tp wTimes P
    · rw [if_pos z3]; exact st _ _ (by decide) z3 (by decide)
    · rw [if_neg z3]
      by_cases z4 : isW tp wOver P
      · rw [if_pos z4]; exact st _ _ (by decide) z4 (by decide)
      · rw [if_neg z4]
        exact ⟨h, KP.refl, Int.le_refl _, rfl⟩
theorem rw_fuel (hz : sz ≤ 900) : ∀ (n f f' : Nat) (P : PS), PSok sz P → sz - P.1 < n → sz - P.1 < f → sz - P.1 < f' → rwL tp sz f P = rwL tp sz f' P := by
  intro n
  induction n with
  | zero => intro f f' P h q; have := h.1.1; omega
  | succ n ih =>
    intro f f' P h q0 q1 q2
    have hb := h.1.1
    obtain ⟨f, rfl⟩ : ∃ g, f = g + 1 := ⟨f - 1, by omega⟩
    obtain ⟨f', rfl⟩ : ∃ g, f' = g + 1 := ⟨f' - 1, by omega⟩
    have st : ∀ (bs : List Int) (j : Int), 4 ≤ bs.length → isW tp bs P → 0 ≤ j ∧ j ≤ 4 → rwL tp sz f (rpP tp sz j (PSadv tp sz P)) = rwL tp sz f' (rpP tp sz j (PSadv tp sz P)) := by
      intro bs j hb hi hj
      obtain ⟨a1, a2, a3, a4, a5⟩ := rw_step (tp := tp) h hz hb hi hj
      by_cases w : (rpP tp sz j (PSadv tp sz P)).2.2.2.2.1 = 0
      · have := a5 w
        exact ih f f' _ a3 (by omega) (by omega) (by omega)
      · rw [rwL_bad w, rwL_bad w]
    unfold rwL
    by_cases z1 : isW tp wPlus P
    · rw [if_pos z1, if_pos z1]; exact st _ _ (by decide) z1 (by decide)
    · rw [if_neg z1, if_neg z1]
      by_cases z2 : isW tp wMinus P
      · rw [if_pos z2, if_pos z2]; exact st _ _ (by decide) z2 (by decide)
      · rw [if_neg z2, if_neg z2]
        by_cases z3 : isW tp wTimes P
        · rw [if_pos z3, if_pos z3]; exact st _ _ (by decide) z3 (by decide)
        · rw [if_neg z3, if_neg z3]
          by_cases z4 : isW tp wOver P
          · rw [if_pos z4, if_pos z4]; exact st _ _ (by decide) z4 (by decide)
          · rw [if_neg z4, if_neg z4]
theorem tj_fuel (hz : sz ≤ 900) : ∀ (n f f' : Nat) (P : PS), PSok sz P → sz - P.1 < n → sz - P.1 < f → sz - P.1 < f' → tjL tp sz f P = tjL tp sz f' P := by
  intro n
  induction n with
  | zero => intro f f' P h q; have := h.1.1; omega
  | succ n ih =>
    intro f f' P h q0 q1 q2
    have hb := h.1.1
    obtain ⟨f, rfl⟩ : ∃ g, f = g + 1 := ⟨f - 1, by omega⟩
    obtain ⟨f', rfl⟩ : ∃ g, f' = g + 1 := ⟨f' - 1, by omega⟩
    have st : ∀ (bs : List Int) (j : Int), 4 ≤ bs.length → isW tp bs P → 0 ≤ j ∧ j ≤ 4 → tjL tp sz f (rpP tp sz j (PSadv tp sz P)) = tjL tp sz f' (rpP tp sz j (PSadv tp sz P)) := by
      intro bs j hb hi hj
      obtain ⟨a1, a2, a3, a4, a5⟩ := rw_step (tp := tp) h hz hb hi hj
      by_cases w : (rpP tp sz j (PSadv tp sz P)).2.2.2.2.1 = 0
      · have := a5 w
        exact ih f f' _ a3 (by omega) (by omega) (by omega)
      · rw [tjL_bad w, tjL_bad w]
    unfold tjL
    by_cases z3 : isW tp wTimes P
    · rw [if_pos z3, if_pos z3]; exact st _ _ (by decide) z3 (by decide)
    · rw [if_neg z3, if_neg z3]
      by_cases z4 : isW tp wOver P
      · rw [if_pos z4, if_pos z4]; exact st _ _ (by decide) z4 (by decide)
      · rw [if_neg z4, if_neg z4]
theorem nu_from {lo hi : Int} (hP : PSt sz P) : P.2.1 ≤ (nuP tp sz lo hi P).2.2.1 := by
  have := hP.adv (tp := tp)
  have h1 := this.1.1
  have h2 := this.2.1
  have h4 := hP.1
  unfold nuP
  split
  · split
    · split
      · show P.2.1 ≤ (PSadv tp sz P).2.1; omega
      · exact Int.le_refl _
    · exact Int.le_refl _
  · exact Int.le_refl _
theorem rp_from (hP : PSt sz P) : P.2.1 ≤ (rpP tp sz j P).2.1 := by
  have ad := hP.adv (tp := tp)
  have h1 := ad.1.1
  have h2 := ad.2.1
  have h4 := hP.1
  have hn := nu_from (tp := tp) (lo := 0) (hi := 1000) hP
  unfold rpP
  split
  · split
    · unfold rpN
      split
      · exact hn
      · exact hn
    · show P.2.1 ≤ (PSadv tp sz P).2.1; omega
  · exact Int.le_refl _
theorem tj_from (hz : sz ≤ 900) : ∀ (f : Nat) (P : PS), PSok sz P → P.2.1 ≤ (tjL tp sz f P).2.1 := by
  intro f
  induction f with
  | zero => intro P h; exact Int.le_refl _
  | succ f ih =>
    intro P h
    have st : ∀ (bs : List Int) (j : Int), 4 ≤ bs.length → isW tp bs P → 0 ≤ j ∧ j ≤ 4 → P.2.1 ≤ (tjL tp sz f (rpP tp sz j (PSadv tp sz P))).2.1 := by
      intro bs j hb hi hj
      obtain ⟨a1, a2, a3, a4, a5⟩ := rw_step (tp := tp) h hz hb hi hj
      have b1 := ih _ a3
      have r1 := rp_from (tp := tp) (j := j) a1.1
      have r2 := (h.1.adv (tp := tp)).1.1
      have r3 := (h.1.adv (tp := tp)).2.1
      have r4 := h.1.1
      omega
    unfold tjL
    by_cases z3 : isW tp wTimes P
    · rw [if_pos z3]; exact st _ _ (by decide) z3 (by decide)
    · rw [if_neg z3]
      by_cases z4 : isW tp wOver P
      · rw [if_pos z4]; exact st _ _ (by decide) z4 (by decide)
      · rw [if_neg z4]; exact Int.le_refl _
/-- a joining word and a part take at least five signs -/
theorem rw_five (h : PSok sz P) (hz : sz ≤ 900) (hb : 4 ≤ bs.length) (hi : isW tp bs P) (hj : 0 ≤ j ∧ j ≤ 4) (w : (rpP tp sz j (PSadv tp sz P)).2.2.2.2.1 = 0) : P.2.1 + 5 ≤ (rpP tp sz j (PSadv tp sz P)).2.1 ∧ (PSadv tp sz P).2.1 + 1 ≤ (rpP tp sz j (PSadv tp sz P)).2.1 ∧ P.2.1 + 4 ≤ (PSadv tp sz P).2.1 := by
  obtain ⟨a1, a2, a3, a4, a5⟩ := rw_step (tp := tp) h hz hb hi hj
  obtain ⟨b1, b2, b3⟩ := rpP_ok (tp := tp) (j := j) a1 hz (fun _ => a2) hj
  have c := b3 w
  have e := isW_word hi
  have r3 := (h.1.adv (tp := tp)).2.1
  omega
theorem rwL_s {f : Nat} : rwL tp sz (f + 1) P = if isW tp wPlus P then rwL tp sz f (rpP tp sz 1 (PSadv tp sz P)) else if isW tp wMinus P then rwL tp sz f (rpP tp sz 2 (PSadv tp sz P)) else if isW tp wTimes P then rwL tp sz f (rpP tp sz 3 (PSadv tp sz P)) else if isW tp wOver P then rwL tp sz f (rpP tp sz 4 (PSadv tp sz P)) else P := rfl
/-- the joined parts of a term first -/
theorem rw_tj (hz : sz ≤ 900) : ∀ (n f f' f2 : Nat) (P : PS), PSok sz P → sz - P.1 < n → sz - P.1 < f → sz - P.1 < f' → sz - P.1 < f2 → rwL tp sz f P = rwL tp sz f' (tjL tp sz f2 P) ∧ ((tjL tp sz f2 P).2.2.2.2.1 = 0 → ¬ isW tp wTimes (tjL tp sz f2 P) ∧ ¬ isW tp wOver (tjL tp sz f2 P)) := by
  intro n
  induction n with
  | zero => intro f f' f2 P h q; have := h.1.1; omega
  | succ n ih =>
    intro f f' f2 P h q0 q1 q2 q3
    have hb := h.1.1
    obtain ⟨f, rfl⟩ : ∃ g, f = g + 1 := ⟨f - 1, by omega⟩
    obtain ⟨f2, rfl⟩ : ∃ g, f2 = g + 1 := ⟨f2 - 1, by omega⟩
    have st : ∀ (bs : List Int) (j : Int), 4 ≤ bs.length → isW tp bs P → 0 ≤ j ∧ j ≤ 4 → rwL tp sz f (rpP tp sz j (PSadv tp sz P)) = rwL tp sz f' (tjL tp sz f2 (rpP tp sz j (PSadv tp sz P))) ∧ ((tjL tp sz f2 (rpP tp sz j (PSadv tp sz P))).2.2.2.2.1 = 0 → ¬ isW tp wTimes (tjL tp sz f2 (rpP tp sz j (PSadv tp sz P))) ∧ ¬ isW tp wOver (tjL tp sz f2 (rpP tp sz j (PSadv tp sz P)))) := by
      intro bs j hb hi hj
      obtain ⟨a1, a2, a3, a4, a5⟩ := rw_step (tp := tp) h hz hb hi hj
      by_cases w : (rpP tp sz j (PSadv tp sz P)).2.2.2.2.1 = 0
      · have := a5 w
        exact ih f f' f2 _ a3 (by omega) (by omega) (by omega) (by omega)
      · rw [tjL_bad w, rwL_bad w, rwL_bad w]; exact ⟨rfl, fun q => absurd q w⟩
    by_cases z3 : isW tp wTimes P
    · rw [show tjL tp sz (f2 + 1) P = tjL tp sz f2 (rpP tp sz 3 (PSadv tp sz P)) from if_pos z3]
      have e : rwL tp sz (f + 1) P = rwL tp sz f (rpP tp sz 3 (PSadv tp sz P)) := by
        rw [rwL_s, if_neg (fun q => absurd (isW_inj q z3) (by decide)), if_neg (fun q => absurd (isW_inj q z3) (by decide)), if_pos z3]
      rw [e]; exact st _ _ (by decide) z3 (by decide)
    · by_cases z4 : isW tp wOver P
      · rw [show tjL tp sz (f2 + 1) P = tjL tp sz f2 (rpP tp sz 4 (PSadv tp sz P)) from (if_neg z3).trans (if_pos z4)]
        have e : rwL tp sz (f + 1) P = rwL tp sz f (rpP tp sz 4 (PSadv tp sz P)) := by
          rw [rwL_s, if_neg (fun q => absurd (isW_inj q z4) (by decide)), if_neg (fun q => absurd (isW_inj q z4) (by decide)), if_neg z3, if_pos z4]
        rw [e]; exact st _ _ (by decide) z4 (by decide)
      · rw [show tjL tp sz (f2 + 1) P = P from (if_neg z3).trans (if_neg z4)]
        exact ⟨rw_fuel hz (n + 1) _ _ P h q0 q1 q2, fun _ => ⟨z3, z4⟩⟩
end
