/-! THE REFERENCE: readLine -/
set_option maxRecDepth 100000
theorem eqL_inj {tp : Int → Int} : ∀ (a b : List Int) (p : Int), a.length = b.length → eqL tp a p = true → eqL tp b p = true → a = b := by
  intro a
  induction a with
  | nil => intro b p h _ _; exact (List.length_eq_zero_iff.mp h.symm).symm
  | cons x a ih =>
    intro b p h h1 h2
    cases b with
    | nil => simp at h
    | cons y b =>
      unfold eqL at h1 h2
      split at h1
      · rename_i e1
        split at h2
        · rename_i e2
          rw [ih b (p + 1) (by simpa using h) h1 h2, ← e1, ← e2]
        · cases h2
      · cases h1
theorem isW_inj {tp : Int → Int} {a b : List Int} {P : PS} (h1 : isW tp a P) (h2 : isW tp b P) : a = b :=
  eqL_inj a b _ (by have := h1.2.2.1; have := h2.2.2.1; omega) h1.2.2.2 h2.2.2.2
def en1 (P : PS) : PS := if P.2.2.1 = 3 then P else if P.2.2.2.2.1 = 0 then PSerr 1 P else P
def en2 (tp : Int → Int) (sz : Int) (P : PS) : PS := if P.2.2.2.2.1 = 0 then PSadv tp sz P else P
def enP (tp : Int → Int) (sz : Int) (P : PS) : PS := PSf (upI (en2 tp sz (en1 P)).2.2.2.2.2.2.1 0 ((en2 tp sz (en1 P)).2.2.2.2.2.2.1 0 + 1)) (en2 tp sz (en1 P))
def thQ (q : Int × PS) : PS := if q.2.2.2.2.2.1 = 0 then PSf (upI (upI q.2.2.2.2.2.2.2.1 (10 + q.2.2.2.2.2.2.2.1 1) q.1) 1 (upI q.2.2.2.2.2.2.2.1 (10 + q.2.2.2.2.2.2.2.1 1) q.1 1 + 1)) q.2 else q.2
def thP (tp : Int → Int) (sz : Int) (P : PS) : PS := thQ (nuP tp sz 0 9 (nwP tp sz wEasy (PSadv tp sz P)))
def PSh (x : Int) (P : PS) : PS := (P.1, P.2.1, P.2.2.1, P.2.2.2.1, P.2.2.2.2.1, P.2.2.2.2.2.1, P.2.2.2.2.2.2.1, x, P.2.2.2.2.2.2.2.2)
def PSl (g : Int → Int) (P : PS) : PS := (P.1, P.2.1, P.2.2.1, P.2.2.2.1, P.2.2.2.2.1, P.2.2.2.2.2.1, P.2.2.2.2.2.2.1, P.2.2.2.2.2.2.2.1, g)
def stQ (i : Int) (q : Int × PS) : PS := PSf (upI q.2.2.2.2.2.2.2.1 i q.1) q.2
def hoP (tp : Int → Int) (sz : Int) (P : PS) : PS := stQ 4 (nuP tp sz 0 5000 (PSh 1 (PSadv tp sz P)))
def leQ (tp : Int → Int) (sz : Int) (P : PS) : PS := if srP tp P = -1 then PSerr 1 P else if P.2.2.2.2.2.2.2.2 (srP tp P) = 0 then stQ (5 + srP tp P) (nuP tp sz 0 100 (PSadv tp sz (PSl (upI P.2.2.2.2.2.2.2.2 (srP tp P) 1) P))) else PSerr 2 P
def leP (tp : Int → Int) (sz : Int) (P : PS) : PS := leQ tp sz (PSadv tp sz P)
def lnP (tp : Int → Int) (sz : Int) (P : PS) : PS :=
  if isW tp wThing P then (if P.2.2.2.2.2.2.1 1 = 24 then PSerr 3 P else enP tp sz (thP tp sz P))
  else if isW tp wRow P then (if P.2.2.2.2.2.2.1 2 = 12 then PSerr 3 P else enP tp sz (rrL tp sz 13 0 (PSadv tp sz P)))
  else if isW tp wHold P then (if P.2.2.2.2.2.2.2.1 = 0 then enP tp sz (hoP tp sz P) else PSerr 2 P)
  else if isW tp wLean P then enP tp sz (leP tp sz P)
  else if isW tp wGrow P then enP tp sz (rlP tp sz 0 (PSadv tp sz P))
  else if isW tp wFall P then enP tp sz (rlP tp sz 1 (PSadv tp sz P))
  else if isW tp wMix P then enP tp sz (rlP tp sz 2 (PSadv tp sz P))
  else PSerr 1 P
/-- what a line's body leaves: in order; if good it went on -/
def went (sz : Int) (P R : PS) : Prop := PSok sz R ∧ (R.2.2.2.2.1 = 0 → P.1 ≤ R.2.1)
theorem rp_mono {tp : Int → Int} {sz j : Int} {P : PS} (h : PSok sz P) (hz : sz ≤ 900) (h3 : P.2.2.2.2.1 = 0 → 3 * P.2.2.2.2.2.2.1 3 + 3 ≤ P.2.1) (hj : 0 ≤ j ∧ j ≤ 4) : P.2.2.2.2.2.2.1 3 ≤ (rpP tp sz j P).2.2.2.2.2.2.1 3 := by
  by_cases x : (rpP tp sz j P).2.2.2.2.1 = 0
  · have := ((rpP_ok (tp := tp) h hz h3 hj).2.2 x).2.2.2; omega
  · unfold rpP at x ⊢
    by_cases z : P.2.2.2.2.1 = 0
    · rw [if_pos z] at x ⊢
      by_cases y : askP tp P = 0
      · rw [if_pos y] at x ⊢
        unfold rpN at x ⊢
        by_cases u : (nuP tp sz 0 1000 P).2.2.2.2.2.1 = 0
        · rw [if_pos u] at x; exact absurd u x
        · rw [if_neg u, (h.1.nu (tp := tp) (lo := 0) (hi := 1000) (by omega)).2.1]; exact Int.le_refl _
      · rw [if_neg y] at x; exact absurd z x
    · rw [if_neg z]; exact Int.le_refl _
theorem rw_mono {tp : Int → Int} {sz : Int} (hz : sz ≤ 900) : ∀ (f : Nat) (P : PS), PSok sz P → P.2.2.2.2.2.2.1 3 ≤ (rwL tp sz f P).2.2.2.2.2.2.1 3 ∧ ((rwL tp sz f P).2.2.2.2.1 = 0 → P.2.1 ≤ (rwL tp sz f P).2.1) := by
  intro f
  induction f with
  | zero => intro P h; exact ⟨Int.le_refl _, fun _ => Int.le_refl _⟩
  | succ f ih =>
    intro P h
    have st : ∀ (bs : List Int) (j : Int), 4 ≤ bs.length → isW tp bs P → 0 ≤ j ∧ j ≤ 4 → P.2.2.2.2.2.2.1 3 ≤ (rwL tp sz f (rpP tp sz j (PSadv tp sz P))).2.2.2.2.2.2.1 3 ∧ ((rwL tp sz f (rpP tp sz j (PSadv tp sz P))).2.2.2.2.1 = 0 → P.2.1 ≤ (rwL tp sz f (rpP tp sz j (PSadv tp sz P))).2.1) := by
      intro bs j hb hi hj
      obtain ⟨a1, a2, a3, a4, a5⟩ := rw_step (tp := tp) h hz hb hi hj
      obtain ⟨b1, b2⟩ := ih _ a3
      have m := rp_mono (tp := tp) (j := j) a1 hz (fun _ => a2) hj
      refine ⟨Int.le_trans m b1, fun q => ?_⟩
      have q2 := ((rwL_ok (tp := tp) hz f _ a3).2.2 q).1
      have c := ((rpP_ok (tp := tp) (j := j) a1 hz (fun _ => a2) hj).2.2 q2).2.1
      have c2 := (h.1.adv (tp := tp)).2.1
      have c3 := (h.1.adv (tp := tp)).1.1
      have c4 := h.1.1
      have c5 := b2 q
      omega
    unfold rwL
    by_cases z1 : isW tp wPlus P
    · rw [if_pos z1]; exact st _ _ (by decide) z1 (by decide)
    · rw [if_neg z1]
      by_cases z2 : isW tp wMinus P
      · rw [if_pos z2]; exact st _ _ (by decide) z2 (by decide)
      · rw [if_neg z2]
        by_cases z3 : isW tp wTimes P
        · rw [if_pos z3]; exact st _ _ (by decide) z3 (by decide)
        · rw [if_neg z3]
          by_cases z4 : isW tp wOver P
          · rw [if_pos z4]; exact st _ _ (by decide) z4 (by decide)
          · rw [if_neg z4]
            exact ⟨Int.le_refl _, fun _ => Int.le_refl _⟩
theorem rlP_ok {tp : Int → Int} {sz v : Int} {P : PS} (h : PSok sz P) (hz : sz ≤ 900) (hf : P.2.2.2.2.1 = 0) (hv : 0 ≤ v ∧ v ≤ 2) : PSok sz (rlP tp sz v P) ∧ ((rlP tp sz v P).2.2.2.2.1 = 0 → P.2.1 ≤ (rlP tp sz v P).2.1) := by
  unfold rlP
  have hsr := srP_in (tp := tp) (P := P)
  by_cases z : srP tp P = -1 ∨ (v = 2 ∧ srP tp P ≠ 0)
  · rw [if_pos z]; exact ⟨h.err (by decide), fun q => absurd q (by show ¬ (1 : Int) = 0; decide)⟩
  · rw [if_neg z]
    have hl : 0 ≤ lawN v (srP tp P) ∧ lawN v (srP tp P) ≤ 8 := by unfold lawN; split <;> omega
    by_cases y : 0 < P.2.2.2.2.2.2.1 (202 + 2 * lawN v (srP tp P) + 1)
    · rw [if_pos y]; exact ⟨h.err (by decide), fun q => absurd q (by show ¬ (2 : Int) = 0; decide)⟩
    · rw [if_neg y]
      have hA := h.adv (tp := tp)
      obtain ⟨a1, a2, a3⟩ := h.1.adv (tp := tp)
      have hge := srP_ge (tp := tp) (P := P) (by omega)
      have h3 := h.2.2.1
      have h0 := h.1.1
      have nwo := hA.nw (tp := tp) (bs := wBy)
      obtain ⟨u1, u2, u3, u4, u5⟩ := hA.1.nw (tp := tp) (bs := wBy)
      have u6 : (nwP tp sz wBy (PSadv tp sz P)).2.2.2.2.2.2.1 = P.2.2.2.2.2.2.1 := by rw [u2]; rfl
      have q3 : (nwP tp sz wBy (PSadv tp sz P)).2.2.2.2.1 = 0 → 3 * (nwP tp sz wBy (PSadv tp sz P)).2.2.2.2.2.2.1 3 + 3 ≤ (nwP tp sz wBy (PSadv tp sz P)).2.1 := fun q => by
        rw [u6]
        have := (u4 q).2
        have := a1.1
        omega
      obtain ⟨r1, r2, r3⟩ := rpP_ok (tp := tp) (j := 0) nwo hz q3 (by omega)
      have rm := rp_mono (tp := tp) (j := 0) nwo hz q3 (by omega)
      rw [u6] at rm
      obtain ⟨s1, s2, s3⟩ := rwL_ok (tp := tp) hz 1000 _ r1
      obtain ⟨t1, t2⟩ := rw_mono (tp := tp) hz 1000 _ r1
      have w3 := h.2.1.1.2.2.1.1
      generalize rwL tp sz 1000 (rpP tp sz 0 (nwP tp sz wBy (PSadv tp sz P))) = R at s1 s2 s3 t1 t2
      unfold rlQ
      by_cases x : R.2.2.2.2.1 = 0
      · rw [if_pos x]
        have fl := FW.law (l := lawN v (srP tp P)) (b := P.2.2.2.2.2.2.1 3) s1.2.1 hl (by omega)
        refine ⟨⟨s1.1, fl, ?_, s1.2.2.2.1, s1.2.2.2.2⟩, fun _ => ?_⟩
        · show 3 * upI (upI R.2.2.2.2.2.2.1 (202 + 2 * lawN v (srP tp P)) (P.2.2.2.2.2.2.1 3)) (202 + 2 * lawN v (srP tp P) + 1) _ 3 ≤ R.2.1
          rw [upI_ne (by omega), upI_ne (by omega)]
          exact s1.2.2.1
        · show P.2.1 ≤ R.2.1
          have c1 := t2 x
          have c2 := (s3 x).1
          have c3 := (r3 c2).2.1
          have c4 := (r3 c2).1
          have c5 := (u4 c4).2
          have c6 := a1.1
          have c7 := u1.1
          omega
      · rw [if_neg x]
        exact ⟨s1, fun q => absurd q x⟩
theorem rrL_ok {tp : Int → Int} {sz : Int} : ∀ (f : Nat) (n : Int) (P : PS), PSok sz P → P.2.2.2.2.1 = 0 → 0 ≤ n → n ≤ 12 → P.2.2.2.2.2.2.1 2 < 12 → (∀ i, 0 ≤ i → i < n → 0 ≤ P.2.2.2.2.2.2.1 (34 + 14 * P.2.2.2.2.2.2.1 2 + 1 + i) ∧ P.2.2.2.2.2.2.1 (34 + 14 * P.2.2.2.2.2.2.1 2 + 1 + i) < P.2.2.2.2.2.2.1 1) →
    PSok sz (rrL tp sz f n P) ∧ ((rrL tp sz f n P).2.2.2.2.1 = 0 → P.2.1 ≤ (rrL tp sz f n P).2.1) := by
  intro f
  induction f with
  | zero => intro n P h hf h0 h1 h2 hr; exact ⟨h, fun _ => Int.le_refl _⟩
  | succ f ih =>
    intro n P h hf h0 h1 h2 hr
    unfold rrL
    by_cases z1 : P.2.2.1 ≠ 2
    · rw [if_pos z1]; exact ⟨h.err (by decide), fun _ => Int.le_refl _⟩
    · rw [if_neg z1]
      by_cases z2 : P.2.2.2.2.2.2.1 1 ≤ P.2.2.2.1
      · rw [if_pos z2]; exact ⟨h.err (by decide), fun _ => Int.le_refl _⟩
      · rw [if_neg z2]
        by_cases z3 : dupB P.2.2.2.2.2.2.1 (34 + 14 * P.2.2.2.2.2.2.1 2) P.2.2.2.1 n.toNat 0 = true
        · rw [if_pos z3]; exact ⟨h.err (by decide), fun _ => Int.le_refl _⟩
        · rw [if_neg z3]
          by_cases z4 : n = 12
          · rw [if_pos z4]; exact ⟨h.err (by decide), fun _ => Int.le_refl _⟩
          · rw [if_neg z4]
            have w2 := h.2.1.1.2.1
            have w1 := h.2.1.1.1
            have hv := h.1.2.2.1
            have h3 := h.2.2.1
            have hA := h.adv (tp := tp)
            obtain ⟨a1, a2, a3⟩ := h.1.adv (tp := tp)
            have hp := h.1.1
            have e1 : upI P.2.2.2.2.2.2.1 (34 + 14 * P.2.2.2.2.2.2.1 2 + 1 + n) P.2.2.2.1 1 = P.2.2.2.2.2.2.1 1 := upI_ne (by omega)
            have e2 : upI P.2.2.2.2.2.2.1 (34 + 14 * P.2.2.2.2.2.2.1 2 + 1 + n) P.2.2.2.1 2 = P.2.2.2.2.2.2.1 2 := upI_ne (by omega)
            have e3 : upI P.2.2.2.2.2.2.1 (34 + 14 * P.2.2.2.2.2.2.1 2 + 1 + n) P.2.2.2.1 3 = P.2.2.2.2.2.2.1 3 := upI_ne (by omega)
            have hr2 : ∀ i, 0 ≤ i → i < n + 1 → 0 ≤ upI P.2.2.2.2.2.2.1 (34 + 14 * P.2.2.2.2.2.2.1 2 + 1 + n) P.2.2.2.1 (34 + 14 * P.2.2.2.2.2.2.1 2 + 1 + i) ∧ upI P.2.2.2.2.2.2.1 (34 + 14 * P.2.2.2.2.2.2.1 2 + 1 + n) P.2.2.2.1 (34 + 14 * P.2.2.2.2.2.2.1 2 + 1 + i) < P.2.2.2.2.2.2.1 1 := by
              intro i i1 i2
              by_cases c : i = n
              · subst c; rw [upI_at]; omega
              · rw [upI_ne (by omega)]; exact hr i i1 (by omega)
            have hF := h.2.1.up (j := 34 + 14 * P.2.2.2.2.2.2.1 2 + 1 + n) (x := P.2.2.2.1) (by omega) (by omega) hv
            have hO : PSok sz (PSf (upI P.2.2.2.2.2.2.1 (34 + 14 * P.2.2.2.2.2.2.1 2 + 1 + n) P.2.2.2.1) (PSadv tp sz P)) := by
              refine ⟨a1, hF, ?_, h.2.2.2.1, h.2.2.2.2⟩
              show 3 * upI P.2.2.2.2.2.2.1 (34 + 14 * P.2.2.2.2.2.2.1 2 + 1 + n) P.2.2.2.1 3 ≤ (PSadv tp sz P).2.1
              rw [e3]; omega
            by_cases z5 : n + 1 < 2 ∨ (PSadv tp sz P).2.2.1 = 2
            · rw [if_pos z5]
              obtain ⟨b1, b2⟩ := ih (n + 1) _ hO hf (by omega) (by omega) (by rw [show (PSf (upI P.2.2.2.2.2.2.1 (34 + 14 * P.2.2.2.2.2.2.1 2 + 1 + n) P.2.2.2.1) (PSadv tp sz P)).2.2.2.2.2.2.1 2 = P.2.2.2.2.2.2.1 2 from e2]; exact h2) (by
                intro i i1 i2
                show 0 ≤ upI P.2.2.2.2.2.2.1 (34 + 14 * P.2.2.2.2.2.2.1 2 + 1 + n) P.2.2.2.1 (34 + 14 * upI P.2.2.2.2.2.2.1 (34 + 14 * P.2.2.2.2.2.2.1 2 + 1 + n) P.2.2.2.1 2 + 1 + i) ∧ upI P.2.2.2.2.2.2.1 (34 + 14 * P.2.2.2.2.2.2.1 2 + 1 + n) P.2.2.2.1 (34 + 14 * upI P.2.2.2.2.2.2.1 (34 + 14 * P.2.2.2.2.2.2.1 2 + 1 + n) P.2.2.2.1 2 + 1 + i) < upI P.2.2.2.2.2.2.1 (34 + 14 * P.2.2.2.2.2.2.1 2 + 1 + n) P.2.2.2.1 1
                rw [e1, e2]
                exact hr2 i i1 i2)
              refine ⟨b1, fun q => ?_⟩
              have c : (PSadv tp sz P).2.1 ≤ (rrL tp sz f (n + 1) (PSf (upI P.2.2.2.2.2.2.1 (34 + 14 * P.2.2.2.2.2.2.1 2 + 1 + n) P.2.2.2.1) (PSadv tp sz P))).2.1 := b2 q
              omega
            · rw [if_neg z5]
              have fe := FW.rowEnd (n := n + 1) hF (by rw [e2]; exact h2) (by omega) (by rw [e1, e2]; exact hr2)
              rw [e2] at fe
              refine ⟨⟨a1, fe, ?_, h.2.2.2.1, h.2.2.2.2⟩, fun _ => ?_⟩
              · show 3 * upI (upI (upI P.2.2.2.2.2.2.1 (34 + 14 * P.2.2.2.2.2.2.1 2 + 1 + n) P.2.2.2.1) (34 + 14 * P.2.2.2.2.2.2.1 2) (n + 1)) 2 (upI (upI P.2.2.2.2.2.2.1 (34 + 14 * P.2.2.2.2.2.2.1 2 + 1 + n) P.2.2.2.1) (34 + 14 * P.2.2.2.2.2.2.1 2) (n + 1) 2 + 1) 3 ≤ (PSadv tp sz P).2.1
                rw [upI_ne (by omega), upI_ne (by omega), e3]
                omega
              · show P.2.1 ≤ (PSadv tp sz P).2.1
                omega
theorem FW.low {g : Int → Int} {j x : Int} (h : FW g) (hj : j = 0 ∨ (j = 4 ∧ 0 ≤ x ∧ x ≤ 5000) ∨ (5 ≤ j ∧ j < 9 ∧ 0 ≤ x ∧ x ≤ 100) ∨ (10 ≤ j ∧ j < 34 ∧ 0 ≤ x ∧ x ≤ 9) ∨ (j = 1 ∧ g 1 ≤ x ∧ x ≤ 24)) : FW (upI g j x) := by
  obtain ⟨⟨a1, a2, a3, a4, a5, a6, a7, a8, a9⟩, hb⟩ := h
  have e : ∀ y, y ≠ j → upI g j x y = g y := fun y hy => upI_ne hy
  have ed : ∀ y, (y = j ∧ upI g j x y = x) ∨ (y ≠ j ∧ upI g j x y = g y) := fun y => by
    by_cases c : y = j
    · subst c; exact Or.inl ⟨rfl, upI_at⟩
    · exact Or.inr ⟨c, upI_ne c⟩
  have h1 : g 1 ≤ upI g j x 1 := by rcases ed 1 with ⟨c, w⟩ | ⟨c, w⟩ <;> rw [w] <;> omega
  refine ⟨⟨?_, ?_, ?_, ?_, ?_, ?_, ?_, ?_, ?_⟩, ?_⟩
  · rcases ed 1 with ⟨c, w⟩ | ⟨c, w⟩ <;> rw [w] <;> omega
  · rw [e 2 (by omega)]; exact a2
  · rw [e 3 (by omega)]; exact a3
  · rcases ed 4 with ⟨c, w⟩ | ⟨c, w⟩ <;> rw [w] <;> omega
  · intro s q1 q2
    have := a5 s q1 q2
    rcases ed (5 + s) with ⟨c, w⟩ | ⟨c, w⟩ <;> rw [w] <;> omega
  · intro t q1 q2
    have := a6 t q1 q2
    rcases ed (10 + t) with ⟨c, w⟩ | ⟨c, w⟩ <;> rw [w] <;> omega
  · intro r q1 q2
    rw [e 2 (by omega)] at q2
    obtain ⟨p1, p2⟩ := a7 r q1 q2
    rw [e (34 + 14 * r) (by omega)]
    refine ⟨p1, fun i i1 i2 => ?_⟩
    rw [e (34 + 14 * r + 1 + i) (by omega)]
    have := p2 i i1 i2
    omega
  · intro l q1 q2; rw [e _ (by omega), e _ (by omega)]; exact a8 l q1 q2
  · intro k q1 q2; rw [e _ (by omega), e _ (by omega), e _ (by omega)]; exact a9 k q1 q2
  · intro y q1 q2; rw [e y (by omega)]; exact hb y q1 q2
theorem PSok.low {sz : Int} {P : PS} {j x : Int} (h : PSok sz P) (hj : j = 0 ∨ (j = 4 ∧ 0 ≤ x ∧ x ≤ 5000) ∨ (5 ≤ j ∧ j < 9 ∧ 0 ≤ x ∧ x ≤ 100) ∨ (10 ≤ j ∧ j < 34 ∧ 0 ≤ x ∧ x ≤ 9) ∨ (j = 1 ∧ P.2.2.2.2.2.2.1 1 ≤ x ∧ x ≤ 24)) : PSok sz (PSf (upI P.2.2.2.2.2.2.1 j x) P) := by
  refine ⟨h.1, h.2.1.low hj, ?_, h.2.2.2.1, h.2.2.2.2⟩
  show 3 * upI P.2.2.2.2.2.2.1 j x 3 ≤ P.2.1
  rw [upI_ne (by omega)]
  exact h.2.2.1
theorem nu_val {tp : Int → Int} {sz lo hi : Int} {P : PS} (h : 0 ≤ lo) (h2 : 0 ≤ hi) : 0 ≤ (nuP tp sz lo hi P).1 ∧ (nuP tp sz lo hi P).1 ≤ hi := by
  unfold nuP
  split
  · split
    · split
      · rename_i z; exact ⟨by show 0 ≤ P.2.2.2.1; omega, z.2⟩
      · exact ⟨Int.le_refl 0, h2⟩
    · exact ⟨Int.le_refl 0, h2⟩
  · exact ⟨Int.le_refl 0, h2⟩
theorem thP_ok {tp : Int → Int} {sz : Int} {P : PS} (h : PSok sz P) (h1 : P.2.2.2.2.2.2.1 1 ≠ 24) : went sz P (thP tp sz P) := by
  unfold thP
  have hA := h.adv (tp := tp)
  have a2 := (h.1.adv (tp := tp)).2.1
  have a1 := (h.1.adv (tp := tp)).1.1
  have nwo := hA.nw (tp := tp) (bs := wEasy)
  obtain ⟨u1, u2, u3, u4, u5⟩ := hA.1.nw (tp := tp) (bs := wEasy)
  have uf : (nwP tp sz wEasy (PSadv tp sz P)).2.2.2.2.2.2.1 = P.2.2.2.2.2.2.1 := by rw [u2]; rfl
  have nuo := nwo.nu (tp := tp) (lo := 0) (hi := 9) (by omega)
  obtain ⟨v1, v2, v3, v4, v5⟩ := nwo.1.nu (tp := tp) (lo := 0) (hi := 9) (by omega)
  have vv := nu_val (tp := tp) (sz := sz) (P := nwP tp sz wEasy (PSadv tp sz P)) (show (0 : Int) ≤ 0 by omega) (show (0 : Int) ≤ 9 by omega)
  have vf : (nuP tp sz 0 9 (nwP tp sz wEasy (PSadv tp sz P))).2.2.2.2.2.2.2.1 = P.2.2.2.2.2.2.1 := by rw [v2]; exact uf
  generalize nuP tp sz 0 9 (nwP tp sz wEasy (PSadv tp sz P)) = q at nuo v1 v2 v3 v4 v5 vv vf
  unfold thQ
  have w1 := h.2.1.1.1
  by_cases x : q.2.2.2.2.2.1 = 0
  · rw [if_pos x]
    have o1 := nuo.low (j := 10 + q.2.2.2.2.2.2.2.1 1) (x := q.1) (by rw [vf]; omega)
    have e1 : upI q.2.2.2.2.2.2.2.1 (10 + q.2.2.2.2.2.2.2.1 1) q.1 1 = q.2.2.2.2.2.2.2.1 1 := upI_ne (by rw [vf]; omega)
    have o2 := o1.low (j := 1) (x := upI q.2.2.2.2.2.2.2.1 (10 + q.2.2.2.2.2.2.2.1 1) q.1 1 + 1) (Or.inr (Or.inr (Or.inr (Or.inr ⟨rfl, by show upI q.2.2.2.2.2.2.2.1 (10 + q.2.2.2.2.2.2.2.1 1) q.1 1 ≤ _; omega, by rw [e1, vf]; omega⟩))))
    refine ⟨o2, fun _ => ?_⟩
    show P.1 ≤ q.2.2.1
    have c1 := (v4 x).2.2.1
    have c2 := (u4 (v4 x).2.1).2
    have c3 := u1.1
    omega
  · rw [if_neg x]
    exact ⟨nuo, fun y => absurd y x⟩
theorem hoP_ok {tp : Int → Int} {sz : Int} {P : PS} (h : PSok sz P) : went sz P (hoP tp sz P) := by
  unfold hoP
  have hA : PSok sz (PSh 1 (PSadv tp sz P)) := by
    have := h.adv (tp := tp)
    exact ⟨this.1, this.2.1, this.2.2.1, Or.inr rfl, this.2.2.2.2⟩
  have a2 : P.1 ≤ (PSh 1 (PSadv tp sz P)).2.1 := (h.1.adv (tp := tp)).2.1
  have a1 := hA.1.1
  have nuo := hA.nu (tp := tp) (lo := 0) (hi := 5000) (by omega)
  obtain ⟨v1, v2, v3, v4, v5⟩ := hA.1.nu (tp := tp) (lo := 0) (hi := 5000) (by omega)
  have vv := nu_val (tp := tp) (sz := sz) (P := PSh 1 (PSadv tp sz P)) (show (0 : Int) ≤ 0 by omega) (show (0 : Int) ≤ 5000 by omega)
  generalize nuP tp sz 0 5000 (PSh 1 (PSadv tp sz P)) = q at nuo v1 v2 v3 v4 v5 vv
  refine ⟨nuo.low (j := 4) (x := q.1) (by omega), fun x => ?_⟩
  show P.1 ≤ q.2.2.1
  have c1 := (v4 x).2.2.1
  omega
theorem leP_ok {tp : Int → Int} {sz : Int} {P : PS} (h : PSok sz P) : went sz P (leP tp sz P) := by
  unfold leP
  have hA := h.adv (tp := tp)
  have a2 := (h.1.adv (tp := tp)).2.1
  generalize PSadv tp sz P = R at hA a2
  unfold leQ
  have hs := srP_in (tp := tp) (P := R)
  by_cases z : srP tp R = -1
  · rw [if_pos z]; exact ⟨hA.err (by decide), fun _ => a2⟩
  · rw [if_neg z]
    by_cases y : R.2.2.2.2.2.2.2.2 (srP tp R) = 0
    · rw [if_pos y]
      have hB : PSok sz (PSl (upI R.2.2.2.2.2.2.2.2 (srP tp R) 1) R) := by
        refine ⟨hA.1, hA.2.1, hA.2.2.1, hA.2.2.2.1, fun j j0 j1 => ?_⟩
        show upI R.2.2.2.2.2.2.2.2 (srP tp R) 1 j = 0 ∨ upI R.2.2.2.2.2.2.2.2 (srP tp R) 1 j = 1
        by_cases c : j = srP tp R
        · subst c; rw [upI_at]; exact Or.inr rfl
        · rw [upI_ne c]; exact hA.2.2.2.2 j j0 j1
      have hC := hB.adv (tp := tp)
      have b2 : R.1 ≤ (PSadv tp sz (PSl (upI R.2.2.2.2.2.2.2.2 (srP tp R) 1) R)).2.1 := (hB.1.adv (tp := tp)).2.1
      have b1 := hA.1.1
      have nuo := hC.nu (tp := tp) (lo := 0) (hi := 100) (by omega)
      obtain ⟨v1, v2, v3, v4, v5⟩ := hC.1.nu (tp := tp) (lo := 0) (hi := 100) (by omega)
      have vv := nu_val (tp := tp) (sz := sz) (P := PSadv tp sz (PSl (upI R.2.2.2.2.2.2.2.2 (srP tp R) 1) R)) (show (0 : Int) ≤ 0 by omega) (show (0 : Int) ≤ 100 by omega)
      generalize nuP tp sz 0 100 (PSadv tp sz (PSl (upI R.2.2.2.2.2.2.2.2 (srP tp R) 1) R)) = q at nuo v1 v2 v3 v4 v5 vv
      refine ⟨nuo.low (j := 5 + srP tp R) (x := q.1) (by omega), fun x => ?_⟩
      show P.1 ≤ q.2.2.1
      omega
    · rw [if_neg y]; exact ⟨hA.err (by decide), fun _ => a2⟩
theorem enP_ok {tp : Int → Int} {sz : Int} {P R : PS} (h : went sz P R) : PSok sz (enP tp sz R) ∧ ((enP tp sz R).2.2.2.2.1 = 0 → P.1 + 1 ≤ (enP tp sz R).1) := by
  obtain ⟨h1, h2⟩ := h
  unfold enP
  have e1 : PSok sz (en1 R) ∧ ((en1 R).2.2.2.2.1 = 0 → en1 R = R ∧ R.2.2.1 = 3 ∧ R.2.2.2.2.1 = 0) := by
    unfold en1
    by_cases z : R.2.2.1 = 3
    · rw [if_pos z]; exact ⟨h1, fun q => ⟨rfl, z, q⟩⟩
    · rw [if_neg z]
      by_cases y : R.2.2.2.2.1 = 0
      · rw [if_pos y]; exact ⟨h1.err (by decide), fun q => absurd q (by show ¬ (1 : Int) = 0; decide)⟩
      · rw [if_neg y]; exact ⟨h1, fun q => absurd q y⟩
  generalize en1 R = S at e1
  have e2 : PSok sz (en2 tp sz S) ∧ ((en2 tp sz S).2.2.2.2.1 = 0 → P.1 + 1 ≤ (en2 tp sz S).1) := by
    unfold en2
    by_cases y : S.2.2.2.2.1 = 0
    · rw [if_pos y]
      refine ⟨e1.1.adv, fun _ => ?_⟩
      obtain ⟨c1, c2, c3⟩ := e1.2 y
      have d1 := (e1.1.1.adv (tp := tp)).2.1
      have d2 := (e1.1.1.adv (tp := tp)).1.1
      have d3 := h1.1.2.2.2.2 (by rw [c2]; decide)
      have d4 := h2 c3
      rw [c1] at d1 d2 ⊢
      omega
    · rw [if_neg y]; exact ⟨e1.1, fun q => absurd q y⟩
  generalize en2 tp sz S = T at e2
  exact ⟨e2.1.low (j := 0) (x := T.2.2.2.2.2.2.1 0 + 1) (Or.inl rfl), e2.2⟩
theorem lnP_ok {tp : Int → Int} {sz : Int} {P : PS} (h : PSok sz P) (hz : sz ≤ 900) (hf : P.2.2.2.2.1 = 0) : PSok sz (lnP tp sz P) ∧ ((lnP tp sz P).2.2.2.2.1 = 0 → P.1 + 1 ≤ (lnP tp sz P).1) := by
  have hA := h.adv (tp := tp)
  have a2 := (h.1.adv (tp := tp)).2.1
  have er : ∀ k : Int, 1 ≤ k ∧ k ≤ 3 → PSok sz (PSerr k P) ∧ ((PSerr k P).2.2.2.2.1 = 0 → P.1 + 1 ≤ (PSerr k P).1) := fun k hk => ⟨h.err (by omega), fun q => by
    have q2 : k = 0 := q
    omega⟩
  have rl : ∀ v : Int, 0 ≤ v ∧ v ≤ 2 → PSok sz (enP tp sz (rlP tp sz v (PSadv tp sz P))) ∧ ((enP tp sz (rlP tp sz v (PSadv tp sz P))).2.2.2.2.1 = 0 → P.1 + 1 ≤ (enP tp sz (rlP tp sz v (PSadv tp sz P))).1) := fun v hv => by
    obtain ⟨b1, b2⟩ := rlP_ok (tp := tp) hA hz hf hv
    exact enP_ok ⟨b1, fun q => Int.le_trans a2 (b2 q)⟩
  have w2 := h.2.1.1.2.1
  unfold lnP
  by_cases z1 : isW tp wThing P
  · rw [if_pos z1]
    by_cases y : P.2.2.2.2.2.2.1 1 = 24
    · rw [if_pos y]; exact er 3 (by decide)
    · rw [if_neg y]; exact enP_ok (thP_ok h y)
  · rw [if_neg z1]
    by_cases z2 : isW tp wRow P
    · rw [if_pos z2]
      by_cases y : P.2.2.2.2.2.2.1 2 = 12
      · rw [if_pos y]; exact er 3 (by decide)
      · rw [if_neg y]
        obtain ⟨b1, b2⟩ := rrL_ok (tp := tp) 13 0 (PSadv tp sz P) hA hf (by omega) (by omega) (by show P.2.2.2.2.2.2.1 2 < 12; omega) (fun i i1 i2 => absurd i2 (by omega))
        exact enP_ok ⟨b1, fun q => Int.le_trans a2 (b2 q)⟩
    · rw [if_neg z2]
      by_cases z3 : isW tp wHold P
      · rw [if_pos z3]
        by_cases y : P.2.2.2.2.2.2.2.1 = 0
        · rw [if_pos y]; exact enP_ok (hoP_ok h)
        · rw [if_neg y]; exact er 2 (by decide)
      · rw [if_neg z3]
        by_cases z4 : isW tp wLean P
        · rw [if_pos z4]; exact enP_ok (leP_ok h)
        · rw [if_neg z4]
          by_cases z5 : isW tp wGrow P
          · rw [if_pos z5]; exact rl 0 (by decide)
          · rw [if_neg z5]
            by_cases z6 : isW tp wFall P
            · rw [if_pos z6]; exact rl 1 (by decide)
            · rw [if_neg z6]
              by_cases z7 : isW tp wMix P
              · rw [if_pos z7]; exact rl 2 (by decide)
              · rw [if_neg z7]; exact er 1 (by decide)
