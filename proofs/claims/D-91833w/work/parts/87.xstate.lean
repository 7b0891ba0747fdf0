/-! THE COMPONENT: its whole state -/
set_option maxRecDepth 100000
def X_M (ow : OW) (h : gH) (x : Nat) (mf : Nat → va_E) : Prop := OWN ow (x + 230) 22 3 ∧ ∀ j, j < 22 → h.1 (x + 230 + j) = some (mf j)
def xO (x : Nat) (td fk fp bl : Int) : va_E := oB 0 [.ref (x + 1), .ref (x + 2), .ref (x + 119), .ref (x + 120), .ref (x + 223), vI td, vI fk, vI fp, .ref (x + 224), .ref (x + 225), vI bl]
def X_C (E : gE) (ow : OW) (h : gH) (x : Nat) (tp : Int → Int) (td fk fp : Int) : Prop :=
  (ow x = 1 ∧ ow (x + 1) = 1 ∧ ow (x + 223) = 1 ∧ ow (x + 224) = 1 ∧ ow (x + 225) = 1) ∧ ∃ (bl : Int) (tq pl bp : Int → Int), h.1 x = some (xO x td fk fp bl) ∧ h.1 (x + 1) = some (aR E 7 4 (fun s => some (x + 226 + s.toNat))) ∧ h.1 (x + 223) = some (aB E 900 tq) ∧ h.1 (x + 224) = some (aI E 4 pl) ∧ h.1 (x + 225) = some (aI E 4 bp) ∧ in32 bl ∧ ∀ j, 0 ≤ j → j < 900 → tq j = tp j
def X_I (E : gE) (ow : OW) (h : gH) (x : Nat) (uW uH uB : Int → Int → Int) (iL iS : Int → Int) : Prop :=
  ow (x + 119) = 8 ∧ ∃ im : Int → Option Nat, h.1 (x + 119) = some (aR E 10 3 im) ∧ ∀ j, 0 ≤ j → j < 3 → match im j with | none => iS j = -1 | some a => 0 ≤ iS j ∧ STT E ow h (j.toNat + 1) a (uW j) (uH j) (iS j) (iL j) (uB j)
def X_P (E : gE) (ow : OW) (h : gH) (x : Nat) : Prop := OWN ow (x + 120) 103 2 ∧ ∃ tx hs1, HD E h (x + 120) tx hs1
/-- a row of numbers of a width -/
def arrW (E : gE) (c : Int) (n : Nat) (g : Int → Int) : va_E := if c = 0 then aB E n g else if c = 1 then aS E n g else if c = 2 then aI E n g else aL E n g
def SLO (E : gE) (ow : OW) (h : gH) (o b : Nat) (m c : Int) (u : Int → Int) : Prop :=
  ow b = o ∧ ((m = -1 ∧ h.1 b = some (oB 6 [.null])) ∨ ∃ (a : Nat) (g : Int → Int), ow a = o ∧ a ≠ b ∧ (0 ≤ m ∧ m ≤ 60) ∧ (0 ≤ c ∧ c ≤ 3) ∧ h.1 b = some (oB 6 [.ref a]) ∧ h.1 a = some (arrW E c m.toNat g) ∧ ∀ j, 0 ≤ j → j < m → g j = u j)
def X_S (E : gE) (ow : OW) (h : gH) (x : Nat) (my wd : Int → Int) (uN : Int → Int → Int) : Prop := ∀ s : Int, 0 ≤ s → s < 4 → SLO E ow h (4 + s.toNat) (x + 226 + s.toNat) (my s) (wd s) (uN s)
/-- the component at x, the reference behind it: they hold what the reference's state says -/
def XR (E : gE) (x : Nat) (mf : Nat → va_E) (ow : OW) (h : gH) (w hs : Int → Int) (si lo : Int) (bk : Int → Int) (uW uH uB : Int → Int → Int) (iL iS tp : Int → Int) (td fk fp : Int) (my wd : Int → Int) (uN : Int → Int → Int) : Prop :=
  HW h ∧ X_M ow h x mf ∧ X_C E ow h x tp td fk fp ∧ STT E ow h 0 (x + 2) w hs si lo bk ∧ X_I E ow h x uW uH uB iL iS ∧ X_P E ow h x ∧ X_S E ow h x my wd uN
section
variable {E : gE} {d rc rs x : Nat} {mf : Nat → va_E} {ow : OW} {h : gH} {w hs bk tp iL iS my wd : Int → Int} {uW uH uB uN : Int → Int → Int} {si lo td fk fp : Int}
variable {ow' : OW} {h' : gH} {q : Nat → Prop}
theorem X_M.fr (hX : X_M ow h x mf) (hF : FR ow ow' h h' q) (hq : q 3) : X_M ow' h' x mf := ⟨fun j z => (hF.at (hX.1 j z) hq (hX.2 j z)).1, fun j z => (hF.at (hX.1 j z) hq (hX.2 j z)).2⟩
theorem X_C.fr (hX : X_C E ow h x tp td fk fp) (hF : FR ow ow' h h' q) (hq : q 1) : X_C E ow' h' x tp td fk fp := by
  obtain ⟨⟨w1, w2, w3, w4, w5⟩, bl, tq, pl, bp, c1, c2, c3, c4, c5, r⟩ := hX
  obtain ⟨a1, b1⟩ := hF.at w1 hq c1
  obtain ⟨a2, b2⟩ := hF.at w2 hq c2
  obtain ⟨a3, b3⟩ := hF.at w3 hq c3
  obtain ⟨a4, b4⟩ := hF.at w4 hq c4
  obtain ⟨a5, b5⟩ := hF.at w5 hq c5
  exact ⟨⟨a1, a2, a3, a4, a5⟩, bl, tq, pl, bp, b1, b2, b3, b4, b5, r⟩
theorem X_I.fr (hX : X_I E ow h x uW uH uB iL iS) (hF : FR ow ow' h h' q) (hq0 : q 0) (hq8 : q 8) (hq : ∀ i, 20 ≤ i → q i) : X_I E ow' h' x uW uH uB iL iS := by
  obtain ⟨w1, im, c1, r⟩ := hX
  obtain ⟨a1, b1⟩ := hF.at w1 hq8 c1
  refine ⟨a1, im, b1, fun j z1 z2 => ?_⟩
  have := r j z1 z2
  cases e : im j with
  | none => rw [e] at this; exact this
  | some a => rw [e] at this; exact ⟨this.1, this.2.fr hF hq0 (fun i z3 z4 => hq i (by omega))⟩
theorem X_P.fr (hX : X_P E ow h x) (hF : FR ow ow' h h' q) (hq : q 2) : X_P E ow' h' x := by
  obtain ⟨w1, tx, hs1, hD⟩ := hX
  obtain ⟨a1, b1⟩ := hD.fr w1 hF hq
  exact ⟨a1, tx, hs1, b1⟩
theorem SLO.fr {o b : Nat} {m c : Int} {u : Int → Int} (hX : SLO E ow h o b m c u) (hF : FR ow ow' h h' q) (hq : q o) : SLO E ow' h' o b m c u := by
  obtain ⟨w1, ⟨e, c1⟩ | ⟨a, g, w2, ne, r1, r2, c1, c2, r⟩⟩ := hX
  · obtain ⟨a1, b1⟩ := hF.at w1 hq c1
    exact ⟨a1, Or.inl ⟨e, b1⟩⟩
  · obtain ⟨a1, b1⟩ := hF.at w1 hq c1
    obtain ⟨a2, b2⟩ := hF.at w2 hq c2
    exact ⟨a1, Or.inr ⟨a, g, a2, ne, r1, r2, b1, b2, r⟩⟩
theorem X_S.fr (hX : X_S E ow h x my wd uN) (hF : FR ow ow' h h' q) (hq : ∀ i, 4 ≤ i → i < 8 → q i) : X_S E ow' h' x my wd uN := fun s z1 z2 => (hX s z1 z2).fr hF (hq _ (by omega) (by omega))
/-- nothing of the component's was written -/
theorem XR.all (hX : (XR E x mf ow h w hs si lo bk uW uH uB iL iS tp td fk fp my wd uN)) (hh : HW h') (hF : FR ow ow' h h' (fun _ => True)) : (XR E x mf ow' h' w hs si lo bk uW uH uB iL iS tp td fk fp my wd uN) := by
  obtain ⟨x1, x2, x3, x4, x5, x6, x7⟩ := hX
  exact ⟨hh, x2.fr hF trivial, x3.fr hF trivial, x4.fr hF trivial (fun _ _ _ => trivial), x5.fr hF trivial trivial (fun _ _ => trivial), x6.fr hF trivial, x7.fr hF (fun _ _ _ => trivial)⟩
/-- paper was written on -/
theorem XR.paper {tx : Option Nat} {hs1 : Int → Int} {h1 e1 t1 o1 b1 : Int} (hX : (XR E x mf ow h w hs si lo bk uW uH uB iL iS tp td fk fp my wd uN)) : (XR E x mf ow (hH E h (x + 120) tx hs1 (akO h1 e1 t1 o1 b1)) w hs si lo bk uW uH uB iL iS tp td fk fp my wd uN) := by
  obtain ⟨x1, x2, x3, x4, x5, x6, x7⟩ := hX
  have hF : FR ow ow h (hH E h (x + 120) tx hs1 (akO h1 e1 t1 o1 b1)) (fun i => i ≠ 2) := FR.bl x6.1
  obtain ⟨w6, tx6, hs6, d6⟩ := x6
  exact ⟨x1.bl (d6.le x1), x2.fr hF (by decide), x3.fr hF (by decide), x4.fr hF (by decide) (fun _ _ _ => by omega), x5.fr hF (by decide) (by decide) (fun _ _ => by omega), ⟨w6, tx, hs1, HD.of⟩, x7.fr hF (fun _ _ _ => by omega)⟩
theorem XR.paperx {t : Nat} {hs1 : Int → Int} {k : gH} (hX : (XR E x mf ow h w hs si lo bk uW uH uB iL iS tp td fk fp my wd uN)) (hk : hHx E h (x + 120) t hs1 k) : (XR E x mf ow k w hs si lo bk uW uH uB iL iS tp td fk fp my wd uN) := by
  obtain ⟨h1, e1, t1, o1, b1, rfl⟩ := hk
  exact hX.paper
/-- the head itself was written -/
theorem XR.head {t : Nat} {hs1 : Int → Int} {k : gH} (hX : (XR E x mf ow h w hs si lo bk uW uH uB iL iS tp td fk fp my wd uN)) (ht : S_O E ow h 0 (x + 2) t w lo) (hk : hHx E h (x + 2 + 14) t hs1 k) : (XR E x mf ow k w hs1 si lo bk uW uH uB iL iS tp td fk fp my wd uN) := by
  obtain ⟨h1, e1, t1, o1, b1, rfl⟩ := hk
  obtain ⟨x1, x2, x3, ⟨t', s1, s2, s3, s4, s5⟩, x5, x6, x7⟩ := hX
  have et : t' = t := by
    have := s1.2.1.symm.trans ht.2.1
    unfold stO oB at this
    simpa using this
  subst et
  have hF : FR ow ow h (hH E h (x + 2 + 14) (some t') hs1 (akO h1 e1 t1 o1 b1)) (fun i => i ≠ 13) := FR.bl s5.1
  refine ⟨x1.bl (s5.2.le x1), x2.fr hF (by decide), x3.fr hF (by decide), ⟨t', s1.fr hF (by decide), s2.fr hF (by decide), s3.fr hF (by decide) (by decide), s4.fr hF (by decide) (by decide), s5.1, HD.of⟩, x5.fr hF (by decide) (by decide) (fun _ _ => by omega), x6.fr hF (by decide), x7.fr hF (fun _ _ _ => by omega)⟩
end
