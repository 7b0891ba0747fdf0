/-! THE COMPONENT: rows made anew -/
set_option maxRecDepth 100000
theorem cntS_m {v m : Int} (hk : v = 1 ∨ v = 2 ∨ v = 3) (h0 : 2 ≤ m) {F : Nat} (hF : F ≤ v + 1) : 0 ≤ cntS v m F ∧ cntS v m F ≤ m ∧ (F = v + 1 → cntS v m F = m) := by
  have q : F = 0 ∨ F = 1 ∨ F = 2 ∨ F = 3 ∨ F = 4 := by omega
  rcases hk with rfl | rfl | rfl <;> rcases q with rfl | rfl | rfl | rfl | rfl <;> first | (simp only [cntS]; omega) | omega
theorem shfI_c {w : Int → Int} {r q m : Int} : ∀ (f : Nat) (i c : Int) (g g' : Int → Int), 0 ≤ c → (∀ j, 0 ≤ j → j < c → g j = g' j) → (shfI w r q m f i (c, g)).1 = (shfI w r q m f i (c, g')).1 ∧ 0 ≤ (shfI w r q m f i (c, g)).1 ∧ ∀ j, 0 ≤ j → j < (shfI w r q m f i (c, g)).1 → (shfI w r q m f i (c, g)).2 j = (shfI w r q m f i (c, g')).2 j := by
  intro f
  induction f with
  | zero => intro i c g g' h0 h; exact ⟨rfl, h0, h⟩
  | succ f ih =>
    intro i c g g' h0 h
    unfold shfI
    by_cases z : i < m
    · rw [if_pos z, if_pos z]
      refine ih (i + q) (c + 1) _ _ (by omega) (fun j q1 q2 => ?_)
      by_cases y : j = c
      · subst y
        show upI g j _ j = upI g' j _ j
        rw [upI_at, upI_at]
      · show upI g c _ j = upI g' c _ j
        rw [upI_ne y, upI_ne y]; exact h j q1 (by omega)
    · rw [if_neg z, if_neg z]; exact ⟨rfl, h0, h⟩
theorem shfO_c {w : Int → Int} {r q m : Int} : ∀ (f : Nat) (i c : Int) (g g' : Int → Int), 0 ≤ c → (∀ j, 0 ≤ j → j < c → g j = g' j) → (shfO w r q m f i (c, g)).1 = (shfO w r q m f i (c, g')).1 ∧ ∀ j, 0 ≤ j → j < (shfO w r q m f i (c, g)).1 → (shfO w r q m f i (c, g)).2 j = (shfO w r q m f i (c, g')).2 j := by
  intro f
  induction f with
  | zero => intro i c g g' h0 h; exact ⟨rfl, h⟩
  | succ f ih =>
    intro i c g g' h0 h
    obtain ⟨e1, e2, e3⟩ := shfI_c (w := w) (r := r) (q := q) (m := m) 13 i c g g' h0 h
    show (shfO w r q m f (i + 1) (shfI w r q m 13 i (c, g))).1 = (shfO w r q m f (i + 1) (shfI w r q m 13 i (c, g'))).1 ∧ _
    have a1 : shfI w r q m 13 i (c, g) = ((shfI w r q m 13 i (c, g)).1, (shfI w r q m 13 i (c, g)).2) := rfl
    have a2 : shfI w r q m 13 i (c, g') = ((shfI w r q m 13 i (c, g)).1, (shfI w r q m 13 i (c, g')).2) := by rw [e1]
    have z := ih (i + 1) (shfI w r q m 13 i (c, g)).1 (shfI w r q m 13 i (c, g)).2 (shfI w r q m 13 i (c, g')).2 e2 e3
    rw [← a1, ← a2] at z
    exact z
section
variable {E : gE} {d rc rs x : Nat} {mf : Nat → va_E} {ow : OW} {h : gH} {w hs bk tp iL iS my wd : Int → Int} {uW uH uB uN : Int → Int → Int} {si lo td fk fp : Int}
variable {r v n B kn i s l c b e m : Int} {ra t p : Nat} {k h' : gH} {ow' : OW} {Q : Outcome → gH → Prop} {g md : Int → Int}
/-- a fresh row of ints, behind the heap -/
theorem XR.fresh (hX : (XR E x mf ow h w hs si lo bk uW uH uB iL iS tp td fk fp my wd uN)) {N : Nat} : (XR E x mf (upO ow h.2 0) (hnew h (aI E N g)) w hs si lo bk uW uH uB iL iS tp td fk fp my wd uN) := hX.all hX.1.new (FR.new hX.1 (fun b hb => upO_lt hb))
theorem ROWc.fresh {N : Nat} (hh : HW h) (hR : ROWc E (imm ow) h.1 w r ra) : ∃ g' : Int → Int, (hnew h (aI E N g)).1 ra = some (aI E (w (34 + 14 * r)).toNat g') ∧ ∀ j, 0 ≤ j → j < w (34 + 14 * r) → g' j = w (34 + 14 * r + 1 + j) := by
  obtain ⟨q, g', c, hg⟩ := hR
  have := hh _ _ c
  exact ⟨g', (hnew_ne (by omega)).trans c, hg⟩
theorem c_backwardX (hX : (XR E x mf ow h w hs si lo bk uW uH uB iL iS tp td fk fp my wd uN)) (hw : WFw w) (hw9 : 0 ≤ w 9 ∧ w 9 ≤ w 2) (h1 : in32 r) (md : Int → Int) :
    CALL E iX0_backward (d + 8) 2 212 [.ref x, vI r] h (qP fun o k => o = vI (if ¬ (0 ≤ r ∧ r ≤ w 2 - 1) then -2 else if w 2 = 12 then -3 else w 2) ∧ ∃ ow', (XR E x mf ow' k (if (0 ≤ r ∧ r ≤ w 2 - 1) ∧ ¬ w 2 = 12 then mkW w (w (34 + 14 * r)) (cpyI md (bwI w r (w (34 + 14 * r))) 0 0 (w (34 + 14 * r))) else w) hs si lo bk uW uH uB iL iS tp td fk fp my wd uN)) := by
  obtain ⟨x1, x2, ⟨w3, bl, tq, pl, bp, hC, -⟩, -⟩ := id hX
  by_cases z : 0 ≤ r ∧ r ≤ w 2 - 1
  · rw [if_neg (not_not_intro z)]
    have hr : 0 ≤ r := z.1
    have hr1 : r < w 2 := by omega
    have hrw := hw.row hr hr1
    have hw1 := hw.1
    generalize em : w (34 + 14 * r) = m at *
    have en : ((m.toNat : Nat) : Int) = m := Int.toNat_of_nonneg (by omega)
    have fin : ∀ g : Int → Int, (∀ j, 0 ≤ j → j < m → g j = bwI w r m j) → CALL E iX0_adds (d + 7) 1 200 [.ref x, .ref h.2] (hnew h (aI E m.toNat g)) (qP fun o k => o = vI (if w 2 = 12 then -3 else w 2) ∧ ∃ ow', (XR E x mf ow' k (if (0 ≤ r ∧ r ≤ w 2 - 1) ∧ ¬ w 2 = 12 then mkW w m (cpyI md (bwI w r m) 0 0 m) else w) hs si lo bk uW uH uB iL iS tp td fk fp my wd uN)) := by
      intro g hg
      have q := c_addsX (d := d) (ra := h.2) (n := m) (gr := g) (md := cpyI md (bwI w r m) 0 0 m) (hX.fresh (g := g) (N := m.toNat)) hw hw9 hnew_at upO_at (by omega) (fun j q1 q2 => (cpyI_in (by omega) (by omega)).trans ((congrArg (bwI w r m) (by omega)).trans (hg j q1 q2).symm))
      refine GO.mono q fun o k hq => ?_
      obtain ⟨v', e1, e2, ow2, hX2⟩ := hq
      refine ⟨v', e1, e2, ow2, ?_⟩
      by_cases c12 : w 2 = 12
      · rw [if_pos c12] at hX2; rw [if_neg (fun q => q.2 c12)]; exact hX2
      · rw [if_neg c12] at hX2; rw [if_pos ⟨z, c12⟩]; exact hX2
    have loop : ∀ (f : Nat) (i : Int) (ra : Nat) (g g' : Int → Int), 0 ≤ i → i + f = m → (∀ j, 0 ≤ j → j < i → g j = bwI w r m j) → (hnew h (aI E m.toNat g)).1 ra = some (aI E m.toNat g') → (∀ j, 0 ≤ j → j < m → g' j = w (34 + 14 * r + 1 + j)) → ra ≠ h.2 →
        GO E iX0_backward (d + 8) 1 200 25 [some (.ref x), some (vI r), some (.ref ra), some (.ref h.2), some (vI i)] [] (hnew h (aI E m.toNat g)) (qP fun o k => o = vI (if w 2 = 12 then -3 else w 2) ∧ ∃ ow', (XR E x mf ow' k (if (0 ≤ r ∧ r ≤ w 2 - 1) ∧ ¬ w 2 = 12 then mkW w m (cpyI md (bwI w r m) 0 0 m) else w) hs si lo bk uW uH uB iL iS tp td fk fp my wd uN)) := by
      intro f
      induction f with
      | zero =>
        intro i ra g g' q0 q1 q2 q3 q4 q5
        have hlt := x1 _ _ hC
        refine g_iload (q := 27) dX0_backward_25 rfl rfl ?_
        refine g_aload_n (q := 28) dX0_backward_27 rfl rfl ?_
        refine g_alen 0 (q := 29) dX0_backward_28 q3 rfl rfl rfl ?_
        rw [en]
        refine g_icmp_ge (t := 51) (q := 32) dX0_backward_29 (by decide) rfl (by first | assumption | exact in32_gB | exact in32_gCmp | (unfold in32; omega)) (by first | assumption | exact in32_gB | exact in32_gCmp | (unfold in32; omega)) (fun c29 => ?_) (fun c29 => ?_)
        · refine g_aload_n (q := 52) dX0_backward_51 rfl rfl ?_
          refine g_aload_n (q := 53) dX0_backward_52 rfl rfl ?_
          refine g_cvP (I' := iX0_adds) (mc := 1) (ms := 200) (rc := 0) (rs := 0) (ci := 0) (q := 56) dX0_backward_53 q1334 q1336 rfl qs41 gcX0_adds ((hnew_ne (by omega)).trans hC) (fin g (fun j j1 j2 => q2 j j1 (by omega))) rfl rfl (fun v53 k53 z53 => ?_)
          obtain ⟨rfl, ow2, hX2⟩ := z53
          exact g_iret dX0_backward_56 rfl ⟨_, rfl, rfl, ow2, hX2⟩
        · exact absurd c29 (by omega)
      | succ f ih =>
        intro i ra g g' q0 q1 q2 q3 q4 q5
        refine g_iload (q := 27) dX0_backward_25 rfl rfl ?_
        refine g_aload_n (q := 28) dX0_backward_27 rfl rfl ?_
        refine g_alen 0 (q := 29) dX0_backward_28 q3 rfl rfl rfl ?_
        rw [en]
        refine g_icmp_ge (t := 51) (q := 32) dX0_backward_29 (by decide) rfl (by first | assumption | exact in32_gB | exact in32_gCmp | (unfold in32; omega)) (by first | assumption | exact in32_gB | exact in32_gCmp | (unfold in32; omega)) (fun c29 => ?_) (fun c29 => ?_)
        · exact absurd c29 (by omega)
        · refine g_aload_n (q := 33) dX0_backward_32 rfl rfl ?_
          refine g_iload (q := 35) dX0_backward_33 rfl rfl ?_
          refine g_aload_n (q := 36) dX0_backward_35 rfl rfl ?_
          refine g_aload_n (q := 37) dX0_backward_36 rfl rfl ?_
          refine g_alen 0 (q := 38) dX0_backward_37 q3 rfl rfl rfl ?_
          rw [en]
          refine g_iconst (q := 39) dX0_backward_38 rfl ?_
          refine g_isub (q := 40) dX0_backward_39 rfl ?_
          refine g_iload (q := 42) dX0_backward_40 rfl rfl ?_
          refine g_isub (q := 43) dX0_backward_42 rfl ?_
          refine g_iald (q := 44) dX0_backward_43 q3 (by omega) (by omega) rfl ?_
          rw [q4 _ (by omega) (by omega)]
          refine g_iast (q := 45) dX0_backward_44 hnew_at (by omega) (by omega)  rfl ?_
          rw [hnew_set]
          refine g_iinc (q := 48) dX0_backward_45 rfl gs4 rfl ?_
          refine g_goto (t := 25) dX0_backward_48 (by decide) ?_
          refine ih (i + 1) ra _ g' (by omega) (by omega) (fun j j1 j2 => ?_) ((hnew_ne q5).trans ((hnew_ne q5).symm.trans q3)) q4 q5
          by_cases y : j = i
          · subst y; rw [upI_at]; rfl
          · rw [upI_ne y]; exact q2 j j1 (by omega)
    refine GO.room (rc := 1 + 1) (rs := 200 + m.toNat) ?_ (by omega) (by omega)
    show GO E iX0_backward _ _ _ 0 [some (.ref x), some (vI r), none, none, none] [] _ _
    refine g_aload_n (q := 1) dX0_backward_0 rfl rfl ?_
    refine g_iload_n (q := 2) dX0_backward_1 rfl rfl ?_
    refine g_cv (I' := iX0_isRow) (mc := 0) (ms := 0) (rc := 2) (rs := (200+m.toNat)) (ci := 0) (q := 5) dX0_backward_2 q983 q985 rfl qs26 gcX0_isRow hC (GO.deep (c_isRowX (d := 0) hX h1 ⟨hw.2.1.1, hw.2.1.2⟩) (by omega)) rfl rfl ?_
    refine g_ifneB (t := 11) (q := 8) dX0_backward_5 (by decide) rfl (fun c5 => ?_) (fun c5 => ?_)
    · refine g_aload_n (q := 12) dX0_backward_11 rfl rfl ?_
      refine g_iload_n (q := 13) dX0_backward_12 rfl rfl ?_
      refine g_cvP (I' := iX0_rowAt) (mc := 0) (ms := 0) (rc := 2) (rs := (200+m.toNat)) (ci := 0) (q := 16) dX0_backward_13 q992 q994 rfl qs28 gcX0_rowAt hC (GO.deep (c_rowAt (d := 0) hX hr hr1) (by omega)) rfl rfl (fun v13 k13 z13 => ?_)
      obtain ⟨ra, rfl, hR, rfl⟩ := z13
      obtain ⟨g', hg1, hg2⟩ := hR.fresh (N := m.toNat) (g := fun _ => 0) x1
      rw [em] at hg1 hg2
      have hra := x1 _ _ hR.2.choose_spec.1
      obtain ⟨-, g0, hg0, -⟩ := hR
      rw [em] at hg0
      refine g_astore_n (q := 17) dX0_backward_16 gs2 rfl ?_
      refine g_aload_n (q := 18) dX0_backward_17 rfl rfl ?_
      refine g_alen 0 (q := 19) dX0_backward_18 hg0 rfl rfl rfl ?_
      rw [en]
      refine g_newaI (q := 21) (rc := 1) (rs := 200) dX0_backward_19 q226 (by omega) (by omega) rfl ?_
      refine g_astore_n (q := 22) dX0_backward_21 gs3 rfl ?_
      refine g_iconst (q := 23) dX0_backward_22 rfl ?_
      refine g_istore (q := 25) dX0_backward_23 gs4 rfl ?_
      exact loop m.toNat 0 ra _ g' (by omega) (by omega) (fun j j1 j2 => absurd j2 (by omega)) hg1 hg2 (by omega)
    · exact absurd z c5
  · rw [if_pos z, if_neg (fun q => z q.1)]
    show GO E iX0_backward _ _ _ 0 [some (.ref x), some (vI r), none, none, none] [] _ _
    refine g_aload_n (q := 1) dX0_backward_0 rfl rfl ?_
    refine g_iload_n (q := 2) dX0_backward_1 rfl rfl ?_
    refine g_cv (I' := iX0_isRow) (mc := 0) (ms := 0) (rc := 2) (rs := 212) (ci := 0) (q := 5) dX0_backward_2 q983 q985 rfl qs26 gcX0_isRow hC (GO.deep (c_isRowX (d := 0) hX h1 ⟨hw.2.1.1, hw.2.1.2⟩) (by omega)) rfl rfl ?_
    refine g_ifneB (t := 11) (q := 8) dX0_backward_5 (by decide) rfl (fun c5 => ?_) (fun c5 => ?_)
    · exact absurd c5 z
    · refine g_bipush (q := 10) dX0_backward_8 rfl ?_
      exact g_iret dX0_backward_10 rfl ⟨_, rfl, rfl, ow, hX⟩
end
