/-! THE COMPONENT: write -/
set_option maxRecDepth 100000
theorem upI_self {α : Type} {g : Int → α} {k : Int} : upI g k (g k) = g := by
  funext j
  by_cases c : j = k
  · rw [c, upI_at]
  · rw [upI_ne c]
def wrU (my wd : Int → Int) (uN : Int → Int → Int) (s i v : Int) : Int → Int → Int := if wrV my s i = 0 then upI uN s (upI (uN s) i (cutV v (wd s))) else uN
section
variable {E : gE} {d rc rs x : Nat} {mf : Nat → va_E} {ow : OW} {h : gH} {w hs bk tp iL iS my wd : Int → Int} {uW uH uB uN : Int → Int → Int} {si lo td fk fp : Int}
variable {ow' : OW} {h' : gH} {s i v v' : Int} {mc ms a : Nat} {P : Value → gH → Prop} {Q : Outcome → gH → Prop} {fs : List Value} {ci : Nat} {g : Int → Int} {u : va_E}
/-- a number of a slot's row was written -/
theorem XR.wr (hX : (XR E x mf ow h w hs si lo bk uW uH uB iL iS tp td fk fp my wd uN)) (h1 : 0 ≤ s ∧ s < 4) (oa : ow a = 4 + s.toNat) (ne : a ≠ x + 226 + s.toNat) (rm : 0 ≤ my s ∧ my s ≤ 60) (rc : 0 ≤ wd s ∧ wd s ≤ 3) (c1 : h.1 (x + 226 + s.toNat) = some (oB 6 [.ref a])) (c2 : h.1 a = some u) (r : ∀ j, 0 ≤ j → j < my s → g j = uN s j) : (XR E x mf ow (hset h a (arrW E (wd s) (my s).toNat (upI g i v'))) w hs si lo bk uW uH uB iL iS tp td fk fp my wd (upI uN s (upI (uN s) i v'))) := by
  have ho := (hX.2.2.2.2.2.2 s h1.1 h1.2).1
  have hS : SLO E ow (hset h a (arrW E (wd s) (my s).toNat (upI g i v'))) (4 + s.toNat) (x + 226 + s.toNat) (my s) (wd s) (upI (uN s) i v') := by
    refine ⟨ho, Or.inr ⟨a, upI g i v', oa, ne, rm, rc, (hset_ne (Ne.symm ne)).trans c1, hset_at, fun j z1 z2 => ?_⟩⟩
    by_cases e : j = i
    · subst e; rw [upI_at, upI_at]
    · rw [upI_ne e, upI_ne e]; exact r j z1 z2
  have z := XR.slt hX (hX.1.set c2) h1 (FR.set oa) hS
  rw [upI_self, upI_self] at z
  exact z
theorem XR.npe (hX : (XR E x mf ow h w hs si lo bk uW uH uB iL iS tp td fk fp my wd uN)) : (XR E x mf ow (hnew h (oB ci fs)) w hs si lo bk uW uH uB iL iS tp td fk fp my wd uN) := hX.all hX.1.new (FR.new hX.1 (fun _ _ => rfl))
theorem arrW_0 {n : Nat} : arrW E 0 n g = aB E n g := if_pos rfl
theorem arrW_1 {n : Nat} : arrW E 1 n g = aS E n g := (if_neg (by decide)).trans (if_pos rfl)
theorem arrW_2 {n : Nat} : arrW E 2 n g = aI E n g := (if_neg (by decide)).trans ((if_neg (by decide)).trans (if_pos rfl))
theorem arrW_3 {n : Nat} : arrW E 3 n g = aL E n g := (if_neg (by decide)).trans ((if_neg (by decide)).trans (if_neg (by decide)))
theorem c_slotPuts (hX : (XR E x mf ow h w hs si lo bk uW uH uB iL iS tp td fk fp my wd uN)) (h1 : 0 ≤ s ∧ s < 4) (hr : in32 i) : CALL E iX5_puts (d + 172) 6 2020 [.ref (x + 226 + s.toNat), vI i, vL v] h (qP fun o k => o = vI (wrV my s i) ∧ (XR E x mf ow k w hs si lo bk uW uH uB iL iS tp td fk fp my wd (wrU my wd uN s i v))) := by
  have x1 := hX.1
  have hs : isSl s := by unfold isSl; omega
  obtain ⟨ho, ⟨e, c1⟩ | ⟨a, g, oa, ne, rm, rc, c1, c2, r⟩⟩ := hX.2.2.2.2.2.2 s h1.1 h1.2
  · have ew : wrV my s i = -6 := by unfold wrV; rw [if_pos hs, if_pos e]
    refine GO.mono (GO.room (c_putsT (q := 19) (r := -6) (d := d + 171) c1 (Or.inl ⟨rfl, rfl⟩) (c_putN (d := d) c1)) (by omega) (by omega)) ?_
    intro o k z
    obtain ⟨y, z1, z2, fs, z3⟩ := z
    refine ⟨y, z1, by rw [ew]; exact z2, ?_⟩
    unfold wrU
    rw [ew, if_neg (by decide), z3]
    exact hX.npe
  · have hn : (my s).toNat < 1000 := by omega
    have nn : my s ≠ -1 := by omega
    have hlt : a < h.2 ∧ x + 226 + s.toNat < h.2 := ⟨x1 _ _ c2, x1 _ _ c1⟩
    have hc : wd s = 0 ∨ wd s = 1 ∨ wd s = 2 ∨ wd s = 3 := by omega
    by_cases hi : 0 ≤ i ∧ i ≤ my s - 1
    · have ew : wrV my s i = 0 := by unfold wrV; rw [if_pos hs, if_neg nn, if_pos hi]
      have hu : wrU my wd uN s i v = upI uN s (upI (uN s) i (cutV v (wd s))) := by unfold wrU; rw [ew, if_pos rfl]
      rw [ew, hu]
      have hi' : 0 ≤ i ∧ i < ((my s).toNat : Int) := by omega
      rcases hc with ec | ec | ec | ec
      · have c3 : h.1 a = some (aB E (my s).toNat g) := by rw [c2, ec, arrW_0]
        refine GO.mono (GO.room (GO.deep (c_putsOk (d := d) c1 (P := fun k => k = _) (GO.mono (c_putB c1 c3 hi' hn) (fun o k z => z))) (by omega)) (by omega) (by omega)) ?_
        intro o k z
        obtain ⟨y, z1, z2, z3⟩ := z
        refine ⟨y, z1, z2, ?_⟩
        have q := XR.wr (i := i) (v' := cutV v (wd s)) hX h1 oa ne rm rc c1 c2 r
        rw [z3]
        rw [ec, arrW_0] at q
        rw [ec]
        exact q
      · have c3 : h.1 a = some (aS E (my s).toNat g) := by rw [c2, ec, arrW_1]
        refine GO.mono (GO.room (GO.deep (c_putsOk (d := d) c1 (P := fun k => k = _) (GO.mono (c_putS c1 c3 hi' hn) (fun o k z => z))) (by omega)) (by omega) (by omega)) ?_
        intro o k z
        obtain ⟨y, z1, z2, z3⟩ := z
        refine ⟨y, z1, z2, ?_⟩
        have q := XR.wr (i := i) (v' := cutV v (wd s)) hX h1 oa ne rm rc c1 c2 r
        rw [z3]
        rw [ec, arrW_1] at q
        rw [ec]
        exact q
      · have c3 : h.1 a = some (aI E (my s).toNat g) := by rw [c2, ec, arrW_2]
        refine GO.mono (GO.room (GO.deep (c_putsOk (d := d + 1) c1 (P := fun k => k = _) (GO.mono (c_putI (d := d) c1 c3 hi' hn) (fun o k z => z))) (by omega)) (by omega) (by omega)) ?_
        intro o k z
        obtain ⟨y, z1, z2, z3⟩ := z
        refine ⟨y, z1, z2, ?_⟩
        have q := XR.wr (i := i) (v' := cutV v (wd s)) hX h1 oa ne rm rc c1 c2 r
        rw [z3]
        rw [ec, arrW_2] at q
        rw [ec]
        rw [← aI_cut]
        exact q
      · have c3 : h.1 a = some (aL E (my s).toNat g) := by rw [c2, ec, arrW_3]
        refine GO.mono (GO.room (c_putsOk (d := d + 171) c1 (c_putJ (d := d) c1 c3 hlt hi' hn)) (by omega) (by omega)) ?_
        intro o k z
        obtain ⟨y, z1, z2, fs, z3⟩ := z
        refine ⟨y, z1, z2, ?_⟩
        have hF := FR.exc (ow := ow) (ci := 21) (fs := fs) (q := fun _ => True) x1
        have q := XR.wr (i := i) (v' := cutV v (wd s)) (hX.exc (ci := 21) (fs := fs)) h1 oa ne rm rc (hF _ _ c1 trivial).1 (hF _ _ c2 trivial).1 r
        rw [z3]
        rw [ec, arrW_3] at q
        rw [ec]
        exact q
    · have ew : wrV my s i = -7 := by unfold wrV; rw [if_pos hs, if_neg nn, if_neg hi]
      have hu : wrU my wd uN s i v = uN := by unfold wrU; rw [ew, if_neg (by decide)]
      rw [ew, hu]
      have hi' : i < 0 ∨ ((my s).toNat : Int) ≤ i := by omega
      rcases hc with ec | ec | ec | ec
      · have c3 : h.1 a = some (aB E (my s).toNat g) := by rw [c2, ec, arrW_0]
        refine GO.mono (GO.room (GO.deep (c_putsT (d := d + 170) (q := 20) (r := -7) c1 (Or.inr ⟨rfl, rfl⟩) (c_putBo (d := d) c1 c3 hr hi' hn)) (by omega)) (by omega) (by omega)) ?_
        intro o k z
        obtain ⟨y, z1, z2, fs, z3⟩ := z
        exact ⟨y, z1, z2, by rw [z3]; exact hX.exc⟩
      · have c3 : h.1 a = some (aS E (my s).toNat g) := by rw [c2, ec, arrW_1]
        refine GO.mono (GO.room (GO.deep (c_putsT (d := d + 170) (q := 20) (r := -7) c1 (Or.inr ⟨rfl, rfl⟩) (c_putSo (d := d) c1 c3 hr hi' hn)) (by omega)) (by omega) (by omega)) ?_
        intro o k z
        obtain ⟨y, z1, z2, fs, z3⟩ := z
        exact ⟨y, z1, z2, by rw [z3]; exact hX.exc⟩
      · have c3 : h.1 a = some (aI E (my s).toNat g) := by rw [c2, ec, arrW_2]
        refine GO.mono (GO.room (c_putsT (d := d + 171) (q := 20) (r := -7) c1 (Or.inr ⟨rfl, rfl⟩) (c_putIo (d := d) c1 c3 hr hi' hn)) (by omega) (by omega)) ?_
        intro o k z
        obtain ⟨y, z1, z2, fs, z3⟩ := z
        exact ⟨y, z1, z2, by rw [z3]; exact hX.exc⟩
      · have c3 : h.1 a = some (aL E (my s).toNat g) := by rw [c2, ec, arrW_3]
        refine GO.mono (GO.room (c_putsT (d := d + 171) (q := 20) (r := -7) c1 (Or.inr ⟨rfl, rfl⟩) (c_putJo (d := d) c1 c3 hlt hr hi' hn)) (by omega) (by omega)) ?_
        intro o k z
        obtain ⟨y, z1, z2, fs, fs2, z3⟩ := z
        exact ⟨y, z1, z2, by rw [z3]; exact hX.exc.exc⟩
theorem c_writeX (hX : (XR E x mf ow h w hs si lo bk uW uH uB iL iS tp td fk fp my wd uN)) (r1 : in32 s) (r2 : in32 i) : CALL E iX0_write (d + 173) 6 2020 [.ref x, vI s, vI i, vL v] h (qP fun o k => o = vI (wrV my s i) ∧ (XR E x mf ow k w hs si lo bk uW uH uB iL iS tp td fk fp my wd (wrU my wd uN s i v))) := by
  by_cases h1 : 0 ≤ s ∧ s < 4
  · obtain ⟨v0, hb⟩ := hX.slo h1
    obtain ⟨x1, x2, ⟨w3, bl, tq, pl, bp, hC, hR, -⟩, -⟩ := id hX
    show GO E iX0_write _ _ _ 0 [some (.ref x), some (vI s), some (vI i), some (vL v), none] [] _ _
    refine g_iload_n (q := 1) dX0_write_0 rfl rfl ?_
    refine g_cs (I' := iX0_isSlot) (mc := 0) (ms := 0) (rc := 6) (rs := 2020) (q := 4) dX0_write_1 q126 q127 gcX0_isSlot (c_isSlotX (s := s) r1) rfl rfl ?_
    refine g_ifeqB (t := 21) (q := 7) dX0_write_4 (by decide) rfl (fun c4 => ?_) (fun c4 => ?_)
    · exact absurd h1 (by omega)
    · refine g_aload_n (q := 8) dX0_write_7 rfl rfl ?_
      refine g_get (C := RX0) (T := TX0) (ci := 0) (k := 0) (q := 11) dX0_write_8 q518 rfl in_X0 (by decide) hC rfl rfl ?_
      refine g_iload_n (q := 12) dX0_write_11 rfl rfl ?_
      refine g_aald (t0 := 7) (q := 13) dX0_write_12 hR rfl rfl (by omega) (by omega) rfl ?_
      refine g_iload_n (q := 14) dX0_write_13 rfl rfl ?_
      refine g_lload_n (q := 15) dX0_write_14 rfl rfl ?_
      refine g_cvP (I' := iX5_puts) (mc := 6) (ms := 2020) (rc := 0) (rs := 0) (ci := 6) (q := 18) dX0_write_15 q232 q233 rfl q234 gcX5_puts hb (c_slotPuts (d := d) hX h1 r2) rfl rfl (fun v15 k15 z15 => ?_)
      obtain ⟨rfl, hX5⟩ := z15
      refine g_goto (t := 23) dX0_write_18 (by decide) ?_
      exact g_iret dX0_write_23 rfl ⟨_, rfl, rfl, hX5⟩
  · have ew : wrV my s i = -2 := by unfold wrV; rw [if_neg (by unfold isSl; omega)]
    have hu : wrU my wd uN s i v = uN := by unfold wrU; rw [ew, if_neg (by decide)]
    rw [ew, hu]
    show GO E iX0_write _ _ _ 0 [some (.ref x), some (vI s), some (vI i), some (vL v), none] [] _ _
    refine g_iload_n (q := 1) dX0_write_0 rfl rfl ?_
    refine g_cs (I' := iX0_isSlot) (mc := 0) (ms := 0) (rc := 6) (rs := 2020) (q := 4) dX0_write_1 q126 q127 gcX0_isSlot (c_isSlotX (s := s) r1) rfl rfl ?_
    refine g_ifeqB (t := 21) (q := 7) dX0_write_4 (by decide) rfl (fun c4 => ?_) (fun c4 => ?_)
    · refine g_bipush (q := 23) dX0_write_21 rfl ?_
      exact g_iret dX0_write_23 rfl ⟨_, rfl, rfl, hX⟩
    · exact absurd c4 (by omega)
end
