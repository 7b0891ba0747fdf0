/-! THE COMPONENT: paste -/
set_option maxRecDepth 100000
/-- the slots' numbers are of their widths -/
def NMok (my wd : Int → Int) (uN : Int → Int → Int) : Prop := ∀ s j : Int, isSl s → 0 ≤ j → j < my s → inW (wd s) (uN s j)
def pstU (my wd : Int → Int) (uN : Int → Int → Int) (s i t k n : Int) : Int → Int → Int := if pstV my wd s i t k n = 0 then upI uN t (cpyI (uN t) (uN s) k i n) else uN
section
variable {E : gE} {d rc rs x : Nat} {mf : Nat → va_E} {ow : OW} {h : gH} {w hs bk tp iL iS my wd : Int → Int} {uW uH uB uN : Int → Int → Int} {si lo td fk fp : Int}
variable {s i t k n : Int} {a : Nat} {fs : List Value} {ci : Nat} {g u' : Int → Int} {u : va_E}
/-- a slot's row was written anew -/
theorem XR.rows (hX : (XR E x mf ow h w hs si lo bk uW uH uB iL iS tp td fk fp my wd uN)) (h1 : 0 ≤ t ∧ t < 4) (oa : ow a = 4 + t.toNat) (ne : a ≠ x + 226 + t.toNat) (rm : 0 ≤ my t ∧ my t ≤ 60) (rc : 0 ≤ wd t ∧ wd t ≤ 3) (c1 : h.1 (x + 226 + t.toNat) = some (oB 6 [.ref a])) (c2 : h.1 a = some u) (r : ∀ j, 0 ≤ j → j < my t → g j = u' j) : (XR E x mf ow (hset h a (arrW E (wd t) (my t).toNat g)) w hs si lo bk uW uH uB iL iS tp td fk fp my wd (upI uN t u')) := by
  have ho := (hX.2.2.2.2.2.2 t h1.1 h1.2).1
  have hS : SLO E ow (hset h a (arrW E (wd t) (my t).toNat g)) (4 + t.toNat) (x + 226 + t.toNat) (my t) (wd t) u' :=
    ⟨ho, Or.inr ⟨a, g, oa, ne, rm, rc, (hset_ne (Ne.symm ne)).trans c1, hset_at, r⟩⟩
  have z := XR.slt hX (hX.1.set c2) h1 (FR.set oa) hS
  rw [upI_self, upI_self] at z
  exact z
theorem c_pastesX (hX : (XR E x mf ow h w hs si lo bk uW uH uB iL iS tp td fk fp my wd uN)) (h1 : 0 ≤ s ∧ s < 4) (h2 : 0 ≤ t ∧ t < 4) (i1 : in32 i) (i2 : in32 k) (i3 : in32 n) (hN : NMok my wd uN) : CALL E iX5_pastes (d + 171) 3 1010 [.ref (x + 226 + s.toNat), vI i, .ref (x + 226 + t.toNat), vI k, vI n] h (qP fun o k' => o = vI (pstV my wd s i t k n) ∧ (XR E x mf ow k' w hs si lo bk uW uH uB iL iS tp td fk fp my wd (pstU my wd uN s i t k n))) := by
  have x1 := hX.1
  have hs : isSl s := by unfold isSl; omega
  have ht : isSl t := by unfold isSl; omega
  have bad : ∀ z : Int, z ≠ 0 → pstV my wd s i t k n = z → pstU my wd uN s i t k n = uN := fun z q1 q2 => by unfold pstU; rw [q2, if_neg q1]
  obtain ⟨ho, ⟨e, c1⟩ | ⟨a0, f, oa, ne, rm, rc, c1, c2, r⟩⟩ := hX.2.2.2.2.2.2 s h1.1 h1.2
  · have ew : pstV my wd s i t k n = -6 := by unfold pstV; rw [if_pos ⟨hs, ht⟩, if_pos (Or.inl e)]
    rw [ew, bad (-6) (by decide) ew]
    exact GO.mono (GO.room (c_pastesN0 c1) (by omega) (by omega)) (fun o k' z => ⟨_, z.1, rfl, by rw [z.2]; exact hX⟩)
  · obtain ⟨ho', ⟨e', c1'⟩ | ⟨a1, g, oa', ne', rm', rc', c1', c2', r'⟩⟩ := hX.2.2.2.2.2.2 t h2.1 h2.2
    · have ew : pstV my wd s i t k n = -6 := by unfold pstV; rw [if_pos ⟨hs, ht⟩, if_pos (Or.inr e')]
      rw [ew, bad (-6) (by decide) ew]
      exact GO.mono (GO.room (c_pastesN1 c1 c1') (by omega) (by omega)) (fun o k' z => ⟨_, z.1, rfl, by rw [z.2]; exact hX⟩)
    · have nn : ¬ (my s = -1 ∨ my t = -1) := by omega
      by_cases ec : wd s = wd t
      · have c3 : h.1 a0 = some (arrW E (wd t) (my s).toNat f) := by rw [c2, ec]
        by_cases hin : 0 ≤ i ∧ 0 ≤ k ∧ 0 ≤ n ∧ i + n ≤ my s ∧ k + n ≤ my t
        · have ew : pstV my wd s i t k n = 0 := by unfold pstV; rw [if_pos ⟨hs, ht⟩, if_neg nn, if_pos ec, if_pos hin]
          rw [ew, show pstU my wd uN s i t k n = upI uN t (cpyI (uN t) (uN s) k i n) by unfold pstU; rw [ew, if_pos rfl]]
          refine GO.mono (GO.room (GO.deep (c_pastesG (d := d) c1 c1' c3 c2' rc' (by omega) (by omega) (fun j z1 z2 => by rw [r j z1 (by omega), ← ec]; exact hN s j hs z1 (by omega))) (by omega)) (by omega) (by omega)) (fun o k' z => ⟨_, z.1, rfl, ?_⟩)
          rw [z.2]
          refine XR.rows hX h2 oa' ne' rm' rc' c1' c2' (fun j z1 z2 => ?_)
          by_cases q : k ≤ j ∧ j < k + n
          · rw [cpyI_in q.1 q.2, cpyI_in q.1 q.2]; exact r _ (by omega) (by omega)
          · rw [cpyI_out (by omega), cpyI_out (by omega)]; exact r' _ z1 z2
        · have ew : pstV my wd s i t k n = -7 := by unfold pstV; rw [if_pos ⟨hs, ht⟩, if_neg nn, if_pos ec, if_neg hin]
          rw [ew, bad (-7) (by decide) ew]
          refine GO.mono (c_pastesO (d := d) c1 c1' c3 c2' rc' i1 i2 i3 (by omega) (by omega)) (fun o k' z => ?_)
          obtain ⟨y, z1, z2, fs, z3⟩ := z
          exact ⟨y, z1, z2, by rw [z3]; exact hX.exc⟩
      · have ew : pstV my wd s i t k n = -8 := by unfold pstV; rw [if_pos ⟨hs, ht⟩, if_neg nn, if_neg ec]
        rw [ew, bad (-8) (by decide) ew]
        exact GO.mono (GO.room (GO.deep (c_pastesU (d := d) c1 c1' c2 c2' rc rc' ec) (by omega)) (by omega) (by omega)) (fun o k' z => ⟨_, z.1, rfl, by rw [z.2]; exact hX⟩)
theorem c_pasteX (hX : (XR E x mf ow h w hs si lo bk uW uH uB iL iS tp td fk fp my wd uN)) (r1 : in32 s) (r2 : in32 t) (i1 : in32 i) (i2 : in32 k) (i3 : in32 n) (hN : NMok my wd uN) : CALL E iX0_paste (d + 172) 3 1010 [.ref x, vI s, vI i, vI t, vI k, vI n] h (qP fun o k' => o = vI (pstV my wd s i t k n) ∧ (XR E x mf ow k' w hs si lo bk uW uH uB iL iS tp td fk fp my wd (pstU my wd uN s i t k n))) := by
  by_cases h1 : (0 ≤ s ∧ s < 4) ∧ 0 ≤ t ∧ t < 4
  · obtain ⟨v0, hb⟩ := hX.slo h1.1
    obtain ⟨x1, x2, ⟨w3, bl, tq, pl, bp, hC, hR, -⟩, -⟩ := id hX
    show GO E iX0_paste _ _ _ 0 [some (.ref x), some (vI s), some (vI i), some (vI t), some (vI k), some (vI n)] [] _ _
    refine g_iload_n (q := 1) dX0_paste_0 rfl rfl ?_
    refine g_cs (I' := iX0_isSlot) (mc := 0) (ms := 0) (rc := 3) (rs := 1010) (q := 4) dX0_paste_1 q126 q127 gcX0_isSlot (c_isSlotX (s := s) r1) rfl rfl ?_
    refine g_ifeqB (t := 37) (q := 7) dX0_paste_4 (by decide) rfl (fun c4 => ?_) (fun c4 => ?_)
    · exact absurd h1 (by omega)
    · refine g_iload_n (q := 8) dX0_paste_7 rfl rfl ?_
      refine g_cs (I' := iX0_isSlot) (mc := 0) (ms := 0) (rc := 3) (rs := 1010) (q := 11) dX0_paste_8 q126 q127 gcX0_isSlot (c_isSlotX (s := t) r2) rfl rfl ?_
      refine g_ifeqB (t := 37) (q := 14) dX0_paste_11 (by decide) rfl (fun c11 => ?_) (fun c11 => ?_)
      · exact absurd h1 (by omega)
      · refine g_aload_n (q := 15) dX0_paste_14 rfl rfl ?_
        refine g_get (C := RX0) (T := TX0) (ci := 0) (k := 0) (q := 18) dX0_paste_15 q518 rfl in_X0 (by decide) hC rfl rfl ?_
        refine g_iload_n (q := 19) dX0_paste_18 rfl rfl ?_
        refine g_aald (t0 := 7) (q := 20) dX0_paste_19 hR rfl rfl (by omega) (by omega) rfl ?_
        refine g_iload_n (q := 21) dX0_paste_20 rfl rfl ?_
        refine g_aload_n (q := 22) dX0_paste_21 rfl rfl ?_
        refine g_get (C := RX0) (T := TX0) (ci := 0) (k := 0) (q := 25) dX0_paste_22 q518 rfl in_X0 (by decide) hC rfl rfl ?_
        refine g_iload_n (q := 26) dX0_paste_25 rfl rfl ?_
        refine g_aald (t0 := 7) (q := 27) dX0_paste_26 hR rfl rfl (by omega) (by omega) rfl ?_
        refine g_iload (q := 29) dX0_paste_27 rfl rfl ?_
        refine g_iload (q := 31) dX0_paste_29 rfl rfl ?_
        refine g_cvP (I' := iX5_pastes) (mc := 3) (ms := 1010) (rc := 0) (rs := 0) (ci := 6) (q := 34) dX0_paste_31 q311 q312 rfl q313 gcX5_pastes hb (c_pastesX (d := d) hX h1.1 h1.2 i1 i2 i3 hN) rfl rfl (fun v31 k31 z31 => ?_)
        obtain ⟨rfl, hX5⟩ := z31
        refine g_goto (t := 39) dX0_paste_34 (by decide) ?_
        exact g_iret dX0_paste_39 rfl ⟨_, rfl, rfl, hX5⟩
  · have ew : pstV my wd s i t k n = -2 := by unfold pstV; rw [if_neg (by unfold isSl; omega)]
    have hu : pstU my wd uN s i t k n = uN := by unfold pstU; rw [ew, if_neg (by decide)]
    rw [ew, hu]
    show GO E iX0_paste _ _ _ 0 [some (.ref x), some (vI s), some (vI i), some (vI t), some (vI k), some (vI n)] [] _ _
    refine g_iload_n (q := 1) dX0_paste_0 rfl rfl ?_
    refine g_cs (I' := iX0_isSlot) (mc := 0) (ms := 0) (rc := 3) (rs := 1010) (q := 4) dX0_paste_1 q126 q127 gcX0_isSlot (c_isSlotX (s := s) r1) rfl rfl ?_
    refine g_ifeqB (t := 37) (q := 7) dX0_paste_4 (by decide) rfl (fun c4 => ?_) (fun c4 => ?_)
    · refine g_bipush (q := 39) dX0_paste_37 rfl ?_
      exact g_iret dX0_paste_39 rfl ⟨_, rfl, rfl, hX⟩
    · refine g_iload_n (q := 8) dX0_paste_7 rfl rfl ?_
      refine g_cs (I' := iX0_isSlot) (mc := 0) (ms := 0) (rc := 3) (rs := 1010) (q := 11) dX0_paste_8 q126 q127 gcX0_isSlot (c_isSlotX (s := t) r2) rfl rfl ?_
      refine g_ifeqB (t := 37) (q := 14) dX0_paste_11 (by decide) rfl (fun c11 => ?_) (fun c11 => ?_)
      · refine g_bipush (q := 39) dX0_paste_37 rfl ?_
        exact g_iret dX0_paste_39 rfl ⟨_, rfl, rfl, hX⟩
      · exact absurd h1 (by omega)
end
/-! the slots' numbers stay of their widths -/
section
variable {my wd : Int → Int} {uN : Int → Int → Int} {s i t k n c v : Int}
theorem inW_cut (hc : 0 ≤ c ∧ c ≤ 3) (hv : in64 v) : inW c (cutV v c) := by
  have e : c = 0 ∨ c = 1 ∨ c = 2 ∨ c = 3 := by omega
  have h2 := Int.le_bmod (x := v) (m := 65536) (by decide)
  have h3 := Int.bmod_lt (x := v) (m := 65536) (by decide)
  have h4 := Int.le_bmod (x := v) (m := 4294967296) (by decide)
  have h5 := Int.bmod_lt (x := v) (m := 4294967296) (by decide)
  rcases e with rfl | rfl | rfl | rfl
  · rw [inW_0]; exact bm256 v
  · rw [inW_1]; exact ⟨h2, h3⟩
  · rw [inW_2]; exact ⟨h4, h5⟩
  · rw [inW_3]; exact hv
theorem inW_zero (hc : 0 ≤ c ∧ c ≤ 3) : inW c 0 := by
  have e : c = 0 ∨ c = 1 ∨ c = 2 ∨ c = 3 := by omega
  rcases e with rfl | rfl | rfl | rfl
  · rw [inW_0]; omega
  · rw [inW_1]; omega
  · rw [inW_2]; unfold in32; omega
  · rw [inW_3]; unfold in64; omega
theorem inW_64 (hc : 0 ≤ c ∧ c ≤ 3) (h : inW c v) : in64 v := by
  have e : c = 0 ∨ c = 1 ∨ c = 2 ∨ c = 3 := by omega
  unfold in64
  rcases e with rfl | rfl | rfl | rfl
  · rw [inW_0] at h; omega
  · rw [inW_1] at h; omega
  · rw [inW_2] at h; unfold in32 at h; omega
  · rw [inW_3] at h; unfold in64 at h; omega
theorem NMok.row (h : NMok my wd uN) (hc : 0 ≤ c ∧ c ≤ 3) : NMok (upI my s n) (upI wd s c) (upI uN s (fun _ => 0)) := fun t j z1 z2 z3 => by
  by_cases e : t = s
  · subst e
    rw [upI_at, upI_at]
    exact inW_zero hc
  · rw [upI_ne e] at z3
    rw [upI_ne e, upI_ne e]
    exact h t j z1 z2 z3
theorem NMok.write (h : NMok my wd uN) (hc : isSl s → 0 ≤ wd s ∧ wd s ≤ 3) (hv : in64 v) : NMok my wd (wrU my wd uN s i v) := fun t j z1 z2 z3 => by
  unfold wrU
  by_cases e0 : wrV my s i = 0
  · rw [if_pos e0]
    by_cases e : t = s
    · subst e
      rw [upI_at]
      by_cases e2 : j = i
      · subst e2; rw [upI_at]; exact inW_cut (hc z1) hv
      · rw [upI_ne e2]; exact h t j z1 z2 z3
    · rw [upI_ne e]; exact h t j z1 z2 z3
  · rw [if_neg e0]; exact h t j z1 z2 z3
theorem NMok.paste (h : NMok my wd uN) : NMok my wd (pstU my wd uN s i t k n) := fun t' j z1 z2 z3 => by
  unfold pstU
  by_cases e0 : pstV my wd s i t k n = 0
  · rw [if_pos e0]
    by_cases e : t' = t
    · subst e
      rw [upI_at]
      by_cases q : k ≤ j ∧ j < k + n
      · rw [cpyI_in q.1 q.2]
        unfold pstV at e0
        by_cases q1 : isSl s ∧ isSl t'
        · rw [if_pos q1] at e0
          by_cases q2 : my s = -1 ∨ my t' = -1
          · rw [if_pos q2] at e0; exact absurd e0 (by decide)
          · rw [if_neg q2] at e0
            by_cases q3 : wd s = wd t'
            · rw [if_pos q3] at e0
              by_cases q4 : 0 ≤ i ∧ 0 ≤ k ∧ 0 ≤ n ∧ i + n ≤ my s ∧ k + n ≤ my t'
              · rw [← q3]; exact h s _ q1.1 (by omega) (by omega)
              · rw [if_neg q4] at e0; exact absurd e0 (by decide)
            · rw [if_neg q3] at e0; exact absurd e0 (by decide)
        · rw [if_neg q1] at e0; exact absurd e0 (by decide)
      · rw [cpyI_out (by omega)]; exact h t' j z1 z2 z3
    · rw [upI_ne e]; exact h t' j z1 z2 z3
  · rw [if_neg e0]; exact h t' j z1 z2 z3
end
