/-! THE COMPONENT: row with what is none -/
set_option maxRecDepth 100000
section
variable {E : gE} {d rc rs x : Nat} {mf : Nat → va_E} {ow : OW} {h : gH} {w hs bk tp iL iS my wd : Int → Int} {uW uH uB uN : Int → Int → Int} {si lo td fk fp : Int}
variable {s c n : Int}
theorem c_rowBad (hX : (XR E x mf ow h w hs si lo bk uW uH uB iL iS tp td fk fp my wd uN)) (r1 : in32 s) (r2 : in32 c) (r3 : in32 n) (h1 : ¬ ((0 ≤ s ∧ s ≤ 3) ∧ (0 ≤ c ∧ c ≤ 3) ∧ n ≤ 60)) : CALL E iX0_row (d + 2) 0 0 [.ref x, vI s, vI c, vI n] h (qP fun o k => o = vI (-2) ∧ (XR E x mf ow k w hs si lo bk uW uH uB iL iS tp td fk fp my wd uN)) := by
  have q1 := r2.1
  have q2 := r2.2
  have q3 := r3.1
  have q4 := r3.2
  show GO E iX0_row _ _ _ 0 [some (.ref x), some (vI s), some (vI c), some (vI n)] [] _ _
  refine g_iload_n (q := 1) dX0_row_0 rfl rfl ?_
  refine g_cs (I' := iX0_isSlot) (mc := 0) (ms := 0) (rc := 0) (rs := 0) (q := 4) dX0_row_1 q126 q127 gcX0_isSlot (c_isSlotX (s := s) r1) rfl rfl ?_
  refine g_ifeqB (t := 25) (q := 7) dX0_row_4 (by decide) rfl (fun c4 => ?_) (fun c4 => ?_)
  · refine g_bipush (q := 27) dX0_row_25 rfl ?_
    exact g_iret dX0_row_27 rfl ⟨_, rfl, rfl, hX⟩
  · refine g_iload_n (q := 8) dX0_row_7 rfl rfl ?_
    refine g_i2l (q := 9) dX0_row_8 (by first | assumption | exact in32_gB | exact in32_gCmp | (unfold in32; omega)) rfl ?_
    refine g_lconst0 (q := 10) dX0_row_9 rfl ?_
    refine g_ldc2 (a := 3) (q := 13) dX0_row_10 q129 (by decide) rfl ?_
    refine g_cs (I' := iX0_in) (mc := 0) (ms := 0) (rc := 0) (rs := 0) (q := 16) dX0_row_13 q130 q131 gcX0_in (c_inX (by unfold in64; omega) (by unfold in64; omega) (by unfold in64; omega)) rfl rfl ?_
    refine g_ifeqB (t := 25) (q := 19) dX0_row_16 (by decide) rfl (fun c16 => ?_) (fun c16 => ?_)
    · refine g_bipush (q := 27) dX0_row_25 rfl ?_
      exact g_iret dX0_row_27 rfl ⟨_, rfl, rfl, hX⟩
    · refine g_iload_n (q := 20) dX0_row_19 rfl rfl ?_
      refine g_bipush (q := 22) dX0_row_20 rfl ?_
      refine g_icmp_le (t := 28) (q := 25) dX0_row_22 (by decide) rfl (by first | assumption | exact in32_gB | exact in32_gCmp | (unfold in32; omega)) (by first | assumption | exact in32_gB | exact in32_gCmp | (unfold in32; omega)) (fun c22 => ?_) (fun c22 => ?_)
      · exact absurd ⟨c4, c16, c22⟩ h1
      · refine g_bipush (q := 27) dX0_row_25 rfl ?_
        exact g_iret dX0_row_27 rfl ⟨_, rfl, rfl, hX⟩
end
