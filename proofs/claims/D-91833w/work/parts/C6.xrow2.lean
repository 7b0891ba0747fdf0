/-! THE COMPONENT: row that fails -/
set_option maxRecDepth 100000
section
variable {E : gE} {d rc rs x : Nat} {mf : Nat → va_E} {ow : OW} {h : gH} {w hs bk tp iL iS my wd : Int → Int} {uW uH uB uN : Int → Int → Int} {si lo td fk fp : Int}
variable {s c n : Int}
theorem c_rowNeg (hX : (XR E x mf ow h w hs si lo bk uW uH uB iL iS tp td fk fp my wd uN)) (h1 : 0 ≤ s ∧ s < 4) (h2 : 0 ≤ c ∧ c ≤ 3) (hr : in32 n) (h3 : n < 0) : CALL E iX0_row (d + 171) 3 1010 [.ref x, vI s, vI c, vI n] h (qP fun o k => o = vI (-3) ∧ (XR E x mf ow k w hs si lo bk uW uH uB iL iS tp td fk fp my wd uN)) := by
  obtain ⟨v, hb⟩ := hX.slo h1
  obtain ⟨x1, x2, ⟨w3, bl, tq, pl, bp, hC, hR, -⟩, -⟩ := id hX
  show GO E iX0_row _ _ _ 0 [some (.ref x), some (vI s), some (vI c), some (vI n)] [] _ _
  refine g_iload_n (q := 1) dX0_row_0 rfl rfl ?_
  refine g_cs (I' := iX0_isSlot) (mc := 0) (ms := 0) (rc := 3) (rs := 1010) (q := 4) dX0_row_1 q126 q127 gcX0_isSlot (c_isSlotX (s := s) (by unfold in32; omega)) rfl rfl ?_
  refine g_ifeqB (t := 25) (q := 7) dX0_row_4 (by decide) rfl (fun c4 => ?_) (fun c4 => ?_)
  · exact absurd h1 (by omega)
  · refine g_iload_n (q := 8) dX0_row_7 rfl rfl ?_
    refine g_i2l (q := 9) dX0_row_8 (by first | assumption | exact in32_gB | exact in32_gCmp | (unfold in32; omega)) rfl ?_
    refine g_lconst0 (q := 10) dX0_row_9 rfl ?_
    refine g_ldc2 (a := 3) (q := 13) dX0_row_10 q129 (by decide) rfl ?_
    refine g_cs (I' := iX0_in) (mc := 0) (ms := 0) (rc := 3) (rs := 1010) (q := 16) dX0_row_13 q130 q131 gcX0_in (c_inX (by unfold in64; omega) (by unfold in64; omega) (by unfold in64; omega)) rfl rfl ?_
    refine g_ifeqB (t := 25) (q := 19) dX0_row_16 (by decide) rfl (fun c16 => ?_) (fun c16 => ?_)
    · exact absurd h2 (by omega)
    · refine g_iload_n (q := 20) dX0_row_19 rfl rfl ?_
      refine g_bipush (q := 22) dX0_row_20 rfl ?_
      refine g_icmp_le (t := 28) (q := 25) dX0_row_22 (by decide) rfl (by first | assumption | exact in32_gB | exact in32_gCmp | (unfold in32; omega)) (by first | assumption | exact in32_gB | exact in32_gCmp | (unfold in32; omega)) (fun c22 => ?_) (fun c22 => ?_)
      · refine g_aload_n (q := 29) dX0_row_28 rfl rfl ?_
        refine g_get (C := RX0) (T := TX0) (ci := 0) (k := 0) (q := 32) dX0_row_29 q518 rfl in_X0 (by decide) hC rfl rfl ?_
        refine g_iload_n (q := 33) dX0_row_32 rfl rfl ?_
        refine g_aald (t0 := 7) (q := 34) dX0_row_33 hR rfl rfl (by omega) (by omega) rfl ?_
        refine g_iload_n (q := 35) dX0_row_34 rfl rfl ?_
        refine g_iload_n (q := 36) dX0_row_35 rfl rfl ?_
        refine g_cvP (I' := iX5_begins) (mc := 3) (ms := 1010) (rc := 0) (rs := 0) (ci := 6) (q := 39) dX0_row_36 q133 q134 rfl q135 gcX5_begins hb (c_beginsNeg h2 hr h3) rfl rfl (fun v36 k36 z36 => ?_)
        obtain ⟨rfl, fs, rfl⟩ := z36
        refine g_if_eq (t := 46) (q := 42) dX0_row_39 (by decide) rfl (by first | assumption | exact in32_gB | exact in32_gCmp | (unfold in32; omega)) (fun c39 => ?_) (fun c39 => ?_)
        · refine g_bipush (q := 48) dX0_row_46 rfl ?_
          exact g_iret dX0_row_48 rfl ⟨_, rfl, rfl, hX.exc⟩
        · exact absurd rfl c39
      · exact absurd h3 (by omega)
end
