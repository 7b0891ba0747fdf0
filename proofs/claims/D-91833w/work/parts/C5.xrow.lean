/-! THE COMPONENT: row -/
set_option maxRecDepth 100000
section
variable {E : gE} {d rc rs x : Nat} {mf : Nat → va_E} {ow : OW} {h : gH} {w hs bk tp iL iS my wd : Int → Int} {uW uH uB uN : Int → Int → Int} {si lo td fk fp : Int}
variable {ow' : OW} {h' : gH} {s m' c' c n : Int} {u' : Int → Int} {fs : List Value} {ci : Nat} {q : Nat → Prop}
/-- a slot was written -/
theorem XR.slt (hX : (XR E x mf ow h w hs si lo bk uW uH uB iL iS tp td fk fp my wd uN)) (hh : HW h') (h0 : 0 ≤ s ∧ s < 4) (hF : FR ow ow' h h' (fun i => i ≠ 4 + s.toNat)) (hS : SLO E ow' h' (4 + s.toNat) (x + 226 + s.toNat) m' c' u') : (XR E x mf ow' h' w hs si lo bk uW uH uB iL iS tp td fk fp (upI my s m') (upI wd s c') (upI uN s u')) := by
  obtain ⟨x1, x2, x3, x4, x5, x6, x7⟩ := hX
  refine ⟨hh, x2.fr hF (by omega), x3.fr hF (by omega), x4.fr hF (by omega) (fun i z1 z2 => by omega), x5.fr hF (by omega) (by omega) (fun i z => by omega), x6.fr hF (by omega), fun t z1 z2 => ?_⟩
  by_cases e : t = s
  · subst e
    rw [upI_at, upI_at, upI_at]
    exact hS
  · rw [upI_ne e, upI_ne e, upI_ne e]
    exact (x7 t z1 z2).fr hF (by omega)
theorem FR.exc (hh : HW h) : FR ow ow h (hexc h ci fs) q := fun b v e _ => by
  have hb := hh b v e
  exact ⟨(hset_ne (h := (h.1, h.2 + 3)) (by omega)).trans e, rfl⟩
theorem HW.exc (hh : HW h) : HW (hexc h ci fs) := fun b v e => by
  show b < h.2 + 3
  by_cases c : b = h.2 + 2
  · omega
  · have := hh b v ((hset_ne (h := (h.1, h.2 + 3)) c).symm.trans e)
    omega
theorem XR.exc (hX : (XR E x mf ow h w hs si lo bk uW uH uB iL iS tp td fk fp my wd uN)) : (XR E x mf ow (hexc h ci fs) w hs si lo bk uW uH uB iL iS tp td fk fp my wd uN) := hX.all hX.1.exc (FR.exc hX.1)
/-- a slot's object -/
theorem XR.slo (hX : (XR E x mf ow h w hs si lo bk uW uH uB iL iS tp td fk fp my wd uN)) (h0 : 0 ≤ s ∧ s < 4) : ∃ v, h.1 (x + 226 + s.toNat) = some (oB 6 [v]) := by
  obtain ⟨-, -, -, -, -, -, x7⟩ := hX
  obtain ⟨-, ⟨-, e⟩ | ⟨a, g, -, -, -, -, e, -⟩⟩ := x7 s h0.1 h0.2
  · exact ⟨_, e⟩
  · exact ⟨_, e⟩
theorem slo_new (hh : HW h) (o b : Nat) (hb : b < h.2) (v : Value) (hv : h.1 b = some (oB 6 [v])) (ho : ow b = o) (hc : 0 ≤ c ∧ c ≤ 3) (hn : 0 ≤ n ∧ n ≤ 60) : SLO E (upO ow h.2 o) (hset (hnew h (arrW E c n.toNat (fun _ => 0))) b (oB 6 [.ref h.2])) o b n c (fun _ => 0) := by
  refine ⟨?_, Or.inr ⟨h.2, fun _ => 0, if_pos rfl, by omega, hn, hc, hset_at, (hset_ne (by omega)).trans hnew_at, fun _ _ _ => rfl⟩⟩
  unfold upO
  rw [if_neg (by omega)]
  exact ho
theorem c_rowX (hX : (XR E x mf ow h w hs si lo bk uW uH uB iL iS tp td fk fp my wd uN)) (h1 : 0 ≤ s ∧ s < 4) (h2 : 0 ≤ c ∧ c ≤ 3) (h3 : 0 ≤ n ∧ n ≤ 60) : CALL E iX0_row (d + 2) 1 (0 + (0 + n.toNat)) [.ref x, vI s, vI c, vI n] h (qP fun o k => o = vI 0 ∧ ∃ ow', (XR E x mf ow' k w hs si lo bk uW uH uB iL iS tp td fk fp (upI my s n) (upI wd s c) (upI uN s (fun _ => 0)))) := by
  obtain ⟨v, hb⟩ := hX.slo h1
  obtain ⟨x1, x2, ⟨w3, bl, tq, pl, bp, hC, hR, -⟩, x4, x5, x6, x7⟩ := id hX
  have hlt := x1 _ _ hb
  have ho := (x7 s h1.1 h1.2).1
  have hF : FR ow (upO ow h.2 (4 + s.toNat)) h (hset (hnew h (arrW E c n.toNat (fun _ => 0))) (x + 226 + s.toNat) (oB 6 [.ref h.2])) (fun i => i ≠ 4 + s.toNat) := fun b y e z => by
    have hb2 := x1 b y e
    have hne : b ≠ x + 226 + s.toNat := fun q => z (by rw [q]; exact ho)
    exact ⟨(hset_ne hne).trans ((hnew_ne (by omega)).trans e), if_neg (by omega)⟩
  have hX2 := XR.slt hX ((x1.new).set ((hnew_ne (by omega)).trans hb)) h1 hF (slo_new (E := E) x1 _ _ hlt v hb ho h2 h3)
  show GO E iX0_row _ _ _ 0 [some (.ref x), some (vI s), some (vI c), some (vI n)] [] _ _
  refine g_iload_n (q := 1) dX0_row_0 rfl rfl ?_
  refine g_cs (I' := iX0_isSlot) (mc := 0) (ms := 0) (rc := 1) (rs := (0+(0+n.toNat))) (q := 4) dX0_row_1 q126 q127 gcX0_isSlot (c_isSlotX (s := s) (by unfold in32; omega)) rfl rfl ?_
  refine g_ifeqB (t := 25) (q := 7) dX0_row_4 (by decide) rfl (fun c4 => ?_) (fun c4 => ?_)
  · exact absurd h1 (by omega)
  · refine g_iload_n (q := 8) dX0_row_7 rfl rfl ?_
    refine g_i2l (q := 9) dX0_row_8 (by first | assumption | exact in32_gB | exact in32_gCmp | (unfold in32; omega)) rfl ?_
    refine g_lconst0 (q := 10) dX0_row_9 rfl ?_
    refine g_ldc2 (a := 3) (q := 13) dX0_row_10 q129 (by decide) rfl ?_
    refine g_cs (I' := iX0_in) (mc := 0) (ms := 0) (rc := 1) (rs := (0+(0+n.toNat))) (q := 16) dX0_row_13 q130 q131 gcX0_in (c_inX (by unfold in64; omega) (by unfold in64; omega) (by unfold in64; omega)) rfl rfl ?_
    refine g_ifeqB (t := 25) (q := 19) dX0_row_16 (by decide) rfl (fun c16 => ?_) (fun c16 => ?_)
    · exact absurd h2 (by omega)
    · refine g_iload_n (q := 20) dX0_row_19 rfl rfl ?_
      refine g_bipush (q := 22) dX0_row_20 rfl ?_
      refine g_icmp_le (t := 28) (q := 25) dX0_row_22 (by decide) rfl (by first | assumption | exact in32_gB | exact in32_gCmp | (unfold in32; omega)) (by first | assumption | exact in32_gB | exact in32_gCmp | (unfold in32; omega)) (fun c22 => ?_) (fun c22 => ?_)
      · refine g_aload_n (q := 29) dX0_row_28 rfl rfl ?_
        refine g_get (C := RX0) (T := TX0) (ci := 0) (k := 0) (q := 32) dX0_row_29 q518 rfl in_X0 (by decide) hC rfl rfl ?_
        refine g_iload_n (q := 33) dX0_row_32 rfl rfl ?_
        refine g_aald (t0 := 7) (q := 34) dX0_row_33 hR rfl rfl (by omega) (by omega) rfl ?_
        refine g_iload_n (q := 35) dX0_row_34 rfl rfl ?_
        refine g_iload_n (q := 36) dX0_row_35 rfl rfl ?_
        refine g_cv (I' := iX5_begins) (mc := 1) (ms := (0+n.toNat)) (rc := 0) (rs := 0) (ci := 6) (q := 39) dX0_row_36 q133 q134 rfl q135 gcX5_begins hb (c_begins hb hlt h2 h3) rfl rfl ?_
        refine g_if_eq (t := 46) (q := 42) dX0_row_39 (by decide) rfl (by first | assumption | exact in32_gB | exact in32_gCmp | (unfold in32; omega)) (fun c39 => ?_) (fun c39 => ?_)
        · exact absurd c39 (by decide)
        · refine g_iconst (q := 43) dX0_row_42 rfl ?_
          refine g_goto (t := 48) dX0_row_43 (by decide) ?_
          exact g_iret dX0_row_48 rfl ⟨_, rfl, rfl, _, hX2⟩
      · exact absurd h3.2 (by omega)
end
