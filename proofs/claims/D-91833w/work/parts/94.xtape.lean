/-! THE COMPONENT: counts, the tape -/
set_option maxRecDepth 100000
section
variable {E : gE} {d rc rs x : Nat} {mf : Nat → va_E} {ow : OW} {h : gH} {w hs bk tp iL iS my wd : Int → Int} {uW uH uB uN : Int → Int → Int} {si lo td fk fp : Int}
variable {r v n B kn i s l c b a e g : Int} {ra t p : Nat} {k h' : gH}
theorem XR.core {tp' : Int → Int} {td' fk' fp' : Int} (hX : (XR E x mf ow h w hs si lo bk uW uH uB iL iS tp td fk fp my wd uN)) (hh : HW h') (hF : FR ow ow h h' (fun i => i ≠ 1)) (hC : X_C E ow h' x tp' td' fk' fp') : (XR E x mf ow h' w hs si lo bk uW uH uB iL iS tp' td' fk' fp' my wd uN) := by
  obtain ⟨x1, x2, x3, x4, x5, x6, x7⟩ := hX
  exact ⟨hh, x2.fr hF (by decide), hC, x4.fr hF (by decide) (fun _ _ _ => by omega), x5.fr hF (by decide) (by decide) (fun _ _ => by omega), x6.fr hF (by decide), x7.fr hF (fun _ _ _ => by omega)⟩
theorem XR.tape {tp' : Int → Int} (hX : (XR E x mf ow h w hs si lo bk uW uH uB iL iS tp td fk fp my wd uN)) (ht : ∀ j, 0 ≤ j → j < 900 → tp j = tp' j) : (XR E x mf ow h w hs si lo bk uW uH uB iL iS tp' td fk fp my wd uN) := by
  obtain ⟨x1, x2, ⟨w3, bl, tq, pl, bp, c1, c2, c3, c4, c5, r1, r2⟩, x4, x5, x6, x7⟩ := hX
  exact ⟨x1, x2, ⟨w3, bl, tq, pl, bp, c1, c2, c3, c4, c5, r1, fun j q1 q2 => (r2 j q1 q2).trans (ht j q1 q2)⟩, x4, x5, x6, x7⟩
/-- new numbers in the component's own cell -/
theorem XR.obj {td' fk' fp' bl' : Int} (hX : (XR E x mf ow h w hs si lo bk uW uH uB iL iS tp td fk fp my wd uN)) (hb : in32 bl') : (XR E x mf ow (hset h x (xO x td' fk' fp' bl')) w hs si lo bk uW uH uB iL iS tp td' fk' fp' my wd uN) := by
  obtain ⟨x1, x2, ⟨⟨w1, w2, w3, w4, w5⟩, bl, tq, pl, bp, c1, c2, c3, c4, c5, r1, r2⟩, -⟩ := id hX
  refine hX.core (x1.set c1) (FR.set w1) ⟨⟨w1, w2, w3, w4, w5⟩, bl', tq, pl, bp, hset_at, (hset_ne (by omega)).trans c2, (hset_ne (by omega)).trans c3, (hset_ne (by omega)).trans c4, (hset_ne (by omega)).trans c5, hb, r2⟩
/-- a byte of the tape -/
theorem XR.byte {tq : Int → Int} (hX : (XR E x mf ow h w hs si lo bk uW uH uB iL iS tp td fk fp my wd uN)) (hq : h.1 (x + 223) = some (aB E 900 tq)) (hr : ∀ j, 0 ≤ j → j < 900 → tq j = tp j) : (XR E x mf ow (hset h (x + 223) (aB E 900 (upI tq i v))) w hs si lo bk uW uH uB iL iS (upI tp i v) td fk fp my wd uN) := by
  obtain ⟨x1, x2, ⟨⟨w1, w2, w3, w4, w5⟩, bl, tq', pl, bp, c1, c2, c3, c4, c5, r1, r2⟩, -⟩ := id hX
  have hF : FR ow ow h (hset h (x + 223) (aB E 900 (upI tq i v))) (fun i => i ≠ 1) := FR.set w3
  refine hX.core (x1.set c3) hF ⟨⟨w1, w2, w3, w4, w5⟩, bl, upI tq i v, pl, bp, (hset_ne (by omega)).trans c1, (hset_ne (by omega)).trans c2, hset_at, (hset_ne (by omega)).trans c4, (hset_ne (by omega)).trans c5, r1, fun j q1 q2 => ?_⟩
  by_cases z : j = i
  · subst z; rw [upI_at, upI_at]
  · rw [upI_ne z, upI_ne z]; exact hr j q1 q2
theorem c_endX (hX : (XR E x mf ow h w hs si lo bk uW uH uB iL iS tp td fk fp my wd uN)) (hn : in32 n) (hd : 0 ≤ td ∧ td ≤ 900) : CALL E iX0_end (d + 1) 0 0 [.ref x, vI n] h (qP fun o k => o = vI (if 0 ≤ n ∧ n ≤ td then n else -1) ∧ (XR E x mf ow k w hs si lo bk uW uH uB iL iS tp (if 0 ≤ n ∧ n ≤ td then n else td) fk fp my wd uN)) := by
  obtain ⟨x1, x2, ⟨w3, bl, tq, pl, bp, hC, -, -, -, -, hbl, -⟩, -⟩ := id hX
  have q1 := hn.1
  have q2 := hn.2
  show GO E iX0_end _ _ _ 0 [some (.ref x), some (vI n)] [] _ _
  refine g_iload_n (q := 1) dX0_end_0 rfl rfl ?_
  refine g_i2l (q := 2) dX0_end_1 (by first | assumption | exact in32_gB | exact in32_gCmp | (unfold in32; omega)) rfl ?_
  refine g_lconst0 (q := 3) dX0_end_2 rfl ?_
  refine g_aload_n (q := 4) dX0_end_3 rfl rfl ?_
  refine g_get (C := RX0) (T := TX0) (ci := 0) (k := 5) (q := 7) dX0_end_4 q523 rfl in_X0 (by decide) hC rfl rfl ?_
  refine g_i2l (q := 8) dX0_end_7 (by first | assumption | exact in32_gB | exact in32_gCmp | (unfold in32; omega)) rfl ?_
  refine g_cs (I' := iX0_in) (mc := 0) (ms := 0) (rc := 0) (rs := 0) (q := 11) dX0_end_8 q130 q131 gcX0_in (c_inX (by unfold in64; omega) (by unfold in64; omega) (by unfold in64; omega)) rfl rfl ?_
  refine g_ifneB (t := 16) (q := 14) dX0_end_11 (by decide) rfl (fun c11 => ?_) (fun c11 => ?_)
  · refine g_aload_n (q := 17) dX0_end_16 rfl rfl ?_
    refine g_iload_n (q := 18) dX0_end_17 rfl rfl ?_
    refine g_put (C := RX0) (T := TX0) (ci := 0) (k := 5) (q := 21) dX0_end_18 q523 rfl in_X0 tyX0_ok nmX0 (by decide) rfl gFit_int hC (Nat.le_of_ble_eq_true rfl) rfl ?_
    refine g_iload_n (q := 22) dX0_end_21 rfl rfl ?_
    exact g_iret dX0_end_22 rfl ⟨_, rfl, congrArg vI (if_pos c11).symm, by rw [if_pos c11]; exact hX.obj hbl⟩
  · refine g_iconst (q := 15) dX0_end_14 rfl ?_
    exact g_iret dX0_end_15 rfl ⟨_, rfl, congrArg vI (if_neg c11).symm, by rw [if_neg c11]; exact hX⟩
theorem c_putsX {g : Int → Int} {t0 q : Int} (hX : (XR E x mf ow h w hs si lo bk uW uH uB iL iS (cpyI tp (fdR g) t0 0 (4 * q)) (t0 + 4 * q) fk fp my wd uN)) (hq : 0 ≤ q ∧ q < 5) (ht : 0 ≤ t0 ∧ t0 ≤ 880) (hv : g q = v) :
    CALL E iX0_puts d 0 0 [.ref x, vI v] h (qVP fun k => (XR E x mf ow k w hs si lo bk uW uH uB iL iS (cpyI tp (fdR g) t0 0 (4 * (q + 1))) (t0 + 4 * (q + 1)) fk fp my wd uN)) := by
  have loop : ∀ (f : Nat) (j : Int) (k : gH), 0 ≤ j → j + f = 4 → (XR E x mf ow k w hs si lo bk uW uH uB iL iS (cpyI tp (fdR g) t0 0 (4 * q + j)) (t0 + (4 * q + j)) fk fp my wd uN) →
      GO E iX0_puts d 0 0 3 [some (.ref x), some (vI v), some (vI (24 - 8 * j))] [] k (qVP fun k => (XR E x mf ow k w hs si lo bk uW uH uB iL iS (cpyI tp (fdR g) t0 0 (4 * (q + 1))) (t0 + 4 * (q + 1)) fk fp my wd uN)) := by
    intro f
    induction f with
    | zero =>
      intro j k h0 h1 hX
      obtain rfl : j = 4 := by omega
      refine g_iload_n (q := 4) dX0_puts_3 rfl rfl ?_
      refine g_if_lt (t := 36) (q := 7) dX0_puts_4 (by decide) rfl (by first | assumption | exact in32_gB | exact in32_gCmp | (unfold in32; omega)) (fun c4 => ?_) (fun c4 => ?_)
      · exact g_vret dX0_puts_36 rfl ⟨rfl, by rw [show 4 * (q + 1) = 4 * q + 4 by omega]; exact hX⟩
      · exact absurd c4 (by decide)
    | succ f ih =>
      intro j k h0 h1 hX
      obtain ⟨x1, x2, ⟨w3, bl, tq, pl, bp, hC, -, hT, -, -, hbl, hr2⟩, -⟩ := id hX
      have e3 := cpyI_s (dst := tp) (src := fdR g) (dO := t0) (sO := 0) (n := 4 * q + j) (by omega)
      have e4 : fdR g (0 + (4 * q + j)) = shB v (24 - 8 * j) := by
        show shB (g ((0 + (4 * q + j)) / 4)) (24 - 8 * ((0 + (4 * q + j)) % 4)) = _
        rw [show (0 + (4 * q + j)) / 4 = q by omega, show (0 + (4 * q + j)) % 4 = j by omega, hv]
      rw [e4] at e3
      refine g_iload_n (q := 4) dX0_puts_3 rfl rfl ?_
      refine g_if_lt (t := 36) (q := 7) dX0_puts_4 (by decide) rfl (by unfold in32; omega) (fun c4 => ?_) (fun c4 => ?_)
      · exact absurd c4 (by omega)
      · refine g_aload_n (q := 8) dX0_puts_7 rfl rfl ?_
        refine g_get (C := RX0) (T := TX0) (ci := 0) (k := 4) (q := 11) dX0_puts_8 q522 rfl in_X0 (by decide) hC rfl rfl ?_
        refine g_aload_n (q := 12) dX0_puts_11 rfl rfl ?_
        refine g_get (C := RX0) (T := TX0) (ci := 0) (k := 5) (q := 15) dX0_puts_12 q523 rfl in_X0 (by decide) hC rfl rfl ?_
        refine g_iload_n (q := 16) dX0_puts_15 rfl rfl ?_
        refine g_iload_n (q := 17) dX0_puts_16 rfl rfl ?_
        refine g_ishr (q := 18) dX0_puts_17 rfl ?_
        refine GO.topR ?_
        refine g_i2b (q := 19) dX0_puts_18 rfl ?_
        refine g_bast (q := 20) dX0_puts_19 hT (by omega) (by omega) (bm256 _) rfl ?_
        have hX19 := hX.byte (i := t0 + (4 * q + j)) (v := shB v (24 - 8 * j)) hT hr2
        rw [e3] at hX19
        refine g_aload_n (q := 21) dX0_puts_20 rfl rfl ?_
        refine g_dup (q := 22) dX0_puts_21 rfl ?_
        refine g_get (C := RX0) (T := TX0) (ci := 0) (k := 5) (q := 25) dX0_puts_22 q523 rfl in_X0 (by decide) ((hset_ne (by omega)).trans hC) rfl rfl ?_
        refine g_iconst (q := 26) dX0_puts_25 rfl ?_
        refine g_iadd (q := 27) dX0_puts_26 rfl ?_
        refine g_put (C := RX0) (T := TX0) (ci := 0) (k := 5) (q := 30) dX0_puts_27 q523 rfl in_X0 tyX0_ok nmX0 (by decide) rfl gFit_int ((hset_ne (by omega)).trans hC) (Nat.le_of_ble_eq_true rfl) rfl ?_
        have hX27 := hX19.obj (td' := t0 + (4 * q + j) + 1) (fk' := fk) (fp' := fp) hbl
        refine g_iinc (q := 33) dX0_puts_30 rfl gs2 rfl ?_
        refine g_goto (t := 3) dX0_puts_33 (by decide) ?_
        have z := ih (j + 1) _ (by omega) (by omega) (show (XR E x mf ow _ w hs si lo bk uW uH uB iL iS (cpyI tp (fdR g) t0 0 (4 * q + (j + 1))) (t0 + (4 * q + (j + 1))) fk fp my wd uN) by rw [show 4 * q + (j + 1) = 4 * q + j + 1 by omega, show t0 + (4 * q + j + 1) = t0 + (4 * q + j) + 1 by omega]; exact hX27)
        rw [show 24 - 8 * j + -8 = 24 - 8 * (j + 1) by omega]
        exact z
  show GO E iX0_puts _ _ _ 0 [some (.ref x), some (vI v), none] [] _ _
  refine g_bipush (q := 2) dX0_puts_0 rfl ?_
  refine g_istore_n (q := 3) dX0_puts_2 gs2 rfl ?_
  exact loop 4 0 h (by omega) (by omega) (by rw [Int.add_zero]; exact hX)
theorem c_feedX (hX : (XR E x mf ow h w hs si lo bk uW uH uB iL iS tp td fk fp my wd uN)) (hd : 0 ≤ td ∧ td ≤ 880) : CALL E iX0_feed (d + 1) 0 0 [.ref x, vI a, vI b, vI c, vI n, vI e] h (qP fun o k => o = vI (td + 20) ∧ (XR E x mf ow k w hs si lo bk uW uH uB iL iS (cpyI tp (fdR (five a b c n e)) td 0 20) (td + 20) fk fp my wd uN)) := by
  obtain ⟨x1, x2, ⟨w3, bl, tq, pl, bp, hC, -⟩, -⟩ := id hX
  have h0 : (XR E x mf ow h w hs si lo bk uW uH uB iL iS (cpyI tp (fdR (five a b c n e)) td 0 (4 * 0)) (td + 4 * 0) fk fp my wd uN) := by
    rw [show (4 : Int) * 0 = 0 by omega, cpyI_0, Int.add_zero]
    exact hX
  have hC' : ∀ {k : gH} {tp' : Int → Int} {td' : Int}, (XR E x mf ow k w hs si lo bk uW uH uB iL iS tp' td' fk fp my wd uN) → ∃ bl, k.1 x = some (xO x td' fk fp bl) := fun hX => by
    obtain ⟨-, -, ⟨-, bl, -, -, -, hC, -⟩, -⟩ := hX
    exact ⟨bl, hC⟩
  show GO E iX0_feed _ _ _ 0 [some (.ref x), some (vI a), some (vI b), some (vI c), some (vI n), some (vI e)] [] _ _
  refine g_aload_n (q := 1) dX0_feed_0 rfl rfl ?_
  refine g_get (C := RX0) (T := TX0) (ci := 0) (k := 5) (q := 4) dX0_feed_1 q523 rfl in_X0 (by decide) hC rfl rfl ?_
  refine g_bipush (q := 6) dX0_feed_4 rfl ?_
  refine g_iadd (q := 7) dX0_feed_6 rfl ?_
  refine g_sipush (q := 10) dX0_feed_7 rfl ?_
  refine g_icmp_le (t := 15) (q := 13) dX0_feed_10 (by decide) rfl (by first | assumption | exact in32_gB | exact in32_gCmp | (unfold in32; omega)) (by first | assumption | exact in32_gB | exact in32_gCmp | (unfold in32; omega)) (fun c10 => ?_) (fun c10 => ?_)
  · refine g_aload_n (q := 16) dX0_feed_15 rfl rfl ?_
    refine g_iload_n (q := 17) dX0_feed_16 rfl rfl ?_
    refine g_cvVP (I' := iX0_puts) (mc := 0) (ms := 0) (rc := 0) (rs := 0) (ci := 0) (q := 20) dX0_feed_17 q556 q558 rfl qs5 gcX0_puts hC (c_putsX h0 (by decide) hd rfl) rfl rfl (fun k17 z17 => ?_)
    obtain ⟨b1, hC1⟩ := hC' z17
    refine g_aload_n (q := 21) dX0_feed_20 rfl rfl ?_
    refine g_iload_n (q := 22) dX0_feed_21 rfl rfl ?_
    refine g_cvVP (I' := iX0_puts) (mc := 0) (ms := 0) (rc := 0) (rs := 0) (ci := 0) (q := 25) dX0_feed_22 q556 q558 rfl qs5 gcX0_puts hC1 (c_putsX z17 (by decide) hd rfl) rfl rfl (fun k22 z22 => ?_)
    obtain ⟨b2, hC2⟩ := hC' z22
    refine g_aload_n (q := 26) dX0_feed_25 rfl rfl ?_
    refine g_iload_n (q := 27) dX0_feed_26 rfl rfl ?_
    refine g_cvVP (I' := iX0_puts) (mc := 0) (ms := 0) (rc := 0) (rs := 0) (ci := 0) (q := 30) dX0_feed_27 q556 q558 rfl qs5 gcX0_puts hC2 (c_putsX z22 (by decide) hd rfl) rfl rfl (fun k27 z27 => ?_)
    obtain ⟨b3, hC3⟩ := hC' z27
    refine g_aload_n (q := 31) dX0_feed_30 rfl rfl ?_
    refine g_iload (q := 33) dX0_feed_31 rfl rfl ?_
    refine g_cvVP (I' := iX0_puts) (mc := 0) (ms := 0) (rc := 0) (rs := 0) (ci := 0) (q := 36) dX0_feed_33 q556 q558 rfl qs5 gcX0_puts hC3 (c_putsX z27 (by decide) hd rfl) rfl rfl (fun k33 z33 => ?_)
    obtain ⟨b4, hC4⟩ := hC' z33
    refine g_aload_n (q := 37) dX0_feed_36 rfl rfl ?_
    refine g_iload (q := 39) dX0_feed_37 rfl rfl ?_
    refine g_cvVP (I' := iX0_puts) (mc := 0) (ms := 0) (rc := 0) (rs := 0) (ci := 0) (q := 42) dX0_feed_39 q556 q558 rfl qs5 gcX0_puts hC4 (c_putsX z33 (by decide) hd rfl) rfl rfl (fun k39 z39 => ?_)
    obtain ⟨b5, hC5⟩ := hC' z39
    refine g_aload_n (q := 43) dX0_feed_42 rfl rfl ?_
    refine g_get (C := RX0) (T := TX0) (ci := 0) (k := 5) (q := 46) dX0_feed_43 q523 rfl in_X0 (by decide) hC5 rfl rfl ?_
    exact g_iret dX0_feed_46 rfl ⟨_, rfl, rfl, z39⟩
  · exact absurd c10 (by omega)
theorem c_feedFull (hX : (XR E x mf ow h w hs si lo bk uW uH uB iL iS tp td fk fp my wd uN)) (hd : 880 < td ∧ td ≤ 900) : CALL E iX0_feed d 0 0 [.ref x, vI a, vI b, vI c, vI n, vI e] h (qP fun o k => o = vI (-1) ∧ (XR E x mf ow k w hs si lo bk uW uH uB iL iS tp td fk fp my wd uN)) := by
  obtain ⟨x1, x2, ⟨w3, bl, tq, pl, bp, hC, -⟩, -⟩ := id hX
  show GO E iX0_feed _ _ _ 0 [some (.ref x), some (vI a), some (vI b), some (vI c), some (vI n), some (vI e)] [] _ _
  refine g_aload_n (q := 1) dX0_feed_0 rfl rfl ?_
  refine g_get (C := RX0) (T := TX0) (ci := 0) (k := 5) (q := 4) dX0_feed_1 q523 rfl in_X0 (by decide) hC rfl rfl ?_
  refine g_bipush (q := 6) dX0_feed_4 rfl ?_
  refine g_iadd (q := 7) dX0_feed_6 rfl ?_
  refine g_sipush (q := 10) dX0_feed_7 rfl ?_
  refine g_icmp_le (t := 15) (q := 13) dX0_feed_10 (by decide) rfl (by first | assumption | exact in32_gB | exact in32_gCmp | (unfold in32; omega)) (by first | assumption | exact in32_gB | exact in32_gCmp | (unfold in32; omega)) (fun c10 => ?_) (fun c10 => ?_)
  · exact absurd c10 (by omega)
  · refine g_iconst (q := 14) dX0_feed_13 rfl ?_
    exact g_iret dX0_feed_14 rfl ⟨_, rfl, rfl, hX⟩
theorem SLO.cell {o b : Nat} {m c : Int} {u : Int → Int} (hS : SLO E ow h o b m c u) : ∃ r : Option Nat, h.1 b = some (oB 6 [va_rf r]) ∧ (r = none → m = -1) ∧ (∀ y, r = some y → 0 ≤ m) := by
  obtain ⟨-, ⟨e, c1⟩ | ⟨a, g, -, -, r1, r2, c1, -⟩⟩ := hS
  · exact ⟨none, c1, fun _ => e, fun y z => by cases z⟩
  · exact ⟨some a, c1, (fun z => by cases z), fun y z => r1.1⟩
theorem c_countX (hX : (XR E x mf ow h w hs si lo bk uW uH uB iL iS tp td fk fp my wd uN)) (hv : in32 v) : CALL E iX0_count (d + 1) 0 0 [.ref x, vI v] h (qP fun o k => o = vI (mCnt w hs td si my v) ∧ (XR E x mf ow k w hs si lo bk uW uH uB iL iS tp td fk fp my wd uN)) := by
  obtain ⟨x1, x2, ⟨w3, bl, tq, pl, bp, hC, hSl, -⟩, ⟨t, s1, s2, ⟨rr, ⟨ar, cap, mo, g, -, hl, -⟩, -⟩, ⟨bb, ⟨ar2, cap2, mo2, g2, -, hl2, -⟩, -⟩, s5⟩, x5, x6, x7⟩ := id hX
  obtain ⟨te, tl, tw, tz, tw2, lw, ge, gl, hd, -, ct, -, ⟨ctl, hgl⟩, -⟩ := s2 0
  have loop : ∀ (f : Nat) (s n : Int), 0 ≤ s → s + f = 4 → GO E iX0_count (d + 1) 0 0 172 [some (.ref x), some (vI v), some (vI n), some (vI s)] [] h (qP fun o k => o = vI (cntL my f s n) ∧ (XR E x mf ow k w hs si lo bk uW uH uB iL iS tp td fk fp my wd uN)) := by
    intro f
    induction f with
    | zero =>
      intro s n h0 h1
      refine g_iload_n (q := 173) dX0_count_172 rfl rfl ?_
      refine g_iconst (q := 174) dX0_count_173 rfl ?_
      refine g_icmp_ge (t := 203) (q := 177) dX0_count_174 (by decide) rfl (by first | assumption | exact in32_gB | exact in32_gCmp | (unfold in32; omega)) (by first | assumption | exact in32_gB | exact in32_gCmp | (unfold in32; omega)) (fun c174 => ?_) (fun c174 => ?_)
      · refine g_iload_n (q := 204) dX0_count_203 rfl rfl ?_
        exact g_iret dX0_count_204 rfl ⟨_, rfl, rfl, hX⟩
      · exact absurd c174 (by omega)
    | succ f ih =>
      intro s n h0 h1
      obtain ⟨r, hr1, hr2, hr3⟩ := (x7 s h0 (by omega)).cell
      unfold cntL
      refine g_iload_n (q := 173) dX0_count_172 rfl rfl ?_
      refine g_iconst (q := 174) dX0_count_173 rfl ?_
      refine g_icmp_ge (t := 203) (q := 177) dX0_count_174 (by decide) rfl (by first | assumption | exact in32_gB | exact in32_gCmp | (unfold in32; omega)) (by first | assumption | exact in32_gB | exact in32_gCmp | (unfold in32; omega)) (fun c174 => ?_) (fun c174 => ?_)
      · exact absurd c174 (by omega)
      · refine g_iload_n (q := 178) dX0_count_177 rfl rfl ?_
        refine g_aload_n (q := 179) dX0_count_178 rfl rfl ?_
        refine g_get (C := RX0) (T := TX0) (ci := 0) (k := 0) (q := 182) dX0_count_179 q518 rfl in_X0 (by decide) hC rfl rfl ?_
        refine g_iload_n (q := 183) dX0_count_182 rfl rfl ?_
        refine g_aald (t0 := 7) (q := 184) dX0_count_183 hSl rfl rfl (by omega) (by omega) rfl ?_
        refine g_getN (C := RX5) (T := TX5) (ci := 6) (k := 0) (q := 187) dX0_count_184 q514 rfl in_X5 (by decide) hr1 rfl rfl ?_
        refine g_ifnonnull (t := 194) (q := 190) dX0_count_187 (by decide) rfl (fun y187 c187 => ?_) (fun c187 => ?_)
        · refine g_iconst (q := 195) dX0_count_194 rfl ?_
          refine g_iadd (q := 196) dX0_count_195 rfl ?_
          refine g_istore_n (q := 197) dX0_count_196 gs2 rfl ?_
          refine g_iinc (q := 200) dX0_count_197 rfl gs3 rfl ?_
          refine g_goto (t := 172) dX0_count_200 (by decide) ?_
          first
          | (rw [if_neg (by have := hr3 _ c187; omega)]; exact ih _ _ (by omega) (by omega))
          | (rw [if_pos (hr2 c187)]; exact ih _ _ (by omega) (by omega))
        · refine g_iconst (q := 191) dX0_count_190 rfl ?_
          refine g_goto (t := 195) dX0_count_191 (by decide) ?_
          refine g_iadd (q := 196) dX0_count_195 rfl ?_
          refine g_istore_n (q := 197) dX0_count_196 gs2 rfl ?_
          refine g_iinc (q := 200) dX0_count_197 rfl gs3 rfl ?_
          refine g_goto (t := 172) dX0_count_200 (by decide) ?_
          first
          | (rw [if_neg (by have := hr3 _ c187; omega)]; exact ih _ _ (by omega) (by omega))
          | (rw [if_pos (hr2 c187)]; exact ih _ _ (by omega) (by omega))
  show GO E iX0_count _ _ _ 0 [some (.ref x), some (vI v), none, none] [] _ _
  refine g_iconst (q := 1) dX0_count_0 rfl ?_
  refine g_istore_n (q := 2) dX0_count_1 gs2 rfl ?_
  refine g_iload_n (q := 3) dX0_count_2 rfl rfl ?_
  refine g_tsw dX0_count_3 (by first | assumption | exact in32_gB | exact in32_gCmp | (unfold in32; omega)) (fun c3 => ⟨205, by decide, ?_⟩) (fun j3 c3 c3h => ?_)
  · refine g_iconst (q := 206) dX0_count_205 rfl ?_
    exact g_iret dX0_count_206 rfl ⟨_, rfl, congrArg vI (by unfold mCnt; repeat' (first | rw [if_pos (by omega)] | rw [if_neg (by omega)])), hX⟩
  · rcases j3 with _ | _ | _ | _ | _ | _ | _ | _ | _ | _ | _ | _ | _ | j3
    · refine ⟨65, 68, rfl, by decide, ?_⟩
      refine g_aload_n (q := 69) dX0_count_68 rfl rfl ?_
      refine g_get (C := RX0) (T := TX0) (ci := 0) (k := 1) (q := 72) dX0_count_69 q519 rfl in_X0 (by decide) hC rfl rfl ?_
      refine g_getN (C := RX1) (T := TX1) (ci := 1) (k := 0) (q := 75) dX0_count_72 q478 rfl in_X1 (by decide) s1.2.1 rfl rfl ?_
      refine g_getN (C := RX2) (T := TX2) (ci := 2) (k := 4) (q := 78) dX0_count_75 q360 rfl in_X2 (by decide) ct rfl rfl ?_
      exact g_iret dX0_count_78 rfl ⟨_, rfl, congrArg vI (by unfold mCnt; repeat' (first | rw [if_pos (by omega)] | rw [if_neg (by omega)])), hX⟩
    · refine ⟨76, 79, rfl, by decide, ?_⟩
      refine g_aload_n (q := 80) dX0_count_79 rfl rfl ?_
      refine g_get (C := RX0) (T := TX0) (ci := 0) (k := 1) (q := 83) dX0_count_80 q519 rfl in_X0 (by decide) hC rfl rfl ?_
      refine g_getN (C := RX1) (T := TX1) (ci := 1) (k := 1) (q := 86) dX0_count_83 q480 rfl in_X1 (by decide) s1.2.1 rfl rfl ?_
      refine g_cf (I' := iJ2_size) (mc := 0) (ms := 0) (rc := 0) (rs := 0) (ci := 3) (q := 91) dX0_count_86 q974 q711 q710 q716 q714 q712 (by decide) gcJ2_size.2.1 q715 rfl q713 gcJ2_size hl (c_lsize hl) rfl rfl ?_
      exact g_iret dX0_count_91 rfl ⟨_, rfl, congrArg vI (by unfold mCnt; repeat' (first | rw [if_pos (by omega)] | rw [if_neg (by omega)])), hX⟩
    · refine ⟨89, 92, rfl, by decide, ?_⟩
      refine g_aload_n (q := 93) dX0_count_92 rfl rfl ?_
      refine g_get (C := RX0) (T := TX0) (ci := 0) (k := 1) (q := 96) dX0_count_93 q519 rfl in_X0 (by decide) hC rfl rfl ?_
      refine g_getN (C := RX1) (T := TX1) (ci := 1) (k := 0) (q := 99) dX0_count_96 q478 rfl in_X1 (by decide) s1.2.1 rfl rfl ?_
      refine g_getN (C := RX2) (T := TX2) (ci := 2) (k := 6) (q := 102) dX0_count_99 q365 rfl in_X2 (by decide) ct rfl rfl ?_
      exact g_iret dX0_count_102 rfl ⟨_, rfl, congrArg vI (by unfold mCnt; repeat' (first | rw [if_pos (by omega)] | rw [if_neg (by omega)])), hX⟩
    · refine ⟨100, 103, rfl, by decide, ?_⟩
      refine g_aload_n (q := 104) dX0_count_103 rfl rfl ?_
      refine g_get (C := RX0) (T := TX0) (ci := 0) (k := 5) (q := 107) dX0_count_104 q523 rfl in_X0 (by decide) hC rfl rfl ?_
      exact g_iret dX0_count_107 rfl ⟨_, rfl, congrArg vI (by unfold mCnt; repeat' (first | rw [if_pos (by omega)] | rw [if_neg (by omega)])), hX⟩
    · refine ⟨105, 108, rfl, by decide, ?_⟩
      refine g_aload_n (q := 109) dX0_count_108 rfl rfl ?_
      refine g_get (C := RX0) (T := TX0) (ci := 0) (k := 1) (q := 112) dX0_count_109 q519 rfl in_X0 (by decide) hC rfl rfl ?_
      refine g_getN (C := RX1) (T := TX1) (ci := 1) (k := 4) (q := 115) dX0_count_112 q486 rfl in_X1 (by decide) s1.2.1 rfl rfl ?_
      refine g_getN (C := RX3) (T := TX3) (ci := 4) (k := 3) (q := 118) dX0_count_115 q455 rfl in_X3 (by decide) s5.2.ob rfl rfl ?_
      exact g_iret dX0_count_118 rfl ⟨_, rfl, congrArg vI (by unfold mCnt; repeat' (first | rw [if_pos (by omega)] | rw [if_neg (by omega)])), hX⟩
    · refine ⟨116, 119, rfl, by decide, ?_⟩
      refine g_aload_n (q := 120) dX0_count_119 rfl rfl ?_
      refine g_get (C := RX0) (T := TX0) (ci := 0) (k := 1) (q := 123) dX0_count_120 q519 rfl in_X0 (by decide) hC rfl rfl ?_
      refine g_getN (C := RX1) (T := TX1) (ci := 1) (k := 4) (q := 126) dX0_count_123 q486 rfl in_X1 (by decide) s1.2.1 rfl rfl ?_
      refine g_getN (C := RX3) (T := TX3) (ci := 4) (k := 4) (q := 129) dX0_count_126 q457 rfl in_X3 (by decide) s5.2.ob rfl rfl ?_
      exact g_iret dX0_count_129 rfl ⟨_, rfl, congrArg vI (by unfold mCnt; repeat' (first | rw [if_pos (by omega)] | rw [if_neg (by omega)])), hX⟩
    · refine ⟨127, 130, rfl, by decide, ?_⟩
      refine g_aload_n (q := 131) dX0_count_130 rfl rfl ?_
      refine g_get (C := RX0) (T := TX0) (ci := 0) (k := 1) (q := 134) dX0_count_131 q519 rfl in_X0 (by decide) hC rfl rfl ?_
      refine g_getN (C := RX1) (T := TX1) (ci := 1) (k := 2) (q := 137) dX0_count_134 q482 rfl in_X1 (by decide) s1.2.1 rfl rfl ?_
      refine g_cf (I' := iJ2_size) (mc := 0) (ms := 0) (rc := 0) (rs := 0) (ci := 3) (q := 142) dX0_count_137 q974 q711 q710 q716 q714 q712 (by decide) gcJ2_size.2.1 q715 rfl q713 gcJ2_size hl2 (c_lsize hl2) rfl rfl ?_
      exact g_iret dX0_count_142 rfl ⟨_, rfl, congrArg vI (by unfold mCnt; repeat' (first | rw [if_pos (by omega)] | rw [if_neg (by omega)])), hX⟩
    · refine ⟨140, 143, rfl, by decide, ?_⟩
      refine g_aload_n (q := 144) dX0_count_143 rfl rfl ?_
      refine g_get (C := RX0) (T := TX0) (ci := 0) (k := 1) (q := 147) dX0_count_144 q519 rfl in_X0 (by decide) hC rfl rfl ?_
      refine g_getN (C := RX1) (T := TX1) (ci := 1) (k := 0) (q := 150) dX0_count_147 q478 rfl in_X1 (by decide) s1.2.1 rfl rfl ?_
      refine g_getN (C := RX2) (T := TX2) (ci := 2) (k := 5) (q := 153) dX0_count_150 q363 rfl in_X2 (by decide) ct rfl rfl ?_
      exact g_iret dX0_count_153 rfl ⟨_, rfl, congrArg vI (by unfold mCnt; repeat' (first | rw [if_pos (by omega)] | rw [if_neg (by omega)])), hX⟩
    · refine ⟨151, 154, rfl, by decide, ?_⟩
      refine g_aload_n (q := 155) dX0_count_154 rfl rfl ?_
      refine g_get (C := RX0) (T := TX0) (ci := 0) (k := 1) (q := 158) dX0_count_155 q519 rfl in_X0 (by decide) hC rfl rfl ?_
      refine g_getN (C := RX1) (T := TX1) (ci := 1) (k := 0) (q := 161) dX0_count_158 q478 rfl in_X1 (by decide) s1.2.1 rfl rfl ?_
      refine g_getN (C := RX2) (T := TX2) (ci := 2) (k := 1) (q := 164) dX0_count_161 q352 rfl in_X2 (by decide) ct rfl rfl ?_
      refine g_iload_n (q := 165) dX0_count_164 rfl rfl ?_
      refine g_bipush (q := 167) dX0_count_165 rfl ?_
      refine g_isub (q := 168) dX0_count_167 rfl ?_
      refine g_iald (q := 169) dX0_count_168 ctl (by omega) (by omega) rfl ?_
      rw [hgl _ (by omega) (by omega), show 5 + (v - 8) = 5 + v - 8 by omega]
      exact g_iret dX0_count_169 rfl ⟨_, rfl, congrArg vI (by unfold mCnt; repeat' (first | rw [if_pos (by omega)] | rw [if_neg (by omega)])), hX⟩
    · refine ⟨151, 154, rfl, by decide, ?_⟩
      refine g_aload_n (q := 155) dX0_count_154 rfl rfl ?_
      refine g_get (C := RX0) (T := TX0) (ci := 0) (k := 1) (q := 158) dX0_count_155 q519 rfl in_X0 (by decide) hC rfl rfl ?_
      refine g_getN (C := RX1) (T := TX1) (ci := 1) (k := 0) (q := 161) dX0_count_158 q478 rfl in_X1 (by decide) s1.2.1 rfl rfl ?_
      refine g_getN (C := RX2) (T := TX2) (ci := 2) (k := 1) (q := 164) dX0_count_161 q352 rfl in_X2 (by decide) ct rfl rfl ?_
      refine g_iload_n (q := 165) dX0_count_164 rfl rfl ?_
      refine g_bipush (q := 167) dX0_count_165 rfl ?_
      refine g_isub (q := 168) dX0_count_167 rfl ?_
      refine g_iald (q := 169) dX0_count_168 ctl (by omega) (by omega) rfl ?_
      rw [hgl _ (by omega) (by omega), show 5 + (v - 8) = 5 + v - 8 by omega]
      exact g_iret dX0_count_169 rfl ⟨_, rfl, congrArg vI (by unfold mCnt; repeat' (first | rw [if_pos (by omega)] | rw [if_neg (by omega)])), hX⟩
    · refine ⟨151, 154, rfl, by decide, ?_⟩
      refine g_aload_n (q := 155) dX0_count_154 rfl rfl ?_
      refine g_get (C := RX0) (T := TX0) (ci := 0) (k := 1) (q := 158) dX0_count_155 q519 rfl in_X0 (by decide) hC rfl rfl ?_
      refine g_getN (C := RX1) (T := TX1) (ci := 1) (k := 0) (q := 161) dX0_count_158 q478 rfl in_X1 (by decide) s1.2.1 rfl rfl ?_
      refine g_getN (C := RX2) (T := TX2) (ci := 2) (k := 1) (q := 164) dX0_count_161 q352 rfl in_X2 (by decide) ct rfl rfl ?_
      refine g_iload_n (q := 165) dX0_count_164 rfl rfl ?_
      refine g_bipush (q := 167) dX0_count_165 rfl ?_
      refine g_isub (q := 168) dX0_count_167 rfl ?_
      refine g_iald (q := 169) dX0_count_168 ctl (by omega) (by omega) rfl ?_
      rw [hgl _ (by omega) (by omega), show 5 + (v - 8) = 5 + v - 8 by omega]
      exact g_iret dX0_count_169 rfl ⟨_, rfl, congrArg vI (by unfold mCnt; repeat' (first | rw [if_pos (by omega)] | rw [if_neg (by omega)])), hX⟩
    · refine ⟨151, 154, rfl, by decide, ?_⟩
      refine g_aload_n (q := 155) dX0_count_154 rfl rfl ?_
      refine g_get (C := RX0) (T := TX0) (ci := 0) (k := 1) (q := 158) dX0_count_155 q519 rfl in_X0 (by decide) hC rfl rfl ?_
      refine g_getN (C := RX1) (T := TX1) (ci := 1) (k := 0) (q := 161) dX0_count_158 q478 rfl in_X1 (by decide) s1.2.1 rfl rfl ?_
      refine g_getN (C := RX2) (T := TX2) (ci := 2) (k := 1) (q := 164) dX0_count_161 q352 rfl in_X2 (by decide) ct rfl rfl ?_
      refine g_iload_n (q := 165) dX0_count_164 rfl rfl ?_
      refine g_bipush (q := 167) dX0_count_165 rfl ?_
      refine g_isub (q := 168) dX0_count_167 rfl ?_
      refine g_iald (q := 169) dX0_count_168 ctl (by omega) (by omega) rfl ?_
      rw [hgl _ (by omega) (by omega), show 5 + (v - 8) = 5 + v - 8 by omega]
      exact g_iret dX0_count_169 rfl ⟨_, rfl, congrArg vI (by unfold mCnt; repeat' (first | rw [if_pos (by omega)] | rw [if_neg (by omega)])), hX⟩
    · refine ⟨167, 170, rfl, by decide, ?_⟩
      refine g_iconst (q := 171) dX0_count_170 rfl ?_
      refine g_istore_n (q := 172) dX0_count_171 gs3 rfl ?_
      have e : mCnt w hs td si my v = cntL my 4 0 0 := by unfold mCnt; repeat' (first | rw [if_pos (by omega)] | rw [if_neg (by omega)])
      rw [e]
      exact loop 4 0 0 (by omega) (by omega)
    · exact absurd c3h (by omega)
end
