/-! THE COMPONENT: rows; paper -/
set_option maxRecDepth 100000
theorem or_in {z y m : Int32} (h : z &&& m = z) (h2 : y &&& m = y) : (z ||| y) &&& m = z ||| y := by
  apply Int32.toBitVec_inj.mp
  have h := congrArg Int32.toBitVec h
  have h2 := congrArg Int32.toBitVec h2
  simp only [Int32.toBitVec_and, Int32.toBitVec_or] at *
  rw [BitVec.and_or_distrib_right, h, h2]
theorem slL_12 {w hs : Int → Int} {r : Int} : ∀ (n : Nat) (i : Int) (z : Int32), 0 ≤ i → i + n ≤ 12 → z &&& 4095 = z → slL w hs r n i z &&& 4095 = slL w hs r n i z := by
  intro n
  induction n with
  | zero => intro i z _ _ h; exact h
  | succ n ih =>
    intro i z h0 h1 h
    refine ih (i + 1) _ (by omega) (by omega) (or_in h ?_)
    have hb : ∀ k : Fin 12, (Int32.ofInt 1 <<< (Int32.ofInt (k.val : Int) &&& 31)) &&& 4095 = Int32.ofInt 1 <<< (Int32.ofInt (k.val : Int) &&& 31) := by decide +kernel
    have e : i = ((⟨i.toNat, by omega⟩ : Fin 12).val : Int) := (Int.toNat_of_nonneg h0).symm
    split
    · rw [e]; exact hb _
    · decide
theorem mSlips_in {w hs : Int → Int} {r : Int} (hw : WFw w) (hr : 0 ≤ r) (hr1 : r < w 2) : 0 ≤ mSlips w hs r ∧ mSlips w hs r < 4096 := by
  have hrw := hw.row hr hr1
  have e := slL_12 (w := w) (hs := hs) (r := r) (w (34 + 14 * r)).toNat 0 (Int32.ofInt 0) (by omega) (by omega) (by decide)
  unfold mSlips
  generalize slL w hs r (w (34 + 14 * r)).toNat 0 (Int32.ofInt 0) = z at e
  rw [pk_and z 12 (by decide)] at e
  have hj : z.toBitVec.toNat % 2 ^ 12 < 4096 := Nat.mod_lt _ (by decide)
  rw [← e, nI_toInt (by omega)]
  omega
theorem OWN.av {ow : OW} {a o : Nat} (h : OWN ow a 103 o) (ho : o ≠ 0) : ∀ b, avH a b → imm ow b := fun b hb => by
  unfold avH at hb
  have := h (b - a) (by omega)
  rw [show a + (b - a) = b by omega] at this
  show ow b ≠ 0
  omega
theorem GO.loc {E : gE} {I : gI} {d rc rs pc : Nat} {lv lv' : List (Option Value)} {st : List Value} {h : gH} {Q : Outcome → gH → Prop} (e : lv = lv') (kk : GO E I d rc rs pc lv' st h Q) : GO E I d rc rs pc lv st h Q := by rw [e]; exact kk
theorem woW_n {w : Int → Int} : woW w (-1) = w := if_neg (by decide)
section
variable {E : gE} {d rc rs x : Nat} {mf : Nat → va_E} {ow : OW} {h : gH} {w hs bk tp iL iS my wd : Int → Int} {uW uH uB uN : Int → Int → Int} {si lo td fk fp : Int}
variable {r v n B kn : Int} {ra t : Nat}
theorem c_isRowX (hX : (XR E x mf ow h w hs si lo bk uW uH uB iL iS tp td fk fp my wd uN)) (hr : in32 r) (hw2 : 0 ≤ w 2 ∧ w 2 ≤ 12) : CALL E iX0_isRow (d + 1) 0 0 [.ref x, vI r] h (qR (vI (gB (0 ≤ r ∧ r ≤ w 2 - 1))) h) := by
  obtain ⟨x1, x2, ⟨w3, bl, tq, pl, bp, hC, -⟩, ⟨t, s1, s2, ⟨rr, ⟨ar, cap, mo, g, -, hl, -⟩, -⟩, s4, s5⟩, x5, x6, x7⟩ := hX
  have h1 := hr.1
  have h2 := hr.2
  show GO E iX0_isRow _ _ _ 0 [some (.ref x), some (vI r)] [] _ _
  refine g_iload_n (q := 1) dX0_isRow_0 rfl rfl ?_
  refine g_i2l (q := 2) dX0_isRow_1 (by first | assumption | exact in32_gB | exact in32_gCmp | (unfold in32; omega)) rfl ?_
  refine g_lconst0 (q := 3) dX0_isRow_2 rfl ?_
  refine g_aload_n (q := 4) dX0_isRow_3 rfl rfl ?_
  refine g_get (C := RX0) (T := TX0) (ci := 0) (k := 1) (q := 7) dX0_isRow_4 q519 rfl in_X0 (by decide) hC rfl rfl ?_
  refine g_getN (C := RX1) (T := TX1) (ci := 1) (k := 1) (q := 10) dX0_isRow_7 q480 rfl in_X1 (by decide) s1.2.1 rfl rfl ?_
  refine g_cf (I' := iJ2_size) (mc := 0) (ms := 0) (rc := 0) (rs := 0) (ci := 3) (q := 15) dX0_isRow_10 q974 q711 q710 q716 q714 q712 (by decide) gcJ2_size.2.1 q715 rfl q713 gcJ2_size hl (c_lsize hl) rfl rfl ?_
  refine g_iconst (q := 16) dX0_isRow_15 rfl ?_
  refine g_isub (q := 17) dX0_isRow_16 rfl ?_
  refine g_i2l (q := 18) dX0_isRow_17 (by first | assumption | exact in32_gB | exact in32_gCmp | (unfold in32; omega)) rfl ?_
  refine g_cs (I' := iX0_in) (mc := 0) (ms := 0) (rc := 0) (rs := 0) (q := 21) dX0_isRow_18 q130 q131 gcX0_in (c_inX (by unfold in64; omega) (by unfold in64; omega) (by unfold in64; omega)) rfl rfl ?_
  exact g_zret dX0_isRow_21 rfl ⟨rfl, rfl⟩
theorem c_isThingX (hX : (XR E x mf ow h w hs si lo bk uW uH uB iL iS tp td fk fp my wd uN)) (hr : in32 r) (hw1 : 0 ≤ w 1 ∧ w 1 ≤ 24) : CALL E iX0_isThing (d + 1) 0 0 [.ref x, vI r] h (qR (vI (gB (0 ≤ r ∧ r ≤ w 1 - 1))) h) := by
  obtain ⟨x1, x2, ⟨w3, bl, tq, pl, bp, hC, -⟩, ⟨t, s1, s2, s3, s4, s5⟩, x5, x6, x7⟩ := hX
  obtain ⟨te, tl, tw, tz, tw2, lw, ge, gl, hd, -, ct, -⟩ := s2 0
  have h1 := hr.1
  have h2 := hr.2
  show GO E iX0_isThing _ _ _ 0 [some (.ref x), some (vI r)] [] _ _
  refine g_iload_n (q := 1) dX0_isThing_0 rfl rfl ?_
  refine g_i2l (q := 2) dX0_isThing_1 (by first | assumption | exact in32_gB | exact in32_gCmp | (unfold in32; omega)) rfl ?_
  refine g_lconst0 (q := 3) dX0_isThing_2 rfl ?_
  refine g_aload_n (q := 4) dX0_isThing_3 rfl rfl ?_
  refine g_get (C := RX0) (T := TX0) (ci := 0) (k := 1) (q := 7) dX0_isThing_4 q519 rfl in_X0 (by decide) hC rfl rfl ?_
  refine g_getN (C := RX1) (T := TX1) (ci := 1) (k := 0) (q := 10) dX0_isThing_7 q478 rfl in_X1 (by decide) s1.2.1 rfl rfl ?_
  refine g_getN (C := RX2) (T := TX2) (ci := 2) (k := 4) (q := 13) dX0_isThing_10 q360 rfl in_X2 (by decide) ct rfl rfl ?_
  refine g_iconst (q := 14) dX0_isThing_13 rfl ?_
  refine g_isub (q := 15) dX0_isThing_14 rfl ?_
  refine g_i2l (q := 16) dX0_isThing_15 (by first | assumption | exact in32_gB | exact in32_gCmp | (unfold in32; omega)) rfl ?_
  refine g_cs (I' := iX0_in) (mc := 0) (ms := 0) (rc := 0) (rs := 0) (q := 19) dX0_isThing_16 q130 q131 gcX0_in (c_inX (by unfold in64; omega) (by unfold in64; omega) (by unfold in64; omega)) rfl rfl ?_
  exact g_zret dX0_isThing_19 rfl ⟨rfl, rfl⟩
theorem c_rowAt (hX : (XR E x mf ow h w hs si lo bk uW uH uB iL iS tp td fk fp my wd uN)) (hr : 0 ≤ r) (hr1 : r < w 2) : CALL E iX0_rowAt (d + 3) 0 0 [.ref x, vI r] h (qP fun v k => ∃ ra, v = .ref ra ∧ ROWc E (imm ow) h.1 w r ra ∧ k = h) := by
  obtain ⟨x1, x2, ⟨w3, bl, tq, pl, bp, hC, -⟩, ⟨t, s1, s2, ⟨rr, ⟨ar, cap, mo, g, -, hl, hla, hn, hcap, hg⟩, hR⟩, s4, s5⟩, x5, x6, x7⟩ := hX
  have hRr := hR r hr hr1
  obtain ⟨-, g2, hrow, -⟩ := id hRr
  show GO E iX0_rowAt _ _ _ 0 [some (.ref x), some (vI r)] [] _ _
  refine g_aload_n (q := 1) dX0_rowAt_0 rfl rfl ?_
  refine g_get (C := RX0) (T := TX0) (ci := 0) (k := 1) (q := 4) dX0_rowAt_1 q519 rfl in_X0 (by decide) hC rfl rfl ?_
  refine g_getN (C := RX1) (T := TX1) (ci := 1) (k := 1) (q := 7) dX0_rowAt_4 q480 rfl in_X1 (by decide) s1.2.1 rfl rfl ?_
  refine g_iload_n (q := 8) dX0_rowAt_7 rfl rfl ?_
  refine g_cf (I' := iJ2_get) (mc := 0) (ms := 0) (rc := 0) (rs := 0) (ci := 3) (q := 13) dX0_rowAt_8 q997 q952 q951 q956 q954 q712 (by decide) gcJ2_get.2.1 q955 rfl q953 gcJ2_get hl (c_lget hl hla hr hr1 hn.2 (by omega)) rfl rfl ?_
  rw [hg r hr hr1]
  refine g_castI (q := 16) dX0_rowAt_13 q998 (hrow) rfl ?_
  exact g_aret dX0_rowAt_16 rfl (by first | exact Or.inl ⟨_, rfl⟩ | exact Or.inr ⟨_, rfl⟩) ⟨_, rfl, _, rfl, hRr, rfl⟩
/-- the head's slips, where they are asked -/
theorem c_slipsN (hX : (XR E x mf ow h w hs si lo bk uW uH uB iL iS tp td fk fp my wd uN)) (hw : WFw w) (hh : HSok B hs) (hr : 0 ≤ r) (hr1 : r < w 2) (hR : ROWc E (imm ow) h.1 w r ra) : CALL E iX3_slips (d + 1) 0 0 [.ref (x + 2 + 14), .ref ra, vI (-1)] h (qR (vI (mSlips w hs r)) h) := by
  obtain ⟨x1, x2, x3, ⟨t, s1, s2, s3, s4, s5⟩, x5, x6, x7⟩ := hX
  obtain ⟨h1, e1, t1, o1, b1, eh⟩ := s5.2.self
  have z := c_slipsX (d := d) (kl := -1) (kn := 0) (h1 := h1) (e1 := e1) (t1 := t1) (o1 := o1) (b1 := b1) (wo := -1) ((s2 0).av (s5.1.av (by decide))) hw hh hr hr1 (hR.av (s5.1.av (by decide))) (by decide)
  rw [woW_n, ← eh] at z
  exact z
theorem c_slipMany (hX : (XR E x mf ow h w hs si lo bk uW uH uB iL iS tp td fk fp my wd uN)) (hw : WFw w) (hh : HSok B hs) (hr : 0 ≤ r) (hr1 : r < w 2) : CALL E iX0_slipMany (d + 4) 0 0 [.ref x, vI r] h (qR (vI (mOnes (mSlips w hs r))) h) := by
  obtain ⟨x1, x2, ⟨w3, bl, tq, pl, bp, hC, -⟩, ⟨t, s1, s2, s3, s4, s5⟩, x5, x6, x7⟩ := id hX
  show GO E iX0_slipMany _ _ _ 0 [some (.ref x), some (vI r)] [] _ _
  refine g_aload_n (q := 1) dX0_slipMany_0 rfl rfl ?_
  refine g_get (C := RX0) (T := TX0) (ci := 0) (k := 1) (q := 4) dX0_slipMany_1 q519 rfl in_X0 (by decide) hC rfl rfl ?_
  refine g_getN (C := RX1) (T := TX1) (ci := 1) (k := 4) (q := 7) dX0_slipMany_4 q486 rfl in_X1 (by decide) s1.2.1 rfl rfl ?_
  refine g_aload_n (q := 8) dX0_slipMany_7 rfl rfl ?_
  refine g_iload_n (q := 9) dX0_slipMany_8 rfl rfl ?_
  refine g_cvP (I' := iX0_rowAt) (mc := 0) (ms := 0) (rc := 0) (rs := 0) (ci := 0) (q := 12) dX0_slipMany_9 q992 q994 rfl qs28 gcX0_rowAt hC (c_rowAt hX hr hr1) rfl rfl (fun v9 k9 z9 => ?_)
  obtain ⟨ra, rfl, hR, rfl⟩ := z9
  refine g_iconst (q := 13) dX0_slipMany_12 rfl ?_
  refine g_cv (I' := iX3_slips) (mc := 0) (ms := 0) (rc := 0) (rs := 0) (ci := 4) (q := 16) dX0_slipMany_13 q999 q1000 rfl q1001 gcX3_slips s5.2.ob (c_slipsN hX hw hh hr hr1 hR) rfl rfl ?_
  refine g_cs (I' := iJ13_bitCount) (mc := 0) (ms := 0) (rc := 0) (rs := 0) (q := 19) dX0_slipMany_16 q1007 q1008 gcJ13_bitCount (c_bitCount (mSlips_in hw hr hr1)) rfl rfl ?_
  exact g_iret dX0_slipMany_19 rfl ⟨rfl, rfl⟩
/-- paper becomes as the head is -/
theorem c_onPaper (hX : (XR E x mf ow h w hs si lo bk uW uH uB iL iS tp td fk fp my wd uN)) (ht : S_O E ow h 0 (x + 2) t w lo) : CALL E iX0_onPaper (d + 2) 0 0 [.ref x] h (qP fun v k => v = .ref (x + 120) ∧ hHx E h (x + 120) t hs k) := by
  obtain ⟨x1, x2, ⟨w3, bl, tq, pl, bp, hC, -⟩, ⟨t', s1, s2, s3, s4, s5⟩, x5, ⟨w6, tx6, hs6, d6⟩, x7⟩ := id hX
  have et : t' = t := by
    have := s1.2.1.symm.trans ht.2.1
    unfold stO oB at this
    simpa using this
  subst et
  obtain ⟨h1, e1, t1, o1, b1, eh⟩ := d6.self
  have ha := OWN.two s5.1 w6 (by decide) (by decide) (by decide)
  have z := c_becomesX (E := E) (d := d) (ak := akO h1 e1 t1 o1 b1) (tx := tx6) (hs := hs6) (p := x + 120) (G := h) s5.2.s ha
  rw [← eh] at z
  have hC2 : ∀ k, hHx E h (x + 120) t' hs k → k.1 x = some (xO x td fk fp bl) := fun k hk => by
    obtain ⟨h1, e1, t1, o1, b1, rfl⟩ := hk
    exact (blk_out (by omega)).trans hC
  show GO E iX0_onPaper _ _ _ 0 [some (.ref x)] [] _ _
  refine g_aload_n (q := 1) dX0_onPaper_0 rfl rfl ?_
  refine g_get (C := RX0) (T := TX0) (ci := 0) (k := 3) (q := 4) dX0_onPaper_1 q521 rfl in_X0 (by decide) hC rfl rfl ?_
  refine g_aload_n (q := 5) dX0_onPaper_4 rfl rfl ?_
  refine g_get (C := RX0) (T := TX0) (ci := 0) (k := 1) (q := 8) dX0_onPaper_5 q519 rfl in_X0 (by decide) hC rfl rfl ?_
  refine g_getN (C := RX1) (T := TX1) (ci := 1) (k := 4) (q := 11) dX0_onPaper_8 q486 rfl in_X1 (by decide) s1.2.1 rfl rfl ?_
  refine g_cvV (I' := iX3_becomes) (mc := 0) (ms := 0) (rc := 0) (rs := 0) (ci := 4) (q := 14) dX0_onPaper_11 q1208 q1209 rfl q1210 gcX3_becomes d6.ob (z) rfl rfl ?_
  refine g_aload_n (q := 15) dX0_onPaper_14 rfl rfl ?_
  refine g_get (C := RX0) (T := TX0) (ci := 0) (k := 3) (q := 18) dX0_onPaper_15 q521 rfl in_X0 (by decide) (hC2 _ ⟨_, _, _, _, _, rfl⟩) rfl rfl ?_
  exact g_aret dX0_onPaper_18 rfl (by first | exact Or.inl ⟨_, rfl⟩ | exact Or.inr ⟨_, rfl⟩) ⟨_, rfl, rfl, _, _, _, _, _, rfl⟩
end
