/-! THE COMPONENT: sittings, forgetting -/
set_option maxRecDepth 100000
section
variable {E : gE} {d rc rs x : Nat} {mf : Nat → va_E} {ow : OW} {h : gH} {w hs bk tp iL iS my wd : Int → Int} {uW uH uB uN : Int → Int → Int} {si lo td fk fp : Int}
variable {r v n B kn i s l c b a e ah how : Int} {ra t p : Nat} {k h' : gH} {ow' : OW} {Q : Outcome → gH → Prop}
theorem gR_cat {v : Value} (h : gR v) : v.category = 1 := by
  rcases h with rfl | ⟨a, rfl⟩ <;> rfl
theorem sitO_sh {i : Int} (h0 : 0 ≤ i) (h1 : i < 59) : sitO (shI bk 354) i = sitO bk (i + 1) := by
  unfold sitO
  have e : ∀ j : Int, 0 ≤ j → j < 354 → shI bk 354 j = bk (j + 6) := fun j q1 q2 => if_pos ⟨q1, q2⟩
  rw [e (6 * i) (by omega) (by omega), e (6 * i + 1) (by omega) (by omega), e (6 * i + 2) (by omega) (by omega), e (6 * i + 3) (by omega) (by omega), e (6 * i + 4) (by omega) (by omega), gB_i (show ¬ shI bk 354 (6 * i + 5) = (0 : Int) ↔ ¬ bk (6 * (i + 1) + 5) = 0 by rw [e (6 * i + 5) (by omega) (by omega), show 6 * i + 5 + 6 = 6 * (i + 1) + 5 by omega]), gB_i (show ¬ shI bk 354 (6 * i + 5) = (2 : Int) ↔ ¬ bk (6 * (i + 1) + 5) = 2 by rw [e (6 * i + 5) (by omega) (by omega), show 6 * i + 5 + 6 = 6 * (i + 1) + 5 by omega]),
    show 6 * i + 6 = 6 * (i + 1) by omega, show 6 * i + 1 + 6 = 6 * (i + 1) + 1 by omega, show 6 * i + 2 + 6 = 6 * (i + 1) + 2 by omega, show 6 * i + 3 + 6 = 6 * (i + 1) + 3 by omega, show 6 * i + 4 + 6 = 6 * (i + 1) + 4 by omega]
theorem c_notesX (hX : (XR E x mf ow h w hs si lo bk uW uH uB iL iS tp td fk fp my wd uN)) (hw : WFw w) (hh : HSok B hs) (hr : 0 ≤ r) (hr1 : r < w 2) (hs0 : 0 ≤ si ∧ si ≤ 60) (hlo : 0 ≤ lo) :
    CALL E iX0_notes (d + 7) 2 207 [.ref x, vI r, vI n, vI ah, vI (gB (¬ how = 0)), vI (gB (¬ how = 2))] h (qVP fun k => ∃ ow', (XR E x mf ow' k (usedI w r n) hs (siN si + 1) (loN lo si) (sitB (bkN bk si) (siN si) r n (hs 2016) ah (mOnes (mSlips w hs r)) how) uW uH uB iL iS tp td fk fp my wd uN)) := by
  obtain ⟨x1, x2, x3, ⟨t, s1, s2, s3, ⟨bb, hL, hB⟩, s5⟩, x5, x6, x7⟩ := id hX
  obtain ⟨w3, bl, tq, pl, bp, hC, -⟩ := id x3
  obtain ⟨ar, cap, mo, g, -, hl, -⟩ := id hL
  by_cases c60 : si = 60
  · have e1 : bkN bk si = shI bk 354 := if_pos c60
    have e2 : siN si = 59 := (if_pos c60).trans (by omega)
    have e3 : loN lo si = lo + 1 := if_pos c60
    rw [e1, e2, e3]
    have cR := c_LRemove (d := d + 4) hL x1 (by decide) (by omega) (fun i q1 q2 => ⟨Or.inr ⟨_, (hB i q1 q2).2⟩, (hB i q1 q2).1⟩)
    show GO E iX0_notes _ _ _ 0 [some (.ref x), some (vI r), some (vI n), some (vI ah), some (vI (gB (¬ how = 0))), some (vI (gB (¬ how = 2)))] [] _ _
    refine g_aload_n (q := 1) dX0_notes_0 rfl rfl ?_
    refine g_get (C := RX0) (T := TX0) (ci := 0) (k := 1) (q := 4) dX0_notes_1 q519 rfl in_X0 (by decide) hC rfl rfl ?_
    refine g_getN (C := RX1) (T := TX1) (ci := 1) (k := 2) (q := 7) dX0_notes_4 q482 rfl in_X1 (by decide) s1.2.1 rfl rfl ?_
    refine g_cf (I' := iJ2_size) (mc := 0) (ms := 0) (rc := 2) (rs := 207) (ci := 3) (q := 12) dX0_notes_7 q974 q711 q710 q716 q714 q712 (by decide) gcJ2_size.2.1 q715 rfl q713 gcJ2_size hl (c_lsize hl) rfl rfl ?_
    refine g_bipush (q := 14) dX0_notes_12 rfl ?_
    refine g_icmp_ne (t := 39) (q := 17) dX0_notes_14 (by decide) rfl (by first | assumption | exact in32_gB | exact in32_gCmp | (unfold in32; omega)) (by first | assumption | exact in32_gB | exact in32_gCmp | (unfold in32; omega)) (fun c14 => ?_) (fun c14 => ?_)
    · exact absurd c60 c14
    · refine g_aload_n (q := 18) dX0_notes_17 rfl rfl ?_
      refine g_get (C := RX0) (T := TX0) (ci := 0) (k := 1) (q := 21) dX0_notes_18 q519 rfl in_X0 (by decide) hC rfl rfl ?_
      refine g_getN (C := RX1) (T := TX1) (ci := 1) (k := 2) (q := 24) dX0_notes_21 q482 rfl in_X1 (by decide) s1.2.1 rfl rfl ?_
      refine g_iconst (q := 25) dX0_notes_24 rfl ?_
      refine g_cfP (I' := iJ2_remove) (mc := 0) (ms := 0) (rc := 2) (rs := 207) (ci := 3) (q := 30) dX0_notes_25 q1082 q1084 q1083 q1088 q1086 q712 (by decide) gcJ2_remove.2.1 q1087 rfl q1085 gcJ2_remove hl (cR) rfl rfl (fun v25 k25 z25 => ?_)
      obtain ⟨hv, hL2, hh2, hF2, -⟩ := z25
      obtain ⟨-, bl3, -, -, -, hC3, -⟩ := x3.fr hF2 (by decide)
      obtain ⟨⟨a1, a2⟩, a3, a4⟩ := s1.fr hF2 (by decide)
      refine g_pop (q := 31) (hv := gR_cat hv) dX0_notes_30 rfl ?_
      refine g_aload_n (q := 32) dX0_notes_31 rfl rfl ?_
      refine g_get (C := RX0) (T := TX0) (ci := 0) (k := 1) (q := 35) dX0_notes_32 q519 rfl in_X0 (by decide) hC3 rfl rfl ?_
      refine g_iconst (q := 36) dX0_notes_35 rfl ?_
      refine g_putN (C := RX1) (T := TX1) (ci := 1) (k := 5) (q := 39) dX0_notes_36 q488 rfl in_X1 tyX1_ok nmX1 (by decide) rfl gFit_0 a3 (Nat.le_of_ble_eq_true rfl) rfl ?_
      refine l_notes39 (d := d) (ow := ow) (si := 59) (bk := shI bk 354) (lo := lo + 1) ?_ hw hh hr hr1 (by omega) (fun k ow' hq => ⟨rfl, ow', hq⟩)
      have hF3 : FR ow ow k25 (hset k25 (x + 2) (stO (x + 2) t w (lo + 1))) (fun i => i ≠ 10) := FR.set a1
      have e0 : stO (x + 2) t w (lo + 1) = oB 1 [.ref t, .ref (x + 2 + 9), .ref (x + 2 + 11), .ref (x + 2 + 13), .ref (x + 2 + 14), vI 0, vI (gB (¬ w 2 = w 9))] := by unfold stO; rw [gB_f (show ¬ lo + 1 = 0 by omega)]
      show (XR E x mf ow (hset k25 (x + 2) (oB 1 [.ref t, .ref (x + 2 + 9), .ref (x + 2 + 11), .ref (x + 2 + 13), .ref (x + 2 + 14), vI 0, vI (gB (¬ w 2 = w 9))])) w hs 59 (lo + 1) (shI bk 354) uW uH uB iL iS tp td fk fp my wd uN)
      rw [← e0]
      obtain ⟨gu, a5, a6⟩ := a4
      refine XR.now hX (hh2.set a3) ((hF2.sub (fun i q => by omega)).trans (hF3.sub (fun i q => by omega))) ⟨t, ⟨⟨a1, a2⟩, hset_at, gu, (hset_ne (by omega)).trans a5, a6⟩, (s2.fr hF2 (by decide)).fr hF3 (by decide), (s3.fr hF2 (by decide) (by decide)).fr hF3 (by decide) (by decide), ⟨fun i => bb (i + 1), ?_, fun i q1 q2 => ?_⟩, (s5.fr hF2 (by decide)).fr hF3 (by decide)⟩
      · have z := hL2.fr hF3 (by decide)
        rw [c60] at z
        exact z
      · rw [sitO_sh q1 q2]
        have q3 := hB (i + 1) (by omega) (by omega)
        have q4 := hF2.at q3.1 (by decide) q3.2
        exact hF3.at q4.1 (by decide) q4.2
  · have e1 : bkN bk si = bk := if_neg c60
    have e2 : siN si = si := if_neg c60
    have e3 : loN lo si = lo := if_neg c60
    rw [e1, e2, e3]
    show GO E iX0_notes _ _ _ 0 [some (.ref x), some (vI r), some (vI n), some (vI ah), some (vI (gB (¬ how = 0))), some (vI (gB (¬ how = 2)))] [] _ _
    refine g_aload_n (q := 1) dX0_notes_0 rfl rfl ?_
    refine g_get (C := RX0) (T := TX0) (ci := 0) (k := 1) (q := 4) dX0_notes_1 q519 rfl in_X0 (by decide) hC rfl rfl ?_
    refine g_getN (C := RX1) (T := TX1) (ci := 1) (k := 2) (q := 7) dX0_notes_4 q482 rfl in_X1 (by decide) s1.2.1 rfl rfl ?_
    refine g_cf (I' := iJ2_size) (mc := 0) (ms := 0) (rc := 2) (rs := 207) (ci := 3) (q := 12) dX0_notes_7 q974 q711 q710 q716 q714 q712 (by decide) gcJ2_size.2.1 q715 rfl q713 gcJ2_size hl (c_lsize hl) rfl rfl ?_
    refine g_bipush (q := 14) dX0_notes_12 rfl ?_
    refine g_icmp_ne (t := 39) (q := 17) dX0_notes_14 (by decide) rfl (by first | assumption | exact in32_gB | exact in32_gCmp | (unfold in32; omega)) (by first | assumption | exact in32_gB | exact in32_gCmp | (unfold in32; omega)) (fun c14 => ?_) (fun c14 => ?_)
    · exact l_notes39 (d := d) hX hw hh hr hr1 (by omega) (fun k ow' hq => ⟨rfl, ow', hq⟩)
    · exact absurd c14 c60
theorem c_readX (hX : (XR E x mf ow h w hs si lo bk uW uH uB iL iS tp td fk fp my wd uN)) (hw : WFw w) (hh : HSok B hs) (hZ : HZ w hs) (hB0 : 0 ≤ B) (hB : B ≤ 800000000) (hkn : in32 kn) (hr : 0 ≤ r) (hr1 : r ≤ w 2 - 1) (hn : 1 ≤ n) (hn1 : n ≤ 50) (hs0 : 0 ≤ si ∧ si ≤ 60) (hlo : 0 ≤ lo) :
    CALL E iX0_read (d + 1303) 2 207 [.ref x, vI r, vI n] h (qP fun o k => o = vI (siN si + 1) ∧ HZ w (mRdN w (-1) kn r n.toNat hs) ∧ ∃ ow', (XR E x mf ow' k (usedI w r n) (mRdN w (-1) kn r n.toNat hs) (siN si + 1) (loN lo si) (sitB (bkN bk si) (siN si) r n (mRdN w (-1) kn r n.toNat hs 2016) (mOnes (mSlips w hs r)) (mOnes (mSlips w (mRdN w (-1) kn r n.toNat hs) r)) 0) uW uH uB iL iS tp td fk fp my wd uN)) := by
  have h12 := hw.2.1
  have hr2 : r < w 2 := by omega
  have hso : 0 ≤ mOnes (mSlips w hs r) ∨ True := Or.inr trivial
  have loop : ∀ (f : Nat) (i B : Int) (hs1 : Int → Int) (k : gH), (XR E x mf ow k w hs1 si lo bk uW uH uB iL iS tp td fk fp my wd uN) → HSok B hs1 → HZ w hs1 → B + f ≤ 900000000 → 0 ≤ i → i + f = n → mRdN w (-1) kn r f hs1 = mRdN w (-1) kn r n.toNat hs →
      GO E iX0_read (d + 1303) 2 207 32 [some (.ref x), some (vI r), some (vI n), some (vI (mOnes (mSlips w hs r))), some (vI i)] [] k (qP fun o k => o = vI (siN si + 1) ∧ HZ w (mRdN w (-1) kn r n.toNat hs) ∧ ∃ ow', (XR E x mf ow' k (usedI w r n) (mRdN w (-1) kn r n.toNat hs) (siN si + 1) (loN lo si) (sitB (bkN bk si) (siN si) r n (mRdN w (-1) kn r n.toNat hs 2016) (mOnes (mSlips w hs r)) (mOnes (mSlips w (mRdN w (-1) kn r n.toNat hs) r)) 0) uW uH uB iL iS tp td fk fp my wd uN)) := by
    intro f
    induction f with
    | zero =>
      intro i B hs1 k hX hh hZ hB q1 q2 q3
      have e : hs1 = mRdN w (-1) kn r n.toNat hs := q3
      subst e
      obtain ⟨-, -, ⟨-, bl, -, -, -, hC, -⟩, -⟩ := id hX
      have z := c_notesX (d := d + 1295) (n := n) (ah := mOnes (mSlips w hs r)) (how := 0) hX hw hh hr hr2 hs0 hlo
      rw [gB_f (show ¬ ¬ (0 : Int) = 0 by decide), gB_t (show ¬ (0 : Int) = 2 by decide)] at z
      refine g_iload (q := 34) dX0_read_32 rfl rfl ?_
      refine g_iload_n (q := 35) dX0_read_34 rfl rfl ?_
      refine g_icmp_ge (t := 59) (q := 38) dX0_read_35 (by decide) rfl (by first | assumption | exact in32_gB | exact in32_gCmp | (unfold in32; omega)) (by first | assumption | exact in32_gB | exact in32_gCmp | (unfold in32; omega)) (fun c35 => ?_) (fun c35 => ?_)
      · refine g_aload_n (q := 60) dX0_read_59 rfl rfl ?_
        refine g_iload_n (q := 61) dX0_read_60 rfl rfl ?_
        refine g_iload_n (q := 62) dX0_read_61 rfl rfl ?_
        refine g_iload_n (q := 63) dX0_read_62 rfl rfl ?_
        refine g_iconst (q := 64) dX0_read_63 rfl ?_
        refine g_iconst (q := 65) dX0_read_64 rfl ?_
        refine g_cvVP (I' := iX0_notes) (mc := 2) (ms := 207) (rc := 0) (rs := 0) (ci := 0) (q := 68) dX0_read_65 q1077 q1079 rfl qs30 gcX0_notes hC (z) rfl rfl (fun k65 z65 => ?_)
        obtain ⟨ow2, hX2⟩ := z65
        obtain ⟨-, -, ⟨-, bl2, -, -, -, hC2, -⟩, ⟨t2, s12, -, -, ⟨bb2, ⟨ar2, cap2, mo2, g2, -, hl2, -⟩, -⟩, -⟩, -⟩ := id hX2
        refine g_aload_n (q := 69) dX0_read_68 rfl rfl ?_
        refine g_get (C := RX0) (T := TX0) (ci := 0) (k := 1) (q := 72) dX0_read_69 q519 rfl in_X0 (by decide) hC2 rfl rfl ?_
        refine g_getN (C := RX1) (T := TX1) (ci := 1) (k := 2) (q := 75) dX0_read_72 q482 rfl in_X1 (by decide) s12.2.1 rfl rfl ?_
        refine g_cf (I' := iJ2_size) (mc := 0) (ms := 0) (rc := 0) (rs := 0) (ci := 3) (q := 80) dX0_read_75 q974 q711 q710 q716 q714 q712 (by decide) gcJ2_size.2.1 q715 rfl q713 gcJ2_size hl2 (c_lsize hl2) rfl rfl ?_
        exact g_iret dX0_read_80 rfl ⟨_, rfl, rfl, hZ, ow2, hX2⟩
      · exact absurd c35 (by omega)
    | succ f ih =>
      intro i B hs1 k hX hh hZ hB q1 q2 q3
      obtain ⟨-, -, ⟨-, bl, -, -, -, hC, -⟩, ⟨t, s1, -, -, -, s5⟩, -⟩ := id hX
      have hh2 := hh.reads (kl := -1) (kn := kn) hw hr hr2
      refine g_iload (q := 34) dX0_read_32 rfl rfl ?_
      refine g_iload_n (q := 35) dX0_read_34 rfl rfl ?_
      refine g_icmp_ge (t := 59) (q := 38) dX0_read_35 (by decide) rfl (by first | assumption | exact in32_gB | exact in32_gCmp | (unfold in32; omega)) (by first | assumption | exact in32_gB | exact in32_gCmp | (unfold in32; omega)) (fun c35 => ?_) (fun c35 => ?_)
      · exact absurd c35 (by omega)
      · refine g_aload_n (q := 39) dX0_read_38 rfl rfl ?_
        refine g_get (C := RX0) (T := TX0) (ci := 0) (k := 1) (q := 42) dX0_read_39 q519 rfl in_X0 (by decide) hC rfl rfl ?_
        refine g_getN (C := RX1) (T := TX1) (ci := 1) (k := 4) (q := 45) dX0_read_42 q486 rfl in_X1 (by decide) s1.2.1 rfl rfl ?_
        refine g_aload_n (q := 46) dX0_read_45 rfl rfl ?_
        refine g_iload_n (q := 47) dX0_read_46 rfl rfl ?_
        refine g_cvP (I' := iX0_rowAt) (mc := 0) (ms := 0) (rc := 2) (rs := 207) (ci := 0) (q := 50) dX0_read_47 q992 q994 rfl qs28 gcX0_rowAt hC (GO.deep (c_rowAt (d := 0) hX hr hr2) (by omega)) rfl rfl (fun v47 k47 z47 => ?_)
        obtain ⟨ra, rfl, hR, rfl⟩ := z47
        refine g_cvVP (I' := iX3_reads) (mc := 0) (ms := 0) (rc := 2) (rs := 207) (ci := 4) (q := 53) dX0_read_50 q1013 q1014 rfl q1015 gcX3_reads s5.2.ob (c_nRead (kn := kn) hX hw hh hZ (by omega) hkn hr hr2 hR) rfl rfl (fun k50 z50 => ?_)
        obtain ⟨hZ5, hX5⟩ := z50
        refine g_iinc (q := 56) dX0_read_53 rfl gs4 rfl ?_
        refine g_goto (t := 32) dX0_read_56 (by decide) ?_
        exact ih (i + 1) (B + 1) _ _ hX5 hh2 hZ5 (by omega) (by omega) (by omega) q3
  obtain ⟨-, -, ⟨-, bl, -, -, -, hC, -⟩, -⟩ := id hX
  show GO E iX0_read _ _ _ 0 [some (.ref x), some (vI r), some (vI n), none, none] [] _ _
  refine g_aload_n (q := 1) dX0_read_0 rfl rfl ?_
  refine g_iload_n (q := 2) dX0_read_1 rfl rfl ?_
  refine g_cv (I' := iX0_isRow) (mc := 0) (ms := 0) (rc := 2) (rs := 207) (ci := 0) (q := 5) dX0_read_2 q983 q985 rfl qs26 gcX0_isRow hC (GO.deep (c_isRowX (d := 0) hX (by unfold in32; omega) ⟨hw.2.1.1, hw.2.1.2⟩) (by omega)) rfl rfl ?_
  refine g_ifeqB (t := 20) (q := 8) dX0_read_5 (by decide) rfl (fun c5 => ?_) (fun c5 => ?_)
  · exact absurd ⟨hr, hr1⟩ c5
  · refine g_iload_n (q := 9) dX0_read_8 rfl rfl ?_
    refine g_i2l (q := 10) dX0_read_9 (by first | assumption | exact in32_gB | exact in32_gCmp | (unfold in32; omega)) rfl ?_
    refine g_lconst1 (q := 11) dX0_read_10 rfl ?_
    refine g_ldc2 (a := 50) (q := 14) dX0_read_11 q987 (by decide) rfl ?_
    refine g_cs (I' := iX0_in) (mc := 0) (ms := 0) (rc := 2) (rs := 207) (q := 17) dX0_read_14 q130 q131 gcX0_in (c_inX (by unfold in64; omega) (by unfold in64; omega) (by unfold in64; omega)) rfl rfl ?_
    refine g_ifneB (t := 23) (q := 20) dX0_read_17 (by decide) rfl (fun c17 => ?_) (fun c17 => ?_)
    · refine g_aload_n (q := 24) dX0_read_23 rfl rfl ?_
      refine g_iload_n (q := 25) dX0_read_24 rfl rfl ?_
      refine g_cv (I' := iX0_slipMany) (mc := 0) (ms := 0) (rc := 2) (rs := 207) (ci := 0) (q := 28) dX0_read_25 q988 q990 rfl qs27 gcX0_slipMany hC (GO.deep (c_slipMany (d := 0) hX hw hh hr hr2) (by omega)) rfl rfl ?_
      refine g_istore_n (q := 29) dX0_read_28 gs3 rfl ?_
      refine g_iconst (q := 30) dX0_read_29 rfl ?_
      refine g_istore (q := 32) dX0_read_30 gs4 rfl ?_
      exact loop n.toNat 0 B hs h hX hh hZ (by omega) (by omega) (by omega) rfl
    · exact absurd ⟨hn, hn1⟩ c17
theorem c_readBad (hX : (XR E x mf ow h w hs si lo bk uW uH uB iL iS tp td fk fp my wd uN)) (hw2 : 0 ≤ w 2 ∧ w 2 ≤ 12) (hr : in32 r) (hn : in32 n) (hx : ¬ ((0 ≤ r ∧ r ≤ w 2 - 1) ∧ (1 ≤ n ∧ n ≤ 50))) : CALL E iX0_read (d + 2) 0 0 [.ref x, vI r, vI n] h (qP fun o k => o = vI (-2) ∧ (XR E x mf ow k w hs si lo bk uW uH uB iL iS tp td fk fp my wd uN)) := by
  obtain ⟨-, -, ⟨-, bl, -, -, -, hC, -⟩, -⟩ := id hX
  have q1 := hn.1
  have q2 := hn.2
  show GO E iX0_read _ _ _ 0 [some (.ref x), some (vI r), some (vI n), none, none] [] _ _
  refine g_aload_n (q := 1) dX0_read_0 rfl rfl ?_
  refine g_iload_n (q := 2) dX0_read_1 rfl rfl ?_
  refine g_cv (I' := iX0_isRow) (mc := 0) (ms := 0) (rc := 0) (rs := 0) (ci := 0) (q := 5) dX0_read_2 q983 q985 rfl qs26 gcX0_isRow hC (c_isRowX hX hr hw2) rfl rfl ?_
  refine g_ifeqB (t := 20) (q := 8) dX0_read_5 (by decide) rfl (fun c5 => ?_) (fun c5 => ?_)
  · refine g_bipush (q := 22) dX0_read_20 rfl ?_
    exact g_iret dX0_read_22 rfl ⟨_, rfl, rfl, hX⟩
  · refine g_iload_n (q := 9) dX0_read_8 rfl rfl ?_
    refine g_i2l (q := 10) dX0_read_9 (by first | assumption | exact in32_gB | exact in32_gCmp | (unfold in32; omega)) rfl ?_
    refine g_lconst1 (q := 11) dX0_read_10 rfl ?_
    refine g_ldc2 (a := 50) (q := 14) dX0_read_11 q987 (by decide) rfl ?_
    refine g_cs (I' := iX0_in) (mc := 0) (ms := 0) (rc := 0) (rs := 0) (q := 17) dX0_read_14 q130 q131 gcX0_in (c_inX (by unfold in64; omega) (by unfold in64; omega) (by unfold in64; omega)) rfl rfl ?_
    refine g_ifneB (t := 23) (q := 20) dX0_read_17 (by decide) rfl (fun c17 => ?_) (fun c17 => ?_)
    · exact absurd ⟨c5, c17⟩ hx
    · refine g_bipush (q := 22) dX0_read_20 rfl ?_
      exact g_iret dX0_read_22 rfl ⟨_, rfl, rfl, hX⟩
theorem c_learnX (hX : (XR E x mf ow h w hs si lo bk uW uH uB iL iS tp td fk fp my wd uN)) (hw : WFw w) (hh : HSok B hs) (hZ : HZ w hs) (hB0 : 0 ≤ B) (hB : B ≤ 800000000) (hkn : in32 kn) (hr : 0 ≤ r) (hr1 : r ≤ w 2 - 1) (hs0 : 0 ≤ si ∧ si ≤ 60) (hlo : 0 ≤ lo) :
    CALL E iX0_learn (d + 1304) 2 207 [.ref x, vI r] h (qP fun o k => o = vI (mLearns w hs (-1) kn r).1 ∧ HZ w (mLearns w hs (-1) kn r).2 ∧ ∃ ow', (XR E x mf ow' k (usedI w r (if (mLearns w hs (-1) kn r).1 = -1 then 40 else (mLearns w hs (-1) kn r).1)) ((mLearns w hs (-1) kn r).2) (siN si + 1) (loN lo si) (sitB (bkN bk si) (siN si) r (if (mLearns w hs (-1) kn r).1 = -1 then 40 else (mLearns w hs (-1) kn r).1) ((mLearns w hs (-1) kn r).2 2016) (mOnes (mSlips w hs r)) (mOnes (mSlips w (mLearns w hs (-1) kn r).2 r)) (if (mLearns w hs (-1) kn r).1 = -1 then 2 else 1)) uW uH uB iL iS tp td fk fp my wd uN)) := by
  have h12 := hw.2.1
  have hr2 : r < w 2 := by omega
  obtain ⟨-, -, ⟨-, bl, -, -, -, hC, -⟩, ⟨t, s1, -, -, -, s5⟩, -⟩ := id hX
  have ok := mLearns_ok (kl := -1) (kn := kn) hw hr hr2 hh
  have ok2 := ok.2
  have fin : ∀ k, (XR E x mf ow k w ((mLearns w hs (-1) kn r).2) si lo bk uW uH uB iL iS tp td fk fp my wd uN) → ∀ (m b : Int), m = (if (mLearns w hs (-1) kn r).1 = -1 then 40 else (mLearns w hs (-1) kn r).1) → b = gB (¬ (if (mLearns w hs (-1) kn r).1 = -1 then (2 : Int) else 1) = 2) →
      CALL E iX0_notes (d + 1303) 2 207 [.ref x, vI r, vI m, vI (mOnes (mSlips w hs r)), vI 1, vI b] k (qVP fun k => ∃ ow', (XR E x mf ow' k (usedI w r (if (mLearns w hs (-1) kn r).1 = -1 then 40 else (mLearns w hs (-1) kn r).1)) ((mLearns w hs (-1) kn r).2) (siN si + 1) (loN lo si) (sitB (bkN bk si) (siN si) r (if (mLearns w hs (-1) kn r).1 = -1 then 40 else (mLearns w hs (-1) kn r).1) ((mLearns w hs (-1) kn r).2 2016) (mOnes (mSlips w hs r)) (mOnes (mSlips w (mLearns w hs (-1) kn r).2 r)) (if (mLearns w hs (-1) kn r).1 = -1 then 2 else 1)) uW uH uB iL iS tp td fk fp my wd uN)) := by
    intro k hX m b em eb
    have z := c_notesX (d := d + 1296) (n := m) (ah := mOnes (mSlips w hs r)) (how := if (mLearns w hs (-1) kn r).1 = -1 then 2 else 1) hX hw ok.1 hr hr2 hs0 hlo
    rw [gB_t (show ¬ (if (mLearns w hs (-1) kn r).1 = -1 then (2 : Int) else 1) = 0 by split <;> decide), ← eb] at z
    rw [em] at z ⊢
    exact z
  show GO E iX0_learn _ _ _ 0 [some (.ref x), some (vI r), none, none] [] _ _
  refine g_aload_n (q := 1) dX0_learn_0 rfl rfl ?_
  refine g_iload_n (q := 2) dX0_learn_1 rfl rfl ?_
  refine g_cv (I' := iX0_isRow) (mc := 0) (ms := 0) (rc := 2) (rs := 207) (ci := 0) (q := 5) dX0_learn_2 q983 q985 rfl qs26 gcX0_isRow hC (GO.deep (c_isRowX (d := 0) hX (by unfold in32; omega) ⟨hw.2.1.1, hw.2.1.2⟩) (by omega)) rfl rfl ?_
  refine g_ifneB (t := 11) (q := 8) dX0_learn_5 (by decide) rfl (fun c5 => ?_) (fun c5 => ?_)
  · refine g_aload_n (q := 12) dX0_learn_11 rfl rfl ?_
    refine g_iload_n (q := 13) dX0_learn_12 rfl rfl ?_
    refine g_cv (I' := iX0_slipMany) (mc := 0) (ms := 0) (rc := 2) (rs := 207) (ci := 0) (q := 16) dX0_learn_13 q988 q990 rfl qs27 gcX0_slipMany hC (GO.deep (c_slipMany (d := 0) hX hw hh hr hr2) (by omega)) rfl rfl ?_
    refine g_istore_n (q := 17) dX0_learn_16 gs2 rfl ?_
    refine g_aload_n (q := 18) dX0_learn_17 rfl rfl ?_
    refine g_get (C := RX0) (T := TX0) (ci := 0) (k := 1) (q := 21) dX0_learn_18 q519 rfl in_X0 (by decide) hC rfl rfl ?_
    refine g_getN (C := RX1) (T := TX1) (ci := 1) (k := 4) (q := 24) dX0_learn_21 q486 rfl in_X1 (by decide) s1.2.1 rfl rfl ?_
    refine g_aload_n (q := 25) dX0_learn_24 rfl rfl ?_
    refine g_iload_n (q := 26) dX0_learn_25 rfl rfl ?_
    refine g_cvP (I' := iX0_rowAt) (mc := 0) (ms := 0) (rc := 2) (rs := 207) (ci := 0) (q := 29) dX0_learn_26 q992 q994 rfl qs28 gcX0_rowAt hC (GO.deep (c_rowAt (d := 0) hX hr hr2) (by omega)) rfl rfl (fun v26 k26 z26 => ?_)
    obtain ⟨ra, rfl, hR, rfl⟩ := z26
    refine g_iconst (q := 30) dX0_learn_29 rfl ?_
    refine g_cvP (I' := iX3_learns) (mc := 0) (ms := 0) (rc := 2) (rs := 207) (ci := 4) (q := 33) dX0_learn_30 q1136 q1137 rfl q1138 gcX3_learns s5.2.ob (c_nLearn (kn := kn) hX hw hh hZ (by omega) hkn hr hr2 hR) rfl rfl (fun v30 k30 z30 => ?_)
    obtain ⟨rfl, hZ30, hX30⟩ := z30
    obtain ⟨-, -, ⟨-, bl2, -, -, -, hC2, -⟩, -⟩ := id hX30
    refine g_istore_n (q := 34) dX0_learn_33 gs3 rfl ?_
    refine g_aload_n (q := 35) dX0_learn_34 rfl rfl ?_
    refine g_iload_n (q := 36) dX0_learn_35 rfl rfl ?_
    refine g_iload_n (q := 37) dX0_learn_36 rfl rfl ?_
    refine g_iconst (q := 38) dX0_learn_37 rfl ?_
    refine g_icmp_ne (t := 46) (q := 41) dX0_learn_38 (by decide) rfl (by unfold in32; omega) (by unfold in32; omega) (fun c38 => ?_) (fun c38 => ?_)
    · refine g_iload_n (q := 47) dX0_learn_46 rfl rfl ?_
      refine g_iload_n (q := 48) dX0_learn_47 rfl rfl ?_
      refine g_iconst (q := 49) dX0_learn_48 rfl ?_
      refine g_iload_n (q := 50) dX0_learn_49 rfl rfl ?_
      refine g_iconst (q := 51) dX0_learn_50 rfl ?_
      refine g_icmp_eq (t := 58) (q := 54) dX0_learn_51 (by decide) rfl (by unfold in32; omega) (by unfold in32; omega) (fun c51 => ?_) (fun c51 => ?_)
      · refine g_iconst (q := 59) dX0_learn_58 rfl ?_
        refine g_cvVP (I' := iX0_notes) (mc := 2) (ms := 207) (rc := 0) (rs := 0) (ci := 0) (q := 62) dX0_learn_59 q1077 q1079 rfl qs30 gcX0_notes hC2 (fin _ hX30 _ _ (by first | exact (if_pos c38).symm | exact (if_neg c38).symm) (by first | (rw [if_pos c38]; exact (gB_f (by decide)).symm) | (rw [if_neg c38]; exact (gB_t (by decide)).symm) | (exfalso; omega))) rfl rfl (fun k59 z59 => ?_)
        obtain ⟨ow2, hX2⟩ := z59
        refine g_iload_n (q := 63) dX0_learn_62 rfl rfl ?_
        exact g_iret dX0_learn_63 rfl ⟨_, rfl, rfl, hZ30, ow2, hX2⟩
      · refine g_iconst (q := 55) dX0_learn_54 rfl ?_
        refine g_goto (t := 59) dX0_learn_55 (by decide) ?_
        refine g_cvVP (I' := iX0_notes) (mc := 2) (ms := 207) (rc := 0) (rs := 0) (ci := 0) (q := 62) dX0_learn_59 q1077 q1079 rfl qs30 gcX0_notes hC2 (fin _ hX30 _ _ (by first | exact (if_pos c38).symm | exact (if_neg c38).symm) (by first | (rw [if_pos c38]; exact (gB_f (by decide)).symm) | (rw [if_neg c38]; exact (gB_t (by decide)).symm) | (exfalso; omega))) rfl rfl (fun k59 z59 => ?_)
        obtain ⟨ow2, hX2⟩ := z59
        refine g_iload_n (q := 63) dX0_learn_62 rfl rfl ?_
        exact g_iret dX0_learn_63 rfl ⟨_, rfl, rfl, hZ30, ow2, hX2⟩
    · refine g_bipush (q := 43) dX0_learn_41 rfl ?_
      refine g_goto (t := 47) dX0_learn_43 (by decide) ?_
      refine g_iload_n (q := 48) dX0_learn_47 rfl rfl ?_
      refine g_iconst (q := 49) dX0_learn_48 rfl ?_
      refine g_iload_n (q := 50) dX0_learn_49 rfl rfl ?_
      refine g_iconst (q := 51) dX0_learn_50 rfl ?_
      refine g_icmp_eq (t := 58) (q := 54) dX0_learn_51 (by decide) rfl (by unfold in32; omega) (by unfold in32; omega) (fun c51 => ?_) (fun c51 => ?_)
      · refine g_iconst (q := 59) dX0_learn_58 rfl ?_
        refine g_cvVP (I' := iX0_notes) (mc := 2) (ms := 207) (rc := 0) (rs := 0) (ci := 0) (q := 62) dX0_learn_59 q1077 q1079 rfl qs30 gcX0_notes hC2 (fin _ hX30 _ _ (by first | exact (if_pos c38).symm | exact (if_neg c38).symm) (by first | (rw [if_pos c38]; exact (gB_f (by decide)).symm) | (rw [if_neg c38]; exact (gB_t (by decide)).symm) | (exfalso; omega))) rfl rfl (fun k59 z59 => ?_)
        obtain ⟨ow2, hX2⟩ := z59
        refine g_iload_n (q := 63) dX0_learn_62 rfl rfl ?_
        exact g_iret dX0_learn_63 rfl ⟨_, rfl, rfl, hZ30, ow2, hX2⟩
      · refine g_iconst (q := 55) dX0_learn_54 rfl ?_
        refine g_goto (t := 59) dX0_learn_55 (by decide) ?_
        refine g_cvVP (I' := iX0_notes) (mc := 2) (ms := 207) (rc := 0) (rs := 0) (ci := 0) (q := 62) dX0_learn_59 q1077 q1079 rfl qs30 gcX0_notes hC2 (fin _ hX30 _ _ (by first | exact (if_pos c38).symm | exact (if_neg c38).symm) (by first | (rw [if_pos c38]; exact (gB_f (by decide)).symm) | (rw [if_neg c38]; exact (gB_t (by decide)).symm) | (exfalso; omega))) rfl rfl (fun k59 z59 => ?_)
        obtain ⟨ow2, hX2⟩ := z59
        refine g_iload_n (q := 63) dX0_learn_62 rfl rfl ?_
        exact g_iret dX0_learn_63 rfl ⟨_, rfl, rfl, hZ30, ow2, hX2⟩
  · exact absurd ⟨hr, hr1⟩ c5
theorem c_learnBad (hX : (XR E x mf ow h w hs si lo bk uW uH uB iL iS tp td fk fp my wd uN)) (hw2 : 0 ≤ w 2 ∧ w 2 ≤ 12) (hr : in32 r) (hx : ¬ (0 ≤ r ∧ r ≤ w 2 - 1)) : CALL E iX0_learn (d + 2) 0 0 [.ref x, vI r] h (qP fun o k => o = vI (-2) ∧ (XR E x mf ow k w hs si lo bk uW uH uB iL iS tp td fk fp my wd uN)) := by
  obtain ⟨-, -, ⟨-, bl, -, -, -, hC, -⟩, -⟩ := id hX
  show GO E iX0_learn _ _ _ 0 [some (.ref x), some (vI r), none, none] [] _ _
  refine g_aload_n (q := 1) dX0_learn_0 rfl rfl ?_
  refine g_iload_n (q := 2) dX0_learn_1 rfl rfl ?_
  refine g_cv (I' := iX0_isRow) (mc := 0) (ms := 0) (rc := 0) (rs := 0) (ci := 0) (q := 5) dX0_learn_2 q983 q985 rfl qs26 gcX0_isRow hC (c_isRowX hX hr hw2) rfl rfl ?_
  refine g_ifneB (t := 11) (q := 8) dX0_learn_5 (by decide) rfl (fun c5 => ?_) (fun c5 => ?_)
  · exact absurd c5 hx
  · refine g_bipush (q := 10) dX0_learn_8 rfl ?_
    exact g_iret dX0_learn_10 rfl ⟨_, rfl, rfl, hX⟩
end
