/-! THE COMPONENT: what is done on paper -/
set_option maxRecDepth 100000
theorem mHours_s {w : Int → Int} {kl kn : Int} : ∀ (n : Nat) (hs : Int → Int), mHours w kl kn (n + 1) hs = mHour w (mHours w kl kn n hs) kl kn := by
  intro n
  induction n with
  | zero => intro hs; rfl
  | succ n ih => intro hs; exact ih _
theorem hrB_hi {w : Int → Int} {kl kn s a : Int} (h1 : 0 ≤ s ∧ s < 4) (h2 : 0 ≤ a ∧ a < 24) : ∀ (n : Nat) (b : Int) (hs : Int → Int), 0 ≤ b → b + n ≤ (if s = 3 then 12 else 24) → mHrB w kl kn s a n b hs 2016 = hs 2016 := by
  intro n
  induction n with
  | zero => intro b hs _ _; rfl
  | succ n ih =>
    intro b hs h0 h3
    refine (ih (b + 1) _ (by omega) (by omega)).trans ?_
    have := lk_lt h1 h2 (b := b) ⟨h0, by omega⟩
    split
    · exact upI_ne (by omega)
    · rfl
theorem hrA_hi {w : Int → Int} {kl kn s : Int} (hw1 : 0 ≤ w 1 ∧ w 1 ≤ 24) (h1 : 0 ≤ s ∧ s < 4) : ∀ (n : Nat) (a : Int) (hs : Int → Int), 0 ≤ a → a + n ≤ 24 → mHrA w kl kn s n a hs 2016 = hs 2016 := by
  intro n
  induction n with
  | zero => intro a hs _ _; rfl
  | succ n ih =>
    intro a hs h0 h3
    refine (ih (a + 1) _ (by omega) (by omega)).trans (hrB_hi h1 ⟨h0, by omega⟩ _ _ _ (by omega) ?_)
    split <;> omega
theorem hrS_hi {w : Int → Int} {kl kn : Int} (hw1 : 0 ≤ w 1 ∧ w 1 ≤ 24) : ∀ (n : Nat) (s : Int) (hs : Int → Int), 0 ≤ s → s + n ≤ 4 → mHrS w kl kn n s hs 2016 = hs 2016 := by
  intro n
  induction n with
  | zero => intro s hs _ _; rfl
  | succ n ih =>
    intro s hs h0 h3
    exact (ih (s + 1) _ (by omega) (by omega)).trans (hrA_hi hw1 ⟨h0, by omega⟩ _ _ _ (by omega) (by omega))
theorem mHours_2016 {w : Int → Int} {kl kn : Int} (hw1 : 0 ≤ w 1 ∧ w 1 ≤ 24) : ∀ (n : Nat) (hs : Int → Int), mHours w kl kn n hs 2016 = hs 2016 + n := by
  intro n
  induction n with
  | zero => intro hs; exact (Int.add_zero _).symm
  | succ n ih =>
    intro hs
    refine (ih _).trans ?_
    have e : mHour w hs kl kn 2016 = hs 2016 + 1 := by
      unfold mHour hourly
      rw [upI_ne (by decide), upI_at, hrS_hi hw1 4 0 hs (by omega) (by omega)]
    rw [e]
    omega
theorem HZ.zero {w hs : Int → Int} (hz : ∀ k, 0 ≤ k → k < 2016 → hs k = 0) : HZ w hs := fun s a b q1 q2 q3 _ => hz _ (lk_lt q1 q2 q3).1 (lk_lt q1 q2 q3).2
section
variable {E : gE} {d rc rs x : Nat} {mf : Nat → va_E} {ow : OW} {h : gH} {w hs bk tp iL iS my wd : Int → Int} {uW uH uB uN : Int → Int → Int} {si lo td fk fp : Int}
variable {r v n B kn wo i : Int} {ra t : Nat} {hs1 : Int → Int} {k : gH}
/-- the component, its paper on top -/
def PP (E : gE) (x : Nat) (mf : Nat → va_E) (ow : OW) (h : gH) (t : Nat) (w : Int → Int) (td fk fp : Int) : Prop := OWN ow (x + 120) 103 2 ∧ S_T E ow h t w ∧ ∃ bl, h.1 x = some (xO x td fk fp bl)
theorem PP.of (hX : (XR E x mf ow h w hs si lo bk uW uH uB iL iS tp td fk fp my wd uN)) (ht : S_O E ow h 0 (x + 2) t w lo) : PP E x mf ow h t w td fk fp := by
  obtain ⟨x1, x2, ⟨w3, bl, tq, pl, bp, hC, -⟩, ⟨t', s1, s2, s3, s4, s5⟩, x5, ⟨w6, tx6, hs6, d6⟩, x7⟩ := hX
  have et : t' = t := by
    have := s1.2.1.symm.trans ht.2.1
    unfold stO oB at this
    simpa using this
  subst et
  exact ⟨w6, s2, bl, hC⟩
theorem PP.c (hP : PP E x mf ow h t w td fk fp) (hk : hHx E h (x + 120) t hs1 k) : ∃ bl, k.1 x = some (xO x td fk fp bl) := by
  obtain ⟨-, -, bl, hC⟩ := hP
  obtain ⟨h1, e1, t1, o1, b1, rfl⟩ := hk
  exact ⟨bl, (blk_out (by omega)).trans hC⟩
theorem PP.p (hk : hHx E h (x + 120) t hs1 k) : k.1 (x + 120) = some (hdO (x + 120) (some t) (hs1 2016) (hs1 2017)) := by
  obtain ⟨h1, e1, t1, o1, b1, rfl⟩ := hk
  exact hO
/-- a row, found while paper is written on -/
theorem c_pRow (hX : (XR E x mf ow h w hs si lo bk uW uH uB iL iS tp td fk fp my wd uN)) (hP : PP E x mf ow h t w td fk fp) (hk : hHx E h (x + 120) t hs1 k) (hr : 0 ≤ r) (hr1 : r < w 2) : CALL E iX0_rowAt (d + 3) 0 0 [.ref x, vI r] k (qP fun v k' => ∃ ra, v = .ref ra ∧ ROWc E (imm ow) h.1 w r ra ∧ k' = k) := by
  have z := c_rowAt (d := d) (hX.paperx hk) hr hr1
  refine GO.mono z fun o k' hq => ?_
  obtain ⟨v, e, ra, e1, ⟨hR, g, hg, hg2⟩, e2⟩ := hq
  refine ⟨v, e, ra, e1, ⟨hR, g, ?_, hg2⟩, e2⟩
  obtain ⟨h1, e1, t1, o1, b1, rfl⟩ := hk
  have h0 := imm_0 hR
  exact (blk_out (hP.1.ne (by omega))).symm.trans hg
theorem c_pLearn (hP : PP E x mf ow h t w td fk fp) (hk : hHx E h (x + 120) t hs1 k) (hw : WFw w) (hh : HSok B hs1) (hZ : HZ w hs1) (hB : B ≤ 900000000) (hkn : in32 kn) (hr : 0 ≤ r) (hr1 : r < w 2) (hR : ROWc E (imm ow) h.1 w r ra) (hwo : -1 ≤ wo ∧ wo ≤ 3) :
    CALL E iX3_learns (d + 1303) 0 0 [.ref (x + 120), .ref ra, vI wo] k (qP fun v k => v = vI (mLearns (woW w wo) hs1 (-1) kn r).1 ∧ HZ w (mLearns (woW w wo) hs1 (-1) kn r).2 ∧ hHx E h (x + 120) t (mLearns (woW w wo) hs1 (-1) kn r).2 k) := by
  obtain ⟨h1, e1, t1, o1, b1, rfl⟩ := hk
  exact c_learnsX ((hP.2.1 kn).av (hP.1.av (by decide))) hw hh hZ hB hkn hr hr1 (hR.av (hP.1.av (by decide))) hwo
theorem c_pLearnN (hP : PP E x mf ow h t w td fk fp) (hk : hHx E h (x + 120) t hs1 k) (hw : WFw w) (hh : HSok B hs1) (hZ : HZ w hs1) (hB : B ≤ 900000000) (hkn : in32 kn) (hr : 0 ≤ r) (hr1 : r < w 2) (hR : ROWc E (imm ow) h.1 w r ra) :
    CALL E iX3_learns (d + 1303) 0 0 [.ref (x + 120), .ref ra, vI (-1)] k (qP fun v k => v = vI (mLearns w hs1 (-1) kn r).1 ∧ HZ w (mLearns w hs1 (-1) kn r).2 ∧ hHx E h (x + 120) t (mLearns w hs1 (-1) kn r).2 k) := by
  have z := c_pLearn (d := d) (wo := -1) hP hk hw hh hZ hB hkn hr hr1 hR (by decide)
  rw [woW_n] at z
  exact z
theorem c_pWait (hP : PP E x mf ow h t w td fk fp) (hk : hHx E h (x + 120) t hs1 k) (hw : WFw w) (hh : HSok B hs1) (hZ : HZ w hs1) (hB0 : 0 ≤ B) (hB : B ≤ 900000000) (hkn : in32 kn) (hv : -2000000000 ≤ v ∧ v ≤ 1000000) :
    CALL E iX3_waits (d + 1302) 0 0 [.ref (x + 120), vI v] k (qVP fun k => HZ w (mHours w (-1) kn v.toNat hs1) ∧ hHx E h (x + 120) t (mHours w (-1) kn v.toNat hs1) k) := by
  obtain ⟨h1, e1, t1, o1, b1, rfl⟩ := hk
  exact c_waitsX ((hP.2.1 kn).av (hP.1.av (by decide))) hw hB0 hB hkn hv hh hZ
theorem c_pRead (hP : PP E x mf ow h t w td fk fp) (hk : hHx E h (x + 120) t hs1 k) (hw : WFw w) (hh : HSok B hs1) (hZ : HZ w hs1) (hB : B ≤ 900000000) (hkn : in32 kn) (hr : 0 ≤ r) (hr1 : r < w 2) (hR : ROWc E (imm ow) h.1 w r ra) :
    CALL E iX3_reads (d + 1302) 0 0 [.ref (x + 120), .ref ra] k (qVP fun k => HZ w (mReads w hs1 (-1) kn r) ∧ hHx E h (x + 120) t (mReads w hs1 (-1) kn r) k) := by
  obtain ⟨h1, e1, t1, o1, b1, rfl⟩ := hk
  exact c_readsX ((hP.2.1 kn).av (hP.1.av (by decide))) hw hh hZ (by omega) hkn hr hr1 (hR.av (hP.1.av (by decide)))
theorem c_pSlips (hP : PP E x mf ow h t w td fk fp) (hk : hHx E h (x + 120) t hs1 k) (hw : WFw w) (hh : HSok B hs1) (hr : 0 ≤ r) (hr1 : r < w 2) (hR : ROWc E (imm ow) h.1 w r ra) :
    CALL E iX3_slips (d + 1) 0 0 [.ref (x + 120), .ref ra, vI (-1)] k (qR (vI (mSlips w hs1 r)) k) := by
  obtain ⟨h1, e1, t1, o1, b1, rfl⟩ := hk
  have z := c_slipsX (d := d) (kl := -1) (kn := 0) (h1 := h1) (e1 := e1) (t1 := t1) (o1 := o1) (b1 := b1) (wo := -1) ((hP.2.1 0).av (hP.1.av (by decide))) hw hh hr hr1 (hR.av (hP.1.av (by decide))) (by decide)
  rw [woW_n] at z
  exact z
theorem c_pSupports (hP : PP E x mf ow h t w td fk fp) (hk : hHx E h (x + 120) t hs1 k) (hw : WFw w) (hh : HSok B hs1) (hr : 0 ≤ r) (hr1 : r < w 2) (hR : ROWc E (imm ow) h.1 w r ra) :
    CALL E iX3_supports (d + 1) 0 0 [.ref (x + 120), .ref ra] k (qR (vI (mLeft w hs1 r)) k) := by
  obtain ⟨h1, e1, t1, o1, b1, rfl⟩ := hk
  exact c_supportsX (kl := -1) (kn := 0) ((hP.2.1 0).av (hP.1.av (by decide))) hw hh hr hr1 (hR.av (hP.1.av (by decide)))
theorem c_needsOfX (hX : (XR E x mf ow h w hs si lo bk uW uH uB iL iS tp td fk fp my wd uN)) (hw : WFw w) (hh : HSok B hs) (hZ : HZ w hs) (hB0 : 0 ≤ B) (hB : B ≤ 800000000) (hkn : in32 kn) (hr : 0 ≤ r) (hr1 : r < w 2) (hv : 0 ≤ v ∧ v ≤ 1000) :
    CALL E iX0_needsOf (d + 1304) 0 0 [.ref x, vI r, vI v] h (qP fun o k => o = vI (mLearns w (mHours w (-1) kn v.toNat hs) (-1) kn r).1 ∧ (XR E x mf ow k w hs si lo bk uW uH uB iL iS tp td fk fp my wd uN)) := by
  obtain ⟨x1, x2, ⟨w3, bl, tq, pl, bp, hC, -⟩, ⟨t, s1, -⟩, -⟩ := id hX
  have hP := PP.of hX s1
  have hh2 := HSok.hours (kl := -1) (kn := kn) hw v.toNat B hs hh hB0
  show GO E iX0_needsOf _ _ _ 0 [some (.ref x), some (vI r), some (vI v)] [] _ _
  refine g_aload_n (q := 1) dX0_needsOf_0 rfl rfl ?_
  refine g_cvP (I' := iX0_onPaper) (mc := 0) (ms := 0) (rc := 0) (rs := 0) (ci := 0) (q := 4) dX0_needsOf_1 q1204 q1206 rfl qs34 gcX0_onPaper hC (GO.deep (c_onPaper (d := 0) hX s1) (by omega)) rfl rfl (fun v1 k1 z1 => ?_)
  obtain ⟨rfl, hk1⟩ := z1
  obtain ⟨bl1, hC1⟩ := hP.c hk1
  refine g_iload_n (q := 5) dX0_needsOf_4 rfl rfl ?_
  refine g_cvVP (I' := iX3_waits) (mc := 0) (ms := 0) (rc := 0) (rs := 0) (ci := 4) (q := 8) dX0_needsOf_5 q1150 q1151 rfl q1152 gcX3_waits (PP.p hk1) (GO.deep (c_pWait (d := 0) (kn := kn) hP hk1 hw hh hZ hB0 (by omega) hkn (by omega)) (by omega)) rfl rfl (fun k5 z5 => ?_)
  obtain ⟨hZ5, hk5⟩ := z5
  obtain ⟨bl5, hC5⟩ := hP.c hk5
  refine g_aload_n (q := 9) dX0_needsOf_8 rfl rfl ?_
  refine g_get (C := RX0) (T := TX0) (ci := 0) (k := 3) (q := 12) dX0_needsOf_9 q521 rfl in_X0 (by decide) hC5 rfl rfl ?_
  refine g_aload_n (q := 13) dX0_needsOf_12 rfl rfl ?_
  refine g_iload_n (q := 14) dX0_needsOf_13 rfl rfl ?_
  refine g_cvP (I' := iX0_rowAt) (mc := 0) (ms := 0) (rc := 0) (rs := 0) (ci := 0) (q := 17) dX0_needsOf_14 q992 q994 rfl qs28 gcX0_rowAt hC5 (GO.deep (c_pRow (d := 0) hX hP hk5 hr hr1) (by omega)) rfl rfl (fun v14 k14 z14 => ?_)
  obtain ⟨ra, rfl, hR, rfl⟩ := z14
  refine g_iconst (q := 18) dX0_needsOf_17 rfl ?_
  refine g_cvP (I' := iX3_learns) (mc := 0) (ms := 0) (rc := 0) (rs := 0) (ci := 4) (q := 21) dX0_needsOf_18 q1136 q1137 rfl q1138 gcX3_learns (PP.p hk5) (c_pLearnN hP hk5 hw hh2 hZ5 (by omega) hkn hr hr1 hR) rfl rfl (fun v18 k18 z18 => ?_)
  obtain ⟨rfl, hZ18, hk18⟩ := z18
  exact g_iret dX0_needsOf_21 rfl ⟨_, rfl, rfl, hX.paperx hk18⟩
theorem c_freshOfX (hX : (XR E x mf ow h w hs si lo bk uW uH uB iL iS tp td fk fp my wd uN)) (hw : WFw w) (hh : HSok B hs) (hB0 : 0 ≤ B) (hB : B ≤ 800000000) (hkn : in32 kn) (hr : 0 ≤ r) (hr1 : r < w 2) (hv : 0 ≤ v ∧ v ≤ 1000) :
    CALL E iX0_freshOf (d + 1304) 0 0 [.ref x, vI r, vI v] h (qP fun o k => o = vI (mLearns w (mZero (mHours w (-1) kn v.toNat hs)) (-1) kn r).1 ∧ (XR E x mf ow k w hs si lo bk uW uH uB iL iS tp td fk fp my wd uN)) := by
  obtain ⟨x1, x2, ⟨w3, bl, tq, pl, bp, hC, -⟩, ⟨t, s1, -⟩, -⟩ := id hX
  have hP := PP.of hX s1
  have hh2 := (HSok.hours (kl := -1) (kn := kn) hw v.toNat B hs hh hB0).zero (by omega)
  have hw1 := hw.1
  have e6 : mHours w (-1) kn v.toNat hs 2016 = hs 2016 + v := (mHours_2016 ⟨hw.1.1, hw.1.2⟩ _ _).trans (by omega)
  have fin : ∀ k : Int, 0 ≤ k → k < 2018 → mZero (mHours w (-1) kn v.toNat hs) k = upI (upI (zrI hs 2016) 2016 (hs 2016 + v)) 2017 0 k := by
    intro k q1 q2
    unfold mZero
    by_cases c1 : k = 2017
    · subst c1; rw [upI_at, upI_at]
    · rw [upI_ne c1, upI_ne c1]
      by_cases c2 : k = 2016
      · subst c2; rw [upI_at]; exact (if_neg (by omega)).trans e6
      · rw [upI_ne c2]; exact (if_pos (by omega)).trans (if_pos (by omega)).symm
  have hz2 : HZ w (mZero (mHours w (-1) kn v.toNat hs)) := HZ.zero fun k q1 q2 => by
    unfold mZero
    rw [upI_ne (by omega)]
    exact if_pos (by omega)
  have z6 : zrI hs 2016 2016 = hs 2016 := if_neg (by omega)
  show GO E iX0_freshOf _ _ _ 0 [some (.ref x), some (vI r), some (vI v)] [] _ _
  refine g_aload_n (q := 1) dX0_freshOf_0 rfl rfl ?_
  refine g_cvP (I' := iX0_onPaper) (mc := 0) (ms := 0) (rc := 0) (rs := 0) (ci := 0) (q := 4) dX0_freshOf_1 q1204 q1206 rfl qs34 gcX0_onPaper hC (GO.deep (c_onPaper (d := 0) hX s1) (by omega)) rfl rfl (fun v1 k1 z1 => ?_)
  obtain ⟨rfl, hk1⟩ := z1
  obtain ⟨bl1, hC1⟩ := hP.c hk1
  obtain ⟨h1, e1, t1, o1, b1, rfl⟩ := hk1
  refine g_cvV (I' := iX3_empties) (mc := 0) (ms := 0) (rc := 0) (rs := 0) (ci := 4) (q := 7) dX0_freshOf_4 q1221 q474 rfl q475 gcX3_empties hO (GO.deep (c_emptiesX (d := 0)) (by omega)) rfl rfl ?_
  refine g_aload_n (q := 8) dX0_freshOf_7 rfl rfl ?_
  refine g_get (C := RX0) (T := TX0) (ci := 0) (k := 3) (q := 11) dX0_freshOf_8 q521 rfl in_X0 (by decide) ((blk_out (by omega)).trans hC) rfl rfl ?_
  refine g_dup (q := 12) dX0_freshOf_11 rfl ?_
  refine g_getN (C := RX3) (T := TX3) (ci := 4) (k := 3) (q := 15) dX0_freshOf_12 q455 rfl in_X3 (by decide) hO rfl rfl ?_
  rw [z6]
  refine g_iload_n (q := 16) dX0_freshOf_15 rfl rfl ?_
  refine g_iadd (q := 17) dX0_freshOf_16 rfl ?_
  refine g_putN (C := RX3) (T := TX3) (ci := 4) (k := 3) (q := 20) dX0_freshOf_17 q455 rfl in_X3 tyX3_ok nmX3 (by decide) rfl gFit_int hO (Nat.le_of_ble_eq_true rfl) rfl ?_
  refine GO.cast (h' := hH E h (x + 120) (some t) (upI (zrI hs 2016) 2016 (hs 2016 + v)) (akO h1 e1 t1 o1 b1)) (hUo (hs' := upI (zrI hs 2016) 2016 (hs 2016 + v)) (tx' := some t) (fun k q1 q2 => upI_ne (by omega))) ?_
  refine g_aload_n (q := 21) dX0_freshOf_20 rfl rfl ?_
  refine g_get (C := RX0) (T := TX0) (ci := 0) (k := 3) (q := 24) dX0_freshOf_21 q521 rfl in_X0 (by decide) ((blk_out (by omega)).trans hC) rfl rfl ?_
  refine g_iconst (q := 25) dX0_freshOf_24 rfl ?_
  refine g_putN (C := RX3) (T := TX3) (ci := 4) (k := 4) (q := 28) dX0_freshOf_25 q457 rfl in_X3 tyX3_ok nmX3 (by decide) rfl gFit_int hO (Nat.le_of_ble_eq_true rfl) rfl ?_
  refine GO.cast (h' := hH E h (x + 120) (some t) (upI (upI (zrI hs 2016) 2016 (hs 2016 + v)) 2017 0) (akO h1 e1 t1 o1 b1)) (hUo (hs' := upI (upI (zrI hs 2016) 2016 (hs 2016 + v)) 2017 0) (tx' := some t) (fun k q1 q2 => upI_ne (by omega))) ?_
  rw [hH_ext fin]
  have hk5 : hHx E h (x + 120) t (mZero (mHours w (-1) kn v.toNat hs)) (hH E h (x + 120) (some t) (mZero (mHours w (-1) kn v.toNat hs)) (akO h1 e1 t1 o1 b1)) := ⟨_, _, _, _, _, rfl⟩
  refine g_aload_n (q := 29) dX0_freshOf_28 rfl rfl ?_
  refine g_get (C := RX0) (T := TX0) (ci := 0) (k := 3) (q := 32) dX0_freshOf_29 q521 rfl in_X0 (by decide) ((blk_out (by omega)).trans hC) rfl rfl ?_
  refine g_aload_n (q := 33) dX0_freshOf_32 rfl rfl ?_
  refine g_iload_n (q := 34) dX0_freshOf_33 rfl rfl ?_
  refine g_cvP (I' := iX0_rowAt) (mc := 0) (ms := 0) (rc := 0) (rs := 0) (ci := 0) (q := 37) dX0_freshOf_34 q992 q994 rfl qs28 gcX0_rowAt ((blk_out (by omega)).trans hC) (GO.deep (c_pRow (d := 0) hX hP hk5 hr hr1) (by omega)) rfl rfl (fun v34 k34 z34 => ?_)
  obtain ⟨ra, rfl, hR, rfl⟩ := z34
  refine g_iconst (q := 38) dX0_freshOf_37 rfl ?_
  refine g_cvP (I' := iX3_learns) (mc := 0) (ms := 0) (rc := 0) (rs := 0) (ci := 4) (q := 41) dX0_freshOf_38 q1136 q1137 rfl q1138 gcX3_learns hO (c_pLearnN hP hk5 hw hh2 hz2 (by omega) hkn hr hr1 hR) rfl rfl (fun v38 k38 z38 => ?_)
  obtain ⟨rfl, hZ18, hk18⟩ := z38
  exact g_iret dX0_freshOf_41 rfl ⟨_, rfl, rfl, hX.paperx hk18⟩
end
