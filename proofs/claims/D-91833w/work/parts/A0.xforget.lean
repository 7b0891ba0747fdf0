/-! THE COMPONENT: states emptied; rows added -/
set_option maxRecDepth 100000
section
variable {E : gE} {d rc rs x : Nat} {mf : Nat → va_E} {ow : OW} {h : gH} {w hs bk tp iL iS my wd : Int → Int} {uW uH uB uN : Int → Int → Int} {si lo td fk fp : Int}
variable {r v n B kn i s l c b a' e ah how : Int} {ra t p a q : Nat} {k h' : gH} {ow' : OW} {Q : Outcome → gH → Prop} {gr : Int → Int}
/-- a state is emptied -/
theorem c_emptiesS (hS : STT E ow h q a w hs si lo bk) (hh : HW h) :
    CALL E iX1_empties (d + 2) 0 0 [.ref a] h (qVP fun k => STT E ow k q a w (fun _ => 0) 0 0 bk ∧ HW k ∧ FR ow ow h k (fun i => ¬ (10 + 10 * q ≤ i ∧ i < 14 + 10 * q)) ∧ k.2 = h.2) := by
  obtain ⟨t, s1, s2, s3, ⟨bb, hL, hB⟩, s5⟩ := hS
  obtain ⟨ar, cap, mo, g, -, hl, -⟩ := id hL
  have cC := c_LClear (d := d + 1) hL hh
  show GO E iX1_empties _ _ _ 0 [some (.ref a)] [] _ _
  refine g_aload_n (q := 1) dX1_empties_0 rfl rfl ?_
  refine g_get (C := RX1) (T := TX1) (ci := 1) (k := 2) (q := 4) dX1_empties_1 q481 rfl in_X1 (by decide) s1.2.1 rfl rfl ?_
  refine g_cfVP (I' := iJ2_clear) (mc := 0) (ms := 0) (rc := 0) (rs := 0) (ci := 3) (q := 9) dX1_empties_4 q939 q941 q940 q945 q943 q712 (by decide) gcJ2_clear.2.1 q944 rfl q942 gcJ2_clear hl (cC) rfl rfl (fun k4 z4 => ?_)
  obtain ⟨hL2, hh2, hF2, hz2⟩ := z4
  obtain ⟨⟨a1, a2⟩, a3, gu, a4, a5⟩ := s1.fr hF2 (by omega)
  have s5' := s5.fr hF2 (by omega)
  refine g_aload_n (q := 10) dX1_empties_9 rfl rfl ?_
  refine g_iconst (q := 11) dX1_empties_10 rfl ?_
  refine g_put (C := RX1) (T := TX1) (ci := 1) (k := 5) (q := 14) dX1_empties_11 q487 rfl in_X1 tyX1_ok nmX1 (by decide) rfl gFit_1 a3 (Nat.le_of_ble_eq_true rfl) rfl ?_
  have hF3 : FR ow ow k4 (hset k4 a (stO a t w 0)) (fun i => i ≠ 10 + 10 * q) := FR.set a1
  have hh3 : HW (hset k4 a (stO a t w 0)) := hh2.set a3
  have s6 := s5'.fr hF3 (by omega)
  obtain ⟨h1, e1, t1, o1, b1, eh⟩ := s6.2.self
  have cD := c_clearsX (E := E) (d := d) (G := hset k4 a (stO a t w 0)) (p := a + 14) (t := t) (tx := some t) (hs := hs) (ak := akO h1 e1 t1 o1 b1)
  rw [← eh] at cD
  refine GO.cast (h' := hset k4 a (stO a t w 0)) rfl ?_
  refine g_aload_n (q := 15) dX1_empties_14 rfl rfl ?_
  refine g_get (C := RX1) (T := TX1) (ci := 1) (k := 4) (q := 18) dX1_empties_15 q485 rfl in_X1 (by decide) hset_at rfl rfl ?_
  refine g_aload_n (q := 19) dX1_empties_18 rfl rfl ?_
  refine g_get (C := RX1) (T := TX1) (ci := 1) (k := 0) (q := 22) dX1_empties_19 q477 rfl in_X1 (by decide) hset_at rfl rfl ?_
  refine g_cvV (I' := iX3_clears) (mc := 0) (ms := 0) (rc := 0) (rs := 0) (ci := 4) (q := 25) dX1_empties_22 q469 q470 rfl q471 gcX3_clears s6.2.ob (cD) rfl rfl ?_
  exact g_vret dX1_empties_25 rfl (by
have hF4 : FR ow ow (hset k4 a (stO a t w 0)) (hH E (hset k4 a (stO a t w 0)) (a + 14) (some t) (fun _ => 0) (akO h1 e1 t1 o1 b1)) (fun i => i ≠ 13 + 10 * q) := FR.bl s6.1
refine ⟨rfl, ⟨t, ?_, ((s2.fr hF2 (by omega)).fr hF3 (by omega)).fr hF4 (by omega), ((s3.fr hF2 (by omega) (by omega)).fr hF3 (by omega) (by omega)).fr hF4 (by omega) (by omega), ⟨bb, ((hL2 bb).fr hF3 (by omega)).fr hF4 (by omega), fun i q1 q2 => absurd q2 (by omega)⟩, s6.1, HD.of⟩, hh3.bl (s6.2.le hh3), ((hF2.sub (fun i q => by omega)).trans (hF3.sub (fun i q => by omega))).trans (hF4.sub (fun i q => by omega)), hz2⟩
exact S_O.fr ⟨⟨a1, a2⟩, hset_at, gu, (hset_ne (by omega)).trans a4, a5⟩ hF4 (by omega))
theorem l_forgetX (hX : (XR E x mf ow h w hs si lo bk uW uH uB iL iS tp td fk fp my wd uN)) (hh : HSok B hs) : ∀ (f : Nat) (s n : Int), 0 ≤ s → s + f = 4 →
    GO E iX0_forget (d + 4) 0 0 4 [some (.ref x), some (vI n), some (vI s)] [] h (qP fun o k => o = vI (fgtL hs f s n) ∧ (XR E x mf ow k w (fun _ => 0) 0 0 bk uW uH uB iL iS tp td fk fp my wd uN)) := by
  obtain ⟨x1, x2, ⟨w3, bl, tq, pl, bp, hC, -⟩, ⟨t, s1, s2, s3, s4, s5⟩, x5, x6, x7⟩ := id hX
  obtain ⟨-, -, -, hS, -⟩ := id hX
  obtain ⟨h1', e1, t1, o1, b1, eh⟩ := s5.2.self
  have z : ∀ s, 0 ≤ s ∧ s < 4 → CALL E iX3_linkMany (d + 3) 0 0 [.ref (x + 2 + 14), vI s] h (qR (vI (mLinks hs s)) h) := fun s hs0 => by
    have z := c_linkMany (E := E) (d := d + 3) (p := x + 2 + 14) (tx := some t) (G := h) (ak := akO h1' e1 t1 o1 b1) (s := s) hs0 hh
    rw [← eh] at z
    exact z
  intro f
  induction f with
  | zero =>
    intro s n h0 h1
    refine g_iload_n (q := 5) dX0_forget_4 rfl rfl ?_
    refine g_iconst (q := 6) dX0_forget_5 rfl ?_
    refine g_icmp_ge (t := 29) (q := 9) dX0_forget_6 (by decide) rfl (by first | assumption | exact in32_gB | exact in32_gCmp | (unfold in32; omega)) (by first | assumption | exact in32_gB | exact in32_gCmp | (unfold in32; omega)) (fun c6 => ?_) (fun c6 => ?_)
    · refine g_aload_n (q := 30) dX0_forget_29 rfl rfl ?_
      refine g_get (C := RX0) (T := TX0) (ci := 0) (k := 1) (q := 33) dX0_forget_30 q519 rfl in_X0 (by decide) hC rfl rfl ?_
      refine g_cvVP (I' := iX1_empties) (mc := 0) (ms := 0) (rc := 0) (rs := 0) (ci := 1) (q := 36) dX0_forget_33 q1195 q970 rfl q971 gcX1_empties s1.2.1 (GO.deep (c_emptiesS (d := 0) hS x1) (by omega)) rfl rfl (fun k33 z33 => ?_)
      obtain ⟨hS2, hh2, hF2, -⟩ := z33
      refine g_iload_n (q := 37) dX0_forget_36 rfl rfl ?_
      exact g_iret dX0_forget_37 rfl ⟨_, rfl, rfl, XR.now hX hh2 hF2 hS2⟩
    · exact absurd c6 (by omega)
  | succ f ih =>
    intro s n h0 h1
    refine g_iload_n (q := 5) dX0_forget_4 rfl rfl ?_
    refine g_iconst (q := 6) dX0_forget_5 rfl ?_
    refine g_icmp_ge (t := 29) (q := 9) dX0_forget_6 (by decide) rfl (by first | assumption | exact in32_gB | exact in32_gCmp | (unfold in32; omega)) (by first | assumption | exact in32_gB | exact in32_gCmp | (unfold in32; omega)) (fun c6 => ?_) (fun c6 => ?_)
    · exact absurd c6 (by omega)
    · refine g_iload_n (q := 10) dX0_forget_9 rfl rfl ?_
      refine g_aload_n (q := 11) dX0_forget_10 rfl rfl ?_
      refine g_get (C := RX0) (T := TX0) (ci := 0) (k := 1) (q := 14) dX0_forget_11 q519 rfl in_X0 (by decide) hC rfl rfl ?_
      refine g_getN (C := RX1) (T := TX1) (ci := 1) (k := 4) (q := 17) dX0_forget_14 q486 rfl in_X1 (by decide) s1.2.1 rfl rfl ?_
      refine g_iload_n (q := 18) dX0_forget_17 rfl rfl ?_
      refine g_cv (I' := iX3_linkMany) (mc := 0) (ms := 0) (rc := 0) (rs := 0) (ci := 4) (q := 21) dX0_forget_18 q1170 q1171 rfl q1172 gcX3_linkMany s5.2.ob (z s (by omega)) rfl rfl ?_
      refine g_iadd (q := 22) dX0_forget_21 rfl ?_
      refine g_istore_n (q := 23) dX0_forget_22 gs1 rfl ?_
      refine g_iinc (q := 26) dX0_forget_23 rfl gs2 rfl ?_
      refine g_goto (t := 4) dX0_forget_26 (by decide) ?_
      exact ih (s + 1) (n + mLinks hs s) (by omega) (by omega)
theorem c_forgetX (hX : (XR E x mf ow h w hs si lo bk uW uH uB iL iS tp td fk fp my wd uN)) (hh : HSok B hs) : CALL E iX0_forget (d + 4) 0 0 [.ref x] h (qP fun o k => o = vI (fgtL hs 4 0 0) ∧ (XR E x mf ow k w (fun _ => 0) 0 0 bk uW uH uB iL iS tp td fk fp my wd uN)) := by
  show GO E iX0_forget _ _ _ 0 [some (.ref x), none, none] [] _ _
  refine g_iconst (q := 1) dX0_forget_0 rfl ?_
  refine g_istore_n (q := 2) dX0_forget_1 gs1 rfl ?_
  refine g_iconst (q := 3) dX0_forget_2 rfl ?_
  refine g_istore_n (q := 4) dX0_forget_3 gs2 rfl ?_
  exact l_forgetX (d := d) hX hh 4 0 0 (by omega) (by omega)
theorem mkW_at (h : w 2 < 12) (h0 : 0 ≤ w 2) (hn : 0 ≤ n ∧ n ≤ 12) : mkW w n gr 2 = w 2 + 1 ∧ mkW w n gr (34 + 14 * w 2) = n ∧ (∀ j, 0 ≤ j → j < n → mkW w n gr (34 + 14 * w 2 + 1 + j) = gr j) ∧ mkW w n gr (34 + 14 * w 2 + 1 + 12) = 0 ∧ ∀ j, j ≠ 2 → (j < 34 + 14 * w 2 ∨ 34 + 14 * w 2 + 14 ≤ j) → mkW w n gr j = w j := by
  unfold mkW
  refine ⟨upI_at, ?_, fun j q1 q2 => ?_, ?_, fun j q1 q2 => ?_⟩
  · rw [upI_ne (by omega), cpyI_out (by omega), upI_at]
  · rw [upI_ne (by omega), cpyI_in (by omega) (by omega)]; congr 1; omega
  · rw [upI_ne (by omega)]
    by_cases c : n = 13
    · omega
    · rw [cpyI_out (by omega), upI_ne (by omega), cpyI_in (by omega) (by omega)]
  · rw [upI_ne q1, cpyI_out (by omega), upI_ne (by omega), cpyI_out (by omega)]
/-- one more row; md: what the reference kept aside -/
theorem c_addsX (hX : (XR E x mf ow h w hs si lo bk uW uH uB iL iS tp td fk fp my wd uN)) (hw : WFw w) (hw9 : 0 ≤ w 9 ∧ w 9 ≤ w 2) (hra : h.1 ra = some (aI E n.toNat gr)) (hr0 : ow ra = 0) (hn : 2 ≤ n ∧ n ≤ 12) {md : Int → Int} (hmd : ∀ j, 0 ≤ j → j < n → md j = gr j) :
    CALL E iX0_adds (d + 7) 1 200 [.ref x, .ref ra] h (qP fun o k => o = vI (if w 2 = 12 then -3 else w 2) ∧ ∃ ow', (XR E x mf ow' k (if w 2 = 12 then w else mkW w n md) hs si lo bk uW uH uB iL iS tp td fk fp my wd uN)) := by
  obtain ⟨x1, x2, x3, ⟨t, s1, s2, ⟨rr, hL, hR⟩, s4, s5⟩, x5, x6, x7⟩ := id hX
  obtain ⟨w3, bl, tq, pl, bp, hC, -⟩ := id x3
  obtain ⟨ar, cap, mo, g, -, hl, -⟩ := id hL
  obtain ⟨⟨a1, a2⟩, a3, gu, a4, a5⟩ := id s1
  have hw2 := hw.2.1
  by_cases c12 : w 2 = 12
  · rw [if_pos c12, if_pos c12]
    show GO E iX0_adds _ _ _ 0 [some (.ref x), some (.ref ra)] [] _ _
    refine g_aload_n (q := 1) dX0_adds_0 rfl rfl ?_
    refine g_get (C := RX0) (T := TX0) (ci := 0) (k := 1) (q := 4) dX0_adds_1 q519 rfl in_X0 (by decide) hC rfl rfl ?_
    refine g_getN (C := RX1) (T := TX1) (ci := 1) (k := 1) (q := 7) dX0_adds_4 q480 rfl in_X1 (by decide) a3 rfl rfl ?_
    refine g_cf (I' := iJ2_size) (mc := 0) (ms := 0) (rc := 1) (rs := 200) (ci := 3) (q := 12) dX0_adds_7 q974 q711 q710 q716 q714 q712 (by decide) gcJ2_size.2.1 q715 rfl q713 gcJ2_size hl (c_lsize hl) rfl rfl ?_
    refine g_bipush (q := 14) dX0_adds_12 rfl ?_
    refine g_icmp_ne (t := 20) (q := 17) dX0_adds_14 (by decide) rfl (by first | assumption | exact in32_gB | exact in32_gCmp | (unfold in32; omega)) (by first | assumption | exact in32_gB | exact in32_gCmp | (unfold in32; omega)) (fun c14 => ?_) (fun c14 => ?_)
    · exact absurd c12 c14
    · refine g_bipush (q := 19) dX0_adds_17 rfl ?_
      exact g_iret dX0_adds_19 rfl ⟨_, rfl, rfl, ow, hX⟩
  · rw [if_neg c12, if_neg c12]
    obtain ⟨m1, m2, m3, m4, m5⟩ := mkW_at (w := w) (n := n) (gr := md) (by omega) (by omega) (by omega)
    have hT1 : FR ow ow h (hset h (x + 2) (stO (x + 2) t (mkW w n md) lo)) (fun i => i ≠ 10) := FR.set a1
    have hag : AGT (mkW w n md) w := ⟨⟨m5 _ (by omega) (by omega), m5 _ (by omega) (by omega), m5 _ (by omega) (by omega)⟩, fun x q1 q2 => m5 _ (by omega) (by omega), fun x q1 q2 => m5 _ (by omega) (by omega), fun x q1 => m5 _ (by omega) (by omega)⟩
    have e9 : mkW w n md 9 = w 9 := m5 _ (by omega) (by omega)
    have es : stO (x + 2) t (mkW w n md) lo = oB 1 [.ref t, .ref (x + 2 + 9), .ref (x + 2 + 11), .ref (x + 2 + 13), .ref (x + 2 + 14), vI (gB (lo = 0)), vI 1] := by unfold stO; rw [gB_t (show ¬ mkW w n md 2 = mkW w n md 9 by rw [m1, e9]; omega)]
    have hL1 := hL.fr hT1 (by decide)
    have cA := c_LAdd (d := d) (v := ra) hL1 (x1.set a3) (by decide) (Or.inl ⟨_, _, (hT1.at hr0 (by decide) hra).2⟩) hr0 (fun i q1 q2 => ((hR i q1 q2).fr hT1 (by decide)).elt) (by omega)
    show GO E iX0_adds _ _ _ 0 [some (.ref x), some (.ref ra)] [] _ _
    refine g_aload_n (q := 1) dX0_adds_0 rfl rfl ?_
    refine g_get (C := RX0) (T := TX0) (ci := 0) (k := 1) (q := 4) dX0_adds_1 q519 rfl in_X0 (by decide) hC rfl rfl ?_
    refine g_getN (C := RX1) (T := TX1) (ci := 1) (k := 1) (q := 7) dX0_adds_4 q480 rfl in_X1 (by decide) a3 rfl rfl ?_
    refine g_cf (I' := iJ2_size) (mc := 0) (ms := 0) (rc := 1) (rs := 200) (ci := 3) (q := 12) dX0_adds_7 q974 q711 q710 q716 q714 q712 (by decide) gcJ2_size.2.1 q715 rfl q713 gcJ2_size hl (c_lsize hl) rfl rfl ?_
    refine g_bipush (q := 14) dX0_adds_12 rfl ?_
    refine g_icmp_ne (t := 20) (q := 17) dX0_adds_14 (by decide) rfl (by first | assumption | exact in32_gB | exact in32_gCmp | (unfold in32; omega)) (by first | assumption | exact in32_gB | exact in32_gCmp | (unfold in32; omega)) (fun c14 => ?_) (fun c14 => ?_)
    · refine g_aload_n (q := 21) dX0_adds_20 rfl rfl ?_
      refine g_get (C := RX0) (T := TX0) (ci := 0) (k := 1) (q := 24) dX0_adds_21 q519 rfl in_X0 (by decide) hC rfl rfl ?_
      refine g_iconst (q := 25) dX0_adds_24 rfl ?_
      refine g_putN (C := RX1) (T := TX1) (ci := 1) (k := 6) (q := 28) dX0_adds_25 q490 rfl in_X1 tyX1_ok nmX1 (by decide) rfl gFit_1 a3 (Nat.le_of_ble_eq_true rfl) rfl ?_
      refine GO.cast (h' := hset h (x + 2) (stO (x + 2) t (mkW w n md) lo)) (by rw [es]; rfl) ?_
      refine g_aload_n (q := 29) dX0_adds_28 rfl rfl ?_
      refine g_get (C := RX0) (T := TX0) (ci := 0) (k := 1) (q := 32) dX0_adds_29 q519 rfl in_X0 (by decide) ((hset_ne (by omega)).trans hC) rfl rfl ?_
      refine g_getN (C := RX1) (T := TX1) (ci := 1) (k := 1) (q := 35) dX0_adds_32 q480 rfl in_X1 (by decide) hset_at rfl rfl ?_
      refine g_aload_n (q := 36) dX0_adds_35 rfl rfl ?_
      refine g_cfP (I' := iJ2_add) (mc := 1) (ms := 200) (rc := 0) (rs := 0) (ci := 3) (q := 41) dX0_adds_36 q1131 q859 q858 q863 q861 q712 (by decide) gcJ2_add.2.1 q862 rfl q860 gcJ2_add ((hset_ne (by omega)).trans hl) (cA) rfl rfl (fun v36 k36 z36 => ?_)
      obtain ⟨rfl, ow2, hL2, hh2, hF2, -⟩ := z36
      obtain ⟨b1, b2⟩ := hF2.at (o := 10) a1 (by decide) hset_at
      obtain ⟨ar2, cap2, mo2, g2, -, hl2, -⟩ := id hL2
      have x3' := (x3.fr hT1 (by decide)).fr hF2 (by decide)
      obtain ⟨-, bl3, -, -, -, hC3, -⟩ := id x3'
      refine g_pop (q := 42) dX0_adds_41 rfl ?_
      refine g_aload_n (q := 43) dX0_adds_42 rfl rfl ?_
      refine g_get (C := RX0) (T := TX0) (ci := 0) (k := 1) (q := 46) dX0_adds_43 q519 rfl in_X0 (by decide) hC3 rfl rfl ?_
      refine g_getN (C := RX1) (T := TX1) (ci := 1) (k := 1) (q := 49) dX0_adds_46 q480 rfl in_X1 (by decide) b2 rfl rfl ?_
      refine g_cf (I' := iJ2_size) (mc := 0) (ms := 0) (rc := 0) (rs := 0) (ci := 3) (q := 54) dX0_adds_49 q974 q711 q710 q716 q714 q712 (by decide) gcJ2_size.2.1 q715 rfl q713 gcJ2_size hl2 (c_lsize hl2) rfl rfl ?_
      refine g_iconst (q := 55) dX0_adds_54 rfl ?_
      refine g_isub (q := 56) dX0_adds_55 rfl ?_
      exact g_iret dX0_adds_56 rfl (by
refine ⟨_, rfl, congrArg vI (by omega), ow2, XR.now hX hh2 ((hT1.sub (fun i q => by omega)).trans (hF2.sub (fun i q => by omega))) ⟨t, ?_, fun kn => (((s2 kn).fr hT1 (by decide)).fr hF2 (by decide)).w hag hw, ⟨upI rr (w 2) ra, by rw [m1]; exact hL2, fun i q1 q2 => ?_⟩, (s4.fr hT1 (by decide) (by decide)).fr hF2 (by decide) (by decide), (s5.fr hT1 (by decide)).fr hF2 (by decide)⟩⟩
· obtain ⟨b3, b4⟩ := hF2.at (o := 10) a2 (by decide) ((hset_ne (by omega)).trans a4)
  refine ⟨⟨b1, b3⟩, b2, gu, b4, fun i q1 q2 => ?_⟩
  rw [a5 i q1 q2, m1]
  by_cases z : i = w 2
  · subst z; rw [if_neg (by omega), if_pos (by omega), m4]
  · by_cases z2 : i < w 2
    · rw [if_pos z2, if_pos (by omega), m5 _ (by omega) (by omega)]
    · rw [if_neg z2, if_neg (by omega)]
· rw [m1] at q2
  by_cases z : i = w 2
  · subst z
    rw [upI_at]
    obtain ⟨b5, b6⟩ := hT1.at hr0 (by decide) hra
    obtain ⟨b7, b8⟩ := hF2.at b5 (by decide) b6
    refine ⟨imm_n b7, gr, by rw [m2]; exact b8, fun j j1 j2 => ?_⟩
    rw [m2] at j2
    rw [m3 j j1 j2]; exact (hmd j j1 j2).symm
  · rw [upI_ne z]
    exact (((hR i q1 (by omega)).fr hT1 (by decide)).fr hF2 (by decide)).w (fun j j1 j2 => m5 _ (by omega) (by omega)) (hw.row q1 (by omega)).2)
    · exact absurd c14 c12
end
