/-! THE COMPONENT: laws, hours, the book, the tape -/
set_option maxRecDepth 100000
section
variable {E : gE} {d p t : Nat} {G : gH} {hs w : Int → Int} {kl kn v s has th B : Int} {ak : va_E}
/-- a mixture of another sort: there is none -/
theorem c_lawX2 (hT : TXT E (avH p) G.1 w kl kn t) (hw : WFw w) (hh : HSok B hs) (hB : B ≤ 1000000000) (hs0 : 1 ≤ s ∧ s ≤ 3) :
    CALL E iX3_law d 0 0 [.ref p, vI 2, vI s, vI has, vI th] (hH E G p (some t) hs ak) (qR (vL 0) (hH E G p (some t) hs ak)) := by
  obtain ⟨te, tl, tw, tz, tw2, lw, ge, gl, hd, ⟨n1, n2, n3, n4, n5⟩, ct, ⟨cte, hge⟩, ctl, ctw, ctw2, hl, hij⟩ := hT
  have ot : ∀ (b : Nat) (ak : va_E), ¬ avH p b → (hH E G p (some t) hs ak).1 b = G.1 b := fun b ak hb => blk_out (by unfold avH at hb; omega)
  have hL := hl 2 s (by decide) (by decide) (by omega) (by omega)
  have e : lw 2 s = none := by
    cases e : lw 2 s with
    | none => rfl
    | some x =>
      rw [e] at hL
      obtain ⟨n, f, hn, hS, hc⟩ := hL
      have := (hc hs B 0 0 hh hB (by decide) (by decide)).1 rfl
      omega
  show GO E iX3_law _ _ _ 0 [some (.ref p), some (vI 2), some (vI s), some (vI has), some (vI th), none] [] _ _
  refine g_aload_n (q := 1) dX3_law_0 rfl rfl ?_
  refine g_get (C := RX3) (T := TX3) (ci := 4) (k := 2) (q := 4) dX3_law_1 q453 rfl in_X3 (by decide) hO rfl rfl ?_
  refine g_getN (C := RX2) (T := TX2) (ci := 2) (k := 2) (q := 7) dX3_law_4 q354 rfl in_X2 (by decide) ((ot _ _ n1).trans ct) rfl rfl ?_
  refine g_iload_n (q := 8) dX3_law_7 rfl rfl ?_
  refine g_aald (t0 := 9) (q := 9) dX3_law_8 ((ot _ _ n4).trans ctw) rfl rfl (by omega) (by omega) rfl ?_
  refine g_iload_n (q := 10) dX3_law_9 rfl rfl ?_
  refine g_aald (t0 := 8) (q := 11) dX3_law_10 ((ot _ _ (n5 2 (by decide) (by decide))).trans (ctw2 2 (by decide) (by decide))) rfl rfl (by omega) (by omega) rfl ?_
  rw [e]
  refine g_astore (q := 13) dX3_law_11 gs5 rfl ?_
  refine g_aload (q := 15) dX3_law_13 rfl rfl ?_
  refine g_ifnonnullN (q := 18) dX3_law_15 rfl ?_
  refine g_lconst0 (q := 19) dX3_law_18 rfl ?_
  exact g_lret dX3_law_19 rfl ⟨rfl, rfl⟩
end
section
variable {E : gE} {d rc rs x : Nat} {mf : Nat → va_E} {ow : OW} {h : gH} {w hs bk tp iL iS my wd : Int → Int} {uW uH uB uN : Int → Int → Int} {si lo td fk fp : Int}
variable {r r2 v n B kn wo i s l c b a th has : Int} {ra t p : Nat} {hs1 : Int → Int} {k : gH}
theorem c_lawN (hX : (XR E x mf ow h w hs si lo bk uW uH uB iL iS tp td fk fp my wd uN)) (hw : WFw w) (hh : HSok B hs) (hB : B ≤ 1000000000) (hv : 0 ≤ v ∧ v ≤ 2) (hs0 : 0 ≤ s ∧ s ≤ 3) (hha : 0 ≤ has ∧ has ≤ 1000) (hth : 0 ≤ th ∧ th < 24) :
    CALL E iX3_law (d + 1300) 0 0 [.ref (x + 2 + 14), vI v, vI s, vI has, vI th] h (qP fun o k => o = vL (if v = 2 ∧ 0 < s then 0 else comes w hs (-1) kn (if v = 2 then 8 else 4 * v + s) has (w (10 + th))) ∧ (XR E x mf ow k w hs si lo bk uW uH uB iL iS tp td fk fp my wd uN)) := by
  obtain ⟨x1, x2, x3, ⟨t, s1, s2, s3, s4, s5⟩, x5, x6, x7⟩ := id hX
  obtain ⟨h1, e1, t1, o1, b1, eh⟩ := s5.2.self
  by_cases cc : v = 2 ∧ 0 < s
  · rw [if_pos cc]
    obtain ⟨rfl, c2⟩ := cc
    have z := c_lawX2 (E := E) (d := d + 1300) (p := x + 2 + 14) (G := h) (has := has) (th := th) (s := s) (ak := akO h1 e1 t1 o1 b1) ((s2 kn).av (s5.1.av (by decide))) hw hh hB (by omega)
    rw [← eh] at z
    exact GO.mono z fun o k hq => ⟨_, hq.1, rfl, by rw [hq.2]; exact hX⟩
  · rw [if_neg cc]
    have z := c_lawX (d := d) (h1 := h1) (e1 := e1) (t1 := t1) (o1 := o1) (b1 := b1) ((s2 kn).av (s5.1.av (by decide))) hw hh hB hv hs0 (by omega) hha hth
    rw [← eh] at z
    refine GO.mono z fun o k hq => ?_
    obtain ⟨v', e, e', hk⟩ := hq
    refine ⟨v', e, e'.trans ?_, hX.head s1 hk⟩
    unfold lawN
    rfl
theorem c_lawPX (hX : (XR E x mf ow h w hs si lo bk uW uH uB iL iS tp td fk fp my wd uN)) (hw : WFw w) (hh : HSok B hs) (hB : B ≤ 1000000000) (h1 : in32 v) (h2 : in32 s) (h3 : in32 has) (h4 : in32 th) :
    CALL E iX0_law (d + 1301) 0 0 [.ref x, vI v, vI s, vI has, vI th] h (qP fun o k => o = vL (if (0 ≤ v ∧ v ≤ 2) ∧ (0 ≤ s ∧ s ≤ 3) ∧ (0 ≤ has ∧ has ≤ 1000) ∧ (0 ≤ th ∧ th ≤ w 1 - 1) then (if v = 2 ∧ 0 < s then 0 else comes w hs (-1) kn (if v = 2 then 8 else 4 * v + s) has (w (10 + th))) else -2000000000) ∧ (XR E x mf ow k w hs si lo bk uW uH uB iL iS tp td fk fp my wd uN)) := by
  obtain ⟨x1, x2, ⟨w3, bl, tq, pl, bp, hC, -⟩, ⟨t, s1, s2, s3, s4, s5⟩, x5, x6, x7⟩ := id hX
  have q1 := h1.1
  have q2 := h1.2
  have q3 := h3.1
  have q4 := h3.2
  have hw1 := hw.1
  show GO E iX0_law _ _ _ 0 [some (.ref x), some (vI v), some (vI s), some (vI has), some (vI th)] [] _ _
  refine g_iload_n (q := 1) dX0_law_0 rfl rfl ?_
  refine g_i2l (q := 2) dX0_law_1 (by first | assumption | exact in32_gB | exact in32_gCmp | (unfold in32; omega)) rfl ?_
  refine g_lconst0 (q := 3) dX0_law_2 rfl ?_
  refine g_ldc2 (a := 2) (q := 6) dX0_law_3 q1187 (by decide) rfl ?_
  refine g_cs (I' := iX0_in) (mc := 0) (ms := 0) (rc := 0) (rs := 0) (q := 9) dX0_law_6 q130 q131 gcX0_in (c_inX (by unfold in64; omega) (by unfold in64; omega) (by unfold in64; omega)) rfl rfl ?_
  refine g_ifeqB (t := 40) (q := 12) dX0_law_9 (by decide) rfl (fun c9 => ?_) (fun c9 => ?_)
  · refine g_ldc2 (a := -2000000000) (q := 43) dX0_law_40 q1189 (by decide) rfl ?_
    exact g_lret dX0_law_43 rfl (by first | exact ⟨_, rfl, congrArg vL (if_neg (fun q => c37 q.2.2.2)).symm, hX⟩ | exact ⟨_, rfl, congrArg vL (if_neg (fun q => c28 q.2.2.1)).symm, hX⟩ | exact ⟨_, rfl, congrArg vL (if_neg (fun q => c16 q.2.1)).symm, hX⟩ | exact ⟨_, rfl, congrArg vL (if_neg (fun q => c9 q.1)).symm, hX⟩)
  · refine g_iload_n (q := 13) dX0_law_12 rfl rfl ?_
    refine g_cs (I' := iX0_isSort) (mc := 0) (ms := 0) (rc := 0) (rs := 0) (q := 16) dX0_law_13 q1158 q1159 gcX0_isSort (GO.deep (c_isSortX (d := 0) h2) (by omega)) rfl rfl ?_
    refine g_ifeqB (t := 40) (q := 19) dX0_law_16 (by decide) rfl (fun c16 => ?_) (fun c16 => ?_)
    · refine g_ldc2 (a := -2000000000) (q := 43) dX0_law_40 q1189 (by decide) rfl ?_
      exact g_lret dX0_law_43 rfl (by first | exact ⟨_, rfl, congrArg vL (if_neg (fun q => c37 q.2.2.2)).symm, hX⟩ | exact ⟨_, rfl, congrArg vL (if_neg (fun q => c28 q.2.2.1)).symm, hX⟩ | exact ⟨_, rfl, congrArg vL (if_neg (fun q => c16 q.2.1)).symm, hX⟩ | exact ⟨_, rfl, congrArg vL (if_neg (fun q => c9 q.1)).symm, hX⟩)
    · refine g_iload_n (q := 20) dX0_law_19 rfl rfl ?_
      refine g_i2l (q := 21) dX0_law_20 (by first | assumption | exact in32_gB | exact in32_gCmp | (unfold in32; omega)) rfl ?_
      refine g_lconst0 (q := 22) dX0_law_21 rfl ?_
      refine g_ldc2 (a := 1000) (q := 25) dX0_law_22 q1188 (by decide) rfl ?_
      refine g_cs (I' := iX0_in) (mc := 0) (ms := 0) (rc := 0) (rs := 0) (q := 28) dX0_law_25 q130 q131 gcX0_in (c_inX (by unfold in64; omega) (by unfold in64; omega) (by unfold in64; omega)) rfl rfl ?_
      refine g_ifeqB (t := 40) (q := 31) dX0_law_28 (by decide) rfl (fun c28 => ?_) (fun c28 => ?_)
      · refine g_ldc2 (a := -2000000000) (q := 43) dX0_law_40 q1189 (by decide) rfl ?_
        exact g_lret dX0_law_43 rfl (by first | exact ⟨_, rfl, congrArg vL (if_neg (fun q => c37 q.2.2.2)).symm, hX⟩ | exact ⟨_, rfl, congrArg vL (if_neg (fun q => c28 q.2.2.1)).symm, hX⟩ | exact ⟨_, rfl, congrArg vL (if_neg (fun q => c16 q.2.1)).symm, hX⟩ | exact ⟨_, rfl, congrArg vL (if_neg (fun q => c9 q.1)).symm, hX⟩)
      · refine g_aload_n (q := 32) dX0_law_31 rfl rfl ?_
        refine g_iload (q := 34) dX0_law_32 rfl rfl ?_
        refine g_cv (I' := iX0_isThing) (mc := 0) (ms := 0) (rc := 0) (rs := 0) (ci := 0) (q := 37) dX0_law_34 q1161 q1163 rfl qs32 gcX0_isThing hC (GO.deep (c_isThingX (d := 0) hX h4 ⟨hw.1.1, hw.1.2⟩) (by omega)) rfl rfl ?_
        refine g_ifneB (t := 44) (q := 40) dX0_law_37 (by decide) rfl (fun c37 => ?_) (fun c37 => ?_)
        · refine g_aload_n (q := 45) dX0_law_44 rfl rfl ?_
          refine g_get (C := RX0) (T := TX0) (ci := 0) (k := 1) (q := 48) dX0_law_45 q519 rfl in_X0 (by decide) hC rfl rfl ?_
          refine g_getN (C := RX1) (T := TX1) (ci := 1) (k := 4) (q := 51) dX0_law_48 q486 rfl in_X1 (by decide) s1.2.1 rfl rfl ?_
          refine g_iload_n (q := 52) dX0_law_51 rfl rfl ?_
          refine g_iload_n (q := 53) dX0_law_52 rfl rfl ?_
          refine g_iload_n (q := 54) dX0_law_53 rfl rfl ?_
          refine g_iload (q := 56) dX0_law_54 rfl rfl ?_
          refine g_cvP (I' := iX3_law) (mc := 0) (ms := 0) (rc := 0) (rs := 0) (ci := 4) (q := 59) dX0_law_56 q1190 q1025 rfl q1026 gcX3_law s5.2.ob (c_lawN (kn := kn) hX hw hh hB c9 c16 c28 (by omega)) rfl rfl (fun v56 k56 z56 => ?_)
          obtain ⟨rfl, hX56⟩ := z56
          exact g_lret dX0_law_59 rfl ⟨_, rfl, congrArg vL (if_pos ⟨c9, c16, c28, c37⟩).symm, hX56⟩
        · refine g_ldc2 (a := -2000000000) (q := 43) dX0_law_40 q1189 (by decide) rfl ?_
          exact g_lret dX0_law_43 rfl (by first | exact ⟨_, rfl, congrArg vL (if_neg (fun q => c37 q.2.2.2)).symm, hX⟩ | exact ⟨_, rfl, congrArg vL (if_neg (fun q => c28 q.2.2.1)).symm, hX⟩ | exact ⟨_, rfl, congrArg vL (if_neg (fun q => c16 q.2.1)).symm, hX⟩ | exact ⟨_, rfl, congrArg vL (if_neg (fun q => c9 q.1)).symm, hX⟩)
/-- the head's own: hours, readings, learning -/
theorem c_nWait (hX : (XR E x mf ow h w hs si lo bk uW uH uB iL iS tp td fk fp my wd uN)) (hw : WFw w) (hh : HSok B hs) (hZ : HZ w hs) (hB0 : 0 ≤ B) (hB : B ≤ 900000000) (hkn : in32 kn) (hv : -2000000000 ≤ v ∧ v ≤ 1000000) :
    CALL E iX3_waits (d + 1302) 0 0 [.ref (x + 2 + 14), vI v] h (qVP fun k => HZ w (mHours w (-1) kn v.toNat hs) ∧ (XR E x mf ow k w (mHours w (-1) kn v.toNat hs) si lo bk uW uH uB iL iS tp td fk fp my wd uN)) := by
  obtain ⟨x1, x2, x3, ⟨t, s1, s2, s3, s4, s5⟩, x5, x6, x7⟩ := id hX
  obtain ⟨h1, e1, t1, o1, b1, eh⟩ := s5.2.self
  have z := c_waitsX (d := d) (h1 := h1) (e1 := e1) (t1 := t1) (o1 := o1) (b1 := b1) ((s2 kn).av (s5.1.av (by decide))) hw hB0 hB hkn hv hh hZ
  rw [← eh] at z
  refine GO.mono z fun o k hq => ⟨hq.1, hq.2.1, ?_⟩
  have hk := hq.2.2
  exact hX.head s1 hk
theorem c_nRead (hX : (XR E x mf ow h w hs si lo bk uW uH uB iL iS tp td fk fp my wd uN)) (hw : WFw w) (hh : HSok B hs) (hZ : HZ w hs) (hB : B ≤ 900000000) (hkn : in32 kn) (hr : 0 ≤ r) (hr1 : r < w 2) (hR : ROWc E (imm ow) h.1 w r ra) :
    CALL E iX3_reads (d + 1302) 0 0 [.ref (x + 2 + 14), .ref ra] h (qVP fun k => HZ w (mReads w hs (-1) kn r) ∧ (XR E x mf ow k w (mReads w hs (-1) kn r) si lo bk uW uH uB iL iS tp td fk fp my wd uN)) := by
  obtain ⟨x1, x2, x3, ⟨t, s1, s2, s3, s4, s5⟩, x5, x6, x7⟩ := id hX
  obtain ⟨h1, e1, t1, o1, b1, eh⟩ := s5.2.self
  have z := c_readsX (d := d) (h1 := h1) (e1 := e1) (t1 := t1) (o1 := o1) (b1 := b1) ((s2 kn).av (s5.1.av (by decide))) hw hh hZ (by omega) hkn hr hr1 (hR.av (s5.1.av (by decide)))
  rw [← eh] at z
  refine GO.mono z fun o k hq => ⟨hq.1, hq.2.1, ?_⟩
  have hk := hq.2.2
  exact hX.head s1 hk
theorem c_nLearn (hX : (XR E x mf ow h w hs si lo bk uW uH uB iL iS tp td fk fp my wd uN)) (hw : WFw w) (hh : HSok B hs) (hZ : HZ w hs) (hB : B ≤ 900000000) (hkn : in32 kn) (hr : 0 ≤ r) (hr1 : r < w 2) (hR : ROWc E (imm ow) h.1 w r ra) :
    CALL E iX3_learns (d + 1303) 0 0 [.ref (x + 2 + 14), .ref ra, vI (-1)] h (qP fun v k => v = vI (mLearns w hs (-1) kn r).1 ∧ HZ w (mLearns w hs (-1) kn r).2 ∧ (XR E x mf ow k w ((mLearns w hs (-1) kn r).2) si lo bk uW uH uB iL iS tp td fk fp my wd uN)) := by
  obtain ⟨x1, x2, x3, ⟨t, s1, s2, s3, s4, s5⟩, x5, x6, x7⟩ := id hX
  obtain ⟨h1, e1, t1, o1, b1, eh⟩ := s5.2.self
  have z := c_learnsX (d := d) (h1 := h1) (e1 := e1) (t1 := t1) (o1 := o1) (b1 := b1) (wo := -1) ((s2 kn).av (s5.1.av (by decide))) hw hh hZ hB hkn hr hr1 (hR.av (s5.1.av (by decide))) (by decide)
  rw [← eh, woW_n] at z
  refine GO.mono z fun o k hq => ?_
  obtain ⟨v', e, e', hz, hk⟩ := hq
  exact ⟨v', e, e', hz, hX.head s1 hk⟩
theorem c_waitsPX (hX : (XR E x mf ow h w hs si lo bk uW uH uB iL iS tp td fk fp my wd uN)) (hw : WFw w) (hh : HSok B hs) (hZ : HZ w hs) (hB0 : 0 ≤ B) (hB : B ≤ 900000000) (hkn : in32 kn) (hv : 0 ≤ v ∧ v ≤ 200) :
    CALL E iX0_waits (d + 1303) 0 0 [.ref x, vI v] h (qP fun o k => o = vI (mHours w (-1) kn v.toNat hs 2016) ∧ HZ w (mHours w (-1) kn v.toNat hs) ∧ (XR E x mf ow k w (mHours w (-1) kn v.toNat hs) si lo bk uW uH uB iL iS tp td fk fp my wd uN)) := by
  obtain ⟨x1, x2, ⟨w3, bl, tq, pl, bp, hC, -⟩, ⟨t, s1, s2, s3, s4, s5⟩, x5, x6, x7⟩ := id hX
  show GO E iX0_waits _ _ _ 0 [some (.ref x), some (vI v)] [] _ _
  refine g_iload_n (q := 1) dX0_waits_0 rfl rfl ?_
  refine g_cs (I' := iX0_areHours) (mc := 0) (ms := 0) (rc := 0) (rs := 0) (q := 4) dX0_waits_1 q1146 q1147 gcX0_areHours (GO.deep (c_areHours (d := 0) (by unfold in32; omega)) (by omega)) rfl rfl ?_
  refine g_ifneB (t := 10) (q := 7) dX0_waits_4 (by decide) rfl (fun c4 => ?_) (fun c4 => ?_)
  · refine g_aload_n (q := 11) dX0_waits_10 rfl rfl ?_
    refine g_get (C := RX0) (T := TX0) (ci := 0) (k := 1) (q := 14) dX0_waits_11 q519 rfl in_X0 (by decide) hC rfl rfl ?_
    refine g_getN (C := RX1) (T := TX1) (ci := 1) (k := 4) (q := 17) dX0_waits_14 q486 rfl in_X1 (by decide) s1.2.1 rfl rfl ?_
    refine g_iload_n (q := 18) dX0_waits_17 rfl rfl ?_
    refine g_cvVP (I' := iX3_waits) (mc := 0) (ms := 0) (rc := 0) (rs := 0) (ci := 4) (q := 21) dX0_waits_18 q1150 q1151 rfl q1152 gcX3_waits s5.2.ob (c_nWait (kn := kn) hX hw hh hZ hB0 hB hkn (by omega)) rfl rfl (fun k18 z18 => ?_)
    obtain ⟨hZ18, hX18⟩ := z18
    obtain ⟨-, -, ⟨-, bl8, -, -, -, hC8, -⟩, ⟨t8, s18, -, -, -, s58⟩, -⟩ := id hX18
    refine g_aload_n (q := 22) dX0_waits_21 rfl rfl ?_
    refine g_get (C := RX0) (T := TX0) (ci := 0) (k := 1) (q := 25) dX0_waits_22 q519 rfl in_X0 (by decide) hC8 rfl rfl ?_
    refine g_getN (C := RX1) (T := TX1) (ci := 1) (k := 4) (q := 28) dX0_waits_25 q486 rfl in_X1 (by decide) s18.2.1 rfl rfl ?_
    refine g_getN (C := RX3) (T := TX3) (ci := 4) (k := 3) (q := 31) dX0_waits_28 q455 rfl in_X3 (by decide) s58.2.ob rfl rfl ?_
    exact g_iret dX0_waits_31 rfl ⟨_, rfl, rfl, hZ18, hX18⟩
  · exact absurd hv c4
theorem c_waitsBad (hX : (XR E x mf ow h w hs si lo bk uW uH uB iL iS tp td fk fp my wd uN)) (hr : in32 v) (hx : ¬ (0 ≤ v ∧ v ≤ 200)) : CALL E iX0_waits (d + 2) 0 0 [.ref x, vI v] h (qP fun o k => o = vI (-2) ∧ (XR E x mf ow k w hs si lo bk uW uH uB iL iS tp td fk fp my wd uN)) := by
  show GO E iX0_waits _ _ _ 0 [some (.ref x), some (vI v)] [] _ _
  refine g_iload_n (q := 1) dX0_waits_0 rfl rfl ?_
  refine g_cs (I' := iX0_areHours) (mc := 0) (ms := 0) (rc := 0) (rs := 0) (q := 4) dX0_waits_1 q1146 q1147 gcX0_areHours (GO.deep (c_areHours (d := 0) hr) (by omega)) rfl rfl ?_
  refine g_ifneB (t := 10) (q := 7) dX0_waits_4 (by decide) rfl (fun c4 => ?_) (fun c4 => ?_)
  · exact absurd c4 hx
  · refine g_bipush (q := 9) dX0_waits_7 rfl ?_
    exact g_iret dX0_waits_9 rfl ⟨_, rfl, rfl, hX⟩
theorem c_sittingX (hX : (XR E x mf ow h w hs si lo bk uW uH uB iL iS tp td fk fp my wd uN)) (hs0 : 0 ≤ si ∧ si ≤ 60) (h1 : in32 i) (h2 : in32 v) :
    CALL E iX0_sitting (d + 3) 0 0 [.ref x, vI i, vI v] h (qP fun o k => o = vI (if (0 ≤ i ∧ i ≤ si - 1) ∧ (0 ≤ v ∧ v ≤ 4) then bk (6 * i + v) else -1) ∧ (XR E x mf ow k w hs si lo bk uW uH uB iL iS tp td fk fp my wd uN)) := by
  obtain ⟨x1, x2, ⟨w3, bl, tq, pl, bp, hC, -⟩, ⟨t, s1, s2, s3, ⟨bb, ⟨ar, cap, mo, g, -, hl, hla, hn, hcap, hg⟩, hB⟩, s5⟩, x5, x6, x7⟩ := id hX
  have q1 := h1.1
  have q2 := h1.2
  show GO E iX0_sitting _ _ _ 0 [some (.ref x), some (vI i), some (vI v), none] [] _ _
  refine g_iload_n (q := 1) dX0_sitting_0 rfl rfl ?_
  refine g_i2l (q := 2) dX0_sitting_1 (by first | assumption | exact in32_gB | exact in32_gCmp | (unfold in32; omega)) rfl ?_
  refine g_lconst0 (q := 3) dX0_sitting_2 rfl ?_
  refine g_aload_n (q := 4) dX0_sitting_3 rfl rfl ?_
  refine g_get (C := RX0) (T := TX0) (ci := 0) (k := 1) (q := 7) dX0_sitting_4 q519 rfl in_X0 (by decide) hC rfl rfl ?_
  refine g_getN (C := RX1) (T := TX1) (ci := 1) (k := 2) (q := 10) dX0_sitting_7 q482 rfl in_X1 (by decide) s1.2.1 rfl rfl ?_
  refine g_cf (I' := iJ2_size) (mc := 0) (ms := 0) (rc := 0) (rs := 0) (ci := 3) (q := 15) dX0_sitting_10 q974 q711 q710 q716 q714 q712 (by decide) gcJ2_size.2.1 q715 rfl q713 gcJ2_size hl (c_lsize hl) rfl rfl ?_
  refine g_iconst (q := 16) dX0_sitting_15 rfl ?_
  refine g_isub (q := 17) dX0_sitting_16 rfl ?_
  refine g_i2l (q := 18) dX0_sitting_17 (by first | assumption | exact in32_gB | exact in32_gCmp | (unfold in32; omega)) rfl ?_
  refine g_cs (I' := iX0_in) (mc := 0) (ms := 0) (rc := 0) (rs := 0) (q := 21) dX0_sitting_18 q130 q131 gcX0_in (c_inX (by unfold in64; omega) (by unfold in64; omega) (by unfold in64; omega)) rfl rfl ?_
  refine g_ifneB (t := 26) (q := 24) dX0_sitting_21 (by decide) rfl (fun c21 => ?_) (fun c21 => ?_)
  · refine g_aload_n (q := 27) dX0_sitting_26 rfl rfl ?_
    refine g_get (C := RX0) (T := TX0) (ci := 0) (k := 1) (q := 30) dX0_sitting_27 q519 rfl in_X0 (by decide) hC rfl rfl ?_
    refine g_getN (C := RX1) (T := TX1) (ci := 1) (k := 2) (q := 33) dX0_sitting_30 q482 rfl in_X1 (by decide) s1.2.1 rfl rfl ?_
    refine g_iload_n (q := 34) dX0_sitting_33 rfl rfl ?_
    refine g_cf (I' := iJ2_get) (mc := 0) (ms := 0) (rc := 0) (rs := 0) (ci := 3) (q := 39) dX0_sitting_34 q997 q952 q951 q956 q954 q712 (by decide) gcJ2_get.2.1 q955 rfl q953 gcJ2_get hl (c_lget hl hla (by omega) (by omega) hn.2 (by omega)) rfl rfl ?_
    rw [hg i (by omega) (by omega)]
    refine g_castO (ci := 17) (q := 42) dX0_sitting_39 rfl q1095 ((hB i (by omega) (by omega)).2) rfl ?_
    refine g_astore_n (q := 43) dX0_sitting_42 gs3 rfl ?_
    refine g_iload_n (q := 44) dX0_sitting_43 rfl rfl ?_
    refine g_tsw dX0_sitting_44 (by first | assumption | exact in32_gB | exact in32_gCmp | (unfold in32; omega)) (fun c44 => ⟨105, by decide, ?_⟩) (fun j44 c44 c44h => ?_)
    · refine g_iconst (q := 106) dX0_sitting_105 rfl ?_
      exact g_iret dX0_sitting_106 rfl ⟨_, rfl, congrArg vI (if_neg (by omega)).symm, hX⟩
    · rcases j44 with _ | _ | _ | _ | _ | j44
      · refine ⟨36, 80, rfl, by decide, ?_⟩
        refine g_aload_n (q := 81) dX0_sitting_80 rfl rfl ?_
        refine g_getN (C := RX16) (T := TX16) (ci := 17) (k := 0) (q := 84) dX0_sitting_81 q1102 rfl in_X16 (by decide) (hB i (by omega) (by omega)).2 rfl rfl ?_
        exact g_iret dX0_sitting_84 rfl ⟨_, rfl, congrArg vI (by rw [if_pos (by omega)]; congr 1; omega), hX⟩
      · refine ⟨41, 85, rfl, by decide, ?_⟩
        refine g_aload_n (q := 86) dX0_sitting_85 rfl rfl ?_
        refine g_getN (C := RX16) (T := TX16) (ci := 17) (k := 1) (q := 89) dX0_sitting_86 q1104 rfl in_X16 (by decide) (hB i (by omega) (by omega)).2 rfl rfl ?_
        exact g_iret dX0_sitting_89 rfl ⟨_, rfl, congrArg vI (by rw [if_pos (by omega)]; congr 1; omega), hX⟩
      · refine ⟨46, 90, rfl, by decide, ?_⟩
        refine g_aload_n (q := 91) dX0_sitting_90 rfl rfl ?_
        refine g_getN (C := RX16) (T := TX16) (ci := 17) (k := 2) (q := 94) dX0_sitting_91 q1106 rfl in_X16 (by decide) (hB i (by omega) (by omega)).2 rfl rfl ?_
        exact g_iret dX0_sitting_94 rfl ⟨_, rfl, congrArg vI (by rw [if_pos (by omega)]; congr 1; omega), hX⟩
      · refine ⟨51, 95, rfl, by decide, ?_⟩
        refine g_aload_n (q := 96) dX0_sitting_95 rfl rfl ?_
        refine g_getN (C := RX16) (T := TX16) (ci := 17) (k := 3) (q := 99) dX0_sitting_96 q1108 rfl in_X16 (by decide) (hB i (by omega) (by omega)).2 rfl rfl ?_
        exact g_iret dX0_sitting_99 rfl ⟨_, rfl, congrArg vI (by rw [if_pos (by omega)]; congr 1; omega), hX⟩
      · refine ⟨56, 100, rfl, by decide, ?_⟩
        refine g_aload_n (q := 101) dX0_sitting_100 rfl rfl ?_
        refine g_getN (C := RX16) (T := TX16) (ci := 17) (k := 4) (q := 104) dX0_sitting_101 q1110 rfl in_X16 (by decide) (hB i (by omega) (by omega)).2 rfl rfl ?_
        exact g_iret dX0_sitting_104 rfl ⟨_, rfl, congrArg vI (by rw [if_pos (by omega)]; congr 1; omega), hX⟩
      · exact absurd c44h (by omega)
  · refine g_iconst (q := 25) dX0_sitting_24 rfl ?_
    exact g_iret dX0_sitting_25 rfl ⟨_, rfl, congrArg vI (if_neg (fun q => c21 q.1)).symm, hX⟩
theorem cat_rf {r : Option Nat} : ∀ w, some (va_rf r) = some w → w.category = 1 := fun w e => by
  cases e
  cases r <;> rfl
theorem bokL_none {bk : Int → Int} {r : Int} : ∀ (f : Nat) (i : Int) (p : Int × Int × Int), (∀ j, i ≤ j → j < i + f → bk (6 * j) ≠ r) → bokL bk r f i p = p := by
  intro f
  induction f with
  | zero => intro i p _; rfl
  | succ f ih =>
    intro i p hj
    unfold bokL
    rw [if_neg (hj i (by omega) (by omega))]
    exact ih (i + 1) p (fun j q1 q2 => hj j (by omega) (by omega))
theorem c_bookX (hX : (XR E x mf ow h w hs si lo bk uW uH uB iL iS tp td fk fp my wd uN)) (hbk : ∀ j, 0 ≤ j → j < 360 → in32 (bk j)) (hok : BKok w bk si) (hs0 : 0 ≤ si ∧ si ≤ 60) (hw2 : 0 ≤ w 2 ∧ w 2 ≤ 12) (h1 : in32 r) (h2 : in32 v) :
    CALL E iX0_book (d + 3) 0 0 [.ref x, vI r, vI v] h (qP fun o k => o = vI (if (0 ≤ r ∧ r ≤ w 2 - 1) ∧ (0 ≤ v ∧ v ≤ 3) then mBook bk si r v else -1) ∧ (XR E x mf ow k w hs si lo bk uW uH uB iL iS tp td fk fp my wd uN)) := by
  obtain ⟨x1, x2, ⟨w3, bl, tq, pl, bp, hC, -⟩, ⟨t, s1, s2, s3, ⟨bb, ⟨ar, cap, mo, g, -, hl, hla, hn, hcap, hg⟩, hB⟩, s5⟩, x5, x6, x7⟩ := id hX
  have ok := bokL_ok (bk := bk) (r := r) si.toNat 0 (0, -1, -1) (by omega) (by decide) (Or.inl ⟨rfl, rfl, rfl⟩)
  have key : (if (bokL bk r si.toNat 0 (0, -1, -1)).1 < 2 then -1 else if v = 0 then (bokL bk r si.toNat 0 (0, -1, -1)).1 else if v = 1 then bk (6 * (bokL bk r si.toNat 0 (0, -1, -1)).2.1 + 1) else if v = 2 then bk (6 * (bokL bk r si.toNat 0 (0, -1, -1)).2.2 + 1) else if v = 3 then bk (6 * (bokL bk r si.toNat 0 (0, -1, -1)).2.2 + 2) - bk (6 * (bokL bk r si.toNat 0 (0, -1, -1)).2.1 + 2) else -1) = (if (0 ≤ r ∧ r ≤ w 2 - 1) ∧ (0 ≤ v ∧ v ≤ 3) then mBook bk si r v else -1) := by
    by_cases c1 : 0 ≤ r ∧ r ≤ w 2 - 1
    · by_cases c2 : 0 ≤ v ∧ v ≤ 3
      · rw [if_pos (show (0 ≤ r ∧ r ≤ w 2 - 1) ∧ (0 ≤ v ∧ v ≤ 3) from ⟨c1, c2⟩)]
        unfold mBook
        by_cases c3 : (bokL bk r si.toNat 0 (0, -1, -1)).1 < 2
        · rw [if_pos c3, if_pos c3]
        · rw [if_neg c3, if_neg c3]
          by_cases c4 : v = 0
          · rw [if_pos c4, if_pos c4]
          · rw [if_neg c4, if_neg c4]
            by_cases c5 : v = 1
            · rw [if_pos c5, if_pos c5]
            · rw [if_neg c5, if_neg c5]
              by_cases c6 : v = 2
              · rw [if_pos c6, if_pos c6]
              · rw [if_neg c6, if_neg c6, if_pos (by omega)]
      · rw [if_neg (show ¬ ((0 ≤ r ∧ r ≤ w 2 - 1) ∧ (0 ≤ v ∧ v ≤ 3)) from fun q => c2 q.2), if_neg (show ¬ v = 0 by omega), if_neg (show ¬ v = 1 by omega), if_neg (show ¬ v = 2 by omega), if_neg (show ¬ v = 3 by omega)]
        split <;> rfl
    · rw [if_neg (show ¬ ((0 ≤ r ∧ r ≤ w 2 - 1) ∧ (0 ≤ v ∧ v ≤ 3)) from fun q => c1 q.1), bokL_none si.toNat 0 (0, -1, -1) (fun j q1 q2 => by have := (hok j q1 (by omega)).1; omega)]
      exact if_pos (by decide)
  rw [← key]
  generalize eP : bokL bk r si.toNat 0 (0, -1, -1) = P at *
  clear key
  have loop : ∀ (f : Nat) (i n a b : Int) (x7 : Option Value), 0 ≤ i → i + f = si → 0 ≤ n → n ≤ i → bokL bk r f i (n, a, b) = P → (-1 ≤ a ∧ a < i) → (-1 ≤ b ∧ b < i) →
      GO E iX0_book (d + 3) 0 0 11 [some (.ref x), some (vI r), some (vI v), some (va_rf (if a = -1 then none else some (bb a))), some (va_rf (if b = -1 then none else some (bb b))), some (vI n), some (vI i), x7] [] h (qP fun o k => o = vI (if P.1 < 2 then -1 else if v = 0 then P.1 else if v = 1 then bk (6 * P.2.1 + 1) else if v = 2 then bk (6 * P.2.2 + 1) else if v = 3 then bk (6 * P.2.2 + 2) - bk (6 * P.2.1 + 2) else -1) ∧ (XR E x mf ow k w hs si lo bk uW uH uB iL iS tp td fk fp my wd uN)) := by
    intro f
    induction f with
    | zero =>
      intro i n a b x7 q0 q1 q2 q3 q4 q5 q6
      have e : P = (n, a, b) := q4.symm
      subst e
      have ok2 : (0 ≤ n ∧ n ≤ 0 + (si.toNat : Int)) ∧ (n = 0 ∧ a = -1 ∧ b = -1 ∨ 0 ≤ a ∧ a < 0 + (si.toNat : Int) ∧ 0 ≤ b ∧ b < 0 + (si.toNat : Int)) := ok
      show GO _ _ _ _ _ _ _ _ _ (qP fun o k => o = vI (if n < 2 then -1 else if v = 0 then n else if v = 1 then bk (6 * a + 1) else if v = 2 then bk (6 * b + 1) else if v = 3 then bk (6 * b + 2) - bk (6 * a + 2) else -1) ∧ (XR E x mf ow k w hs si lo bk uW uH uB iL iS tp td fk fp my wd uN))
      by_cases c2 : n < 2
      · rw [if_pos c2]
        refine g_iload (q := 13) dX0_book_11 rfl rfl ?_
        refine g_aload_n (q := 14) dX0_book_13 rfl rfl ?_
        refine g_get (C := RX0) (T := TX0) (ci := 0) (k := 1) (q := 17) dX0_book_14 q519 rfl in_X0 (by decide) hC rfl rfl ?_
        refine g_getN (C := RX1) (T := TX1) (ci := 1) (k := 2) (q := 20) dX0_book_17 q482 rfl in_X1 (by decide) s1.2.1 rfl rfl ?_
        refine g_cf (I' := iJ2_size) (mc := 0) (ms := 0) (rc := 0) (rs := 0) (ci := 3) (q := 25) dX0_book_20 q974 q711 q710 q716 q714 q712 (by decide) gcJ2_size.2.1 q715 rfl q713 gcJ2_size hl (c_lsize hl) rfl rfl ?_
        refine g_icmp_ge (t := 79) (q := 28) dX0_book_25 (by decide) rfl (by first | assumption | exact in32_gB | exact in32_gCmp | (unfold in32; omega)) (by first | assumption | exact in32_gB | exact in32_gCmp | (unfold in32; omega)) (fun c25 => ?_) (fun c25 => ?_)
        · refine g_iload (q := 81) dX0_book_79 rfl rfl ?_
          refine g_iconst (q := 82) dX0_book_81 rfl ?_
          refine g_icmp_ge (t := 87) (q := 85) dX0_book_82 (by decide) rfl (by first | assumption | exact in32_gB | exact in32_gCmp | (unfold in32; omega)) (by first | assumption | exact in32_gB | exact in32_gCmp | (unfold in32; omega)) (fun c82 => ?_) (fun c82 => ?_)
          · exact absurd c82 (by omega)
          · refine g_iconst (q := 86) dX0_book_85 rfl ?_
            exact g_iret dX0_book_86 rfl ⟨_, rfl, rfl, hX⟩
        · exact absurd c25 (by omega)
      · rw [if_neg c2, if_neg (show ¬ a = -1 by omega), if_neg (show ¬ b = -1 by omega)]
        have hBa := (hB a (by omega) (by omega)).2
        have hBb := (hB b (by omega) (by omega)).2
        have b1 := (hok a (by omega) (by omega)).2.2.1
        have b2 := (hok b (by omega) (by omega)).2.2.1
        refine g_iload (q := 13) dX0_book_11 rfl rfl ?_
        refine g_aload_n (q := 14) dX0_book_13 rfl rfl ?_
        refine g_get (C := RX0) (T := TX0) (ci := 0) (k := 1) (q := 17) dX0_book_14 q519 rfl in_X0 (by decide) hC rfl rfl ?_
        refine g_getN (C := RX1) (T := TX1) (ci := 1) (k := 2) (q := 20) dX0_book_17 q482 rfl in_X1 (by decide) s1.2.1 rfl rfl ?_
        refine g_cf (I' := iJ2_size) (mc := 0) (ms := 0) (rc := 0) (rs := 0) (ci := 3) (q := 25) dX0_book_20 q974 q711 q710 q716 q714 q712 (by decide) gcJ2_size.2.1 q715 rfl q713 gcJ2_size hl (c_lsize hl) rfl rfl ?_
        refine g_icmp_ge (t := 79) (q := 28) dX0_book_25 (by decide) rfl (by first | assumption | exact in32_gB | exact in32_gCmp | (unfold in32; omega)) (by first | assumption | exact in32_gB | exact in32_gCmp | (unfold in32; omega)) (fun c25 => ?_) (fun c25 => ?_)
        · refine g_iload (q := 81) dX0_book_79 rfl rfl ?_
          refine g_iconst (q := 82) dX0_book_81 rfl ?_
          refine g_icmp_ge (t := 87) (q := 85) dX0_book_82 (by decide) rfl (by first | assumption | exact in32_gB | exact in32_gCmp | (unfold in32; omega)) (by first | assumption | exact in32_gB | exact in32_gCmp | (unfold in32; omega)) (fun c82 => ?_) (fun c82 => ?_)
          · refine g_iload_n (q := 88) dX0_book_87 rfl rfl ?_
            refine g_tsw dX0_book_88 (by first | assumption | exact in32_gB | exact in32_gCmp | (unfold in32; omega)) (fun c88 => ⟨145, by decide, ?_⟩) (fun j88 c88 c88h => ?_)
            · refine g_iconst (q := 146) dX0_book_145 rfl ?_
              exact g_iret dX0_book_146 rfl ⟨_, rfl, congrArg vI (by repeat' (first | rw [if_pos (by omega)] | rw [if_neg (by omega)])), hX⟩
            · rcases j88 with _ | _ | _ | _ | j88
              · refine ⟨32, 120, rfl, by decide, ?_⟩
                refine g_iload (q := 122) dX0_book_120 rfl rfl ?_
                exact g_iret dX0_book_122 rfl ⟨_, rfl, congrArg vI (by repeat' (first | rw [if_pos (by omega)] | rw [if_neg (by omega)])), hX⟩
              · refine ⟨35, 123, rfl, by decide, ?_⟩
                refine g_aload_n (q := 124) dX0_book_123 rfl rfl ?_
                refine g_getN (C := RX16) (T := TX16) (ci := 17) (k := 1) (q := 127) dX0_book_124 q1104 rfl in_X16 (by decide) hBa rfl rfl ?_
                exact g_iret dX0_book_127 rfl ⟨_, rfl, congrArg vI (by repeat' (first | rw [if_pos (by omega)] | rw [if_neg (by omega)])), hX⟩
              · refine ⟨40, 128, rfl, by decide, ?_⟩
                refine g_aload (q := 130) dX0_book_128 rfl rfl ?_
                refine g_getN (C := RX16) (T := TX16) (ci := 17) (k := 1) (q := 133) dX0_book_130 q1104 rfl in_X16 (by decide) hBb rfl rfl ?_
                exact g_iret dX0_book_133 rfl ⟨_, rfl, congrArg vI (by repeat' (first | rw [if_pos (by omega)] | rw [if_neg (by omega)])), hX⟩
              · refine ⟨46, 134, rfl, by decide, ?_⟩
                refine g_aload (q := 136) dX0_book_134 rfl rfl ?_
                refine g_getN (C := RX16) (T := TX16) (ci := 17) (k := 2) (q := 139) dX0_book_136 q1106 rfl in_X16 (by decide) hBb rfl rfl ?_
                refine g_aload_n (q := 140) dX0_book_139 rfl rfl ?_
                refine g_getN (C := RX16) (T := TX16) (ci := 17) (k := 2) (q := 143) dX0_book_140 q1106 rfl in_X16 (by decide) hBa rfl rfl ?_
                refine g_isub (q := 144) dX0_book_143 rfl ?_
                exact g_iret dX0_book_144 rfl ⟨_, rfl, congrArg vI (by repeat' (first | rw [if_pos (by omega)] | rw [if_neg (by omega)])), hX⟩
              · exact absurd c88h (by omega)
          · exact absurd c82 (by omega)
        · exact absurd c25 (by omega)
    | succ f ih =>
      intro i n a b x7 q0 q1 q2 q3 q4 q5 q6
      have hBi := (hB i (by omega) (by omega)).2
      have r1 := (hbk (6 * i) (by omega) (by omega))
      unfold bokL at q4
      refine g_iload (q := 13) dX0_book_11 rfl rfl ?_
      refine g_aload_n (q := 14) dX0_book_13 rfl rfl ?_
      refine g_get (C := RX0) (T := TX0) (ci := 0) (k := 1) (q := 17) dX0_book_14 q519 rfl in_X0 (by decide) hC rfl rfl ?_
      refine g_getN (C := RX1) (T := TX1) (ci := 1) (k := 2) (q := 20) dX0_book_17 q482 rfl in_X1 (by decide) s1.2.1 rfl rfl ?_
      refine g_cf (I' := iJ2_size) (mc := 0) (ms := 0) (rc := 0) (rs := 0) (ci := 3) (q := 25) dX0_book_20 q974 q711 q710 q716 q714 q712 (by decide) gcJ2_size.2.1 q715 rfl q713 gcJ2_size hl (c_lsize hl) rfl rfl ?_
      refine g_icmp_ge (t := 79) (q := 28) dX0_book_25 (by decide) rfl (by first | assumption | exact in32_gB | exact in32_gCmp | (unfold in32; omega)) (by first | assumption | exact in32_gB | exact in32_gCmp | (unfold in32; omega)) (fun c25 => ?_) (fun c25 => ?_)
      · exact absurd c25 (by omega)
      · refine g_aload_n (q := 29) dX0_book_28 rfl rfl ?_
        refine g_get (C := RX0) (T := TX0) (ci := 0) (k := 1) (q := 32) dX0_book_29 q519 rfl in_X0 (by decide) hC rfl rfl ?_
        refine g_getN (C := RX1) (T := TX1) (ci := 1) (k := 2) (q := 35) dX0_book_32 q482 rfl in_X1 (by decide) s1.2.1 rfl rfl ?_
        refine g_iload (q := 37) dX0_book_35 rfl rfl ?_
        refine g_cf (I' := iJ2_get) (mc := 0) (ms := 0) (rc := 0) (rs := 0) (ci := 3) (q := 42) dX0_book_37 q997 q952 q951 q956 q954 q712 (by decide) gcJ2_get.2.1 q955 rfl q953 gcJ2_get hl (c_lget hl hla (by omega) (by omega) hn.2 (by omega)) rfl rfl ?_
        rw [hg i (by omega) (by omega)]
        refine g_castO (ci := 17) (q := 45) dX0_book_42 rfl q1095 (hBi) rfl ?_
        refine g_astore (q := 47) dX0_book_45 gs7 rfl ?_
        refine g_aload (q := 49) dX0_book_47 rfl rfl ?_
        refine g_getN (C := RX16) (T := TX16) (ci := 17) (k := 0) (q := 52) dX0_book_49 q1102 rfl in_X16 (by decide) hBi rfl rfl ?_
        refine g_iload_n (q := 53) dX0_book_52 rfl rfl ?_
        refine g_icmp_eq (t := 59) (q := 56) dX0_book_53 (by decide) rfl (by first | assumption | exact r1) (by first | assumption | exact h1) (fun c53 => ?_) (fun c53 => ?_)
        · refine g_iinc (q := 62) dX0_book_59 rfl (gs5 (hc := cat_rf)) rfl ?_
          refine g_aload_n (q := 63) dX0_book_62 rfl rfl ?_
          refine g_ifnonnull (t := 69) (q := 66) dX0_book_63 (by decide) rfl (fun y63 c63 => ?_) (fun c63 => ?_)
          · refine g_aload (q := 71) dX0_book_69 rfl rfl ?_
            refine g_astore (q := 73) dX0_book_71 (gs4 (hc := by first | exact cat_rf | exact fun _ h => by cases h; rfl)) rfl ?_
            refine g_iinc (q := 76) dX0_book_73 rfl gs6 rfl ?_
            refine g_goto (t := 11) dX0_book_76 (by decide) ?_
            first
            | (rw [if_neg c53] at q4; exact ih _ _ _ _ _ (by omega) (by omega) (by omega) (by omega) q4 (by omega) (by omega))
            | (rw [if_pos c53] at q4; have ea : ¬ a = -1 := (by intro z; rw [if_pos z] at c63; cases c63); have z := ih (i + 1) (n + 1) a i (some (.ref (bb i))) (by omega) (by omega) (by omega) (by omega) (by simp only [if_neg ea] at q4; exact q4) (by omega) (by omega); rw [if_neg (show ¬ i = -1 by omega)] at z; exact z)
            | (rw [if_pos c53] at q4; have ea : a = -1 := (by by_cases z : a = -1; exact z; rw [if_neg z] at c63; cases c63); have z := ih (i + 1) (n + 1) i i (some (.ref (bb i))) (by omega) (by omega) (by omega) (by omega) (by simp only [if_pos ea] at q4; exact q4) (by omega) (by omega); rw [if_neg (show ¬ i = -1 by omega)] at z; exact z)
          · refine g_aload (q := 68) dX0_book_66 rfl rfl ?_
            refine g_astore_n (q := 69) dX0_book_68 gs3 rfl ?_
            refine g_aload (q := 71) dX0_book_69 rfl rfl ?_
            refine g_astore (q := 73) dX0_book_71 (gs4 (hc := by first | exact cat_rf | exact fun _ h => by cases h; rfl)) rfl ?_
            refine g_iinc (q := 76) dX0_book_73 rfl gs6 rfl ?_
            refine g_goto (t := 11) dX0_book_76 (by decide) ?_
            first
            | (rw [if_neg c53] at q4; exact ih _ _ _ _ _ (by omega) (by omega) (by omega) (by omega) q4 (by omega) (by omega))
            | (rw [if_pos c53] at q4; have ea : ¬ a = -1 := (by intro z; rw [if_pos z] at c63; cases c63); have z := ih (i + 1) (n + 1) a i (some (.ref (bb i))) (by omega) (by omega) (by omega) (by omega) (by simp only [if_neg ea] at q4; exact q4) (by omega) (by omega); rw [if_neg (show ¬ i = -1 by omega)] at z; exact z)
            | (rw [if_pos c53] at q4; have ea : a = -1 := (by by_cases z : a = -1; exact z; rw [if_neg z] at c63; cases c63); have z := ih (i + 1) (n + 1) i i (some (.ref (bb i))) (by omega) (by omega) (by omega) (by omega) (by simp only [if_pos ea] at q4; exact q4) (by omega) (by omega); rw [if_neg (show ¬ i = -1 by omega)] at z; exact z)
        · refine g_goto (t := 73) dX0_book_56 (by decide) ?_
          refine g_iinc (q := 76) dX0_book_73 rfl gs6 rfl ?_
          refine g_goto (t := 11) dX0_book_76 (by decide) ?_
          first
          | (rw [if_neg c53] at q4; exact ih _ _ _ _ _ (by omega) (by omega) (by omega) (by omega) q4 (by omega) (by omega))
          | (rw [if_pos c53] at q4; have ea : ¬ a = -1 := (by intro z; rw [if_pos z] at c63; cases c63); have z := ih (i + 1) (n + 1) a i (some (.ref (bb i))) (by omega) (by omega) (by omega) (by omega) (by simp only [if_neg ea] at q4; exact q4) (by omega) (by omega); rw [if_neg (show ¬ i = -1 by omega)] at z; exact z)
          | (rw [if_pos c53] at q4; have ea : a = -1 := (by by_cases z : a = -1; exact z; rw [if_neg z] at c63; cases c63); have z := ih (i + 1) (n + 1) i i (some (.ref (bb i))) (by omega) (by omega) (by omega) (by omega) (by simp only [if_pos ea] at q4; exact q4) (by omega) (by omega); rw [if_neg (show ¬ i = -1 by omega)] at z; exact z)
  show GO E iX0_book _ _ _ 0 [some (.ref x), some (vI r), some (vI v), none, none, none, none, none] [] _ _
  refine g_null (q := 1) dX0_book_0 rfl ?_
  refine g_astore_n (q := 2) dX0_book_1 gs3 rfl ?_
  refine g_null (q := 3) dX0_book_2 rfl ?_
  refine g_astore (q := 5) dX0_book_3 gs4 rfl ?_
  refine g_iconst (q := 6) dX0_book_5 rfl ?_
  refine g_istore (q := 8) dX0_book_6 gs5 rfl ?_
  refine g_iconst (q := 9) dX0_book_8 rfl ?_
  refine g_istore (q := 11) dX0_book_9 gs6 rfl ?_
  exact loop si.toNat 0 0 (-1) (-1) _ (by omega) (by omega) (by omega) (by omega) eP (by omega) (by omega)
end
