/-! THE COMPONENT: the Reader reads a line -/
set_option maxRecDepth 100000
section
variable {E : gE} {d r so la ak ta tx rl rc rs : Nat} {ow ow' : OW} {h h' : gH} {tp : Int → Int} {sz : Int} {P X : PS} {Q : Outcome → gH → Prop}
theorem RST.lst (hR : RST E ow h r so la ak ta tx rl sz tp P) : ∃ (mo : Int) (ar : Nat), (hset h r (rdO so la ak ta tx rl sz P)).1 rl = some (oB 3 [vI mo, .ref ar, vI (P.2.2.2.2.2.2.1 2)]) := by
  obtain ⟨rr, ⟨ar, cap, mo, g, -, hl, -⟩, -⟩ := hR.2.2.2.1
  exact ⟨mo, ar, (hset_ne hR.nr.1).trans hl⟩
theorem l_lineA (hR : RST E ow h r so la ak ta tx rl sz tp P) (hP : PSok sz P) (hf : P.2.2.2.2.1 = 0) (hz : sz ≤ 900) (hno : ¬ ((isW tp wThing P ∧ P.2.2.2.2.2.2.1 1 = 24) ∨ (isW tp wRow P ∧ P.2.2.2.2.2.2.1 2 = 12))) (kk : GO E iX7_line (d + 10) rc rs 58 [some (.ref r), some (vI (whP tp P lLaws))] [] (hset h r (rdO so la ak ta tx rl sz P)) Q) : GO E iX7_line (d + 10) rc rs 0 [some (.ref r), none] [] (hset h r (rdO so la ak ta tx rl sz P)) Q := by
  have ok := hR.1.1.1
  have hC := hR.1.1
  have hw := hP.2.1.1
  have hw1 := hw.1
  have hw2 := hw.2.1
  have n0 := hR.ne 0 (by decide)
  obtain ⟨mo, ar, hl⟩ := hR.lst
  obtain ⟨o, lw, ge, gl, gz, c0, -⟩ := id hR.2.2.1
  obtain ⟨-, -, nt, ⟨tq, ct, htq⟩, hT, -, ⟨w2, n2⟩, -⟩ := id hC
  have c0' : (hset h r (rdO so la ak ta tx rl sz P)).1 tx = some (oB 2 [.ref (tx + 1), .ref (tx + 2), .ref (tx + 3), .ref (tx + 7), vI (P.2.2.2.2.2.2.1 1), vI (P.2.2.2.2.2.2.1 4), vI (P.2.2.2.2.2.2.1 0), vI P.2.2.2.2.2.2.2.1]) := (hset_ne n0).trans c0
  refine g_aload_n (q := 1) dX7_line_0 rfl rfl ?_
  refine g_aload_n (q := 2) dX7_line_1 rfl rfl ?_
  refine g_get (C := RX7) (T := TX7) (ci := 8) (k := 1) (q := 5) dX7_line_2 q594 rfl in_X7 (by decide) rd_at rfl rfl ?_
  refine g_cv (I' := iX7_which) (mc := 0) (ms := 0) (rc := rc) (rs := rs) (ci := 8) (q := 8) dX7_line_5 q650 q652 rfl qs9 gcX7_which rd_at (GO.deep (c_whichR (d := 0) nt ct htq hT w2 n2 (by decide) hP.1 hf hz) (by omega)) rfl rfl ?_
  refine g_istore_n (q := 9) dX7_line_8 gs1 rfl ?_
  refine g_aload_n (q := 10) dX7_line_9 rfl rfl ?_
  refine g_ldcS (q := 12) dX7_line_10 rfl q706 (litR_thing ok) rfl ?_
  refine g_cv (I' := iX7_is) (mc := 0) (ms := 0) (rc := rc) (rs := rs) (ci := 8) (q := 15) dX7_line_12 q654 q656 rfl qs10 gcX7_is rd_at (GO.deep (c_isC (d := 0) hC (litR_thing ok).2 hP.1 hf hz) (by omega)) rfl rfl ?_
  refine g_ifeqB (t := 30) (q := 18) dX7_line_15 (by decide) rfl (fun c15 => ?_) (fun c15 => ?_)
  · refine g_aload_n (q := 31) dX7_line_30 rfl rfl ?_
    refine g_ldcS (q := 33) dX7_line_31 rfl q707 (litR_row ok) rfl ?_
    refine g_cv (I' := iX7_is) (mc := 0) (ms := 0) (rc := rc) (rs := rs) (ci := 8) (q := 36) dX7_line_33 q654 q656 rfl qs10 gcX7_is rd_at (GO.deep (c_isC (d := 0) hC (litR_row ok).2 hP.1 hf hz) (by omega)) rfl rfl ?_
    refine g_ifeqB (t := 58) (q := 39) dX7_line_36 (by decide) rfl (fun c36 => ?_) (fun c36 => ?_)
    · exact kk
    · refine g_aload_n (q := 40) dX7_line_39 rfl rfl ?_
      refine g_get (C := RX7) (T := TX7) (ci := 8) (k := 6) (q := 43) dX7_line_40 q599 rfl in_X7 (by decide) rd_at rfl rfl ?_
      refine g_cf (I' := iJ2_size) (mc := 0) (ms := 0) (rc := rc) (rs := rs) (ci := 3) (q := 48) dX7_line_43 q709 q711 q710 q716 q714 q712 (by decide) gcJ2_size.2.1 q715 rfl q713 gcJ2_size hl (c_lsize hl) rfl rfl ?_
      refine g_bipush (q := 50) dX7_line_48 rfl ?_
      refine g_icmp_ne (t := 58) (q := 53) dX7_line_50 (by decide) rfl (by unfold in32; omega) (by unfold in32; omega) (fun c50 => ?_) (fun c50 => ?_)
      · exact kk
      · exfalso; first
        | exact hno (Or.inl ⟨c15, c27⟩)
        | exact hno (Or.inr ⟨c36, c50⟩)
  · refine g_aload_n (q := 19) dX7_line_18 rfl rfl ?_
    refine g_get (C := RX7) (T := TX7) (ci := 8) (k := 5) (q := 22) dX7_line_19 q598 rfl in_X7 (by decide) rd_at rfl rfl ?_
    refine g_getN (C := RX2) (T := TX2) (ci := 2) (k := 4) (q := 25) dX7_line_22 q359 rfl in_X2 (by decide) c0' rfl rfl ?_
    refine g_bipush (q := 27) dX7_line_25 rfl ?_
    refine g_icmp_eq (t := 53) (q := 30) dX7_line_27 (by decide) rfl (by unfold in32; omega) (by unfold in32; omega) (fun c27 => ?_) (fun c27 => ?_)
    · exfalso; first
      | exact hno (Or.inl ⟨c15, c27⟩)
      | exact hno (Or.inr ⟨c36, c50⟩)
    · refine g_aload_n (q := 31) dX7_line_30 rfl rfl ?_
      refine g_ldcS (q := 33) dX7_line_31 rfl q707 (litR_row ok) rfl ?_
      refine g_cv (I' := iX7_is) (mc := 0) (ms := 0) (rc := rc) (rs := rs) (ci := 8) (q := 36) dX7_line_33 q654 q656 rfl qs10 gcX7_is rd_at (GO.deep (c_isC (d := 0) hC (litR_row ok).2 hP.1 hf hz) (by omega)) rfl rfl ?_
      refine g_ifeqB (t := 58) (q := 39) dX7_line_36 (by decide) rfl (fun c36 => ?_) (fun c36 => ?_)
      · exact kk
      · refine g_aload_n (q := 40) dX7_line_39 rfl rfl ?_
        refine g_get (C := RX7) (T := TX7) (ci := 8) (k := 6) (q := 43) dX7_line_40 q599 rfl in_X7 (by decide) rd_at rfl rfl ?_
        refine g_cf (I' := iJ2_size) (mc := 0) (ms := 0) (rc := rc) (rs := rs) (ci := 3) (q := 48) dX7_line_43 q709 q711 q710 q716 q714 q712 (by decide) gcJ2_size.2.1 q715 rfl q713 gcJ2_size hl (c_lsize hl) rfl rfl ?_
        refine g_bipush (q := 50) dX7_line_48 rfl ?_
        refine g_icmp_ne (t := 58) (q := 53) dX7_line_50 (by decide) rfl (by unfold in32; omega) (by unfold in32; omega) (fun c50 => ?_) (fun c50 => ?_)
        · exact kk
        · exfalso; first
          | exact hno (Or.inl ⟨c15, c27⟩)
          | exact hno (Or.inr ⟨c36, c50⟩)
theorem l_lineX (hR : RST E ow h r so la ak ta tx rl sz tp P) (hP : PSok sz P) (hf : P.2.2.2.2.1 = 0) (hz : sz ≤ 900) (hno : (isW tp wThing P ∧ P.2.2.2.2.2.2.1 1 = 24) ∨ (isW tp wRow P ∧ P.2.2.2.2.2.2.1 2 = 12)) : GO E iX7_line (d + 10) (0 + 1) (0 + 8) 0 [some (.ref r), none] [] (hset h r (rdO so la ak ta tx rl sz P)) (qVE (okL E ow h r so la ak ta tx rl sz tp (PSerr 3 P)) (excL ow h (PSerr 3 P))) := by
  have ok := hR.1.1.1
  have hC := hR.1.1
  have hw := hP.2.1.1
  have hw1 := hw.1
  have hw2 := hw.2.1
  have n0 := hR.ne 0 (by decide)
  obtain ⟨mo, ar, hl⟩ := hR.lst
  obtain ⟨o, lw, ge, gl, gz, c0, -⟩ := id hR.2.2.1
  obtain ⟨-, -, nt, ⟨tq, ct, htq⟩, hT, -, ⟨w2, n2⟩, -⟩ := id hC
  have c0' : (hset h r (rdO so la ak ta tx rl sz P)).1 tx = some (oB 2 [.ref (tx + 1), .ref (tx + 2), .ref (tx + 3), .ref (tx + 7), vI (P.2.2.2.2.2.2.1 1), vI (P.2.2.2.2.2.2.1 4), vI (P.2.2.2.2.2.2.1 0), vI P.2.2.2.2.2.2.2.1]) := (hset_ne n0).trans c0
  refine g_aload_n (q := 1) dX7_line_0 rfl rfl ?_
  refine g_aload_n (q := 2) dX7_line_1 rfl rfl ?_
  refine g_get (C := RX7) (T := TX7) (ci := 8) (k := 1) (q := 5) dX7_line_2 q594 rfl in_X7 (by decide) rd_at rfl rfl ?_
  refine g_cv (I' := iX7_which) (mc := 0) (ms := 0) (rc := (0+1)) (rs := (0+8)) (ci := 8) (q := 8) dX7_line_5 q650 q652 rfl qs9 gcX7_which rd_at (GO.deep (c_whichR (d := 0) nt ct htq hT w2 n2 (by decide) hP.1 hf hz) (by omega)) rfl rfl ?_
  refine g_istore_n (q := 9) dX7_line_8 gs1 rfl ?_
  refine g_aload_n (q := 10) dX7_line_9 rfl rfl ?_
  refine g_ldcS (q := 12) dX7_line_10 rfl q706 (litR_thing ok) rfl ?_
  refine g_cv (I' := iX7_is) (mc := 0) (ms := 0) (rc := (0+1)) (rs := (0+8)) (ci := 8) (q := 15) dX7_line_12 q654 q656 rfl qs10 gcX7_is rd_at (GO.deep (c_isC (d := 0) hC (litR_thing ok).2 hP.1 hf hz) (by omega)) rfl rfl ?_
  refine g_ifeqB (t := 30) (q := 18) dX7_line_15 (by decide) rfl (fun c15 => ?_) (fun c15 => ?_)
  · refine g_aload_n (q := 31) dX7_line_30 rfl rfl ?_
    refine g_ldcS (q := 33) dX7_line_31 rfl q707 (litR_row ok) rfl ?_
    refine g_cv (I' := iX7_is) (mc := 0) (ms := 0) (rc := (0+1)) (rs := (0+8)) (ci := 8) (q := 36) dX7_line_33 q654 q656 rfl qs10 gcX7_is rd_at (GO.deep (c_isC (d := 0) hC (litR_row ok).2 hP.1 hf hz) (by omega)) rfl rfl ?_
    refine g_ifeqB (t := 58) (q := 39) dX7_line_36 (by decide) rfl (fun c36 => ?_) (fun c36 => ?_)
    · exfalso; rcases hno with q | q
      · first
        | exact c15 q.1
        | exact c27 q.2
      · first
        | exact c36 q.1
        | exact c50 q.2
    · refine g_aload_n (q := 40) dX7_line_39 rfl rfl ?_
      refine g_get (C := RX7) (T := TX7) (ci := 8) (k := 6) (q := 43) dX7_line_40 q599 rfl in_X7 (by decide) rd_at rfl rfl ?_
      refine g_cf (I' := iJ2_size) (mc := 0) (ms := 0) (rc := (0+1)) (rs := (0+8)) (ci := 3) (q := 48) dX7_line_43 q709 q711 q710 q716 q714 q712 (by decide) gcJ2_size.2.1 q715 rfl q713 gcJ2_size hl (c_lsize hl) rfl rfl ?_
      refine g_bipush (q := 50) dX7_line_48 rfl ?_
      refine g_icmp_ne (t := 58) (q := 53) dX7_line_50 (by decide) rfl (by unfold in32; omega) (by unfold in32; omega) (fun c50 => ?_) (fun c50 => ?_)
      · exfalso; rcases hno with q | q
        · first
          | exact c15 q.1
          | exact c27 q.2
        · first
          | exact c36 q.1
          | exact c50 q.2
      · refine g_aload_n (q := 54) dX7_line_53 rfl rfl ?_
        refine g_iconst (q := 55) dX7_line_54 rfl ?_
        exact g_cvX (I' := iX7_fails) (mc := 1) (ms := 8) (rc := 0) (rs := 0) (ci := 8) dX7_line_55 q718 q720 rfl qs11 gcX7_fails rd_at (GO.deep (c_failsC (d := 0) hC (by decide)) (by omega)) rfl (fun x55 e55 y55 => excQ.l hR y55)
  · refine g_aload_n (q := 19) dX7_line_18 rfl rfl ?_
    refine g_get (C := RX7) (T := TX7) (ci := 8) (k := 5) (q := 22) dX7_line_19 q598 rfl in_X7 (by decide) rd_at rfl rfl ?_
    refine g_getN (C := RX2) (T := TX2) (ci := 2) (k := 4) (q := 25) dX7_line_22 q359 rfl in_X2 (by decide) c0' rfl rfl ?_
    refine g_bipush (q := 27) dX7_line_25 rfl ?_
    refine g_icmp_eq (t := 53) (q := 30) dX7_line_27 (by decide) rfl (by unfold in32; omega) (by unfold in32; omega) (fun c27 => ?_) (fun c27 => ?_)
    · refine g_aload_n (q := 54) dX7_line_53 rfl rfl ?_
      refine g_iconst (q := 55) dX7_line_54 rfl ?_
      exact g_cvX (I' := iX7_fails) (mc := 1) (ms := 8) (rc := 0) (rs := 0) (ci := 8) dX7_line_55 q718 q720 rfl qs11 gcX7_fails rd_at (GO.deep (c_failsC (d := 0) hC (by decide)) (by omega)) rfl (fun x55 e55 y55 => excQ.l hR y55)
    · refine g_aload_n (q := 31) dX7_line_30 rfl rfl ?_
      refine g_ldcS (q := 33) dX7_line_31 rfl q707 (litR_row ok) rfl ?_
      refine g_cv (I' := iX7_is) (mc := 0) (ms := 0) (rc := (0+1)) (rs := (0+8)) (ci := 8) (q := 36) dX7_line_33 q654 q656 rfl qs10 gcX7_is rd_at (GO.deep (c_isC (d := 0) hC (litR_row ok).2 hP.1 hf hz) (by omega)) rfl rfl ?_
      refine g_ifeqB (t := 58) (q := 39) dX7_line_36 (by decide) rfl (fun c36 => ?_) (fun c36 => ?_)
      · exfalso; rcases hno with q | q
        · first
          | exact c15 q.1
          | exact c27 q.2
        · first
          | exact c36 q.1
          | exact c50 q.2
      · refine g_aload_n (q := 40) dX7_line_39 rfl rfl ?_
        refine g_get (C := RX7) (T := TX7) (ci := 8) (k := 6) (q := 43) dX7_line_40 q599 rfl in_X7 (by decide) rd_at rfl rfl ?_
        refine g_cf (I' := iJ2_size) (mc := 0) (ms := 0) (rc := (0+1)) (rs := (0+8)) (ci := 3) (q := 48) dX7_line_43 q709 q711 q710 q716 q714 q712 (by decide) gcJ2_size.2.1 q715 rfl q713 gcJ2_size hl (c_lsize hl) rfl rfl ?_
        refine g_bipush (q := 50) dX7_line_48 rfl ?_
        refine g_icmp_ne (t := 58) (q := 53) dX7_line_50 (by decide) rfl (by unfold in32; omega) (by unfold in32; omega) (fun c50 => ?_) (fun c50 => ?_)
        · exfalso; rcases hno with q | q
          · first
            | exact c15 q.1
            | exact c27 q.2
          · first
            | exact c36 q.1
            | exact c50 q.2
        · refine g_aload_n (q := 54) dX7_line_53 rfl rfl ?_
          refine g_iconst (q := 55) dX7_line_54 rfl ?_
          exact g_cvX (I' := iX7_fails) (mc := 1) (ms := 8) (rc := 0) (rs := 0) (ci := 8) dX7_line_55 q718 q720 rfl qs11 gcX7_fails rd_at (GO.deep (c_failsC (d := 0) hC (by decide)) (by omega)) rfl (fun x55 e55 y55 => excQ.l hR y55)
theorem c_lineLaw {v : Int} {bs : List Int} (hR : RST E ow h r so la ak ta tx rl sz tp P) (hP : PSok sz P) (hf : P.2.2.2.2.1 = 0) (hz : sz ≤ 900) (hv : 0 ≤ v ∧ v ≤ 2) (hi : isW tp bs P) (h1 : bs ≠ wThing) (h2 : bs ≠ wRow) (wl : whP tp P lLaws = v) (hX : enP tp sz (rlP tp sz v (PSadv tp sz P)) = X) : CALL E iX7_line (d + 10) (2 * (X.2.1 - P.2.1).toNat + 16) (6 * (X.2.1 - P.2.1).toNat + 256) [.ref r] h (qVE (okL E ow h r so la ak ta tx rl sz tp X) (excL ow h X)) := by
  have mv := hR.mv (X := P) (XT.refl hR.1.1.2.1.1) rfl
  have rok := rlP_ok (tp := tp) (hP.adv (tp := tp)) hz hf hv
  have a2 := (hP.1.adv (tp := tp)).2.1
  have wn : went sz P (rlP tp sz v (PSadv tp sz P)) := ⟨rok.1, fun q => Int.le_trans a2 (rok.2 q)⟩
  have ef := (en_from (tp := tp) wn).1
  have hb := rok.1.1.1
  rw [hX] at ef
  have cl := c_lawLine (d := d) (X := rlP tp sz v (PSadv tp sz P)) mv.1 hP hf hz hv rfl
  generalize eM : 2 * ((rlP tp sz v (PSadv tp sz P)).2.1 - P.2.1).toNat + 13 = MC at cl
  generalize eS : 6 * ((rlP tp sz v (PSadv tp sz P)).2.1 - P.2.1).toNat + 59 = MS at cl
  refine GO.room (rc := 0 + 1 + MC) (rs := 0 + 8 + MS) ?_ (by omega) (by omega)
  refine GO.cast hR.self ?_
  refine l_lineA hR hP hf hz (fun q => ?_) ?_
  · rcases q with q | q
    · exact h1 (isW_inj hi q.1)
    · exact h2 (isW_inj hi q.1)
  rw [wl]
  refine g_iload_n (q := 59) dX7_line_58 rfl rfl ?_
  refine g_iconst (q := 60) dX7_line_59 rfl ?_
  refine g_icmp_gt (t := 71) (q := 63) dX7_line_60 (by decide) rfl (by unfold in32; omega) (by unfold in32; omega) (fun c60 => ?_) (fun c60 => ?_)
  · exact absurd c60 (by omega)
  · refine g_aload_n (q := 64) dX7_line_63 rfl rfl ?_
    refine g_iload_n (q := 65) dX7_line_64 rfl rfl ?_
    refine g_cvVE (I' := iX7_lawLine) (mc := MC) (ms := MS) (rc := (0+1)) (rs := (0+8)) (ci := 8) (q := 68) dX7_line_65 q750 q752 rfl qs12 gcX7_lawLine rd_at (cl) rfl rfl (fun x65 e65 y65 => by rw [← hX]; exact excL.en (excL.xf mv.2 y65)) (fun k65 z65 => ?_)
    obtain ⟨w, ow2, x2, r2⟩ := z65
    refine g_goto (t := 166) dX7_line_68 (by decide) ?_
    rw [← hX]; exact l_line166 r2 (mv.2.trans x2) rok.1 w hz
theorem c_line (hR : RST E ow h r so la ak ta tx rl sz tp P) (hP : PSok sz P) (hf : P.2.2.2.2.1 = 0) (hz : sz ≤ 900) (hX : lnP tp sz P = X) : CALL E iX7_line (d + 10) (2 * (X.2.1 - P.2.1).toNat + 16) (6 * (X.2.1 - P.2.1).toNat + 256) [.ref r] h (qVE (okL E ow h r so la ak ta tx rl sz tp X) (excL ow h X)) := by
  have ok := hR.1.1.1
  have hC := hR.1.1
  have hP1 := hP.adv (tp := tp)
  have hw2 := hP.2.1.1.2.1
  have mv := hR.mv (X := P) (XT.refl hC.2.1.1) rfl
  have mv1 := hR.mv (X := PSadv tp sz P) (XT.refl hC.2.1.1) rfl
  have a2 := (hP.1.adv (tp := tp)).2.1
  unfold lnP at hX
  by_cases z1 : isW tp wThing P
  · rw [if_pos z1] at hX
    have wl : whP tp P lLaws = 3 := by
      unfold whP; rw [if_neg (fun q => absurd (isW_inj z1 q) (by decide))]
      unfold whP; rw [if_neg (fun q => absurd (isW_inj z1 q) (by decide))]
      unfold whP; rw [if_neg (fun q => absurd (isW_inj z1 q) (by decide))]
      rfl
    by_cases y : P.2.2.2.2.2.2.1 1 = 24
    · rw [if_pos y] at hX
      subst hX
      refine GO.room (rc := 0 + 1) (rs := 0 + 8) ?_ (by omega) (by omega)
      refine GO.cast hR.self ?_
      exact l_lineX hR hP hf hz (Or.inl ⟨z1, y⟩)
    · rw [if_neg y] at hX
      subst hX
      refine GO.room (rc := 0 + 1 + 1 + 1) (rs := 0 + 8 + 8 + 8) ?_ (by omega) (by omega)
      refine GO.cast hR.self ?_
      refine l_lineA hR hP hf hz (fun q => q.elim (fun q => y q.2) (fun q => absurd (isW_inj z1 q.1) (by decide))) ?_
      rw [wl]
      refine g_iload_n (q := 59) dX7_line_58 rfl rfl ?_
      refine g_iconst (q := 60) dX7_line_59 rfl ?_
      refine g_icmp_gt (t := 71) (q := 63) dX7_line_60 (by decide) rfl (by first | assumption | exact in32_gB | exact in32_gCmp | (unfold in32; omega)) (by first | assumption | exact in32_gB | exact in32_gCmp | (unfold in32; omega)) (fun c60 => ?_) (fun c60 => ?_)
      · refine g_aload_n (q := 72) dX7_line_71 rfl rfl ?_
        refine g_ldcS (q := 74) dX7_line_72 rfl q706 (litR_thing ok) rfl ?_
        refine g_cv (I' := iX7_takes) (mc := 0) (ms := 0) (rc := (0+1+1+1)) (rs := (0+8+8+8)) (ci := 8) (q := 77) dX7_line_74 q763 q765 rfl qs15 gcX7_takes rd_at (GO.deep (c_takesC (d := 0) hC (litR_thing ok).2 hP.1 hf hz) (by omega)) rfl rfl ?_
        rw [if_pos z1]
        refine g_ifeqB (t := 124) (q := 80) dX7_line_77 (by decide) rfl (fun c77 => ?_) (fun c77 => ?_)
        · exact absurd z1 c77
        · exact l_thing hR hP hf hz y
      · exact absurd c60 (by decide)
  · rw [if_neg z1] at hX
    by_cases z2 : isW tp wRow P
    · rw [if_pos z2] at hX
      have wl : whP tp P lLaws = 3 := by
        unfold whP; rw [if_neg (fun q => absurd (isW_inj z2 q) (by decide))]
        unfold whP; rw [if_neg (fun q => absurd (isW_inj z2 q) (by decide))]
        unfold whP; rw [if_neg (fun q => absurd (isW_inj z2 q) (by decide))]
        rfl
      by_cases y : P.2.2.2.2.2.2.1 2 = 12
      · rw [if_pos y] at hX
        subst hX
        refine GO.room (rc := 0 + 1) (rs := 0 + 8) ?_ (by omega) (by omega)
        refine GO.cast hR.self ?_
        exact l_lineX hR hP hf hz (Or.inr ⟨z2, y⟩)
      · rw [if_neg y] at hX
        subst hX
        obtain ⟨b1, b2⟩ := rrL_ok (tp := tp) 13 0 (PSadv tp sz P) hP1 hf (by omega) (by omega) (by show P.2.2.2.2.2.2.1 2 < 12; omega) (fun i i1 i2 => absurd i2 (by omega))
        refine GO.room (rc := 0 + 1 + 3) (rs := 0 + 8 + 232) ?_ (by omega) (by omega)
        refine GO.cast hR.self ?_
        refine l_lineA hR hP hf hz (fun q => q.elim (fun q => z1 q.1) (fun q => y q.2)) ?_
        rw [wl]
        refine g_iload_n (q := 59) dX7_line_58 rfl rfl ?_
        refine g_iconst (q := 60) dX7_line_59 rfl ?_
        refine g_icmp_gt (t := 71) (q := 63) dX7_line_60 (by decide) rfl (by first | assumption | exact in32_gB | exact in32_gCmp | (unfold in32; omega)) (by first | assumption | exact in32_gB | exact in32_gCmp | (unfold in32; omega)) (fun c60 => ?_) (fun c60 => ?_)
        · refine g_aload_n (q := 72) dX7_line_71 rfl rfl ?_
          refine g_ldcS (q := 74) dX7_line_72 rfl q706 (litR_thing ok) rfl ?_
          refine g_cv (I' := iX7_takes) (mc := 0) (ms := 0) (rc := (0+1+3)) (rs := (0+8+232)) (ci := 8) (q := 77) dX7_line_74 q763 q765 rfl qs15 gcX7_takes rd_at (GO.deep (c_takesC (d := 0) hC (litR_thing ok).2 hP.1 hf hz) (by omega)) rfl rfl ?_
          rw [if_neg z1]
          refine g_ifeqB (t := 124) (q := 80) dX7_line_77 (by decide) rfl (fun c77 => ?_) (fun c77 => ?_)
          · refine g_aload_n (q := 125) dX7_line_124 rfl rfl ?_
            refine g_ldcS (q := 127) dX7_line_125 rfl q707 (litR_row ok) rfl ?_
            refine g_cv (I' := iX7_takes) (mc := 0) (ms := 0) (rc := (0+1+3)) (rs := (0+8+232)) (ci := 8) (q := 130) dX7_line_127 q763 q765 rfl qs15 gcX7_takes rd_at (GO.deep (c_takesC (d := 0) hC (litR_row ok).2 hP.1 hf hz) (by omega)) rfl rfl ?_
            rw [if_pos z2]
            refine g_ifeqB (t := 140) (q := 133) dX7_line_130 (by decide) rfl (fun c130 => ?_) (fun c130 => ?_)
            · exact absurd z2 c130
            · refine g_aload_n (q := 134) dX7_line_133 rfl rfl ?_
              refine g_cvVE (I' := iX7_rowLine) (mc := 3) (ms := 232) (rc := (0+1)) (rs := (0+8)) (ci := 8) (q := 137) dX7_line_134 q848 q850 rfl qs20 gcX7_rowLine rd_at (GO.deep (c_rowLine (d := 0) mv1.1 hP1 hf hz (by show P.2.2.2.2.2.2.1 2 < 12; omega) rfl) (by omega)) rfl rfl (fun x134 e134 y134 => excL.en (excL.xf mv1.2 y134)) (fun k134 z134 => ?_)
              obtain ⟨w, ow2, x2, r2⟩ := z134
              refine g_goto (t := 166) dX7_line_137 (by decide) ?_
              exact l_line166 r2 (mv1.2.trans x2) b1 w hz
          · exact absurd c77 z1
        · exact absurd c60 (by decide)
    · rw [if_neg z2] at hX
      by_cases z3 : isW tp wHold P
      · rw [if_pos z3] at hX
        have wl : whP tp P lLaws = 3 := by
          unfold whP; rw [if_neg (fun q => absurd (isW_inj z3 q) (by decide))]
          unfold whP; rw [if_neg (fun q => absurd (isW_inj z3 q) (by decide))]
          unfold whP; rw [if_neg (fun q => absurd (isW_inj z3 q) (by decide))]
          rfl
        have ch := c_holdLine (d := d + 3) mv.1 hP hf hz
        have hXx : ∀ y k, excL ow h (hoX tp sz P) y k → excL ow h X y k := fun y k z => by
          unfold hoX at z
          by_cases e : P.2.2.2.2.2.2.2.1 = 0
          · rw [if_pos e] at hX z; rw [← hX]; exact excL.en z
          · rw [if_neg e] at hX z; rw [← hX]; exact z
        refine GO.room (rc := 0 + 1 + 1) (rs := 0 + 8 + 8) ?_ (by omega) (by omega)
        refine GO.cast hR.self ?_
        refine l_lineA hR hP hf hz (fun q => q.elim (fun q => z1 q.1) (fun q => z2 q.1)) ?_
        rw [wl]
        refine g_iload_n (q := 59) dX7_line_58 rfl rfl ?_
        refine g_iconst (q := 60) dX7_line_59 rfl ?_
        refine g_icmp_gt (t := 71) (q := 63) dX7_line_60 (by decide) rfl (by first | assumption | exact in32_gB | exact in32_gCmp | (unfold in32; omega)) (by first | assumption | exact in32_gB | exact in32_gCmp | (unfold in32; omega)) (fun c60 => ?_) (fun c60 => ?_)
        · refine g_aload_n (q := 72) dX7_line_71 rfl rfl ?_
          refine g_ldcS (q := 74) dX7_line_72 rfl q706 (litR_thing ok) rfl ?_
          refine g_cv (I' := iX7_takes) (mc := 0) (ms := 0) (rc := (0+1+1)) (rs := (0+8+8)) (ci := 8) (q := 77) dX7_line_74 q763 q765 rfl qs15 gcX7_takes rd_at (GO.deep (c_takesC (d := 0) hC (litR_thing ok).2 hP.1 hf hz) (by omega)) rfl rfl ?_
          rw [if_neg z1]
          refine g_ifeqB (t := 124) (q := 80) dX7_line_77 (by decide) rfl (fun c77 => ?_) (fun c77 => ?_)
          · refine g_aload_n (q := 125) dX7_line_124 rfl rfl ?_
            refine g_ldcS (q := 127) dX7_line_125 rfl q707 (litR_row ok) rfl ?_
            refine g_cv (I' := iX7_takes) (mc := 0) (ms := 0) (rc := (0+1+1)) (rs := (0+8+8)) (ci := 8) (q := 130) dX7_line_127 q763 q765 rfl qs15 gcX7_takes rd_at (GO.deep (c_takesC (d := 0) hC (litR_row ok).2 hP.1 hf hz) (by omega)) rfl rfl ?_
            rw [if_neg z2]
            refine g_ifeqB (t := 140) (q := 133) dX7_line_130 (by decide) rfl (fun c130 => ?_) (fun c130 => ?_)
            · refine g_aload_n (q := 141) dX7_line_140 rfl rfl ?_
              refine g_ldcS (q := 143) dX7_line_141 rfl q924 (litR_hold ok) rfl ?_
              refine g_cv (I' := iX7_is) (mc := 0) (ms := 0) (rc := (0+1+1)) (rs := (0+8+8)) (ci := 8) (q := 146) dX7_line_143 q654 q656 rfl qs10 gcX7_is rd_at (GO.deep (c_isC (d := 0) hC (litR_hold ok).2 hP.1 hf hz) (by omega)) rfl rfl ?_
              refine g_ifeqB (t := 156) (q := 149) dX7_line_146 (by decide) rfl (fun c146 => ?_) (fun c146 => ?_)
              · exact absurd z3 c146
              · refine g_aload_n (q := 150) dX7_line_149 rfl rfl ?_
                refine g_cvVE (I' := iX7_holdLine) (mc := 1) (ms := 8) (rc := (0+1)) (rs := (0+8)) (ci := 8) (q := 153) dX7_line_150 q925 q927 rfl qs24 gcX7_holdLine rd_at (ch) rfl rfl (fun x150 e150 y150 => hXx _ _ (excL.xf mv.2 y150)) (fun k150 z150 => ?_)
                obtain ⟨w, ow2, x2, r2⟩ := z150
                refine g_goto (t := 166) dX7_line_153 (by decide) ?_
                have e : P.2.2.2.2.2.2.2.1 = 0 := Decidable.byContradiction fun q => by
                  unfold hoX at w
                  rw [if_neg q] at w
                  exact absurd w (show ¬ (2 : Int) = 0 by decide)
                have e2 : hoX tp sz P = hoP tp sz P := if_pos e
                rw [e2] at w r2
                rw [if_pos e] at hX
                rw [← hX]
                exact l_line166 r2 (mv.2.trans x2) (hoP_ok hP).1 w hz
            · exact absurd c130 z2
          · exact absurd c77 z1
        · exact absurd c60 (by decide)
      · rw [if_neg z3] at hX
        by_cases z4 : isW tp wLean P
        · rw [if_pos z4] at hX
          subst hX
          have wl : whP tp P lLaws = 3 := by
            unfold whP; rw [if_neg (fun q => absurd (isW_inj z4 q) (by decide))]
            unfold whP; rw [if_neg (fun q => absurd (isW_inj z4 q) (by decide))]
            unfold whP; rw [if_neg (fun q => absurd (isW_inj z4 q) (by decide))]
            rfl
          have en : nwP tp sz wLean P = PSadv tp sz P := if_pos z4
          have ch := c_leanLine (d := d + 2) mv1.1 hP1 hf hz
          refine GO.room (rc := 0 + 1 + 2 + 1) (rs := 0 + 8 + 16 + 8) ?_ (by omega) (by omega)
          refine GO.cast hR.self ?_
          refine l_lineA hR hP hf hz (fun q => q.elim (fun q => z1 q.1) (fun q => z2 q.1)) ?_
          rw [wl]
          refine g_iload_n (q := 59) dX7_line_58 rfl rfl ?_
          refine g_iconst (q := 60) dX7_line_59 rfl ?_
          refine g_icmp_gt (t := 71) (q := 63) dX7_line_60 (by decide) rfl (by first | assumption | exact in32_gB | exact in32_gCmp | (unfold in32; omega)) (by first | assumption | exact in32_gB | exact in32_gCmp | (unfold in32; omega)) (fun c60 => ?_) (fun c60 => ?_)
          · refine g_aload_n (q := 72) dX7_line_71 rfl rfl ?_
            refine g_ldcS (q := 74) dX7_line_72 rfl q706 (litR_thing ok) rfl ?_
            refine g_cv (I' := iX7_takes) (mc := 0) (ms := 0) (rc := (0+1+2+1)) (rs := (0+8+16+8)) (ci := 8) (q := 77) dX7_line_74 q763 q765 rfl qs15 gcX7_takes rd_at (GO.deep (c_takesC (d := 0) hC (litR_thing ok).2 hP.1 hf hz) (by omega)) rfl rfl ?_
            rw [if_neg z1]
            refine g_ifeqB (t := 124) (q := 80) dX7_line_77 (by decide) rfl (fun c77 => ?_) (fun c77 => ?_)
            · refine g_aload_n (q := 125) dX7_line_124 rfl rfl ?_
              refine g_ldcS (q := 127) dX7_line_125 rfl q707 (litR_row ok) rfl ?_
              refine g_cv (I' := iX7_takes) (mc := 0) (ms := 0) (rc := (0+1+2+1)) (rs := (0+8+16+8)) (ci := 8) (q := 130) dX7_line_127 q763 q765 rfl qs15 gcX7_takes rd_at (GO.deep (c_takesC (d := 0) hC (litR_row ok).2 hP.1 hf hz) (by omega)) rfl rfl ?_
              rw [if_neg z2]
              refine g_ifeqB (t := 140) (q := 133) dX7_line_130 (by decide) rfl (fun c130 => ?_) (fun c130 => ?_)
              · refine g_aload_n (q := 141) dX7_line_140 rfl rfl ?_
                refine g_ldcS (q := 143) dX7_line_141 rfl q924 (litR_hold ok) rfl ?_
                refine g_cv (I' := iX7_is) (mc := 0) (ms := 0) (rc := (0+1+2+1)) (rs := (0+8+16+8)) (ci := 8) (q := 146) dX7_line_143 q654 q656 rfl qs10 gcX7_is rd_at (GO.deep (c_isC (d := 0) hC (litR_hold ok).2 hP.1 hf hz) (by omega)) rfl rfl ?_
                refine g_ifeqB (t := 156) (q := 149) dX7_line_146 (by decide) rfl (fun c146 => ?_) (fun c146 => ?_)
                · refine g_aload_n (q := 157) dX7_line_156 rfl rfl ?_
                  refine g_ldcS (q := 159) dX7_line_157 rfl q929 (litR_lean ok) rfl ?_
                  refine g_cvVE (I' := iX7_word) (mc := 1) (ms := 8) (rc := (0+1+2)) (rs := (0+8+16)) (ci := 8) (q := 162) dX7_line_159 q759 q761 rfl qs14 gcX7_word rd_at (GO.deep (c_wordC (d := 0) hC (litR_lean ok).2 hP.1 hf hz) (by omega)) rfl rfl (fun x159 e159 y159 => by have q := y159.1; rw [en] at q; exact absurd hf q) (fun k159 z159 => ?_)
                  obtain ⟨q1, rfl⟩ := z159
                  rw [en]
                  refine g_aload_n (q := 163) dX7_line_162 rfl rfl ?_
                  refine g_cvVE (I' := iX7_leanLine) (mc := 2) (ms := 16) (rc := (0+1)) (rs := (0+8)) (ci := 8) (q := 166) dX7_line_163 q930 q932 rfl qs25 gcX7_leanLine rd_at (ch) rfl rfl (fun x163 e163 y163 => excL.en (excL.xf mv1.2 y163)) (fun k163 z163 => ?_)
                  obtain ⟨w, ow2, x2, r2⟩ := z163
                  exact l_line166 r2 (mv1.2.trans x2) (leP_ok hP).1 w hz
                · exact absurd c146 z3
              · exact absurd c130 z2
            · exact absurd c77 z1
          · exact absurd c60 (by decide)
        · rw [if_neg z4] at hX
          by_cases z5 : isW tp wGrow P
          · rw [if_pos z5] at hX
            exact c_lineLaw hR hP hf hz (by decide) z5 (by decide) (by decide) (if_pos z5) hX
          · rw [if_neg z5] at hX
            by_cases z6 : isW tp wFall P
            · rw [if_pos z6] at hX
              exact c_lineLaw hR hP hf hz (by decide) z6 (by decide) (by decide) ((if_neg z5).trans (congrArg (1 + ·) (if_pos z6))) hX
            · rw [if_neg z6] at hX
              by_cases z7 : isW tp wMix P
              · rw [if_pos z7] at hX
                exact c_lineLaw hR hP hf hz (by decide) z7 (by decide) (by decide) ((if_neg z5).trans (congrArg (1 + ·) ((if_neg z6).trans (congrArg (1 + ·) (if_pos z7))))) hX
              · rw [if_neg z7] at hX
                subst hX
                have wl : whP tp P lLaws = 3 := (if_neg z5).trans (congrArg (1 + ·) ((if_neg z6).trans (congrArg (1 + ·) (if_neg z7))))
                have en : nwP tp sz wLean P = PSerr 1 P := (if_neg z4).trans (if_pos hf)
                refine GO.room (rc := 0 + 1) (rs := 0 + 8) ?_ (by omega) (by omega)
                refine GO.cast hR.self ?_
                refine l_lineA hR hP hf hz (fun q => q.elim (fun q => z1 q.1) (fun q => z2 q.1)) ?_
                rw [wl]
                refine g_iload_n (q := 59) dX7_line_58 rfl rfl ?_
                refine g_iconst (q := 60) dX7_line_59 rfl ?_
                refine g_icmp_gt (t := 71) (q := 63) dX7_line_60 (by decide) rfl (by first | assumption | exact in32_gB | exact in32_gCmp | (unfold in32; omega)) (by first | assumption | exact in32_gB | exact in32_gCmp | (unfold in32; omega)) (fun c60 => ?_) (fun c60 => ?_)
                · refine g_aload_n (q := 72) dX7_line_71 rfl rfl ?_
                  refine g_ldcS (q := 74) dX7_line_72 rfl q706 (litR_thing ok) rfl ?_
                  refine g_cv (I' := iX7_takes) (mc := 0) (ms := 0) (rc := (0+1)) (rs := (0+8)) (ci := 8) (q := 77) dX7_line_74 q763 q765 rfl qs15 gcX7_takes rd_at (GO.deep (c_takesC (d := 0) hC (litR_thing ok).2 hP.1 hf hz) (by omega)) rfl rfl ?_
                  rw [if_neg z1]
                  refine g_ifeqB (t := 124) (q := 80) dX7_line_77 (by decide) rfl (fun c77 => ?_) (fun c77 => ?_)
                  · refine g_aload_n (q := 125) dX7_line_124 rfl rfl ?_
                    refine g_ldcS (q := 127) dX7_line_125 rfl q707 (litR_row ok) rfl ?_
                    refine g_cv (I' := iX7_takes) (mc := 0) (ms := 0) (rc := (0+1)) (rs := (0+8)) (ci := 8) (q := 130) dX7_line_127 q763 q765 rfl qs15 gcX7_takes rd_at (GO.deep (c_takesC (d := 0) hC (litR_row ok).2 hP.1 hf hz) (by omega)) rfl rfl ?_
                    rw [if_neg z2]
                    refine g_ifeqB (t := 140) (q := 133) dX7_line_130 (by decide) rfl (fun c130 => ?_) (fun c130 => ?_)
                    · refine g_aload_n (q := 141) dX7_line_140 rfl rfl ?_
                      refine g_ldcS (q := 143) dX7_line_141 rfl q924 (litR_hold ok) rfl ?_
                      refine g_cv (I' := iX7_is) (mc := 0) (ms := 0) (rc := (0+1)) (rs := (0+8)) (ci := 8) (q := 146) dX7_line_143 q654 q656 rfl qs10 gcX7_is rd_at (GO.deep (c_isC (d := 0) hC (litR_hold ok).2 hP.1 hf hz) (by omega)) rfl rfl ?_
                      refine g_ifeqB (t := 156) (q := 149) dX7_line_146 (by decide) rfl (fun c146 => ?_) (fun c146 => ?_)
                      · refine g_aload_n (q := 157) dX7_line_156 rfl rfl ?_
                        refine g_ldcS (q := 159) dX7_line_157 rfl q929 (litR_lean ok) rfl ?_
                        refine g_cvVE (I' := iX7_word) (mc := 1) (ms := 8) (rc := 0) (rs := 0) (ci := 8) (q := 162) dX7_line_159 q759 q761 rfl qs14 gcX7_word rd_at (GO.deep (c_wordC (d := 0) hC (litR_lean ok).2 hP.1 hf hz) (by omega)) rfl rfl (fun x159 e159 y159 => by rw [en] at y159; exact excQ.l hR y159) (fun k159 z159 => ?_)
                        have q := z159.1; rw [en] at q; exact absurd q (show ¬ (1 : Int) = 0 by decide)
                      · exact absurd c146 z3
                    · exact absurd c130 z2
                  · exact absurd c77 z1
                · exact absurd c60 (by decide)
end
