/-! THE COMPONENT: the Reader reads a line: its end -/
set_option maxRecDepth 100000
section
variable {E : gE} {d r so la ak ta tx rl : Nat} {ow ow' : OW} {h h' : gH} {tp : Int → Int} {sz : Int} {P R X : PS}
theorem enP_bad (h : R.2.2.2.2.1 ≠ 0) : (enP tp sz R).2.2.2.2.1 = R.2.2.2.2.1 ∧ (enP tp sz R).2.2.2.2.2.1 = R.2.2.2.2.2.1 ∧ (enP tp sz R).2.1 = R.2.1 := by
  have e1 : en1 R = R := by
    by_cases w : R.2.2.1 = 3
    · exact if_pos w
    · exact (if_neg w).trans (if_neg h)
  have e2 : en2 tp sz R = R := if_neg h
  unfold enP
  rw [e1, e2]
  exact ⟨rfl, rfl, rfl⟩
theorem enP_no (h : R.2.2.2.2.1 = 0) (w : R.2.2.1 ≠ 3) : enP tp sz R = PSf (upI R.2.2.2.2.2.2.1 0 (R.2.2.2.2.2.2.1 0 + 1)) (PSerr 1 R) := by
  have e1 : en1 R = PSerr 1 R := (if_neg w).trans (if_pos h)
  have e2 : en2 tp sz (PSerr 1 R) = PSerr 1 R := if_neg (show ¬ (1 : Int) = 0 by decide)
  unfold enP
  rw [e1, e2]
  rfl
theorem enP_yes (h : R.2.2.2.2.1 = 0) (w : R.2.2.1 = 3) : enP tp sz R = PSf (upI R.2.2.2.2.2.2.1 0 (R.2.2.2.2.2.2.1 0 + 1)) (PSadv tp sz R) := by
  have e1 : en1 R = R := if_pos w
  have e2 : en2 tp sz R = PSadv tp sz R := if_pos h
  unfold enP
  rw [e1, e2]
  rfl
theorem en_from (hw : went sz P R) : R.2.1 ≤ (enP tp sz R).2.1 ∧ ((enP tp sz R).2.2.2.2.1 = 0 → P.1 + 1 ≤ (enP tp sz R).2.1) := by
  have ad := (hw.1.1.adv (tp := tp)).2.1
  have hb := hw.1.1.1
  by_cases f : R.2.2.2.2.1 = 0
  · by_cases w : R.2.2.1 = 3
    · rw [enP_yes f w]
      have d3 := hw.1.1.2.2.2.2 (by rw [w]; decide)
      have d4 := hw.2 f
      exact ⟨by show R.2.1 ≤ (PSadv tp sz R).2.1; omega, fun _ => by show P.1 + 1 ≤ (PSadv tp sz R).2.1; omega⟩
    · rw [enP_no f w]
      exact ⟨Int.le_refl _, fun q => absurd q (show ¬ (1 : Int) = 0 by decide)⟩
  · have e := enP_bad (tp := tp) (sz := sz) f
    rw [e.1, e.2.2]
    exact ⟨Int.le_refl _, fun q => absurd q f⟩
theorem excL.en {y : Nat} {k : gH} (z : excL ow h R y k) : excL ow h (enP tp sz R) y k := by
  obtain ⟨z1, ow2, z2, z3, z4⟩ := z
  have e := enP_bad (tp := tp) (sz := sz) z1
  exact ⟨by rw [e.1]; exact z1, ow2, z2, z3, by rw [e.1, e.2.1]; exact z4⟩
/-- a line's end -/
theorem l_line166 {x1 : Option Value} (hR : RST E ow' h' r so la ak ta tx rl sz tp R) (hXF : XF ow ow' h h') (hP : PSok sz R) (hf : R.2.2.2.2.1 = 0) (hz : sz ≤ 900) : GO E iX7_line (d + 10) (0 + 1) (0 + 8) 166 [some (.ref r), x1] [] h' (qVE (okL E ow h r so la ak ta tx rl sz tp (enP tp sz R)) (excL ow h (enP tp sz R))) := by
  have hC := hR.1.1
  have ht := hP.1.2.1
  have hw := hP.2.1.1
  have n0 := hR.ne 0 (by decide)
  obtain ⟨o, lw, ge, gl, gz, c0, -⟩ := id hR.2.2.1
  have c0' : ∀ X : PS, (hset h' r (rdO so la ak ta tx rl sz X)).1 tx = some (oB 2 [.ref (tx + 1), .ref (tx + 2), .ref (tx + 3), .ref (tx + 7), vI (R.2.2.2.2.2.2.1 1), vI (R.2.2.2.2.2.2.1 4), vI (R.2.2.2.2.2.2.1 0), vI R.2.2.2.2.2.2.2.1]) := fun X => (hset_ne n0).trans c0
  refine GO.cast hR.self ?_
  by_cases w : R.2.2.1 = 3
  · rw [enP_yes hf w]
    refine g_aload_n (q := 167) dX7_line_166 rfl rfl ?_
    refine g_get (C := RX7) (T := TX7) (ci := 8) (k := 9) (q := 170) dX7_line_167 q603 rfl in_X7 (by decide) rd_at rfl rfl ?_
    refine g_iconst (q := 171) dX7_line_170 rfl ?_
    refine g_icmp_eq (t := 179) (q := 174) dX7_line_171 (by decide) rfl (by unfold in32; omega) (by unfold in32; omega) (fun c171 => ?_) (fun c171 => ?_)
    · refine g_aload_n (q := 180) dX7_line_179 rfl rfl ?_
      refine g_cvV (I' := iX7_next) (mc := 0) (ms := 0) (rc := (0+1)) (rs := (0+8)) (ci := 8) (q := 183) dX7_line_180 q635 q637 rfl qs6 gcX7_next rd_at (GO.deep (c_nextC (d := 0) hC hz hP.1) (by omega)) rfl rfl ?_
      refine g_aload_n (q := 184) dX7_line_183 rfl rfl ?_
      refine g_get (C := RX7) (T := TX7) (ci := 8) (k := 5) (q := 187) dX7_line_184 q598 rfl in_X7 (by decide) rd_at rfl rfl ?_
      refine g_dup (q := 188) dX7_line_187 rfl ?_
      refine g_getN (C := RX2) (T := TX2) (ci := 2) (k := 6) (q := 191) dX7_line_188 q364 rfl in_X2 (by decide) (c0' _) rfl rfl ?_
      refine g_iconst (q := 192) dX7_line_191 rfl ?_
      refine g_iadd (q := 193) dX7_line_192 rfl ?_
      refine g_putN (C := RX2) (T := TX2) (ci := 2) (k := 6) (q := 196) dX7_line_193 q364 rfl in_X2 tyX2_ok nmX2 (by decide) rfl gFit_int (c0' _) (Nat.le_of_ble_eq_true rfl) rfl ?_
      refine g_vret dX7_line_196 rfl ?_
      have ht2 := RTX.obj (g' := upI R.2.2.2.2.2.2.1 0 (R.2.2.2.2.2.2.1 0 + 1)) (hd' := R.2.2.2.2.2.2.2.1) (hR.tx0 (X := PSadv tp sz R)) hR.2.2.2.2 hw (fun y y1 y2 y3 => upI_ne y1)
      rw [upI_ne (show (1 : Int) ≠ 0 by decide), upI_ne (show (4 : Int) ≠ 0 by decide), upI_at] at ht2
      obtain ⟨w1, w2⟩ := RST.fin (X := PSf (upI R.2.2.2.2.2.2.1 0 (R.2.2.2.2.2.2.1 0 + 1)) (PSadv tp sz R)) hR (FR.set (a := tx) (v := oB 2 [.ref (tx + 1), .ref (tx + 2), .ref (tx + 3), .ref (tx + 7), vI (R.2.2.2.2.2.2.1 1), vI (R.2.2.2.2.2.2.1 4), vI (R.2.2.2.2.2.2.1 0 + 1), vI R.2.2.2.2.2.2.2.1]) (o 0 (by decide))) (hR.hw0.set (c0' _)) rfl ht2 hw (show upI R.2.2.2.2.2.2.1 0 (R.2.2.2.2.2.2.1 0 + 1) 2 = R.2.2.2.2.2.2.1 2 from upI_ne (by decide)) (fun y y1 y2 => show upI R.2.2.2.2.2.2.1 0 (R.2.2.2.2.2.2.1 0 + 1) y = R.2.2.2.2.2.2.1 y from upI_ne (by omega)) (hR.2.2.2.2.up (by decide))
      exact ⟨hf, ow', hXF.trans w2, w1⟩
    · exact absurd w c171
  · rw [enP_no hf w]
    refine g_aload_n (q := 167) dX7_line_166 rfl rfl ?_
    refine g_get (C := RX7) (T := TX7) (ci := 8) (k := 9) (q := 170) dX7_line_167 q603 rfl in_X7 (by decide) rd_at rfl rfl ?_
    refine g_iconst (q := 171) dX7_line_170 rfl ?_
    refine g_icmp_eq (t := 179) (q := 174) dX7_line_171 (by decide) rfl (by unfold in32; omega) (by unfold in32; omega) (fun c171 => ?_) (fun c171 => ?_)
    · exact absurd c171 w
    · refine g_aload_n (q := 175) dX7_line_174 rfl rfl ?_
      refine g_iconst (q := 176) dX7_line_175 rfl ?_
      exact g_cvX (I' := iX7_fails) (mc := 1) (ms := 8) (rc := 0) (rs := 0) (ci := 8) dX7_line_176 q718 q720 rfl qs11 gcX7_fails rd_at (GO.deep (c_failsC (d := 0) hC (by decide)) (by omega)) rfl (fun x176 e176 y176 => excL.xf hXF (by obtain ⟨z1, ow2, z2, z3, z4⟩ := excQ.l hR y176; exact ⟨z1, ow2, z2, z3, z4⟩))
/-- thing easy .. -/
theorem l_thing {x1 : Option Value} (hR : RST E ow h r so la ak ta tx rl sz tp P) (hP : PSok sz P) (hf : P.2.2.2.2.1 = 0) (hz : sz ≤ 900) (h24 : P.2.2.2.2.2.2.1 1 ≠ 24) : GO E iX7_line (d + 10) (0 + 1 + 1 + 1) (0 + 8 + 8 + 8) 80 [some (.ref r), x1] [] (hset h r (rdO so la ak ta tx rl sz (PSadv tp sz P))) (qVE (okL E ow h r so la ak ta tx rl sz tp (enP tp sz (thP tp sz P))) (excL ow h (enP tp sz (thP tp sz P)))) := by
  have ok := hR.1.1.1
  have hC := hR.1.1
  have hw := hP.2.1.1
  have hw1 := hw.1
  have n0 := hR.ne 0 (by decide)
  have n1 := hR.ne 1 (by decide)
  have hP1 := hP.adv (tp := tp)
  have tho := thP_ok (tp := tp) hP h24
  obtain ⟨o, lw, ge, gl, gz, c0, -⟩ := id hR.2.2.1
  have c0' : ∀ X : PS, (hset h r (rdO so la ak ta tx rl sz X)).1 tx = some (oB 2 [.ref (tx + 1), .ref (tx + 2), .ref (tx + 3), .ref (tx + 7), vI (P.2.2.2.2.2.2.1 1), vI (P.2.2.2.2.2.2.1 4), vI (P.2.2.2.2.2.2.1 0), vI P.2.2.2.2.2.2.2.1]) := fun X => (hset_ne n0).trans c0
  have hP2 := hP1.nw (tp := tp) (bs := wEasy)
  have hnw := nw_from (tp := tp) (bs := wEasy) hP1.1
  have ethP : thP tp sz P = thQ (nuP tp sz 0 9 (nwP tp sz wEasy (PSadv tp sz P))) := rfl
  generalize e2 : nwP tp sz wEasy (PSadv tp sz P) = P2 at hP2 hnw ethP
  have f2 : P2.2.2.2.2.2.2 = P.2.2.2.2.2.2 := hnw.2
  have efr := nu_fresh (tp := tp) (sz := sz) (P := P2) (lo := 0) (hi := 9)
  have hval := nu_val (tp := tp) (sz := sz) (P := P2) (show (0 : Int) ≤ 0 by decide) (show (0 : Int) ≤ 9 by decide)
  have cn := fun (q : P2.2.2.2.2.1 = 0) => c_numberC (d := d + 4) (so := so) (la := la) (ak := ak) (ta := ta) (tx := tx) (rl := rl) (lw := 0) (hi := 9) hC hP2.1 q hz (by decide) (by decide)
  have nub : P2.2.2.2.2.1 ≠ 0 → nuP tp sz 0 9 P2 = (0, P2) := fun q => if_neg q
  generalize e3 : nuP tp sz 0 9 P2 = q3 at cn efr hval ethP nub
  have efr' : q3.2.2.2.2.2.2.2 = P.2.2.2.2.2.2 := efr.trans f2
  have thb : q3.2.2.2.2.2.1 ≠ 0 → thP tp sz P = q3.2 := fun q => ethP.trans (if_neg q)
  refine g_aload_n (q := 81) dX7_line_80 rfl rfl ?_
  refine g_ldcS (q := 83) dX7_line_81 rfl q586 (litR_easy ok) rfl ?_
  refine g_cvVE (I' := iX7_word) (mc := 1) (ms := 8) (rc := (0+1+1)) (rs := (0+8+8)) (ci := 8) (q := 86) dX7_line_83 q759 q761 rfl qs14 gcX7_word rd_at (GO.deep (c_wordC (d := 0) hC (litR_easy ok).2 hP1.1 hf hz) (by omega)) rfl rfl (fun x83 e83 y83 => by rw [e2] at y83; have q := y83.1; refine excL.en ?_; rw [thb (by rw [nub q]; exact q), nub q]; exact excQ.l hR y83) (fun k83 z83 => ?_)
  obtain ⟨q1, rfl⟩ := z83
  rw [e2] at q1 ⊢
  refine g_aload_n (q := 87) dX7_line_86 rfl rfl ?_
  refine g_get (C := RX7) (T := TX7) (ci := 8) (k := 5) (q := 90) dX7_line_87 q598 rfl in_X7 (by decide) rd_at rfl rfl ?_
  refine g_getN (C := RX2) (T := TX2) (ci := 2) (k := 0) (q := 93) dX7_line_90 q348 rfl in_X2 (by decide) (c0' _) rfl rfl ?_
  refine g_aload_n (q := 94) dX7_line_93 rfl rfl ?_
  refine g_get (C := RX7) (T := TX7) (ci := 8) (k := 5) (q := 97) dX7_line_94 q598 rfl in_X7 (by decide) rd_at rfl rfl ?_
  refine g_getN (C := RX2) (T := TX2) (ci := 2) (k := 4) (q := 100) dX7_line_97 q359 rfl in_X2 (by decide) (c0' _) rfl rfl ?_
  refine g_aload_n (q := 101) dX7_line_100 rfl rfl ?_
  refine g_iconst (q := 102) dX7_line_101 rfl ?_
  refine g_bipush (q := 104) dX7_line_102 rfl ?_
  refine g_cvE (I' := iX7_number) (mc := 1) (ms := 8) (rc := (0+1)) (rs := (0+8)) (ci := 8) (q := 107) dX7_line_104 q781 q783 rfl qs19 gcX7_number rd_at (cn q1) rfl rfl (fun x104 e104 y104 => by refine excL.en ?_; rw [thb y104.1]; exact excQ.l hR y104) (fun v104 k104 z104 => ?_)
  obtain ⟨q4, rfl, rfl⟩ := z104
  obtain ⟨ge2, cl, ht1⟩ := RTX.easy (i := P.2.2.2.2.2.2.1 1) (v := q3.1) (hR.tx0 (X := q3.2)) hR.2.2.2.2 hw (by omega)
  refine g_iast (q := 108) dX7_line_107 cl (by omega) (by omega)  rfl ?_
  refine g_aload_n (q := 109) dX7_line_108 rfl rfl ?_
  refine g_get (C := RX7) (T := TX7) (ci := 8) (k := 5) (q := 112) dX7_line_109 q598 rfl in_X7 (by decide) ((hset_ne (Ne.symm n1)).trans rd_at) rfl rfl ?_
  refine g_dup (q := 113) dX7_line_112 rfl ?_
  refine g_getN (C := RX2) (T := TX2) (ci := 2) (k := 4) (q := 116) dX7_line_113 q359 rfl in_X2 (by decide) ((hset_ne (by omega)).trans (c0' _)) rfl rfl ?_
  refine g_iconst (q := 117) dX7_line_116 rfl ?_
  refine g_iadd (q := 118) dX7_line_117 rfl ?_
  refine g_putN (C := RX2) (T := TX2) (ci := 2) (k := 4) (q := 121) dX7_line_118 q359 rfl in_X2 tyX2_ok nmX2 (by decide) rfl gFit_int ((hset_ne (by omega)).trans (c0' _)) (Nat.le_of_ble_eq_true rfl) rfl ?_
  refine g_goto (t := 166) dX7_line_121 (by decide) ?_
  have hwf : WFw (upI P.2.2.2.2.2.2.1 (10 + P.2.2.2.2.2.2.1 1) q3.1) := (FW.low hP.2.1 (Or.inr (Or.inr (Or.inr (Or.inl ⟨by omega, by omega, hval⟩))))).1
  have hlb : LB (upI P.2.2.2.2.2.2.1 (10 + P.2.2.2.2.2.2.1 1) q3.1) := hR.2.2.2.2.up (by omega)
  have ht2 := RTX.obj (g' := upI (upI P.2.2.2.2.2.2.1 (10 + P.2.2.2.2.2.2.1 1) q3.1) 1 (P.2.2.2.2.2.2.1 1 + 1)) (hd' := P.2.2.2.2.2.2.2.1) ht1 hlb hwf (fun y y1 y2 y3 => upI_ne y2)
  rw [upI_at, upI_ne (show (4 : Int) ≠ 1 by decide), upI_ne (show (4 : Int) ≠ 10 + P.2.2.2.2.2.2.1 1 by omega), upI_ne (show (0 : Int) ≠ 1 by decide), upI_ne (show (0 : Int) ≠ 10 + P.2.2.2.2.2.2.1 1 by omega)] at ht2
  have eth : thP tp sz P = PSx (upI (upI P.2.2.2.2.2.2.1 (10 + P.2.2.2.2.2.2.1 1) q3.1) 1 (P.2.2.2.2.2.2.1 1 + 1), P.2.2.2.2.2.2.2) q3.2 := by
    rw [ethP]
    unfold thQ
    have z1 : q3.2.2.2.2.2.2.2.1 = P.2.2.2.2.2.2.1 := congrArg Prod.fst efr'
    have z2 : q3.2.2.2.2.2.2.2.2 = P.2.2.2.2.2.2.2 := congrArg Prod.snd efr'
    rw [if_pos q4, z1, upI_ne (show (1 : Int) ≠ 10 + P.2.2.2.2.2.2.1 1 by omega)]
    unfold PSf PSx
    rw [z2]
  have fA : FR ow ow (hset h r (rdO so la ak ta tx rl sz q3.2)) _ (fun i => i ≠ 14) := FR.set (a := tx + 1) (v := aI E 24 (upI ge2 (P.2.2.2.2.2.2.1 1) q3.1)) (o 1 (by decide))
  have fB := fA.trans (FR.set (a := tx) (v := oB 2 [.ref (tx + 1), .ref (tx + 2), .ref (tx + 3), .ref (tx + 7), vI (P.2.2.2.2.2.2.1 1 + 1), vI (P.2.2.2.2.2.2.1 4), vI (P.2.2.2.2.2.2.1 0), vI P.2.2.2.2.2.2.2.1]) (o 0 (by decide)))
  obtain ⟨w1, w2⟩ := RST.fin (X := PSx (upI (upI P.2.2.2.2.2.2.1 (10 + P.2.2.2.2.2.2.1 1) q3.1) 1 (P.2.2.2.2.2.2.1 1 + 1), P.2.2.2.2.2.2.2) q3.2) hR fB ((hR.hw0.set cl).set ((hset_ne (by omega)).trans (c0' _))) rfl ht2 hw (show upI (upI P.2.2.2.2.2.2.1 (10 + P.2.2.2.2.2.2.1 1) q3.1) 1 (P.2.2.2.2.2.2.1 1 + 1) 2 = P.2.2.2.2.2.2.1 2 by rw [upI_ne (by decide), upI_ne (by omega)]) (fun y y1 y2 => show upI (upI P.2.2.2.2.2.2.1 (10 + P.2.2.2.2.2.2.1 1) q3.1) 1 (P.2.2.2.2.2.2.1 1 + 1) y = P.2.2.2.2.2.2.1 y by rw [upI_ne (by omega), upI_ne (by omega)]) (hlb.up (by decide))
  rw [eth] at tho ⊢
  exact l_line166 w1 w2 tho.1 q4 hz
end
