/-! THE COMPONENT: the text that is read is written -/
set_option maxRecDepth 100000
section
variable {E : gE} {ow : OW} {h : gH} {g g' lt : Int → Int} {hd hd' i v s : Int} {t : Nat} {fs : List Value}
theorem OWN.in8 (o : OWN ow t 8 14) {b : Nat} (hb : ow b ≠ 14) (j : Nat) (hj : j < 8) : b ≠ t + j := fun e => hb (by rw [e]; exact o j hj)
/-- the text's own fields -/
theorem RTX.obj (hT : RTX E ow h t g hd lt) (h3 : LB g) (hw : WFw g) (hg : ∀ y, y ≠ 0 → y ≠ 1 → y ≠ 4 → g' y = g y) : RTX E ow (hset h t (oB 2 [.ref (t + 1), .ref (t + 2), .ref (t + 3), .ref (t + 7), vI (g' 1), vI (g' 4), vI (g' 0), vI hd'])) t g' hd' lt := by
  have hF : FR ow ow h (hset h t (oB 2 [.ref (t + 1), .ref (t + 2), .ref (t + 3), .ref (t + 7), vI (g' 1), vI (g' 4), vI (g' 0), vI hd'])) (fun o => o ≠ 14) := FR.set (hT.1 0 (by decide))
  obtain ⟨o, lw, ge, gl, gz, c0, ⟨c1, r1⟩, ⟨c2, r2⟩, c3, c4, ⟨c7, r7⟩, hl⟩ := hT
  refine ⟨o, lw, ge, gl, gz, hset_at, ⟨(hset_ne (by omega)).trans c1, fun j j1 j2 => ?_⟩, ⟨(hset_ne (by omega)).trans c2, fun j j1 j2 => ?_⟩, (hset_ne (by omega)).trans c3, fun k k1 k2 => (hset_ne (by omega)).trans (c4 k k1 k2), ⟨(hset_ne (by omega)).trans c7, r7⟩, fun k s a1 a2 a3 a4 => LAWR.gx h3 ⟨a1, a2⟩ ⟨a3, a4⟩ (fun y y1 y2 => hg y (by omega) (by omega) (by omega)) hw _ (LAWR.fr hF (by decide) _ (hl k s a1 a2 a3 a4))⟩
  · rw [hg _ (by omega) (by omega) (by omega)]; exact r1 j j1 j2
  · rw [hg _ (by omega) (by omega) (by omega)]; exact r2 j j1 j2
/-- how easy a thing is -/
theorem RTX.easy (hT : RTX E ow h t g hd lt) (h3 : LB g) (hw : WFw g) (hi : 0 ≤ i ∧ i < 24) : ∃ ge, h.1 (t + 1) = some (aI E 24 ge) ∧ RTX E ow (hset h (t + 1) (aI E 24 (upI ge i v))) t (upI g (10 + i) v) hd lt := by
  obtain ⟨o, lw, ge, gl, gz, c0, ⟨c1, r1⟩, ⟨c2, r2⟩, c3, c4, ⟨c7, r7⟩, hl⟩ := hT
  have hF : FR ow ow h (hset h (t + 1) (aI E 24 (upI ge i v))) (fun o => o ≠ 14) := FR.set (o 1 (by decide))
  refine ⟨ge, c1, o, lw, upI ge i v, gl, gz, ?_, ⟨hset_at, fun j j1 j2 => ?_⟩, ⟨(hset_ne (by omega)).trans c2, fun j j1 j2 => ?_⟩, (hset_ne (by omega)).trans c3, fun k k1 k2 => (hset_ne (by omega)).trans (c4 k k1 k2), ⟨(hset_ne (by omega)).trans c7, r7⟩, fun k s a1 a2 a3 a4 => LAWR.gx h3 ⟨a1, a2⟩ ⟨a3, a4⟩ (fun y y1 y2 => upI_ne (by omega)) hw _ (LAWR.fr hF (by decide) _ (hl k s a1 a2 a3 a4))⟩
  · rw [upI_ne (by omega), upI_ne (by omega), upI_ne (by omega)]; exact (hset_ne (by omega)).trans c0
  · by_cases e : j = i
    · subst e; rw [upI_at, upI_at]
    · rw [upI_ne e, upI_ne (by omega)]; exact r1 j j1 j2
  · rw [upI_ne (by omega)]; exact r2 j j1 j2
/-- how much leans on a sort -/
theorem RTX.lean (hT : RTX E ow h t g hd lt) (h3 : LB g) (hw : WFw g) (hi : 0 ≤ s ∧ s < 4) : ∃ gl, h.1 (t + 2) = some (aI E 4 gl) ∧ RTX E ow (hset h (t + 2) (aI E 4 (upI gl s v))) t (upI g (5 + s) v) hd lt := by
  obtain ⟨o, lw, ge, gl, gz, c0, ⟨c1, r1⟩, ⟨c2, r2⟩, c3, c4, ⟨c7, r7⟩, hl⟩ := hT
  have hF : FR ow ow h (hset h (t + 2) (aI E 4 (upI gl s v))) (fun o => o ≠ 14) := FR.set (o 2 (by decide))
  refine ⟨gl, c2, o, lw, ge, upI gl s v, gz, ?_, ⟨(hset_ne (by omega)).trans c1, fun j j1 j2 => ?_⟩, ⟨hset_at, fun j j1 j2 => ?_⟩, (hset_ne (by omega)).trans c3, fun k k1 k2 => (hset_ne (by omega)).trans (c4 k k1 k2), ⟨(hset_ne (by omega)).trans c7, r7⟩, fun k s a1 a2 a3 a4 => LAWR.gx h3 ⟨a1, a2⟩ ⟨a3, a4⟩ (fun y y1 y2 => upI_ne (by omega)) hw _ (LAWR.fr hF (by decide) _ (hl k s a1 a2 a3 a4))⟩
  · rw [upI_ne (by omega), upI_ne (by omega), upI_ne (by omega)]; exact (hset_ne (by omega)).trans c0
  · rw [upI_ne (by omega)]; exact r1 j j1 j2
  · by_cases e : j = s
    · subst e; rw [upI_at, upI_at]
    · rw [upI_ne e, upI_ne (by omega)]; exact r2 j j1 j2
/-- that it was told -/
theorem RTX.told (hT : RTX E ow h t g hd lt) (hi : 0 ≤ s ∧ s < 4) : ∃ gz, h.1 (t + 7) = some (aZ E 4 gz) ∧ (∀ j, 0 ≤ j → j < 4 → gz j = lt j) ∧ RTX E ow (hset h (t + 7) (aZ E 4 (upI gz s v))) t g hd (upI lt s v) := by
  obtain ⟨o, lw, ge, gl, gz, c0, ⟨c1, r1⟩, ⟨c2, r2⟩, c3, c4, ⟨c7, r7⟩, hl⟩ := hT
  have hF : FR ow ow h (hset h (t + 7) (aZ E 4 (upI gz s v))) (fun o => o ≠ 14) := FR.set (o 7 (by decide))
  refine ⟨gz, c7, r7, o, lw, ge, gl, upI gz s v, (hset_ne (by omega)).trans c0, ⟨(hset_ne (by omega)).trans c1, r1⟩, ⟨(hset_ne (by omega)).trans c2, r2⟩, (hset_ne (by omega)).trans c3, fun k k1 k2 => (hset_ne (by omega)).trans (c4 k k1 k2), ⟨hset_at, fun j j1 j2 => ?_⟩, fun k s a1 a2 a3 a4 => LAWR.fr hF (by decide) _ (hl k s a1 a2 a3 a4)⟩
  by_cases e : j = s
  · subst e; rw [upI_at, upI_at]
  · rw [upI_ne e, upI_ne e]; exact r7 j j1 j2
theorem LB.up (h : LB g) {y x : Int} (hy : y < 202 ∧ y ≠ 3) : LB (upI g y x) := fun l l1 l2 => by
  rw [upI_ne (by omega), upI_ne (by omega), upI_ne (by omega)]
  exact h l l1 l2
end
section
variable {E : gE} {d r so la ak ta tx rl : Nat} {ow ow' : OW} {h h' : gH} {tp : Int → Int} {sz : Int} {P X : PS}
theorem RST.ne (hR : RST E ow h r so la ak ta tx rl sz tp P) (j : Nat) (hj : j < 8) : tx + j ≠ r := fun e => by
  have := hR.2.2.1.1 j hj
  rw [e, hR.1.1.2.1.2.1] at this
  exact absurd this (by decide)
theorem RST.nr (hR : RST E ow h r so la ak ta tx rl sz tp P) : rl ≠ r ∧ rl ≠ tx := by
  obtain ⟨rr, ⟨ar, cap, mo, g, ⟨w1, -⟩, -⟩, -⟩ := hR.2.2.2.1
  have o9 := hR.1.1.2.1.2.1
  have o14 := hR.2.2.1.1 0 (by decide)
  exact ⟨fun e => by rw [e, o9] at w1; exact absurd w1 (by decide), fun e => by rw [e] at w1; exact absurd (w1.symm.trans o14) (by decide)⟩
/-- what is read does not matter to what comes next -/
def PSx (T : (Int → Int) × Int × (Int → Int)) (P : PS) : PS := (P.1, P.2.1, P.2.2.1, P.2.2.2.1, P.2.2.2.2.1, P.2.2.2.2.2.1, T)
theorem nu_x {T : (Int → Int) × Int × (Int → Int)} {lo hi : Int} : nuP tp sz lo hi (PSx T P) = ((nuP tp sz lo hi P).1, PSx T (nuP tp sz lo hi P).2) := by
  by_cases c1 : P.2.2.2.2.1 = 0
  · by_cases c2 : P.2.2.1 = 2
    · by_cases c3 : lo ≤ P.2.2.2.1 ∧ P.2.2.2.1 ≤ hi
      · rw [show nuP tp sz lo hi P = (P.2.2.2.1, PSadv tp sz P) from (if_pos c1).trans ((if_pos c2).trans (if_pos c3)), show nuP tp sz lo hi (PSx T P) = (P.2.2.2.1, PSadv tp sz (PSx T P)) from (if_pos c1).trans ((if_pos c2).trans (if_pos c3))]; rfl
      · rw [show nuP tp sz lo hi P = (0, PSerr 2 P) from (if_pos c1).trans ((if_pos c2).trans (if_neg c3)), show nuP tp sz lo hi (PSx T P) = (0, PSerr 2 (PSx T P)) from (if_pos c1).trans ((if_pos c2).trans (if_neg c3))]; rfl
    · rw [show nuP tp sz lo hi P = (0, PSerr 1 P) from (if_pos c1).trans (if_neg c2), show nuP tp sz lo hi (PSx T P) = (0, PSerr 1 (PSx T P)) from (if_pos c1).trans (if_neg c2)]; rfl
  · rw [show nuP tp sz lo hi P = (0, P) from if_neg c1, show nuP tp sz lo hi (PSx T P) = (0, PSx T P) from if_neg c1]
def hoX (tp : Int → Int) (sz : Int) (P : PS) : PS := if P.2.2.2.2.2.2.2.1 = 0 then hoP tp sz P else PSerr 2 P
theorem c_holdLine (hR : RST E ow h r so la ak ta tx rl sz tp P) (hP : PSok sz P) (hf : P.2.2.2.2.1 = 0) (hz : sz ≤ 900) : CALL E iX7_holdLine (d + 6) 1 8 [.ref r] h (qVE (okL E ow h r so la ak ta tx rl sz tp (hoX tp sz P)) (excL ow h (hoX tp sz P))) := by
  obtain ⟨o, lw, ge, gl, gz, c0, cr⟩ := id hR.2.2.1
  have n0 := hR.ne 0 (by decide)
  have hC := hR.1.1
  have hlt := hC.lt
  have c0' : (hset h r (rdO so la ak ta tx rl sz P)).1 tx = some (oB 2 [.ref (tx + 1), .ref (tx + 2), .ref (tx + 3), .ref (tx + 7), vI (P.2.2.2.2.2.2.1 1), vI (P.2.2.2.2.2.2.1 4), vI (P.2.2.2.2.2.2.1 0), vI P.2.2.2.2.2.2.2.1]) := (hset_ne n0).trans c0
  refine GO.cast hR.self ?_
  rcases hP.2.2.2.1 with e | e
  · have eX : hoX tp sz P = hoP tp sz P := if_pos e
    rw [eX]
    have hP1 := (hP.1.adv (tp := tp)).1
    have efr := nu_fresh (tp := tp) (sz := sz) (P := PSadv tp sz P) (lo := 0) (hi := 5000)
    have en : nuP tp sz 0 5000 (PSh 1 (PSadv tp sz P)) = ((nuP tp sz 0 5000 (PSadv tp sz P)).1, PSh 1 (nuP tp sz 0 5000 (PSadv tp sz P)).2) := by
      have z := nu_x (tp := tp) (sz := sz) (P := PSadv tp sz P) (T := (P.2.2.2.2.2.2.1, 1, P.2.2.2.2.2.2.2.2)) (lo := 0) (hi := 5000)
      have e1 : (nuP tp sz 0 5000 (PSadv tp sz P)).2.2.2.2.2.2.2.1 = P.2.2.2.2.2.2.1 := congrArg Prod.fst efr
      have e2 : (nuP tp sz 0 5000 (PSadv tp sz P)).2.2.2.2.2.2.2.2.2 = P.2.2.2.2.2.2.2.2 := congrArg (fun z => z.2.2) efr
      refine z.trans ?_
      unfold PSh PSx
      rw [e1, e2]
    have eh : hoP tp sz P = PSf (upI (nuP tp sz 0 5000 (PSadv tp sz P)).2.2.2.2.2.2.2.1 4 (nuP tp sz 0 5000 (PSadv tp sz P)).1) (PSh 1 (nuP tp sz 0 5000 (PSadv tp sz P)).2) := by unfold hoP stQ; rw [en]; rfl
    rw [eh]
    show GO E iX7_holdLine _ _ _ 0 [some (.ref r)] [] _ _
    refine g_aload_n (q := 1) dX7_holdLine_0 rfl rfl ?_
    refine g_get (C := RX7) (T := TX7) (ci := 8) (k := 5) (q := 4) dX7_holdLine_1 q598 rfl in_X7 (by decide) rd_at rfl rfl ?_
    refine g_getN (C := RX2) (T := TX2) (ci := 2) (k := 7) (q := 7) dX7_holdLine_4 q366 rfl in_X2 (by decide) c0' rfl rfl ?_
    refine g_if_eq (t := 15) (q := 10) dX7_holdLine_7 (by decide) rfl (by unfold in32; omega) (fun c7 => ?_) (fun c7 => ?_)
    · refine g_aload_n (q := 16) dX7_holdLine_15 rfl rfl ?_
      refine g_cvV (I' := iX7_next) (mc := 0) (ms := 0) (rc := 1) (rs := 8) (ci := 8) (q := 19) dX7_holdLine_16 q635 q637 rfl qs6 gcX7_next rd_at (GO.deep (c_nextC (d := 0) hC hz hP.1) (by omega)) rfl rfl ?_
      refine g_aload_n (q := 20) dX7_holdLine_19 rfl rfl ?_
      refine g_get (C := RX7) (T := TX7) (ci := 8) (k := 5) (q := 23) dX7_holdLine_20 q598 rfl in_X7 (by decide) rd_at rfl rfl ?_
      refine g_aload_n (q := 24) dX7_holdLine_23 rfl rfl ?_
      refine g_iconst (q := 25) dX7_holdLine_24 rfl ?_
      refine g_sipush (q := 28) dX7_holdLine_25 rfl ?_
      refine g_cvE (I' := iX7_number) (mc := 1) (ms := 8) (rc := 0) (rs := 0) (ci := 8) (q := 31) dX7_holdLine_28 q781 q783 rfl qs19 gcX7_number rd_at (GO.deep (c_numberC (d := 0) hC hP1 hf hz (by decide) (by decide)) (by omega)) rfl rfl (fun x28 e28 y28 => excQ.l hR y28) (fun v28 k28 z28 => ?_)
      obtain ⟨q1, rfl, rfl⟩ := z28
      refine g_putN (C := RX2) (T := TX2) (ci := 2) (k := 5) (q := 34) dX7_holdLine_31 q362 rfl in_X2 tyX2_ok nmX2 (by decide) rfl gFit_int ((hset_ne n0).trans c0) (Nat.le_of_ble_eq_true rfl) rfl ?_
      refine g_aload_n (q := 35) dX7_holdLine_34 rfl rfl ?_
      refine g_get (C := RX7) (T := TX7) (ci := 8) (k := 5) (q := 38) dX7_holdLine_35 q598 rfl in_X7 (by decide) ((hset_ne (Ne.symm n0)).trans rd_at) rfl rfl ?_
      refine g_iconst (q := 39) dX7_holdLine_38 rfl ?_
      refine g_putN (C := RX2) (T := TX2) (ci := 2) (k := 7) (q := 42) dX7_holdLine_39 q366 rfl in_X2 tyX2_ok nmX2 (by decide) rfl gFit_1 hset_at (Nat.le_of_ble_eq_true rfl) rfl ?_
      rw [hset_hset]
      refine g_vret dX7_holdLine_42 rfl ?_
      have e1 : (nuP tp sz 0 5000 (PSadv tp sz P)).2.2.2.2.2.2.2.1 = P.2.2.2.2.2.2.1 := congrArg Prod.fst efr
      have e2 : (nuP tp sz 0 5000 (PSadv tp sz P)).2.2.2.2.2.2.2.2.2 = P.2.2.2.2.2.2.2.2 := congrArg (fun z => z.2.2) efr
      rw [e1]
      have mv := hR.mv (XT.refl hC.2.1.1) efr
      have hw := hP.2.1.1
      have ht : RTX E ow (hset h r (rdO so la ak ta tx rl sz (nuP tp sz 0 5000 (PSadv tp sz P)).2)) tx P.2.2.2.2.2.2.1 P.2.2.2.2.2.2.2.1 P.2.2.2.2.2.2.2.2 := hR.2.2.1.fr (XT.xf hC (XT.refl hC.2.1.1)) (by decide) (by decide)
      have ht2 := RTX.obj (g' := upI P.2.2.2.2.2.2.1 4 (nuP tp sz 0 5000 (PSadv tp sz P)).1) (hd' := 1) ht hR.2.2.2.2 hw (fun y y1 y2 y3 => upI_ne y3)
      rw [upI_ne (show (1 : Int) ≠ 4 by decide), upI_at, upI_ne (show (0 : Int) ≠ 4 by decide)] at ht2
      have hF14 : FR ow ow (hset h r (rdO so la ak ta tx rl sz (nuP tp sz 0 5000 (PSadv tp sz P)).2)) (hset (hset h r (rdO so la ak ta tx rl sz (nuP tp sz 0 5000 (PSadv tp sz P)).2)) tx (oB 2 [.ref (tx + 1), .ref (tx + 2), .ref (tx + 3), .ref (tx + 7), vI (P.2.2.2.2.2.2.1 1), vI (nuP tp sz 0 5000 (PSadv tp sz P)).1, vI (P.2.2.2.2.2.2.1 0), vI 1])) (fun i => i ≠ 14) := FR.set (o 0 (by decide))
      have hXF : XF ow ow h (hset (hset h r (rdO so la ak ta tx rl sz (nuP tp sz 0 5000 (PSadv tp sz P)).2)) tx (oB 2 [.ref (tx + 1), .ref (tx + 2), .ref (tx + 3), .ref (tx + 7), vI (P.2.2.2.2.2.2.1 1), vI (nuP tp sz 0 5000 (PSadv tp sz P)).1, vI (P.2.2.2.2.2.2.1 0), vI 1])) := XF.trans mv.2 ⟨hF14.sub (fun i z => z.2.1), Nat.le_refl _⟩
      refine ⟨q1, ow, hXF, RST.go hR hXF (mv.1.1.1.2.1.1.set ((hset_ne n0).trans c0)) hC.2.1.2.1 ((hset_ne (Ne.symm n0)).trans hset_at) ?_ ?_ (hR.2.2.2.2.up (by decide))⟩
      · rw [show (PSf (upI P.2.2.2.2.2.2.1 4 (nuP tp sz 0 5000 (PSadv tp sz P)).1) (PSh 1 (nuP tp sz 0 5000 (PSadv tp sz P)).2)).2.2.2.2.2.2.2.2 = P.2.2.2.2.2.2.2.2 from e2]; exact ht2
      · exact RRW.gx (g' := upI P.2.2.2.2.2.2.1 4 (nuP tp sz 0 5000 (PSadv tp sz P)).1) (hR.2.2.2.1.fr ((XT.xf hC (XT.refl hC.2.1.1)).sub (q := fun i => i ≠ 9 ∧ i ≠ 14) (fun i z => z.1) |>.trans (hF14.sub (fun i z => z.2))) (by decide) (by decide)) hw (upI_ne (by decide)) (fun y y1 y2 => upI_ne (by omega))
    · exact absurd e c7
  · have eX : hoX tp sz P = PSerr 2 P := if_neg (by omega)
    rw [eX]
    show GO E iX7_holdLine _ _ _ 0 [some (.ref r)] [] _ _
    refine g_aload_n (q := 1) dX7_holdLine_0 rfl rfl ?_
    refine g_get (C := RX7) (T := TX7) (ci := 8) (k := 5) (q := 4) dX7_holdLine_1 q598 rfl in_X7 (by decide) rd_at rfl rfl ?_
    refine g_getN (C := RX2) (T := TX2) (ci := 2) (k := 7) (q := 7) dX7_holdLine_4 q366 rfl in_X2 (by decide) c0' rfl rfl ?_
    refine g_if_eq (t := 15) (q := 10) dX7_holdLine_7 (by decide) rfl (by unfold in32; omega) (fun c7 => ?_) (fun c7 => ?_)
    · exact absurd c7 (by omega)
    · refine g_aload_n (q := 11) dX7_holdLine_10 rfl rfl ?_
      refine g_iconst (q := 12) dX7_holdLine_11 rfl ?_
      exact g_cvX (I' := iX7_fails) (mc := 1) (ms := 8) (rc := 0) (rs := 0) (ci := 8) dX7_holdLine_12 q718 q720 rfl qs11 gcX7_fails rd_at (GO.deep (c_failsC (d := 0) hC (by decide)) (by omega)) rfl (fun x12 e12 y12 => excQ.l hR y12)
end
