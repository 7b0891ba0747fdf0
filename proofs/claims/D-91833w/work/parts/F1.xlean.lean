/-! THE COMPONENT: the Reader's lean line -/
set_option maxRecDepth 100000
section
variable {E : gE} {d r so la ak ta tx rl : Nat} {ow ow' : OW} {h h' : gH} {tp : Int → Int} {sz : Int} {P X : PS}
/-- the Reader moved, its text was written -/
theorem RST.fin (hR : RST E ow h r so la ak ta tx rl sz tp P) (hF : FR ow ow (hset h r (rdO so la ak ta tx rl sz X)) h' (fun i => i ≠ 14)) (hh : HW h') (hz : h'.2 = h.2) (hT : RTX E ow h' tx X.2.2.2.2.2.2.1 X.2.2.2.2.2.2.2.1 X.2.2.2.2.2.2.2.2) (hw : WFw P.2.2.2.2.2.2.1) (h2 : X.2.2.2.2.2.2.1 2 = P.2.2.2.2.2.2.1 2) (hg : ∀ y, 34 ≤ y → y < 202 → X.2.2.2.2.2.2.1 y = P.2.2.2.2.2.2.1 y) (hb : LB X.2.2.2.2.2.2.1) : RST E ow h' r so la ak ta tx rl sz tp X ∧ XF ow ow h h' := by
  have hC := hR.1.1
  have f9 := XT.xf (v := rdO so la ak ta tx rl sz X) hC (XT.refl hC.2.1.1)
  have f : FR ow ow h h' (fun i => i ≠ 9 ∧ i ≠ 14) := (f9.sub (q := fun i => i ≠ 9 ∧ i ≠ 14) (fun i z => z.1)).trans (hF.sub (fun i z => z.2))
  have hX : XF ow ow h h' := ⟨f.sub (fun i z => ⟨z.1, z.2.1⟩), by omega⟩
  exact ⟨RST.go hR hX hh hC.2.1.2.1 (hF r _ hset_at (by rw [hC.2.1.2.1]; decide)).1 hT (RRW.gx (hR.2.2.2.1.fr f (by decide) (by decide)) hw h2 hg) hb, hX⟩
theorem RST.tx0 (hR : RST E ow h r so la ak ta tx rl sz tp P) : RTX E ow (hset h r (rdO so la ak ta tx rl sz X)) tx P.2.2.2.2.2.2.1 P.2.2.2.2.2.2.2.1 P.2.2.2.2.2.2.2.2 := hR.2.2.1.fr (XT.xf hR.1.1 (XT.refl hR.1.1.2.1.1)) (by decide) (by decide)
theorem RST.hw0 (hR : RST E ow h r so la ak ta tx rl sz tp P) {v : va_E} : HW (hset h r v) := by
  obtain ⟨ok, ⟨hh, o9, v0, e⟩, -⟩ := hR.1.1
  exact hh.set e
theorem c_leanLine (hR : RST E ow h r so la ak ta tx rl sz tp P) (hP : PSok sz P) (hf : P.2.2.2.2.1 = 0) (hz : sz ≤ 900) : CALL E iX7_leanLine (d + 7) 2 16 [.ref r] h (qVE (okL E ow h r so la ak ta tx rl sz tp (leQ tp sz P)) (excL ow h (leQ tp sz P))) := by
  obtain ⟨o, lw, ge, gl, gz, c0, -, ⟨c2, r2⟩, -, -, ⟨c7, r7⟩, -⟩ := id hR.2.2.1
  have n0 := hR.ne 0 (by decide)
  have n2 := hR.ne 2 (by decide)
  have n7 := hR.ne 7 (by decide)
  have hC := hR.1.1
  have hw := hP.2.1.1
  have hsr := srP_in (tp := tp) (P := P)
  have hlt := hP.2.2.2.2
  have c0' : ∀ X : PS, (hset h r (rdO so la ak ta tx rl sz X)).1 tx = some (oB 2 [.ref (tx + 1), .ref (tx + 2), .ref (tx + 3), .ref (tx + 7), vI (P.2.2.2.2.2.2.1 1), vI (P.2.2.2.2.2.2.1 4), vI (P.2.2.2.2.2.2.1 0), vI P.2.2.2.2.2.2.2.1]) := fun X => (hset_ne n0).trans c0
  refine GO.cast hR.self ?_
  by_cases e : srP tp P = -1
  · have eX : leQ tp sz P = PSerr 1 P := if_pos e
    rw [eX]
    show GO E iX7_leanLine _ _ _ 0 [some (.ref r), none] [] _ _
    refine g_aload_n (q := 1) dX7_leanLine_0 rfl rfl ?_
    refine g_cvE (I' := iX7_sort) (mc := 1) (ms := 8) (rc := 1) (rs := 8) (ci := 8) (q := 4) dX7_leanLine_1 q754 q756 rfl qs13 gcX7_sort rd_at (c_sortC (d := d) hC hP.1 hf hz) rfl rfl (fun x1 e1 y1 => excQ.l hR y1.2) (fun v1 k1 z1 => ?_)
    exact absurd e z1.1
  · by_cases e2 : P.2.2.2.2.2.2.2.2 (srP tp P) = 0
    · have hP1 := (hP.1.adv (tp := tp)).1
      have efr := nu_fresh (tp := tp) (sz := sz) (P := PSadv tp sz P) (lo := 0) (hi := 100)
      have e1 : (nuP tp sz 0 100 (PSadv tp sz P)).2.2.2.2.2.2.2.1 = P.2.2.2.2.2.2.1 := congrArg Prod.fst efr
      have e3 : (nuP tp sz 0 100 (PSadv tp sz P)).2.2.2.2.2.2.2.2.1 = P.2.2.2.2.2.2.2.1 := congrArg (fun z => z.2.1) efr
      have eX : leQ tp sz P = PSx (upI P.2.2.2.2.2.2.1 (5 + srP tp P) (nuP tp sz 0 100 (PSadv tp sz P)).1, P.2.2.2.2.2.2.2.1, upI P.2.2.2.2.2.2.2.2 (srP tp P) 1) (nuP tp sz 0 100 (PSadv tp sz P)).2 := by
        unfold leQ
        rw [if_neg e, if_pos e2]
        have z := nu_x (tp := tp) (sz := sz) (P := PSadv tp sz P) (T := (P.2.2.2.2.2.2.1, P.2.2.2.2.2.2.2.1, upI P.2.2.2.2.2.2.2.2 (srP tp P) 1)) (lo := 0) (hi := 100)
        have z2 : nuP tp sz 0 100 (PSadv tp sz (PSl (upI P.2.2.2.2.2.2.2.2 (srP tp P) 1) P)) = _ := z
        rw [z2]
        rfl
      have ht1 := RTX.lean (s := srP tp P) (v := (nuP tp sz 0 100 (PSadv tp sz P)).1) (hR.tx0 (X := (nuP tp sz 0 100 (PSadv tp sz P)).2)) hR.2.2.2.2 hw (by omega)
      obtain ⟨gl', cl, ht2⟩ := ht1
      obtain ⟨gz', cz, rz, ht3⟩ := RTX.told (s := srP tp P) (v := 1) ht2 (by omega)
      rw [eX]
      show GO E iX7_leanLine _ _ _ 0 [some (.ref r), none] [] _ _
      refine g_aload_n (q := 1) dX7_leanLine_0 rfl rfl ?_
      refine g_cvE (I' := iX7_sort) (mc := 1) (ms := 8) (rc := 1) (rs := 8) (ci := 8) (q := 4) dX7_leanLine_1 q754 q756 rfl qs13 gcX7_sort rd_at (c_sortC (d := d) hC hP.1 hf hz) rfl rfl (fun x1 e1 y1 => absurd y1.1 e) (fun v1 k1 z1 => ?_)
      obtain ⟨q0, rfl, rfl⟩ := z1
      refine g_istore_n (q := 5) dX7_leanLine_4 gs1 rfl ?_
      refine g_aload_n (q := 6) dX7_leanLine_5 rfl rfl ?_
      refine g_get (C := RX7) (T := TX7) (ci := 8) (k := 5) (q := 9) dX7_leanLine_6 q598 rfl in_X7 (by decide) rd_at rfl rfl ?_
      refine g_getN (C := RX2) (T := TX2) (ci := 2) (k := 3) (q := 12) dX7_leanLine_9 q358 rfl in_X2 (by decide) (c0' _) rfl rfl ?_
      refine g_iload_n (q := 13) dX7_leanLine_12 rfl rfl ?_
      refine g_zald (q := 14) dX7_leanLine_13 ((hset_ne n7).trans c7) (by omega) (by omega) rfl ?_
      rw [r7 _ (by omega) (by omega)]
      refine g_if_eq (t := 22) (q := 17) dX7_leanLine_14 (by decide) rfl (by unfold in32; omega) (fun c14 => ?_) (fun c14 => ?_)
      · refine g_aload_n (q := 23) dX7_leanLine_22 rfl rfl ?_
        refine g_cvV (I' := iX7_next) (mc := 0) (ms := 0) (rc := 1) (rs := 8) (ci := 8) (q := 26) dX7_leanLine_23 q635 q637 rfl qs6 gcX7_next rd_at (GO.deep (c_nextC (d := 0) hC hz hP.1) (by omega)) rfl rfl ?_
        refine g_aload_n (q := 27) dX7_leanLine_26 rfl rfl ?_
        refine g_get (C := RX7) (T := TX7) (ci := 8) (k := 5) (q := 30) dX7_leanLine_27 q598 rfl in_X7 (by decide) rd_at rfl rfl ?_
        refine g_getN (C := RX2) (T := TX2) (ci := 2) (k := 1) (q := 33) dX7_leanLine_30 q351 rfl in_X2 (by decide) (c0' _) rfl rfl ?_
        refine g_iload_n (q := 34) dX7_leanLine_33 rfl rfl ?_
        refine g_aload_n (q := 35) dX7_leanLine_34 rfl rfl ?_
        refine g_iconst (q := 36) dX7_leanLine_35 rfl ?_
        refine g_bipush (q := 38) dX7_leanLine_36 rfl ?_
        refine g_cvE (I' := iX7_number) (mc := 1) (ms := 8) (rc := 0) (rs := 0) (ci := 8) (q := 41) dX7_leanLine_38 q781 q783 rfl qs19 gcX7_number rd_at (GO.deep (c_numberC (d := 0) hC hP1 hf hz (by decide) (by decide)) (by omega)) rfl rfl (fun x38 e38 y38 => excQ.l hR y38) (fun v38 k38 z38 => ?_)
        obtain ⟨q1, rfl, rfl⟩ := z38
        refine g_iast (q := 42) dX7_leanLine_41 cl (by omega) (by omega)  rfl ?_
        refine g_aload_n (q := 43) dX7_leanLine_42 rfl rfl ?_
        refine g_get (C := RX7) (T := TX7) (ci := 8) (k := 5) (q := 46) dX7_leanLine_43 q598 rfl in_X7 (by decide) ((hset_ne (Ne.symm n2)).trans rd_at) rfl rfl ?_
        refine g_getN (C := RX2) (T := TX2) (ci := 2) (k := 3) (q := 49) dX7_leanLine_46 q358 rfl in_X2 (by decide) ((hset_ne (by omega)).trans (c0' _)) rfl rfl ?_
        refine g_iload_n (q := 50) dX7_leanLine_49 rfl rfl ?_
        refine g_iconst (q := 51) dX7_leanLine_50 rfl ?_
        refine g_zast (q := 52) dX7_leanLine_51 cz (by omega) (by omega) (by decide) rfl ?_
        refine g_vret dX7_leanLine_52 rfl ?_
        have f2 : FR ow ow (hset h r (rdO so la ak ta tx rl sz (nuP tp sz 0 100 (PSadv tp sz P)).2)) _ (fun i => i ≠ 14) := FR.set (a := tx + 2) (v := aI E 4 (upI gl' (srP tp P) (nuP tp sz 0 100 (PSadv tp sz P)).1)) (o 2 (by decide))
        have f7 := f2.trans (FR.set (a := tx + 7) (v := aZ E 4 (upI gz' (srP tp P) 1)) (o 7 (by decide)))
        obtain ⟨w1, w2⟩ := RST.fin (X := PSx (upI P.2.2.2.2.2.2.1 (5 + srP tp P) (nuP tp sz 0 100 (PSadv tp sz P)).1, P.2.2.2.2.2.2.2.1, upI P.2.2.2.2.2.2.2.2 (srP tp P) 1) (nuP tp sz 0 100 (PSadv tp sz P)).2) hR f7 ((hR.hw0.set cl).set cz) rfl ht3 hw (upI_ne (by omega)) (fun y y1 y2 => upI_ne (by omega)) (hR.2.2.2.2.up (by omega))
        exact ⟨q1, ow, w2, w1⟩
      · exact absurd e2 c14
    · have eX : leQ tp sz P = PSerr 2 P := (if_neg e).trans (if_neg e2)
      rw [eX]
      show GO E iX7_leanLine _ _ _ 0 [some (.ref r), none] [] _ _
      refine g_aload_n (q := 1) dX7_leanLine_0 rfl rfl ?_
      refine g_cvE (I' := iX7_sort) (mc := 1) (ms := 8) (rc := 1) (rs := 8) (ci := 8) (q := 4) dX7_leanLine_1 q754 q756 rfl qs13 gcX7_sort rd_at (c_sortC (d := d) hC hP.1 hf hz) rfl rfl (fun x1 e1 y1 => absurd y1.1 e) (fun v1 k1 z1 => ?_)
      obtain ⟨q0, rfl, rfl⟩ := z1
      refine g_istore_n (q := 5) dX7_leanLine_4 gs1 rfl ?_
      refine g_aload_n (q := 6) dX7_leanLine_5 rfl rfl ?_
      refine g_get (C := RX7) (T := TX7) (ci := 8) (k := 5) (q := 9) dX7_leanLine_6 q598 rfl in_X7 (by decide) rd_at rfl rfl ?_
      refine g_getN (C := RX2) (T := TX2) (ci := 2) (k := 3) (q := 12) dX7_leanLine_9 q358 rfl in_X2 (by decide) (c0' _) rfl rfl ?_
      refine g_iload_n (q := 13) dX7_leanLine_12 rfl rfl ?_
      refine g_zald (q := 14) dX7_leanLine_13 ((hset_ne n7).trans c7) (by omega) (by omega) rfl ?_
      rw [r7 _ (by omega) (by omega)]
      refine g_if_eq (t := 22) (q := 17) dX7_leanLine_14 (by decide) rfl (by have := hlt (srP tp P) (by omega) (by omega); unfold in32; omega) (fun c14 => ?_) (fun c14 => ?_)
      · exact absurd c14 e2
      · refine g_aload_n (q := 18) dX7_leanLine_17 rfl rfl ?_
        refine g_iconst (q := 19) dX7_leanLine_18 rfl ?_
        exact g_cvX (I' := iX7_fails) (mc := 1) (ms := 8) (rc := 0) (rs := 0) (ci := 8) dX7_leanLine_19 q718 q720 rfl qs11 gcX7_fails rd_at (GO.deep (c_failsC (d := 0) hC (by decide)) (by omega)) rfl (fun x19 e19 y19 => excQ.l hR y19)
end
