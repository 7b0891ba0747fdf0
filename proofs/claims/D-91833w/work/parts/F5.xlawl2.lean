/-! THE COMPONENT: the Reader's law line: the walk -/
set_option maxRecDepth 100000
section
variable {E : gE} {d r so la ak ta tx rl : Nat} {ow ow' : OW} {h h' : gH} {tp : Int → Int} {sz v : Int} {P X : PS}
theorem nw_from {bs : List Int} (hP : PSt sz P) : P.2.1 ≤ (nwP tp sz bs P).2.1 ∧ (nwP tp sz bs P).2.2.2.2.2.2 = P.2.2.2.2.2.2 := by
  have ad := hP.adv (tp := tp)
  have h1 := ad.2.1
  have h2 := hP.1
  unfold nwP
  split
  · exact ⟨by show P.2.1 ≤ (PSadv tp sz P).2.1; omega, rfl⟩
  · split
    · exact ⟨Int.le_refl _, rfl⟩
    · exact ⟨Int.le_refl _, rfl⟩
theorem rp_bad {j : Int} (h : P.2.2.2.2.1 ≠ 0) : rpP tp sz j P = P := if_neg h
theorem rlQ_bad {l b : Int} (h : P.2.2.2.2.1 ≠ 0) : rlQ l b P = P := if_neg h
theorem c_lawLine (hR : RST E ow h r so la ak ta tx rl sz tp P) (hP : PSok sz P) (hf : P.2.2.2.2.1 = 0) (hz : sz ≤ 900) (hv : 0 ≤ v ∧ v ≤ 2) (hX : rlP tp sz v (PSadv tp sz P) = X) : CALL E iX7_lawLine (d + 9) (2 * (X.2.1 - P.2.1).toNat + 13) (6 * (X.2.1 - P.2.1).toNat + 59) [.ref r, vI v] h (qVE (okL E ow h r so la ak ta tx rl sz tp X) (excL ow h X)) := by
  have ok := hR.1.1.1
  have hC := hR.1.1
  have hP1 := hP.adv (tp := tp)
  have hw := hP.2.1.1
  have hb := hP.1.1
  have hfr := (hP.1.adv (tp := tp)).2.1
  have n0 := hR.ne 0 (by decide)
  have n3 := hR.ne 3 (by decide)
  have nv : tx + 4 + v.toNat ≠ r := by have := hR.ne (4 + v.toNat) (by omega); rwa [← Nat.add_assoc] at this
  obtain ⟨o, lw, ge, gl, gz, c0, -, -, c3, c4, -, hl⟩ := id hR.2.2.1
  have c0' : ∀ X : PS, (hset h r (rdO so la ak ta tx rl sz X)).1 tx = some (oB 2 [.ref (tx + 1), .ref (tx + 2), .ref (tx + 3), .ref (tx + 7), vI (P.2.2.2.2.2.2.1 1), vI (P.2.2.2.2.2.2.1 4), vI (P.2.2.2.2.2.2.1 0), vI P.2.2.2.2.2.2.2.1]) := fun X => (hset_ne n0).trans c0
  have c3' : ∀ X : PS, (hset h r (rdO so la ak ta tx rl sz X)).1 (tx + 3) = some (aR E 9 3 (fun k => some (tx + 4 + k.toNat))) := fun X => (hset_ne n3).trans c3
  have c4' : ∀ X : PS, (hset h r (rdO so la ak ta tx rl sz X)).1 (tx + 4 + v.toNat) = some (aR E 8 4 (lw v)) := fun X => (hset_ne nv).trans (c4 v hv.1 (by omega))
  have hsr := srP_in (tp := tp) (P := PSadv tp sz P)
  refine GO.cast hR.self ?_
  unfold rlP at hX
  by_cases e1 : srP tp (PSadv tp sz P) = -1
  · rw [if_pos (Or.inl e1)] at hX
    subst hX
    refine GO.room (rc := 0 + 1) (rs := 0 + 8) ?_ (by omega) (by omega)
    show GO E iX7_lawLine _ _ _ 0 [some (.ref r), some (vI v), none] [] _ _
    refine g_aload_n (q := 1) dX7_lawLine_0 rfl rfl ?_
    refine g_cvV (I' := iX7_next) (mc := 0) (ms := 0) (rc := (0+1)) (rs := (0+8)) (ci := 8) (q := 4) dX7_lawLine_1 q635 q637 rfl qs6 gcX7_next rd_at (GO.deep (c_nextC (d := 0) hC hz hP.1) (by omega)) rfl rfl ?_
    refine g_aload_n (q := 5) dX7_lawLine_4 rfl rfl ?_
    refine g_cvE (I' := iX7_sort) (mc := 1) (ms := 8) (rc := 0) (rs := 0) (ci := 8) (q := 8) dX7_lawLine_5 q754 q756 rfl qs13 gcX7_sort rd_at (GO.deep (c_sortC (d := 0) hC hP1.1 hf hz) (by omega)) rfl rfl (fun x5 e5 y5 => excQ.l hR y5.2) (fun v5 k5 z5 => ?_)
    exact absurd e1 z5.1
  · by_cases e2 : v = 2 ∧ srP tp (PSadv tp sz P) ≠ 0
    · rw [if_pos (Or.inr e2)] at hX
      subst hX
      refine GO.room (rc := 1 + 1) (rs := 8 + 8) ?_ (by omega) (by omega)
      show GO E iX7_lawLine _ _ _ 0 [some (.ref r), some (vI v), none] [] _ _
      refine g_aload_n (q := 1) dX7_lawLine_0 rfl rfl ?_
      refine g_cvV (I' := iX7_next) (mc := 0) (ms := 0) (rc := (1+1)) (rs := (8+8)) (ci := 8) (q := 4) dX7_lawLine_1 q635 q637 rfl qs6 gcX7_next rd_at (GO.deep (c_nextC (d := 0) hC hz hP.1) (by omega)) rfl rfl ?_
      refine g_aload_n (q := 5) dX7_lawLine_4 rfl rfl ?_
      refine g_cvE (I' := iX7_sort) (mc := 1) (ms := 8) (rc := 1) (rs := 8) (ci := 8) (q := 8) dX7_lawLine_5 q754 q756 rfl qs13 gcX7_sort rd_at (GO.deep (c_sortC (d := 0) hC hP1.1 hf hz) (by omega)) rfl rfl (fun x5 e5 y5 => absurd y5.1 e1) (fun v5 k5 z5 => ?_)
      obtain ⟨q0, rfl, rfl⟩ := z5
      refine g_istore_n (q := 9) dX7_lawLine_8 gs2 rfl ?_
      refine g_iload_n (q := 10) dX7_lawLine_9 rfl rfl ?_
      refine g_iconst (q := 11) dX7_lawLine_10 rfl ?_
      refine g_icmp_ne (t := 23) (q := 14) dX7_lawLine_11 (by decide) rfl (by unfold in32; omega) (by unfold in32; omega) (fun c11 => ?_) (fun c11 => ?_)
      · exact absurd e2.1 c11
      · refine g_iload_n (q := 15) dX7_lawLine_14 rfl rfl ?_
        refine g_if_eq (t := 23) (q := 18) dX7_lawLine_15 (by decide) rfl (by unfold in32; omega) (fun c15 => ?_) (fun c15 => ?_)
        · exact absurd c15 e2.2
        · refine g_aload_n (q := 19) dX7_lawLine_18 rfl rfl ?_
          refine g_iconst (q := 20) dX7_lawLine_19 rfl ?_
          exact g_cvX (I' := iX7_fails) (mc := 1) (ms := 8) (rc := 0) (rs := 0) (ci := 8) dX7_lawLine_20 q718 q720 rfl qs11 gcX7_fails rd_at (GO.deep (c_failsC (d := 0) hC (by decide)) (by omega)) rfl (fun x20 e20 y20 => excQ.l hR y20)
    · rw [if_neg (fun q => q.elim e1 e2)] at hX
      have hvs : v = 2 → srP tp (PSadv tp sz P) = 0 := fun q => Decidable.byContradiction fun w => e2 ⟨q, w⟩
      have hL := hl v (srP tp (PSadv tp sz P)) hv.1 (by omega) (by omega) (by omega)
      cases hx : lw v (srP tp (PSadv tp sz P)) with
      | some a' =>
        rw [hx] at hL
        rw [if_pos (show 0 < (PSadv tp sz P).2.2.2.2.2.2.1 (202 + 2 * lawN v (srP tp (PSadv tp sz P)) + 1) from hL.2.1)] at hX
        subst hX
        refine GO.room (rc := 1 + 1) (rs := 8 + 8) ?_ (by omega) (by omega)
        show GO E iX7_lawLine _ _ _ 0 [some (.ref r), some (vI v), none] [] _ _
        refine g_aload_n (q := 1) dX7_lawLine_0 rfl rfl ?_
        refine g_cvV (I' := iX7_next) (mc := 0) (ms := 0) (rc := (1+1)) (rs := (8+8)) (ci := 8) (q := 4) dX7_lawLine_1 q635 q637 rfl qs6 gcX7_next rd_at (GO.deep (c_nextC (d := 0) hC hz hP.1) (by omega)) rfl rfl ?_
        refine g_aload_n (q := 5) dX7_lawLine_4 rfl rfl ?_
        refine g_cvE (I' := iX7_sort) (mc := 1) (ms := 8) (rc := 1) (rs := 8) (ci := 8) (q := 8) dX7_lawLine_5 q754 q756 rfl qs13 gcX7_sort rd_at (GO.deep (c_sortC (d := 0) hC hP1.1 hf hz) (by omega)) rfl rfl (fun x5 e5 y5 => absurd y5.1 e1) (fun v5 k5 z5 => ?_)
        obtain ⟨q0, rfl, rfl⟩ := z5
        refine g_istore_n (q := 9) dX7_lawLine_8 gs2 rfl ?_
        refine g_iload_n (q := 10) dX7_lawLine_9 rfl rfl ?_
        refine g_iconst (q := 11) dX7_lawLine_10 rfl ?_
        refine g_icmp_ne (t := 23) (q := 14) dX7_lawLine_11 (by decide) rfl (by unfold in32; omega) (by unfold in32; omega) (fun c11 => ?_) (fun c11 => ?_)
        · refine g_aload_n (q := 24) dX7_lawLine_23 rfl rfl ?_
          refine g_get (C := RX7) (T := TX7) (ci := 8) (k := 5) (q := 27) dX7_lawLine_24 q598 rfl in_X7 (by decide) rd_at rfl rfl ?_
          refine g_getN (C := RX2) (T := TX2) (ci := 2) (k := 2) (q := 30) dX7_lawLine_27 q355 rfl in_X2 (by decide) (c0' _) rfl rfl ?_
          refine g_iload_n (q := 31) dX7_lawLine_30 rfl rfl ?_
          refine g_aald (t0 := 9) (q := 32) dX7_lawLine_31 (c3' _) rfl rfl (by omega) (by omega) rfl ?_
          refine g_iload_n (q := 33) dX7_lawLine_32 rfl rfl ?_
          refine g_aald (t0 := 8) (q := 34) dX7_lawLine_33 (c4' _) rfl rfl (by omega) (by omega) rfl ?_
          rw [hx]
          refine g_ifnullR (q := 37) dX7_lawLine_34 rfl ?_
          refine g_aload_n (q := 38) dX7_lawLine_37 rfl rfl ?_
          refine g_iconst (q := 39) dX7_lawLine_38 rfl ?_
          exact g_cvX (I' := iX7_fails) (mc := 1) (ms := 8) (rc := 0) (rs := 0) (ci := 8) dX7_lawLine_39 q718 q720 rfl qs11 gcX7_fails rd_at (GO.deep (c_failsC (d := 0) hC (by decide)) (by omega)) rfl (fun x39 e39 y39 => excQ.l hR y39)
        · refine g_iload_n (q := 15) dX7_lawLine_14 rfl rfl ?_
          refine g_if_eq (t := 23) (q := 18) dX7_lawLine_15 (by decide) rfl (by unfold in32; omega) (fun c15 => ?_) (fun c15 => ?_)
          · refine g_aload_n (q := 24) dX7_lawLine_23 rfl rfl ?_
            refine g_get (C := RX7) (T := TX7) (ci := 8) (k := 5) (q := 27) dX7_lawLine_24 q598 rfl in_X7 (by decide) rd_at rfl rfl ?_
            refine g_getN (C := RX2) (T := TX2) (ci := 2) (k := 2) (q := 30) dX7_lawLine_27 q355 rfl in_X2 (by decide) (c0' _) rfl rfl ?_
            refine g_iload_n (q := 31) dX7_lawLine_30 rfl rfl ?_
            refine g_aald (t0 := 9) (q := 32) dX7_lawLine_31 (c3' _) rfl rfl (by omega) (by omega) rfl ?_
            refine g_iload_n (q := 33) dX7_lawLine_32 rfl rfl ?_
            refine g_aald (t0 := 8) (q := 34) dX7_lawLine_33 (c4' _) rfl rfl (by omega) (by omega) rfl ?_
            rw [hx]
            refine g_ifnullR (q := 37) dX7_lawLine_34 rfl ?_
            refine g_aload_n (q := 38) dX7_lawLine_37 rfl rfl ?_
            refine g_iconst (q := 39) dX7_lawLine_38 rfl ?_
            exact g_cvX (I' := iX7_fails) (mc := 1) (ms := 8) (rc := 0) (rs := 0) (ci := 8) dX7_lawLine_39 q718 q720 rfl qs11 gcX7_fails rd_at (GO.deep (c_failsC (d := 0) hC (by decide)) (by omega)) rfl (fun x39 e39 y39 => excQ.l hR y39)
          · exact absurd (hvs c11) c15
      | none =>
        rw [hx] at hL
        rw [if_neg (show ¬ 0 < (PSadv tp sz P).2.2.2.2.2.2.1 (202 + 2 * lawN v (srP tp (PSadv tp sz P)) + 1) from by have z : P.2.2.2.2.2.2.1 (202 + 2 * lawN v (srP tp (PSadv tp sz P)) + 1) = 0 := hL hvs; show ¬ 0 < P.2.2.2.2.2.2.1 (202 + 2 * lawN v (srP tp (PSadv tp sz P)) + 1); omega)] at hX
        have hP2 := hP1.adv (tp := tp)
        have hfr2 := (hP1.1.adv (tp := tp)).2.1
        have hnw := nw_from (tp := tp) (bs := wBy) hP2.1
        have hP3 := hP2.nw (tp := tp) (bs := wBy)
        have g5 := srP_ge e1
        have h3a := hP1.2.2.1
        have hb1 := hP1.1.1
        have hb3 := hP3.1.1
        generalize e3 : nwP tp sz wBy (PSadv tp sz (PSadv tp sz P)) = P3 at hX hnw hP3 hb3
        have f3 : P3.2.2.2.2.2.2 = P.2.2.2.2.2.2 := hnw.2
        have f31 : P3.2.2.2.2.2.2.1 = P.2.2.2.2.2.2.1 := congrArg Prod.fst f3
        have h33 : 3 * P3.2.2.2.2.2.2.1 3 + 3 ≤ P3.2.1 := by
          rw [f31]
          have z : 3 * P.2.2.2.2.2.2.1 3 ≤ (PSadv tp sz P).2.1 := h3a
          have := hnw.1
          omega
        have rok := rpP_ok (tp := tp) (j := 0) hP3 hz (fun _ => h33) (by decide)
        have rff := rp_from (tp := tp) (j := 0) hP3.1
        have ra := rp_all (tp := tp) (j := 0) hP3.1 (by rw [f31]; exact hw.2.2.1.1)
        have rwo := rwL_ok (tp := tp) hz 1000 _ rok.1
        have rwf := rw_from (tp := tp) hz 1000 _ rok.1
        generalize e4 : rwL tp sz 1000 (rpP tp sz 0 P3) = X1 at hX rwo rwf
        have hX1b := rwo.1.1.1
        have hXf : X.2.1 = X1.2.1 := by
          rw [← hX]
          unfold rlQ
          split <;> rfl
        have ct := fun (hf3 : P3.2.2.2.2.1 = 0) => c_sumC (d := d) (so := so) (la := la) (ak := ak) (ta := ta) (tx := tx) (rl := rl) hC hP3 hf3 hz h33 e4
        have hroom : 0 + (2 * (X1.2.1 - P3.2.1).toNat + 11) + 1 + 1 ≤ 2 * (X.2.1 - P.2.1).toNat + 13 ∧ 0 + (6 * (X1.2.1 - P3.2.1).toNat + 43) + 8 + 8 ≤ 6 * (X.2.1 - P.2.1).toNat + 59 := by
          rw [hXf]
          have z1 := rwf.1
          have z2 := hnw.1
          omega
        generalize 2 * (X1.2.1 - P3.2.1).toNat + 11 = MC at ct hroom
        generalize 6 * (X1.2.1 - P3.2.1).toNat + 43 = MS at ct hroom
        refine GO.room (rc := 0 + MC + 1 + 1) (rs := 0 + MS + 8 + 8) ?_ hroom.1 hroom.2
        show GO E iX7_lawLine _ _ _ 0 [some (.ref r), some (vI v), none] [] _ _
        refine g_aload_n (q := 1) dX7_lawLine_0 rfl rfl ?_
        refine g_cvV (I' := iX7_next) (mc := 0) (ms := 0) (rc := (0+MC+1+1)) (rs := (0+MS+8+8)) (ci := 8) (q := 4) dX7_lawLine_1 q635 q637 rfl qs6 gcX7_next rd_at (GO.deep (c_nextC (d := 0) hC hz hP.1) (by omega)) rfl rfl ?_
        refine g_aload_n (q := 5) dX7_lawLine_4 rfl rfl ?_
        refine g_cvE (I' := iX7_sort) (mc := 1) (ms := 8) (rc := (0+MC+1)) (rs := (0+MS+8)) (ci := 8) (q := 8) dX7_lawLine_5 q754 q756 rfl qs13 gcX7_sort rd_at (GO.deep (c_sortC (d := 0) hC hP1.1 hf hz) (by omega)) rfl rfl (fun x5 e5 y5 => absurd y5.1 e1) (fun v5 k5 z5 => ?_)
        obtain ⟨q0, rfl, rfl⟩ := z5
        refine g_istore_n (q := 9) dX7_lawLine_8 gs2 rfl ?_
        refine g_iload_n (q := 10) dX7_lawLine_9 rfl rfl ?_
        refine g_iconst (q := 11) dX7_lawLine_10 rfl ?_
        refine g_icmp_ne (t := 23) (q := 14) dX7_lawLine_11 (by decide) rfl (by unfold in32; omega) (by unfold in32; omega) (fun c11 => ?_) (fun c11 => ?_)
        · refine g_aload_n (q := 24) dX7_lawLine_23 rfl rfl ?_
          refine g_get (C := RX7) (T := TX7) (ci := 8) (k := 5) (q := 27) dX7_lawLine_24 q598 rfl in_X7 (by decide) rd_at rfl rfl ?_
          refine g_getN (C := RX2) (T := TX2) (ci := 2) (k := 2) (q := 30) dX7_lawLine_27 q355 rfl in_X2 (by decide) (c0' _) rfl rfl ?_
          refine g_iload_n (q := 31) dX7_lawLine_30 rfl rfl ?_
          refine g_aald (t0 := 9) (q := 32) dX7_lawLine_31 (c3' _) rfl rfl (by omega) (by omega) rfl ?_
          refine g_iload_n (q := 33) dX7_lawLine_32 rfl rfl ?_
          refine g_aald (t0 := 8) (q := 34) dX7_lawLine_33 (c4' _) rfl rfl (by omega) (by omega) rfl ?_
          rw [hx]
          refine g_ifnullN (t := 42) dX7_lawLine_34 (by decide) ?_
          refine g_aload_n (q := 43) dX7_lawLine_42 rfl rfl ?_
          refine g_cvV (I' := iX7_next) (mc := 0) (ms := 0) (rc := (0+MC+1)) (rs := (0+MS+8)) (ci := 8) (q := 46) dX7_lawLine_43 q635 q637 rfl qs6 gcX7_next rd_at (GO.deep (c_nextC (d := 0) hC hz hP1.1) (by omega)) rfl rfl ?_
          refine g_aload_n (q := 47) dX7_lawLine_46 rfl rfl ?_
          refine g_ldcS (q := 49) dX7_lawLine_47 rfl q758 (litR_by ok) rfl ?_
          refine g_cvVE (I' := iX7_word) (mc := 1) (ms := 8) (rc := (0+MC)) (rs := (0+MS)) (ci := 8) (q := 52) dX7_lawLine_49 q759 q761 rfl qs14 gcX7_word rd_at (GO.deep (c_wordC (d := 0) hC (litR_by ok).2 hP2.1 hf hz) (by omega)) rfl rfl (fun x49 e49 y49 => by rw [e3] at y49; have q := y49.1; rw [← hX, ← e4, rp_bad q, rwL_bad q, rlQ_bad q]; exact excQ.l hR y49) (fun k49 z49 => ?_)
          obtain ⟨q3, rfl⟩ := z49
          rw [e3] at q3 ⊢
          refine g_aload_n (q := 53) dX7_lawLine_52 rfl rfl ?_
          refine g_get (C := RX7) (T := TX7) (ci := 8) (k := 5) (q := 56) dX7_lawLine_53 q598 rfl in_X7 (by decide) rd_at rfl rfl ?_
          refine g_getN (C := RX2) (T := TX2) (ci := 2) (k := 2) (q := 59) dX7_lawLine_56 q355 rfl in_X2 (by decide) (c0' _) rfl rfl ?_
          refine g_iload_n (q := 60) dX7_lawLine_59 rfl rfl ?_
          refine g_aald (t0 := 9) (q := 61) dX7_lawLine_60 (c3' _) rfl rfl (by omega) (by omega) rfl ?_
          refine g_iload_n (q := 62) dX7_lawLine_61 rfl rfl ?_
          refine g_aload_n (q := 63) dX7_lawLine_62 rfl rfl ?_
          refine g_cvE (I' := iX7_sum) (mc := MC) (ms := MS) (rc := 0) (rs := 0) (ci := 8) (q := 66) dX7_lawLine_63 q767 q769 rfl qs16 gcX7_sum rd_at (ct q3) rfl rfl (fun x63 e63 y63 => by have q := y63.1; rw [← hX, rlQ_bad q]; exact excQ.l hR y63) (fun v63 k63 z63 => ?_)
          obtain ⟨w, a, f, N, ow2, h2, rfl, xt, rfl, hS, hN, hM⟩ := z63
          rw [f31] at hN hM
          have hFk := XT.xf (v := rdO so la ak ta tx rl sz X1) hC xt
          have hF9 : FR ow2 ow2 h2 (hset h2 r (rdO so la ak ta tx rl sz X1)) (fun i => i ≠ 9) := FR.set (hC.xt xt).2.1.2.1
          have hS2 := SUMg.fr hF9 (by decide) N a f hS
          have kp : KP P X1 := by
            have z := KP.trans ra.1 rwf.2
            unfold KP at z ⊢
            rw [f31] at z
            exact z
          have hw1 := rwo.1.2.1.1
          have hb0 := hw.2.2.1.1
          have lb1 : LB X1.2.2.2.2.2.2.1 := fun l l1 l2 => by
            rw [kp.2 _ (by omega) (by omega), kp.2 _ (by omega) (by omega)]
            have := hR.2.2.2.2 l l1 l2
            have := kp.1
            omega
          have ht1 : RTX E ow2 (hset h2 r (rdO so la ak ta tx rl sz X1)) tx X1.2.2.2.2.2.2.1 P.2.2.2.2.2.2.2.1 P.2.2.2.2.2.2.2.2 := RTX.gx (hR.2.2.1.fr hFk (by decide) (by decide)) hR.2.2.2.2 hw (fun y y1 y2 y3 => kp.2 y y1 y3)
          obtain ⟨lw2, cl2, ht2⟩ := RTX.law (v := v) (s := srP tp (PSadv tp sz P)) ht1 lb1 hw1 (by omega) (by omega) hvs hS2 hN hM
          refine g_aast (q := 67) (t0 := 8) dX7_lawLine_66 cl2 rfl (SUMg.any (h := hset h2 r (rdO so la ak ta tx rl sz X1)) hS2 (fun b ci fs e => e)) (by omega) (by omega) rfl ?_
          refine g_vret dX7_lawLine_67 rfl ?_
          have eXX : X = PSf (upI (upI X1.2.2.2.2.2.2.1 (202 + 2 * lawN v (srP tp (PSadv tp sz P))) (P.2.2.2.2.2.2.1 3)) (202 + 2 * lawN v (srP tp (PSadv tp sz P)) + 1) (X1.2.2.2.2.2.2.1 3 - P.2.2.2.2.2.2.1 3)) X1 := by
            have hln : 0 ≤ lawN v (srP tp (PSadv tp sz P)) := by unfold lawN; split <;> omega
            rw [← hX]
            unfold rlQ
            rw [if_pos w, upI_ne (show (3 : Int) ≠ 202 + 2 * lawN v (srP tp (PSadv tp sz P)) by omega)]
            rfl
          have hln : 0 ≤ lawN v (srP tp (PSadv tp sz P)) ∧ lawN v (srP tp (PSadv tp sz P)) < 9 := by unfold lawN; split <;> omega
          have hF14 : FR ow2 ow2 (hset h2 r (rdO so la ak ta tx rl sz X1)) (hset (hset h2 r (rdO so la ak ta tx rl sz X1)) (tx + 4 + v.toNat) (aR E 8 4 (upI (lw2 v) (srP tp (PSadv tp sz P)) (some a)))) (fun i => i ≠ 14) := FR.set (by have z := ht1.1 (4 + v.toNat) (by omega); rwa [← Nat.add_assoc] at z)
          have hfull : FR ow ow2 h (hset (hset h2 r (rdO so la ak ta tx rl sz X1)) (tx + 4 + v.toNat) (aR E 8 4 (upI (lw2 v) (srP tp (PSadv tp sz P)) (some a)))) (fun i => i ≠ 9 ∧ i ≠ 14) := (hFk.sub (q := fun i => i ≠ 9 ∧ i ≠ 14) (fun i z => z.1)).trans (hF14.sub (fun i z => z.2))
          have hXF : XF ow ow2 h (hset (hset h2 r (rdO so la ak ta tx rl sz X1)) (tx + 4 + v.toNat) (aR E 8 4 (upI (lw2 v) (srP tp (PSadv tp sz P)) (some a)))) := ⟨hfull.sub (fun i z => ⟨z.1, z.2.1⟩), xt.2.2⟩
          have tl : X1.2.2.2.2.2.2.2 = P.2.2.2.2.2.2.2 := rwo.2.1.trans (rok.2.1.trans (congrArg Prod.snd f3))
          rw [eXX]
          refine ⟨w, ow2, hXF, RST.go hR hXF (((hC.xt xt).st (v := rdO so la ak ta tx rl sz X1)).2.1.1.set cl2) (hC.xt xt).2.1.2.1 ((hset_ne (Ne.symm nv)).trans hset_at) ?_ ?_ ?_⟩
          · show RTX E ow2 _ tx _ X1.2.2.2.2.2.2.2.1 X1.2.2.2.2.2.2.2.2
            rw [tl]; exact ht2
          · refine RRW.gx (hR.2.2.2.1.fr hfull (by decide) (by decide)) hw ?_ (fun y y1 y2 => ?_)
            · exact (upI_ne (by omega)).trans ((upI_ne (by omega)).trans (kp.2 2 (by decide) (by omega)))
            · exact (upI_ne (by omega)).trans ((upI_ne (by omega)).trans (kp.2 y (by omega) (by omega)))
          · intro l l1 l2
            show upI _ _ _ _ + upI _ _ _ _ ≤ upI _ _ _ 3
            rw [upI_ne (show (3 : Int) ≠ 202 + 2 * lawN v (srP tp (PSadv tp sz P)) + 1 by omega), upI_ne (show (3 : Int) ≠ 202 + 2 * lawN v (srP tp (PSadv tp sz P)) by omega)]
            by_cases el : l = lawN v (srP tp (PSadv tp sz P))
            · subst el
              rw [upI_at, upI_ne (by omega), upI_at]
              omega
            · rw [upI_ne (by omega), upI_ne (by omega), upI_ne (by omega), upI_ne (by omega)]
              exact lb1 l l1 l2
        · refine g_iload_n (q := 15) dX7_lawLine_14 rfl rfl ?_
          refine g_if_eq (t := 23) (q := 18) dX7_lawLine_15 (by decide) rfl (by unfold in32; omega) (fun c15 => ?_) (fun c15 => ?_)
          · refine g_aload_n (q := 24) dX7_lawLine_23 rfl rfl ?_
            refine g_get (C := RX7) (T := TX7) (ci := 8) (k := 5) (q := 27) dX7_lawLine_24 q598 rfl in_X7 (by decide) rd_at rfl rfl ?_
            refine g_getN (C := RX2) (T := TX2) (ci := 2) (k := 2) (q := 30) dX7_lawLine_27 q355 rfl in_X2 (by decide) (c0' _) rfl rfl ?_
            refine g_iload_n (q := 31) dX7_lawLine_30 rfl rfl ?_
            refine g_aald (t0 := 9) (q := 32) dX7_lawLine_31 (c3' _) rfl rfl (by omega) (by omega) rfl ?_
            refine g_iload_n (q := 33) dX7_lawLine_32 rfl rfl ?_
            refine g_aald (t0 := 8) (q := 34) dX7_lawLine_33 (c4' _) rfl rfl (by omega) (by omega) rfl ?_
            rw [hx]
            refine g_ifnullN (t := 42) dX7_lawLine_34 (by decide) ?_
            refine g_aload_n (q := 43) dX7_lawLine_42 rfl rfl ?_
            refine g_cvV (I' := iX7_next) (mc := 0) (ms := 0) (rc := (0+MC+1)) (rs := (0+MS+8)) (ci := 8) (q := 46) dX7_lawLine_43 q635 q637 rfl qs6 gcX7_next rd_at (GO.deep (c_nextC (d := 0) hC hz hP1.1) (by omega)) rfl rfl ?_
            refine g_aload_n (q := 47) dX7_lawLine_46 rfl rfl ?_
            refine g_ldcS (q := 49) dX7_lawLine_47 rfl q758 (litR_by ok) rfl ?_
            refine g_cvVE (I' := iX7_word) (mc := 1) (ms := 8) (rc := (0+MC)) (rs := (0+MS)) (ci := 8) (q := 52) dX7_lawLine_49 q759 q761 rfl qs14 gcX7_word rd_at (GO.deep (c_wordC (d := 0) hC (litR_by ok).2 hP2.1 hf hz) (by omega)) rfl rfl (fun x49 e49 y49 => by rw [e3] at y49; have q := y49.1; rw [← hX, ← e4, rp_bad q, rwL_bad q, rlQ_bad q]; exact excQ.l hR y49) (fun k49 z49 => ?_)
            obtain ⟨q3, rfl⟩ := z49
            rw [e3] at q3 ⊢
            refine g_aload_n (q := 53) dX7_lawLine_52 rfl rfl ?_
            refine g_get (C := RX7) (T := TX7) (ci := 8) (k := 5) (q := 56) dX7_lawLine_53 q598 rfl in_X7 (by decide) rd_at rfl rfl ?_
            refine g_getN (C := RX2) (T := TX2) (ci := 2) (k := 2) (q := 59) dX7_lawLine_56 q355 rfl in_X2 (by decide) (c0' _) rfl rfl ?_
            refine g_iload_n (q := 60) dX7_lawLine_59 rfl rfl ?_
            refine g_aald (t0 := 9) (q := 61) dX7_lawLine_60 (c3' _) rfl rfl (by omega) (by omega) rfl ?_
            refine g_iload_n (q := 62) dX7_lawLine_61 rfl rfl ?_
            refine g_aload_n (q := 63) dX7_lawLine_62 rfl rfl ?_
            refine g_cvE (I' := iX7_sum) (mc := MC) (ms := MS) (rc := 0) (rs := 0) (ci := 8) (q := 66) dX7_lawLine_63 q767 q769 rfl qs16 gcX7_sum rd_at (ct q3) rfl rfl (fun x63 e63 y63 => by have q := y63.1; rw [← hX, rlQ_bad q]; exact excQ.l hR y63) (fun v63 k63 z63 => ?_)
            obtain ⟨w, a, f, N, ow2, h2, rfl, xt, rfl, hS, hN, hM⟩ := z63
            rw [f31] at hN hM
            have hFk := XT.xf (v := rdO so la ak ta tx rl sz X1) hC xt
            have hF9 : FR ow2 ow2 h2 (hset h2 r (rdO so la ak ta tx rl sz X1)) (fun i => i ≠ 9) := FR.set (hC.xt xt).2.1.2.1
            have hS2 := SUMg.fr hF9 (by decide) N a f hS
            have kp : KP P X1 := by
              have z := KP.trans ra.1 rwf.2
              unfold KP at z ⊢
              rw [f31] at z
              exact z
            have hw1 := rwo.1.2.1.1
            have hb0 := hw.2.2.1.1
            have lb1 : LB X1.2.2.2.2.2.2.1 := fun l l1 l2 => by
              rw [kp.2 _ (by omega) (by omega), kp.2 _ (by omega) (by omega)]
              have := hR.2.2.2.2 l l1 l2
              have := kp.1
              omega
            have ht1 : RTX E ow2 (hset h2 r (rdO so la ak ta tx rl sz X1)) tx X1.2.2.2.2.2.2.1 P.2.2.2.2.2.2.2.1 P.2.2.2.2.2.2.2.2 := RTX.gx (hR.2.2.1.fr hFk (by decide) (by decide)) hR.2.2.2.2 hw (fun y y1 y2 y3 => kp.2 y y1 y3)
            obtain ⟨lw2, cl2, ht2⟩ := RTX.law (v := v) (s := srP tp (PSadv tp sz P)) ht1 lb1 hw1 (by omega) (by omega) hvs hS2 hN hM
            refine g_aast (q := 67) (t0 := 8) dX7_lawLine_66 cl2 rfl (SUMg.any (h := hset h2 r (rdO so la ak ta tx rl sz X1)) hS2 (fun b ci fs e => e)) (by omega) (by omega) rfl ?_
            refine g_vret dX7_lawLine_67 rfl ?_
            have eXX : X = PSf (upI (upI X1.2.2.2.2.2.2.1 (202 + 2 * lawN v (srP tp (PSadv tp sz P))) (P.2.2.2.2.2.2.1 3)) (202 + 2 * lawN v (srP tp (PSadv tp sz P)) + 1) (X1.2.2.2.2.2.2.1 3 - P.2.2.2.2.2.2.1 3)) X1 := by
              have hln : 0 ≤ lawN v (srP tp (PSadv tp sz P)) := by unfold lawN; split <;> omega
              rw [← hX]
              unfold rlQ
              rw [if_pos w, upI_ne (show (3 : Int) ≠ 202 + 2 * lawN v (srP tp (PSadv tp sz P)) by omega)]
              rfl
            have hln : 0 ≤ lawN v (srP tp (PSadv tp sz P)) ∧ lawN v (srP tp (PSadv tp sz P)) < 9 := by unfold lawN; split <;> omega
            have hF14 : FR ow2 ow2 (hset h2 r (rdO so la ak ta tx rl sz X1)) (hset (hset h2 r (rdO so la ak ta tx rl sz X1)) (tx + 4 + v.toNat) (aR E 8 4 (upI (lw2 v) (srP tp (PSadv tp sz P)) (some a)))) (fun i => i ≠ 14) := FR.set (by have z := ht1.1 (4 + v.toNat) (by omega); rwa [← Nat.add_assoc] at z)
            have hfull : FR ow ow2 h (hset (hset h2 r (rdO so la ak ta tx rl sz X1)) (tx + 4 + v.toNat) (aR E 8 4 (upI (lw2 v) (srP tp (PSadv tp sz P)) (some a)))) (fun i => i ≠ 9 ∧ i ≠ 14) := (hFk.sub (q := fun i => i ≠ 9 ∧ i ≠ 14) (fun i z => z.1)).trans (hF14.sub (fun i z => z.2))
            have hXF : XF ow ow2 h (hset (hset h2 r (rdO so la ak ta tx rl sz X1)) (tx + 4 + v.toNat) (aR E 8 4 (upI (lw2 v) (srP tp (PSadv tp sz P)) (some a)))) := ⟨hfull.sub (fun i z => ⟨z.1, z.2.1⟩), xt.2.2⟩
            have tl : X1.2.2.2.2.2.2.2 = P.2.2.2.2.2.2.2 := rwo.2.1.trans (rok.2.1.trans (congrArg Prod.snd f3))
            rw [eXX]
            refine ⟨w, ow2, hXF, RST.go hR hXF (((hC.xt xt).st (v := rdO so la ak ta tx rl sz X1)).2.1.1.set cl2) (hC.xt xt).2.1.2.1 ((hset_ne (Ne.symm nv)).trans hset_at) ?_ ?_ ?_⟩
            · show RTX E ow2 _ tx _ X1.2.2.2.2.2.2.2.1 X1.2.2.2.2.2.2.2.2
              rw [tl]; exact ht2
            · refine RRW.gx (hR.2.2.2.1.fr hfull (by decide) (by decide)) hw ?_ (fun y y1 y2 => ?_)
              · exact (upI_ne (by omega)).trans ((upI_ne (by omega)).trans (kp.2 2 (by decide) (by omega)))
              · exact (upI_ne (by omega)).trans ((upI_ne (by omega)).trans (kp.2 y (by omega) (by omega)))
            · intro l l1 l2
              show upI _ _ _ _ + upI _ _ _ _ ≤ upI _ _ _ 3
              rw [upI_ne (show (3 : Int) ≠ 202 + 2 * lawN v (srP tp (PSadv tp sz P)) + 1 by omega), upI_ne (show (3 : Int) ≠ 202 + 2 * lawN v (srP tp (PSadv tp sz P)) by omega)]
              by_cases el : l = lawN v (srP tp (PSadv tp sz P))
              · subst el
                rw [upI_at, upI_ne (by omega), upI_at]
                omega
              · rw [upI_ne (by omega), upI_ne (by omega), upI_ne (by omega), upI_ne (by omega)]
                exact lb1 l l1 l2
          · exact absurd (hvs c11) c15
end
