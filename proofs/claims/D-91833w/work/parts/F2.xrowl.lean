/-! THE COMPONENT: the Reader's row line -/
set_option maxRecDepth 100000
section
variable {E : gE} {ow : OW} {h : gH} {g g' lt : Int → Int} {hd : Int} {t : Nat}
theorem RTX.gx2 (hT : RTX E ow h t g hd lt) (h3 : LB g) (hw : WFw g) (hg : ∀ y, y ≠ 2 → (y < 34 ∨ 202 ≤ y) → g' y = g y) : RTX E ow h t g' hd lt := by
  obtain ⟨o, lw, ge, gl, gz, c0, ⟨c1, r1⟩, ⟨c2, r2⟩, c3, c4, c7, hl⟩ := hT
  refine ⟨o, lw, ge, gl, gz, ?_, ⟨c1, fun j j1 j2 => ?_⟩, ⟨c2, fun j j1 j2 => ?_⟩, c3, c4, c7, fun k s a1 a2 a3 a4 => LAWR.gx h3 ⟨a1, a2⟩ ⟨a3, a4⟩ (fun y y1 y2 => hg y (by omega) (Or.inr y1)) hw _ (hl k s a1 a2 a3 a4)⟩
  · rw [hg 1 (by decide) (Or.inl (by decide)), hg 4 (by decide) (Or.inl (by decide)), hg 0 (by decide) (Or.inl (by decide))]; exact c0
  · rw [hg _ (by omega) (Or.inl (by omega))]; exact r1 j j1 j2
  · rw [hg _ (by omega) (Or.inl (by omega))]; exact r2 j j1 j2
end
section
variable {E : gE} {d r so la ak ta tx rl : Nat} {ow ow' : OW} {h h' : gH} {tp : Int → Int} {sz lw hi n : Int} {P X : PS} {Q : Outcome → gH → Prop} {gr : Int → Int} {rc rs : Nat}
theorem c_numOk (hC : RCX E ow h r so la ak ta tp) (hP : PSt sz P) (hf : P.2.2.2.2.1 = 0) (hz : sz ≤ 900) (hh : -1 ≤ hi ∧ hi ≤ 5000) (hl : 0 ≤ lw) (w : P.2.2.1 = 2) (w2 : lw ≤ P.2.2.2.1 ∧ P.2.2.2.1 ≤ hi) : CALL E iX7_number (d + 2) 0 0 [.ref r, vI lw, vI hi] (hset h r (rdO so la ak ta tx rl sz P)) (qR (vI P.2.2.2.1) (hset h r (rdO so la ak ta tx rl sz (PSadv tp sz P)))) := by
  have ev : vX P = min 9999 P.2.2.2.1 := if_pos w
  have ev2 : vX P = P.2.2.2.1 := by omega
  have hb := hP.2.1
  show GO E iX7_number _ _ _ 0 [some (.ref r), some (vI lw), some (vI hi), none] [] _ _
  refine g_aload_n (q := 1) dX7_number_0 rfl rfl ?_
  refine g_get (C := RX7) (T := TX7) (ci := 8) (k := 9) (q := 4) dX7_number_1 q603 rfl in_X7 (by decide) rd_at rfl rfl ?_
  refine g_iconst (q := 5) dX7_number_4 rfl ?_
  refine g_icmp_eq (t := 13) (q := 8) dX7_number_5 (by decide) rfl (by unfold in32; omega) (by unfold in32; omega) (fun c5 => ?_) (fun c5 => ?_)
  · refine g_aload_n (q := 14) dX7_number_13 rfl rfl ?_
    refine g_get (C := RX7) (T := TX7) (ci := 8) (k := 11) (q := 17) dX7_number_14 q605 rfl in_X7 (by decide) rd_at rfl rfl ?_
    refine g_i2l (q := 18) dX7_number_17 (by unfold in32; omega) rfl ?_
    refine g_iload_n (q := 19) dX7_number_18 rfl rfl ?_
    refine g_i2l (q := 20) dX7_number_19 (by first | assumption | exact in32_gB | exact in32_gCmp | (unfold in32; omega)) rfl ?_
    refine g_iload_n (q := 21) dX7_number_20 rfl rfl ?_
    refine g_i2l (q := 22) dX7_number_21 (by first | assumption | exact in32_gB | exact in32_gCmp | (unfold in32; omega)) rfl ?_
    refine g_csN (I' := iX0_in) (mc := 0) (ms := 0) (rc := 0) (rs := 0) (q := 25) dX7_number_22 q785 q131 gcX0_in (c_inX (by unfold in64; omega) (by unfold in64; omega) (by unfold in64; omega)) rfl rfl ?_
    refine g_ifneB (t := 33) (q := 28) dX7_number_25 (by decide) rfl (fun c25 => ?_) (fun c25 => ?_)
    · refine g_aload_n (q := 34) dX7_number_33 rfl rfl ?_
      refine g_get (C := RX7) (T := TX7) (ci := 8) (k := 11) (q := 37) dX7_number_34 q605 rfl in_X7 (by decide) rd_at rfl rfl ?_
      refine g_istore_n (q := 38) dX7_number_37 gs3 rfl ?_
      refine g_aload_n (q := 39) dX7_number_38 rfl rfl ?_
      refine g_cvV (I' := iX7_next) (mc := 0) (ms := 0) (rc := 0) (rs := 0) (ci := 8) (q := 42) dX7_number_39 q635 q637 rfl qs6 gcX7_next rd_at (GO.deep (c_nextC (d := 0) hC hz hP) (by omega)) rfl rfl ?_
      refine g_iload_n (q := 43) dX7_number_42 rfl rfl ?_
      exact g_iret dX7_number_43 rfl ⟨rI ev2, rfl⟩
    · exact absurd w2 (by omega)
  · exact absurd w c5
/-- is the number there already -/
theorem l_rowL1 (hC : RCX E ow (hnew h (aI E 12 gr)) r so la ak ta tp) (hr0 : r < h.2) (hw : P.2.2.1 = 2) (hv : 0 ≤ P.2.2.2.1 ∧ P.2.2.2.1 ≤ 99999) (hn : 0 ≤ n ∧ n ≤ 12) {K : Int} (hg : ∀ i, 0 ≤ i → i < n → gr i = P.2.2.2.2.2.2.1 (K + 1 + i) ∧ 0 ≤ gr i ∧ gr i ≤ 23) : ∀ (f : Nat) (k : Int), 0 ≤ k → k + f = n →
    (dupB P.2.2.2.2.2.2.1 K P.2.2.2.1 f k = false → ∀ x3 : Option Value, GO E iX7_rowLine (d + 5) (rc + 1) (rs + 8) 56 [some (.ref r), some (.ref h.2), some (vI n), x3] [] (hset (hnew h (aI E 12 gr)) r (rdO so la ak ta tx rl sz P)) Q) →
    (dupB P.2.2.2.2.2.2.1 K P.2.2.2.1 f k = true → ∀ y k', excQ ow (hnew h (aI E 12 gr)) r so la ak ta tx rl sz (PSerr 2 P) y k' → Q (.threw y) k') →
    GO E iX7_rowLine (d + 5) (rc + 1) (rs + 8) 22 [some (.ref r), some (.ref h.2), some (vI n), some (vI k)] [] (hset (hnew h (aI E 12 gr)) r (rdO so la ak ta tx rl sz P)) Q := by
  have ev : vX P = min 9999 P.2.2.2.1 := if_pos hw
  have hlt := hC.lt
  intro f
  induction f with
  | zero =>
    intro k h0 h1 ky ko
    refine g_iload_n (q := 23) dX7_rowLine_22 rfl rfl ?_
    refine g_iload_n (q := 24) dX7_rowLine_23 rfl rfl ?_
    refine g_icmp_ge (t := 56) (q := 27) dX7_rowLine_24 (by decide) rfl (by first | assumption | exact in32_gB | exact in32_gCmp | (unfold in32; omega)) (by first | assumption | exact in32_gB | exact in32_gCmp | (unfold in32; omega)) (fun c24 => ?_) (fun c24 => ?_)
    · exact ky rfl _
    · exact absurd c24 (by omega)
  | succ f ih =>
    intro k h0 h1 ky ko
    obtain ⟨g1, g2, g3⟩ := hg k h0 (by omega)
    have hne : h.2 ≠ r := by omega
    have ha : (hset (hnew h (aI E 12 gr)) r (rdO so la ak ta tx rl sz P)).1 h.2 = some (aI E 12 gr) := (hset_ne hne).trans hnew_at
    have st : dupB P.2.2.2.2.2.2.1 K P.2.2.2.1 (f + 1) k = if P.2.2.2.2.2.2.1 (K + 1 + k) = P.2.2.2.1 then true else dupB P.2.2.2.2.2.2.1 K P.2.2.2.1 f (k + 1) := rfl
    refine g_iload_n (q := 23) dX7_rowLine_22 rfl rfl ?_
    refine g_iload_n (q := 24) dX7_rowLine_23 rfl rfl ?_
    refine g_icmp_ge (t := 56) (q := 27) dX7_rowLine_24 (by decide) rfl (by first | assumption | exact in32_gB | exact in32_gCmp | (unfold in32; omega)) (by first | assumption | exact in32_gB | exact in32_gCmp | (unfold in32; omega)) (fun c24 => ?_) (fun c24 => ?_)
    · exact absurd c24 (by omega)
    · refine g_aload_n (q := 28) dX7_rowLine_27 rfl rfl ?_
      refine g_get (C := RX7) (T := TX7) (ci := 8) (k := 9) (q := 31) dX7_rowLine_28 q603 rfl in_X7 (by decide) rd_at rfl rfl ?_
      refine g_iconst (q := 32) dX7_rowLine_31 rfl ?_
      refine g_icmp_ne (t := 50) (q := 35) dX7_rowLine_32 (by decide) rfl (by unfold in32; omega) (by unfold in32; omega) (fun c32 => ?_) (fun c32 => ?_)
      · exact absurd hw c32
      · refine g_aload_n (q := 36) dX7_rowLine_35 rfl rfl ?_
        refine g_iload_n (q := 37) dX7_rowLine_36 rfl rfl ?_
        refine g_iald (q := 38) dX7_rowLine_37 ha (by omega) (by omega) rfl ?_
        refine g_aload_n (q := 39) dX7_rowLine_38 rfl rfl ?_
        refine g_get (C := RX7) (T := TX7) (ci := 8) (k := 11) (q := 42) dX7_rowLine_39 q605 rfl in_X7 (by decide) rd_at rfl rfl ?_
        refine g_icmp_ne (t := 50) (q := 45) dX7_rowLine_42 (by decide) rfl (by unfold in32; omega) (by unfold in32; omega) (fun c42 => ?_) (fun c42 => ?_)
        · refine g_iinc (q := 53) dX7_rowLine_50 rfl gs3 rfl ?_
          refine g_goto (t := 22) dX7_rowLine_53 (by decide) ?_
          exact ih _ (by omega) (by omega) (fun q => ky (by rw [st, if_neg (by omega)]; exact q)) (fun q => ko (by rw [st, if_neg (by omega)]; exact q))
        · refine g_aload_n (q := 46) dX7_rowLine_45 rfl rfl ?_
          refine g_iconst (q := 47) dX7_rowLine_46 rfl ?_
          exact g_cvX (I' := iX7_fails) (mc := 1) (ms := 8) (rc := rc) (rs := rs) (ci := 8) dX7_rowLine_47 q718 q720 rfl qs11 gcX7_fails rd_at (GO.deep (c_failsC (d := 0) hC (by decide)) (by omega)) rfl (fun x47 e47 y47 => ko (by rw [st, if_pos (by omega)]) _ _ y47)
theorem l_rowL0 (hr0 : r < h.2) (hw : P.2.2.1 ≠ 2) (ht : 0 ≤ P.2.2.1 ∧ P.2.2.1 ≤ 4) (hn : 0 ≤ n ∧ n ≤ 12) : ∀ (f : Nat) (k : Int), 0 ≤ k → k + f = n →
    (∀ x3 : Option Value, GO E iX7_rowLine d rc rs 56 [some (.ref r), some (.ref h.2), some (vI n), x3] [] (hset (hnew h (aI E 12 gr)) r (rdO so la ak ta tx rl sz P)) Q) →
    GO E iX7_rowLine d rc rs 22 [some (.ref r), some (.ref h.2), some (vI n), some (vI k)] [] (hset (hnew h (aI E 12 gr)) r (rdO so la ak ta tx rl sz P)) Q := by
  intro f
  induction f with
  | zero =>
    intro k h0 h1 ky
    refine g_iload_n (q := 23) dX7_rowLine_22 rfl rfl ?_
    refine g_iload_n (q := 24) dX7_rowLine_23 rfl rfl ?_
    refine g_icmp_ge (t := 56) (q := 27) dX7_rowLine_24 (by decide) rfl (by first | assumption | exact in32_gB | exact in32_gCmp | (unfold in32; omega)) (by first | assumption | exact in32_gB | exact in32_gCmp | (unfold in32; omega)) (fun c24 => ?_) (fun c24 => ?_)
    · exact ky _
    · exact absurd c24 (by omega)
  | succ f ih =>
    intro k h0 h1 ky
    refine g_iload_n (q := 23) dX7_rowLine_22 rfl rfl ?_
    refine g_iload_n (q := 24) dX7_rowLine_23 rfl rfl ?_
    refine g_icmp_ge (t := 56) (q := 27) dX7_rowLine_24 (by decide) rfl (by first | assumption | exact in32_gB | exact in32_gCmp | (unfold in32; omega)) (by first | assumption | exact in32_gB | exact in32_gCmp | (unfold in32; omega)) (fun c24 => ?_) (fun c24 => ?_)
    · exact absurd c24 (by omega)
    · refine g_aload_n (q := 28) dX7_rowLine_27 rfl rfl ?_
      refine g_get (C := RX7) (T := TX7) (ci := 8) (k := 9) (q := 31) dX7_rowLine_28 q603 rfl in_X7 (by decide) rd_at rfl rfl ?_
      refine g_iconst (q := 32) dX7_rowLine_31 rfl ?_
      refine g_icmp_ne (t := 50) (q := 35) dX7_rowLine_32 (by decide) rfl (by unfold in32; omega) (by unfold in32; omega) (fun c32 => ?_) (fun c32 => ?_)
      · refine g_iinc (q := 53) dX7_rowLine_50 rfl gs3 rfl ?_
        refine g_goto (t := 22) dX7_rowLine_53 (by decide) ?_
        exact ih _ (by omega) (by omega) ky
      · exact absurd c32 hw
/-- the row is whole -/
theorem l_rowL3 {P0 : PS} (hR : RST E ow h r so la ak ta tx rl sz tp P0) (hw : WFw P0.2.2.2.2.2.2.1) (h2 : P0.2.2.2.2.2.2.1 2 < 12) (hn : 2 ≤ n ∧ n ≤ 12) {x3 : Option Value} (hX : X.2.2.2.2.1 = 0) (hd : X.2.2.2.2.2.2.2 = P0.2.2.2.2.2.2.2) (g2 : X.2.2.2.2.2.2.1 2 = P0.2.2.2.2.2.2.1 2 + 1) (gn : X.2.2.2.2.2.2.1 (34 + 14 * P0.2.2.2.2.2.2.1 2) = n) (gi : ∀ i, 0 ≤ i → i < n → gr i = X.2.2.2.2.2.2.1 (34 + 14 * P0.2.2.2.2.2.2.1 2 + 1 + i)) (go : ∀ y, y ≠ 2 → (y < 34 + 14 * P0.2.2.2.2.2.2.1 2 ∨ 202 ≤ y) → X.2.2.2.2.2.2.1 y = P0.2.2.2.2.2.2.1 y) (he : rdO so la ak ta tx rl sz X = rdO so la ak ta tx rl sz P) :
    GO E iX7_rowLine (d + 7) 2 220 117 [some (.ref r), some (.ref h.2), some (vI n), x3] [] (hset (hnew h (aI E 12 gr)) r (rdO so la ak ta tx rl sz P)) (qVE (okL E ow h r so la ak ta tx rl sz tp X) (excL ow h X)) := by
  have hC := hR.1.1
  have hlt := hC.lt
  have hh := hC.2.1.1
  have hw2 := hw.2.1
  have x1 : XT ow (upO ow h.2 0) h (hnew h (aI E 12 gr)) := XT.new hh
  have x2 : XT (upO ow h.2 0) (upO (upO ow h.2 0) (hnew h (aI E 12 gr)).2 0) (hnew h (aI E 12 gr)) (hnew (hnew h (aI E 12 gr)) (aI E n.toNat (cpyI (fun _ => 0) gr 0 0 n))) := XT.new x1.2.1
  obtain ⟨m1, m2⟩ := hR.mv (X := PSx P0.2.2.2.2.2.2 X) (x1.trans x2) rfl
  have he2 : rdO so la ak ta tx rl sz (PSx P0.2.2.2.2.2.2 X) = rdO so la ak ta tx rl sz P := he
  rw [he2] at m1 m2
  have ek : hnew (hset (hnew h (aI E 12 gr)) r (rdO so la ak ta tx rl sz P)) (aI E n.toNat (cpyI (fun _ => 0) gr 0 0 n)) = hset (hnew (hnew h (aI E 12 gr)) (aI E n.toNat (cpyI (fun _ => 0) gr 0 0 n))) r (rdO so la ak ta tx rl sz P) := hnew_hset (by show r ≠ h.2 + 1; omega)
  generalize ekA : hset (hnew (hnew h (aI E 12 gr)) (aI E n.toNat (cpyI (fun _ => 0) gr 0 0 n))) r (rdO so la ak ta tx rl sz P) = kA at m1 m2 ek
  have hv : kA.1 (h.2 + 1) = some (aI E n.toNat (cpyI (fun _ => 0) gr 0 0 n)) := by rw [← ek]; exact hnew_at
  have hv0 : upO (upO ow h.2 0) (hnew h (aI E 12 gr)).2 0 (h.2 + 1) = 0 := upO_at
  generalize eow : upO (upO ow h.2 0) (hnew h (aI E 12 gr)).2 0 = owA at m1 m2 hv0
  obtain ⟨rr, hL, hr⟩ := id m1.2.2.2.1
  replace hL : LST E owA kA 15 rl (P0.2.2.2.2.2.2.1 2) rr := hL
  replace hr : ∀ r, 0 ≤ r → r < P0.2.2.2.2.2.2.1 2 → ROWc E (imm owA) kA.1 P0.2.2.2.2.2.2.1 r (rr r) := hr
  have cA := c_LAdd (d := d) (v := h.2 + 1) hL m1.1.1.2.1.1 (by decide) (Or.inl ⟨_, _, hv⟩) hv0 (fun i q1 q2 => (hr i q1 q2).elt) (by omega)
  obtain ⟨ar, cap, mo, gL, -, hl, -⟩ := id hL
  refine GO.room (rc := 1 + 1) (rs := 200 + (0 + n.toNat)) ?_ (by omega) (by omega)
  obtain ⟨N, eN⟩ : ∃ N : Nat, N = n.toNat := ⟨_, rfl⟩
  have cS := c_shortened (E := E) (d := d + 5) (n := n) (m := 12) (ra := h.2) (g := gr) (h := hset (hnew h (aI E 12 gr)) r (rdO so la ak ta tx rl sz P)) (by omega) (by decide) (by show h.2 < h.2 + 1; omega) ((hset_ne (by omega)).trans hnew_at)
  rw [ek] at cS
  rw [← eN] at cS ⊢
  refine g_aload_n (q := 118) dX7_rowLine_117 rfl rfl ?_
  refine g_get (C := RX7) (T := TX7) (ci := 8) (k := 6) (q := 121) dX7_rowLine_118 q599 rfl in_X7 (by decide) rd_at rfl rfl ?_
  refine g_aload_n (q := 122) dX7_rowLine_121 rfl rfl ?_
  refine g_iload_n (q := 123) dX7_rowLine_122 rfl rfl ?_
  refine g_csN (I' := iX0_shortened) (mc := 1) (ms := (0+N)) (rc := 1) (rs := 200) (q := 126) dX7_rowLine_123 q852 q853 gcX0_shortened (cS) rfl rfl ?_
  refine g_cfP (I' := iJ2_add) (mc := 1) (ms := 200) (rc := 0) (rs := 0) (ci := 3) (q := 131) dX7_rowLine_126 q857 q859 q858 q863 q861 q712 (by decide) gcJ2_add.2.1 q862 rfl q860 gcJ2_add hl (cA) rfl rfl (fun v126 k126 z126 => ?_)
  obtain ⟨rfl, ow2, hL2, hh2, hF2, hs2⟩ := z126
  refine g_pop (q := 132) dX7_rowLine_131 rfl ?_
  refine g_vret dX7_rowLine_132 rfl ?_
  have hXF : XF ow ow2 h k126 := m2.trans ⟨hF2.sub (fun i z => z.2.2), hs2⟩
  have o9 := (hF2 r _ m1.2.1 (by rw [m1.1.1.2.1.2.1]; decide))
  refine ⟨hX, ow2, hXF, RST.go hR hXF hh2 (o9.2.trans m1.1.1.2.1.2.1) (by rw [he]; rw [he2] at o9; exact o9.1) ?_ ⟨_, by rw [g2]; exact hL2, fun q q1 q2 => ?_⟩ ?_⟩
  · have z := RTX.gx2 (g' := X.2.2.2.2.2.2.1) (m1.2.2.1.fr hF2 (by decide) (by decide)) m1.2.2.2.2 hw (fun y y1 y2 => go y y1 (by show y < 34 + 14 * P0.2.2.2.2.2.2.1 2 ∨ 202 ≤ y; omega))
    rw [hd]
    exact z
  · rw [g2] at q2
    by_cases e : q = P0.2.2.2.2.2.2.1 2
    · subst e
      rw [upI_at]
      have z := hF2 _ _ hv (by rw [hv0]; decide)
      refine ⟨imm_n (z.2.trans hv0), cpyI (fun _ => 0) gr 0 0 n, by rw [gn]; exact z.1, fun j j1 j2 => ?_⟩
      rw [gn] at j2
      rw [cpyI_in (by omega) (by omega), ← gi j j1 j2]
      congr 1
      omega
    · rw [upI_ne e]
      obtain ⟨n1, gg, c, hgg⟩ := (hr q q1 (by omega)).fr hF2 (by decide)
      have br := hw.row q1 (show q < P0.2.2.2.2.2.2.1 2 by omega)
      refine ⟨n1, gg, by rw [go _ (by omega) (Or.inl (by omega))]; exact c, fun i i1 i2 => ?_⟩
      rw [go _ (by omega) (Or.inl (by omega))] at i2
      rw [go _ (by omega) (Or.inl (by omega))]
      exact hgg i i1 i2
  · intro l l1 l2
    rw [go _ (by omega) (Or.inr (by omega)), go _ (by omega) (Or.inr (by omega)), go 3 (by decide) (Or.inl (by omega))]
    exact hR.2.2.2.2 l l1 l2
end
