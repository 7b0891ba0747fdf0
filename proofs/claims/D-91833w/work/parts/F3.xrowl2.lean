/-! THE COMPONENT: the Reader's row line, whole -/
set_option maxRecDepth 100000
section
variable {E : gE} {d r so la ak ta tx rl : Nat} {ow : OW} {h : gH} {tp : Int → Int} {sz : Int} {P0 X : PS}
theorem l_rowL2 (hR : RST E ow h r so la ak ta tx rl sz tp P0) (hz : sz ≤ 900) (hw : WFw P0.2.2.2.2.2.2.1) (h2 : P0.2.2.2.2.2.2.1 2 < 12) : ∀ (f : Nat) (n : Int) (P : PS) (gr : Int → Int) (x3 : Option Value), f + n = 13 → 0 ≤ n → n ≤ 12 → PSt sz P → P.2.2.2.2.1 = 0 → P.2.2.2.2.2.2.2 = P0.2.2.2.2.2.2.2 → (∀ y, (y < 35 + 14 * P0.2.2.2.2.2.2.1 2 ∨ 47 + 14 * P0.2.2.2.2.2.2.1 2 ≤ y) → P.2.2.2.2.2.2.1 y = P0.2.2.2.2.2.2.1 y) → (∀ i, 0 ≤ i → i < n → gr i = P.2.2.2.2.2.2.1 (34 + 14 * P0.2.2.2.2.2.2.1 2 + 1 + i) ∧ 0 ≤ gr i ∧ gr i ≤ 23) → (n < 2 ∨ P.2.2.1 = 2) → rrL tp sz f n P = X →
    GO E iX7_rowLine (d + 7) 2 220 20 [some (.ref r), some (.ref h.2), some (vI n), x3] [] (hset (hnew h (aI E 12 gr)) r (rdO so la ak ta tx rl sz P)) (qVE (okL E ow h r so la ak ta tx rl sz tp X) (excL ow h X)) := by
  have hC := hR.1.1
  have hlt := hC.lt
  have hh := hC.2.1.1
  have hw1 := hw.1
  have hw2 := hw.2.1
  have n0 := hR.ne 0 (by decide)
  obtain ⟨o, lw, ge, gl, gz, c0, -⟩ := id hR.2.2.1
  have hltx := hh _ _ c0
  intro f
  induction f with
  | zero => intro n P gr x3 q0 q1 q2; omega
  | succ f ih =>
    intro n P gr x3 q0 q1 q2 hP hf hd hy hg hc hX
    have x1 : XT ow (upO ow h.2 0) h (hnew h (aI E 12 gr)) := XT.new hh
    have hC1 := hC.xt x1
    have ht := hP.2.1
    have hv := hP.2.2.1
    have e1 : P.2.2.2.2.2.2.1 1 = P0.2.2.2.2.2.2.1 1 := hy 1 (Or.inl (by omega))
    have e2 : P.2.2.2.2.2.2.1 2 = P0.2.2.2.2.2.2.1 2 := hy 2 (Or.inl (by omega))
    have c0' : ∀ X : PS, (hset (hnew h (aI E 12 gr)) r (rdO so la ak ta tx rl sz X)).1 tx = some (oB 2 [.ref (tx + 1), .ref (tx + 2), .ref (tx + 3), .ref (tx + 7), vI (P0.2.2.2.2.2.2.1 1), vI (P0.2.2.2.2.2.2.1 4), vI (P0.2.2.2.2.2.2.1 0), vI P0.2.2.2.2.2.2.2.1]) := fun X => (hset_ne n0).trans ((hnew_ne (by omega)).trans c0)
    have ex : ∀ (X : PS) y k', excQ (upO ow h.2 0) (hnew h (aI E 12 gr)) r so la ak ta tx rl sz X y k' → excL ow h X y k' := fun X y k' z => excQ.l hR (excQ.xt x1 z)
    unfold rrL at hX
    rw [e1, e2] at hX
    by_cases w : P.2.2.1 = 2
    · rw [if_neg (not_not_intro w)] at hX
      have ev : vX P = min 9999 P.2.2.2.1 := if_pos w
      have big : P0.2.2.2.2.2.2.1 1 ≤ P.2.2.2.1 ∨ dupB P.2.2.2.2.2.2.1 (34 + 14 * P0.2.2.2.2.2.2.1 2) P.2.2.2.1 n.toNat 0 = true → X = PSerr 2 P := fun q => by
        by_cases c : P0.2.2.2.2.2.2.1 1 ≤ P.2.2.2.1
        · rw [if_pos c] at hX; exact hX.symm
        · rw [if_neg c] at hX
          rcases q with q | q
          · exact absurd q c
          · rw [if_pos q] at hX; exact hX.symm
      have body : dupB P.2.2.2.2.2.2.1 (34 + 14 * P0.2.2.2.2.2.2.1 2) P.2.2.2.1 n.toNat 0 = false → ∀ x3 : Option Value, GO E iX7_rowLine (d + 7) (1 + 1) (212 + 8) 56 [some (.ref r), some (.ref h.2), some (vI n), x3] [] (hset (hnew h (aI E 12 gr)) r (rdO so la ak ta tx rl sz P)) (qVE (okL E ow h r so la ak ta tx rl sz tp X) (excL ow h X)) := by
        intro hdu x3
        by_cases c : P0.2.2.2.2.2.2.1 1 ≤ P.2.2.2.1
        · have eX := big (Or.inl c)
          subst eX
          refine g_aload_n (q := 57) dX7_rowLine_56 rfl rfl ?_
          refine g_get (C := RX7) (T := TX7) (ci := 8) (k := 9) (q := 60) dX7_rowLine_57 q603 rfl in_X7 (by decide) rd_at rfl rfl ?_
          refine g_iconst (q := 61) dX7_rowLine_60 rfl ?_
          refine g_icmp_ne (t := 83) (q := 64) dX7_rowLine_61 (by decide) rfl (by unfold in32; omega) (by unfold in32; omega) (fun c61 => ?_) (fun c61 => ?_)
          · exact absurd w c61
          · refine g_aload_n (q := 65) dX7_rowLine_64 rfl rfl ?_
            refine g_get (C := RX7) (T := TX7) (ci := 8) (k := 11) (q := 68) dX7_rowLine_65 q605 rfl in_X7 (by decide) rd_at rfl rfl ?_
            refine g_aload_n (q := 69) dX7_rowLine_68 rfl rfl ?_
            refine g_get (C := RX7) (T := TX7) (ci := 8) (k := 5) (q := 72) dX7_rowLine_69 q598 rfl in_X7 (by decide) rd_at rfl rfl ?_
            refine g_getN (C := RX2) (T := TX2) (ci := 2) (k := 4) (q := 75) dX7_rowLine_72 q359 rfl in_X2 (by decide) (c0' _) rfl rfl ?_
            refine g_icmp_lt (t := 83) (q := 78) dX7_rowLine_75 (by decide) rfl (by unfold in32; omega) (by unfold in32; omega) (fun c75 => ?_) (fun c75 => ?_)
            · exact absurd c (by omega)
            · refine g_aload_n (q := 79) dX7_rowLine_78 rfl rfl ?_
              refine g_iconst (q := 80) dX7_rowLine_79 rfl ?_
              exact g_cvX (I' := iX7_fails) (mc := 1) (ms := 8) (rc := 1) (rs := 212) (ci := 8) dX7_rowLine_80 q718 q720 rfl qs11 gcX7_fails rd_at (GO.deep (c_failsC (d := 0) hC1 (by decide)) (by omega)) rfl (fun x80 e80 y80 => ex _ _ _ y80)
        · rw [if_neg c, if_neg (by rw [hdu]; decide)] at hX
          by_cases c12 : n = 12
          · rw [if_pos c12] at hX
            subst hX
            refine g_aload_n (q := 57) dX7_rowLine_56 rfl rfl ?_
            refine g_get (C := RX7) (T := TX7) (ci := 8) (k := 9) (q := 60) dX7_rowLine_57 q603 rfl in_X7 (by decide) rd_at rfl rfl ?_
            refine g_iconst (q := 61) dX7_rowLine_60 rfl ?_
            refine g_icmp_ne (t := 83) (q := 64) dX7_rowLine_61 (by decide) rfl (by unfold in32; omega) (by unfold in32; omega) (fun c61 => ?_) (fun c61 => ?_)
            · exact absurd w c61
            · refine g_aload_n (q := 65) dX7_rowLine_64 rfl rfl ?_
              refine g_get (C := RX7) (T := TX7) (ci := 8) (k := 11) (q := 68) dX7_rowLine_65 q605 rfl in_X7 (by decide) rd_at rfl rfl ?_
              refine g_aload_n (q := 69) dX7_rowLine_68 rfl rfl ?_
              refine g_get (C := RX7) (T := TX7) (ci := 8) (k := 5) (q := 72) dX7_rowLine_69 q598 rfl in_X7 (by decide) rd_at rfl rfl ?_
              refine g_getN (C := RX2) (T := TX2) (ci := 2) (k := 4) (q := 75) dX7_rowLine_72 q359 rfl in_X2 (by decide) (c0' _) rfl rfl ?_
              refine g_icmp_lt (t := 83) (q := 78) dX7_rowLine_75 (by decide) rfl (by unfold in32; omega) (by unfold in32; omega) (fun c75 => ?_) (fun c75 => ?_)
              · refine g_iload_n (q := 84) dX7_rowLine_83 rfl rfl ?_
                refine g_bipush (q := 86) dX7_rowLine_84 rfl ?_
                refine g_icmp_ne (t := 94) (q := 89) dX7_rowLine_86 (by decide) rfl (by first | assumption | exact in32_gB | exact in32_gCmp | (unfold in32; omega)) (by first | assumption | exact in32_gB | exact in32_gCmp | (unfold in32; omega)) (fun c86 => ?_) (fun c86 => ?_)
                · exact absurd c12 c86
                · refine g_aload_n (q := 90) dX7_rowLine_89 rfl rfl ?_
                  refine g_iconst (q := 91) dX7_rowLine_90 rfl ?_
                  exact g_cvX (I' := iX7_fails) (mc := 1) (ms := 8) (rc := 1) (rs := 212) (ci := 8) dX7_rowLine_91 q718 q720 rfl qs11 gcX7_fails rd_at (GO.deep (c_failsC (d := 0) hC1 (by decide)) (by omega)) rfl (fun x91 e91 y91 => ex _ _ _ y91)
              · exact absurd c (by omega)
          · rw [if_neg c12] at hX
            have hP1 := (hP.adv (tp := tp)).1
            have hfr1 : (PSadv tp sz P).2.2.2.2.2.2 = P.2.2.2.2.2.2 := rfl
            have hyn : ∀ y, (y < 35 + 14 * P0.2.2.2.2.2.2.1 2 ∨ 47 + 14 * P0.2.2.2.2.2.2.1 2 ≤ y) → upI P.2.2.2.2.2.2.1 (34 + 14 * P0.2.2.2.2.2.2.1 2 + 1 + n) P.2.2.2.1 y = P0.2.2.2.2.2.2.1 y := fun y q => (upI_ne (by omega)).trans (hy y q)
            have hgn : ∀ i, 0 ≤ i → i < n + 1 → upI gr n P.2.2.2.1 i = upI P.2.2.2.2.2.2.1 (34 + 14 * P0.2.2.2.2.2.2.1 2 + 1 + n) P.2.2.2.1 (34 + 14 * P0.2.2.2.2.2.2.1 2 + 1 + i) ∧ 0 ≤ upI gr n P.2.2.2.1 i ∧ upI gr n P.2.2.2.1 i ≤ 23 := fun i i1 i2 => by
              by_cases y : i = n
              · subst y; rw [upI_at, upI_at]; omega
              · rw [upI_ne y, upI_ne (by omega)]; exact hg i i1 (by omega)
            have nx : ∀ x3 : Option Value, GO E iX7_rowLine (d + 7) 2 220 7 [some (.ref r), some (.ref h.2), some (vI (n + 1)), x3] [] (hset (hnew h (aI E 12 (upI gr n P.2.2.2.1))) r (rdO so la ak ta tx rl sz (PSadv tp sz P))) (qVE (okL E ow h r so la ak ta tx rl sz tp X) (excL ow h X)) := by
              intro x3
              have ht1 := hP1.2.1
              by_cases c2 : n + 1 < 2 ∨ (PSadv tp sz P).2.2.1 = 2
              · rw [if_pos c2] at hX
                have go20 : ∀ x3 : Option Value, GO E iX7_rowLine (d + 7) 2 220 20 [some (.ref r), some (.ref h.2), some (vI (n + 1)), x3] [] (hset (hnew h (aI E 12 (upI gr n P.2.2.2.1))) r (rdO so la ak ta tx rl sz (PSadv tp sz P))) (qVE (okL E ow h r so la ak ta tx rl sz tp X) (excL ow h X)) := fun x3 => ih (n + 1) (PSf (upI P.2.2.2.2.2.2.1 (34 + 14 * P0.2.2.2.2.2.2.1 2 + 1 + n) P.2.2.2.1) (PSadv tp sz P)) (upI gr n P.2.2.2.1) x3 (by omega) (by omega) (by omega) hP1 hf hd hyn hgn c2 hX
                refine g_iload_n (q := 8) dX7_rowLine_7 rfl rfl ?_
                refine g_iconst (q := 9) dX7_rowLine_8 rfl ?_
                refine g_icmp_lt (t := 20) (q := 12) dX7_rowLine_9 (by decide) rfl (by first | assumption | exact in32_gB | exact in32_gCmp | (unfold in32; omega)) (by first | assumption | exact in32_gB | exact in32_gCmp | (unfold in32; omega)) (fun c9 => ?_) (fun c9 => ?_)
                · exact go20 _
                · refine g_aload_n (q := 13) dX7_rowLine_12 rfl rfl ?_
                  refine g_get (C := RX7) (T := TX7) (ci := 8) (k := 9) (q := 16) dX7_rowLine_13 q603 rfl in_X7 (by decide) rd_at rfl rfl ?_
                  refine g_iconst (q := 17) dX7_rowLine_16 rfl ?_
                  refine g_icmp_ne (t := 117) (q := 20) dX7_rowLine_17 (by decide) rfl (by unfold in32; omega) (by unfold in32; omega) (fun c17 => ?_) (fun c17 => ?_)
                  · exfalso; rcases c2 with q | q
                    · omega
                    · exact c17 q
                  · exact go20 _
              · rw [if_neg c2] at hX
                have l3 : ∀ x3 : Option Value, GO E iX7_rowLine (d + 7) 2 220 117 [some (.ref r), some (.ref h.2), some (vI (n + 1)), x3] [] (hset (hnew h (aI E 12 (upI gr n P.2.2.2.1))) r (rdO so la ak ta tx rl sz (PSadv tp sz P))) (qVE (okL E ow h r so la ak ta tx rl sz tp X) (excL ow h X)) := by
                  intro x3
                  subst hX
                  have e2n : upI (upI P.2.2.2.2.2.2.1 (34 + 14 * P0.2.2.2.2.2.2.1 2 + 1 + n) P.2.2.2.1) (34 + 14 * P0.2.2.2.2.2.2.1 2) (n + 1) 2 = P0.2.2.2.2.2.2.1 2 := by rw [upI_ne (by omega), upI_ne (by omega)]; exact e2
                  refine l_rowL3 (n := n + 1) hR hw h2 (by omega) hf hd ?_ ?_ (fun i i1 i2 => ?_) (fun y y1 y2 => ?_) rfl
                  · exact (upI_at (g := (upI (upI P.2.2.2.2.2.2.1 (34 + 14 * P0.2.2.2.2.2.2.1 2 + 1 + n) P.2.2.2.1) (34 + 14 * P0.2.2.2.2.2.2.1 2) (n + 1))) (k := 2) (x := (upI (upI P.2.2.2.2.2.2.1 (34 + 14 * P0.2.2.2.2.2.2.1 2 + 1 + n) P.2.2.2.1) (34 + 14 * P0.2.2.2.2.2.2.1 2) (n + 1)) 2 + 1)).trans (congrArg (· + 1) e2n)
                  · exact (upI_ne (by omega)).trans upI_at
                  · exact (hgn i i1 i2).1.trans ((upI_ne (by omega)).trans (upI_ne (by omega))).symm
                  · exact (upI_ne y1).trans ((upI_ne (by omega)).trans (hyn y (by omega)))
                refine g_iload_n (q := 8) dX7_rowLine_7 rfl rfl ?_
                refine g_iconst (q := 9) dX7_rowLine_8 rfl ?_
                refine g_icmp_lt (t := 20) (q := 12) dX7_rowLine_9 (by decide) rfl (by first | assumption | exact in32_gB | exact in32_gCmp | (unfold in32; omega)) (by first | assumption | exact in32_gB | exact in32_gCmp | (unfold in32; omega)) (fun c9 => ?_) (fun c9 => ?_)
                · exact absurd (Or.inl c9) c2
                · refine g_aload_n (q := 13) dX7_rowLine_12 rfl rfl ?_
                  refine g_get (C := RX7) (T := TX7) (ci := 8) (k := 9) (q := 16) dX7_rowLine_13 q603 rfl in_X7 (by decide) rd_at rfl rfl ?_
                  refine g_iconst (q := 17) dX7_rowLine_16 rfl ?_
                  refine g_icmp_ne (t := 117) (q := 20) dX7_rowLine_17 (by decide) rfl (by unfold in32; omega) (by unfold in32; omega) (fun c17 => ?_) (fun c17 => ?_)
                  · exact l3 _
                  · exact absurd (Or.inr c17) c2
            refine g_aload_n (q := 57) dX7_rowLine_56 rfl rfl ?_
            refine g_get (C := RX7) (T := TX7) (ci := 8) (k := 9) (q := 60) dX7_rowLine_57 q603 rfl in_X7 (by decide) rd_at rfl rfl ?_
            refine g_iconst (q := 61) dX7_rowLine_60 rfl ?_
            refine g_icmp_ne (t := 83) (q := 64) dX7_rowLine_61 (by decide) rfl (by unfold in32; omega) (by unfold in32; omega) (fun c61 => ?_) (fun c61 => ?_)
            · exact absurd w c61
            · refine g_aload_n (q := 65) dX7_rowLine_64 rfl rfl ?_
              refine g_get (C := RX7) (T := TX7) (ci := 8) (k := 11) (q := 68) dX7_rowLine_65 q605 rfl in_X7 (by decide) rd_at rfl rfl ?_
              refine g_aload_n (q := 69) dX7_rowLine_68 rfl rfl ?_
              refine g_get (C := RX7) (T := TX7) (ci := 8) (k := 5) (q := 72) dX7_rowLine_69 q598 rfl in_X7 (by decide) rd_at rfl rfl ?_
              refine g_getN (C := RX2) (T := TX2) (ci := 2) (k := 4) (q := 75) dX7_rowLine_72 q359 rfl in_X2 (by decide) (c0' _) rfl rfl ?_
              refine g_icmp_lt (t := 83) (q := 78) dX7_rowLine_75 (by decide) rfl (by unfold in32; omega) (by unfold in32; omega) (fun c75 => ?_) (fun c75 => ?_)
              · refine g_iload_n (q := 84) dX7_rowLine_83 rfl rfl ?_
                refine g_bipush (q := 86) dX7_rowLine_84 rfl ?_
                refine g_icmp_ne (t := 94) (q := 89) dX7_rowLine_86 (by decide) rfl (by first | assumption | exact in32_gB | exact in32_gCmp | (unfold in32; omega)) (by first | assumption | exact in32_gB | exact in32_gCmp | (unfold in32; omega)) (fun c86 => ?_) (fun c86 => ?_)
                · refine g_aload_n (q := 95) dX7_rowLine_94 rfl rfl ?_
                  refine g_iload_n (q := 96) dX7_rowLine_95 rfl rfl ?_
                  refine g_aload_n (q := 97) dX7_rowLine_96 rfl rfl ?_
                  refine g_iconst (q := 98) dX7_rowLine_97 rfl ?_
                  refine g_aload_n (q := 99) dX7_rowLine_98 rfl rfl ?_
                  refine g_get (C := RX7) (T := TX7) (ci := 8) (k := 5) (q := 102) dX7_rowLine_99 q598 rfl in_X7 (by decide) rd_at rfl rfl ?_
                  refine g_getN (C := RX2) (T := TX2) (ci := 2) (k := 4) (q := 105) dX7_rowLine_102 q359 rfl in_X2 (by decide) (c0' _) rfl rfl ?_
                  refine g_iconst (q := 106) dX7_rowLine_105 rfl ?_
                  refine g_isub (q := 107) dX7_rowLine_106 rfl ?_
                  refine g_cv (I' := iX7_number) (mc := 0) (ms := 0) (rc := (1+1)) (rs := (212+8)) (ci := 8) (q := 110) dX7_rowLine_107 q781 q783 rfl qs19 gcX7_number rd_at (GO.deep (c_numOk (d := 0) hC1 hP hf hz (by omega) (by decide) w (by omega)) (by omega)) rfl rfl ?_
                  refine g_iast (q := 111) dX7_rowLine_110 ((hset_ne (show h.2 ≠ r by omega)).trans hnew_at) (by omega) (by omega)  rfl ?_
                  refine GO.cast (h' := hset (hnew h (aI E 12 (upI gr n P.2.2.2.1))) r (rdO so la ak ta tx rl sz (PSadv tp sz P))) (by rw [hset_comm (by omega), hnew_set]) ?_
                  refine g_iinc (q := 114) dX7_rowLine_111 rfl gs2 rfl ?_
                  refine g_goto (t := 7) dX7_rowLine_114 (by decide) ?_
                  exact nx _
                · exact absurd c86 c12
              · exact absurd c (by omega)
      refine g_iconst (q := 21) dX7_rowLine_20 rfl ?_
      refine g_istore_n (q := 22) dX7_rowLine_21 gs3 rfl ?_
      exact l_rowL1 (rc := 1) (rs := 212) (d := d + 2) hC1 hlt w hv (by omega) hg n.toNat 0 (by omega) (by omega) body (fun q y k' z => by rw [big (Or.inr q)]; exact ex _ _ _ z)
    · rw [if_pos w] at hX
      subst hX
      have hn2 : n < 2 := by rcases hc with q | q; exact q; exact absurd q w
      have en : nuP tp sz 0 (P0.2.2.2.2.2.2.1 1 - 1) P = (0, PSerr 1 P) := (if_pos hf).trans (if_neg w)
      have cn := c_numberC (d := d + 1) (so := so) (la := la) (ak := ak) (ta := ta) (tx := tx) (rl := rl) (lw := 0) (hi := P0.2.2.2.2.2.2.1 1 - 1) hC1 hP hf hz (by decide) (by omega)
      rw [en] at cn
      have g56 : ∀ x3 : Option Value, GO E iX7_rowLine (d + 7) 2 220 56 [some (.ref r), some (.ref h.2), some (vI n), x3] [] (hset (hnew h (aI E 12 gr)) r (rdO so la ak ta tx rl sz P)) (qVE (okL E ow h r so la ak ta tx rl sz tp (PSerr 1 P)) (excL ow h (PSerr 1 P))) := by
        intro x3
        refine g_aload_n (q := 57) dX7_rowLine_56 rfl rfl ?_
        refine g_get (C := RX7) (T := TX7) (ci := 8) (k := 9) (q := 60) dX7_rowLine_57 q603 rfl in_X7 (by decide) rd_at rfl rfl ?_
        refine g_iconst (q := 61) dX7_rowLine_60 rfl ?_
        refine g_icmp_ne (t := 83) (q := 64) dX7_rowLine_61 (by decide) rfl (by unfold in32; omega) (by unfold in32; omega) (fun c61 => ?_) (fun c61 => ?_)
        · refine g_iload_n (q := 84) dX7_rowLine_83 rfl rfl ?_
          refine g_bipush (q := 86) dX7_rowLine_84 rfl ?_
          refine g_icmp_ne (t := 94) (q := 89) dX7_rowLine_86 (by decide) rfl (by first | assumption | exact in32_gB | exact in32_gCmp | (unfold in32; omega)) (by first | assumption | exact in32_gB | exact in32_gCmp | (unfold in32; omega)) (fun c86 => ?_) (fun c86 => ?_)
          · refine g_aload_n (q := 95) dX7_rowLine_94 rfl rfl ?_
            refine g_iload_n (q := 96) dX7_rowLine_95 rfl rfl ?_
            refine g_aload_n (q := 97) dX7_rowLine_96 rfl rfl ?_
            refine g_iconst (q := 98) dX7_rowLine_97 rfl ?_
            refine g_aload_n (q := 99) dX7_rowLine_98 rfl rfl ?_
            refine g_get (C := RX7) (T := TX7) (ci := 8) (k := 5) (q := 102) dX7_rowLine_99 q598 rfl in_X7 (by decide) rd_at rfl rfl ?_
            refine g_getN (C := RX2) (T := TX2) (ci := 2) (k := 4) (q := 105) dX7_rowLine_102 q359 rfl in_X2 (by decide) (c0' _) rfl rfl ?_
            refine g_iconst (q := 106) dX7_rowLine_105 rfl ?_
            refine g_isub (q := 107) dX7_rowLine_106 rfl ?_
            refine g_cvE (I' := iX7_number) (mc := 1) (ms := 8) (rc := 1) (rs := 212) (ci := 8) (q := 110) dX7_rowLine_107 q781 q783 rfl qs19 gcX7_number rd_at (cn) rfl rfl (fun x107 e107 y107 => ex _ _ _ y107) (fun v107 k107 z107 => ?_)
            exact absurd z107.1 (show ¬ (1 : Int) = 0 by decide)
          · exact absurd c86 (by omega)
        · exact absurd c61 w
      refine g_iconst (q := 21) dX7_rowLine_20 rfl ?_
      refine g_istore_n (q := 22) dX7_rowLine_21 gs3 rfl ?_
      exact l_rowL0 hlt w ht (by omega) n.toNat 0 (by omega) (by omega) g56
theorem c_rowLine (hR : RST E ow h r so la ak ta tx rl sz tp P0) (hP : PSok sz P0) (hf : P0.2.2.2.2.1 = 0) (hz : sz ≤ 900) (h2 : P0.2.2.2.2.2.2.1 2 < 12) (hX : rrL tp sz 13 0 P0 = X) : CALL E iX7_rowLine (d + 7) 3 232 [.ref r] h (qVE (okL E ow h r so la ak ta tx rl sz tp X) (excL ow h X)) := by
  have hlt := hR.1.1.lt
  refine GO.cast hR.self ?_
  have l2 := fun x3 => l_rowL2 (d := d) (X := X) hR hz hP.2.1.1 h2 13 0 P0 (fun _ => 0) x3 (by decide) (by decide) (by decide) hP.1 hf rfl (fun _ _ => rfl) (fun i i1 i2 => absurd i2 (by omega)) (Or.inl (by decide)) hX
  refine GO.room (rc := 2 + 1) (rs := 220 + (12 : Int).toNat) ?_ (by decide) (by decide)
  show GO E iX7_rowLine _ _ _ 0 [some (.ref r), none, none, none] [] _ _
  refine g_bipush (q := 2) dX7_rowLine_0 rfl ?_
  refine g_newaI (q := 4) (rc := 2) (rs := 220) dX7_rowLine_2 q226 (by decide) (by decide) rfl ?_
  refine GO.cast (hnew_hset (by omega)) ?_
  refine g_astore_n (q := 5) dX7_rowLine_4 gs1 rfl ?_
  refine g_iconst (q := 6) dX7_rowLine_5 rfl ?_
  refine g_istore_n (q := 7) dX7_rowLine_6 gs2 rfl ?_
  refine g_iload_n (q := 8) dX7_rowLine_7 rfl rfl ?_
  refine g_iconst (q := 9) dX7_rowLine_8 rfl ?_
  refine g_icmp_lt (t := 20) (q := 12) dX7_rowLine_9 (by decide) rfl (by first | assumption | exact in32_gB | exact in32_gCmp | (unfold in32; omega)) (by first | assumption | exact in32_gB | exact in32_gCmp | (unfold in32; omega)) (fun c9 => ?_) (fun c9 => absurd c9 (by decide))
  exact l2 _
end
