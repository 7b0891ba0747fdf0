/-! THE COMPONENT: the Reader reads a whole text -/
set_option maxRecDepth 100000
section
variable {E : gE} {d r so la ak ta tx rl : Nat} {ow ow' : OW} {h h' : gH} {tp : Int → Int} {sz vl : Int} {P X : PS}
theorem ln_from (h : PSok sz P) (hz : sz ≤ 900) (hf : P.2.2.2.2.1 = 0) : (lnP tp sz P).2.2.2.2.1 = 0 → P.2.1 + 4 ≤ (lnP tp sz P).2.1 := by
  have hA := h.adv (tp := tp)
  have a2 := (h.1.adv (tp := tp)).2.1
  have er : ∀ k : Int, 1 ≤ k ∧ k ≤ 3 → (PSerr k P).2.2.2.2.1 = 0 → P.2.1 + 4 ≤ (PSerr k P).2.1 := fun k hk q => by
    have q2 : k = 0 := q
    omega
  have en : ∀ (bs : List Int) (R : PS), 3 ≤ bs.length → isW tp bs P → went sz P R → (enP tp sz R).2.2.2.2.1 = 0 → P.2.1 + 4 ≤ (enP tp sz R).2.1 := fun bs R hb hi hw q => by
    have e := isW_word hi
    have := (en_from (tp := tp) hw).2 q
    omega
  have rl : ∀ (bs : List Int) (v : Int), 3 ≤ bs.length → isW tp bs P → 0 ≤ v ∧ v ≤ 2 → (enP tp sz (rlP tp sz v (PSadv tp sz P))).2.2.2.2.1 = 0 → P.2.1 + 4 ≤ (enP tp sz (rlP tp sz v (PSadv tp sz P))).2.1 := fun bs v hb hi hv => by
    obtain ⟨b1, b2⟩ := rlP_ok (tp := tp) hA hz hf hv
    exact en bs _ hb hi ⟨b1, fun q => Int.le_trans a2 (b2 q)⟩
  have w2 := h.2.1.1.2.1
  unfold lnP
  by_cases z1 : isW tp wThing P
  · rw [if_pos z1]
    by_cases y : P.2.2.2.2.2.2.1 1 = 24
    · rw [if_pos y]; exact er 3 (by decide)
    · rw [if_neg y]; exact en _ _ (by decide) z1 (thP_ok h y)
  · rw [if_neg z1]
    by_cases z2 : isW tp wRow P
    · rw [if_pos z2]
      by_cases y : P.2.2.2.2.2.2.1 2 = 12
      · rw [if_pos y]; exact er 3 (by decide)
      · rw [if_neg y]
        obtain ⟨b1, b2⟩ := rrL_ok (tp := tp) 13 0 (PSadv tp sz P) hA hf (by omega) (by omega) (by show P.2.2.2.2.2.2.1 2 < 12; omega) (fun i i1 i2 => absurd i2 (by omega))
        exact en _ _ (by decide) z2 ⟨b1, fun q => Int.le_trans a2 (b2 q)⟩
    · rw [if_neg z2]
      by_cases z3 : isW tp wHold P
      · rw [if_pos z3]
        by_cases y : P.2.2.2.2.2.2.2.1 = 0
        · rw [if_pos y]; exact en _ _ (by decide) z3 (hoP_ok h)
        · rw [if_neg y]; exact er 2 (by decide)
      · rw [if_neg z3]
        by_cases z4 : isW tp wLean P
        · rw [if_pos z4]; exact en _ _ (by decide) z4 (leP_ok h)
        · rw [if_neg z4]
          by_cases z5 : isW tp wGrow P
          · rw [if_pos z5]; exact rl _ 0 (by decide) z5 (by decide)
          · rw [if_neg z5]
            by_cases z6 : isW tp wFall P
            · rw [if_pos z6]; exact rl _ 1 (by decide) z6 (by decide)
            · rw [if_neg z6]
              by_cases z7 : isW tp wMix P
              · rw [if_pos z7]; exact rl _ 2 (by decide) z7 (by decide)
              · rw [if_neg z7]; exact er 1 (by decide)
theorem txL_stop (h : ¬ (P.2.2.2.2.1 = 0 ∧ P.2.2.1 ≠ 0)) : ∀ f : Nat, txL tp sz f P = P := by
  intro f
  cases f with
  | zero => rfl
  | succ f => exact if_neg h
theorem l_whole (hz : sz ≤ 900) : ∀ (n : Nat) (P : PS) (ow' : OW) (k : gH), RST E ow' k r so la ak ta tx rl sz tp P → XF ow ow' h k → PSok sz P → P.2.2.2.2.1 = 0 → sz - P.1 < n → txL tp sz n P = X → GO E iX7_whole (d + 11) (6 * (sz - P.2.1).toNat + 16) (70 * (sz - P.2.1).toNat + 256) 4 [some (.ref r)] [] k (qE (fun v k => v = .ref tx ∧ okL E ow h r so la ak ta tx rl sz tp X k) (excL ow h X)) := by
  intro n
  induction n with
  | zero => intro P ow' k hR hX hP hf hn; have := hP.1.1; omega
  | succ n ih =>
    intro P ow' k hR hXF hP hf hn hX
    have ht := hP.1.2.1
    have hb := hP.1.1
    have hrc : k.1 r = some (oB 8 [.ref so, .ref la, .ref ak, .ref ta, vI sz, .ref tx, .ref rl, vI P.1, vI P.2.1, vI P.2.2.1, vI P.2.1, vI (vX P)]) := hR.2.1
    by_cases w : P.2.2.1 = 0
    · rw [txL_stop (fun q => q.2 w)] at hX
      subst hX
      refine GO.room (rc := 0) (rs := 0) ?_ (by omega) (by omega)
      refine g_aload_n (q := 5) dX7_whole_4 rfl rfl ?_
      refine g_get (C := RX7) (T := TX7) (ci := 8) (k := 9) (q := 8) dX7_whole_5 q603 rfl in_X7 (by decide) hrc rfl rfl ?_
      refine g_if_eq (t := 18) (q := 11) dX7_whole_8 (by decide) rfl (by unfold in32; omega) (fun c8 => ?_) (fun c8 => ?_)
      · refine g_aload_n (q := 19) dX7_whole_18 rfl rfl ?_
        refine g_get (C := RX7) (T := TX7) (ci := 8) (k := 5) (q := 22) dX7_whole_19 q598 rfl in_X7 (by decide) hrc rfl rfl ?_
        exact g_aret dX7_whole_22 rfl (by first | exact Or.inl ⟨_, rfl⟩ | exact Or.inr ⟨_, rfl⟩) ⟨rfl, hf, ow', hXF, hR⟩
      · exact absurd w c8
    · rw [show txL tp sz (n + 1) P = txL tp sz n (lnP tp sz P) from if_pos ⟨hf, w⟩] at hX
      have lo := lnP_ok (tp := tp) hP hz hf
      have lf := ln_from (tp := tp) hP hz hf
      have cl := c_line (d := d) hR hP hf hz (X := lnP tp sz P) rfl
      have lb := lo.1.1.1
      generalize e2 : lnP tp sz P = X2 at hX lo lf cl lb
      obtain ⟨RC, RS, p5, p6, p7⟩ : ∃ RC RS : Nat, (X2.2.2.2.2.1 = 0 → RC = 6 * (sz - X2.2.1).toNat + 16 ∧ RS = 70 * (sz - X2.2.1).toNat + 256) ∧ RC + (2 * (X2.2.1 - P.2.1).toNat + 16) ≤ 6 * (sz - P.2.1).toNat + 16 ∧ RS + (6 * (X2.2.1 - P.2.1).toNat + 256) ≤ 70 * (sz - P.2.1).toNat + 256 := by
        by_cases q : X2.2.2.2.2.1 = 0
        · have := lf q
          exact ⟨_, _, fun _ => ⟨rfl, rfl⟩, by omega, by omega⟩
        · exact ⟨0, 0, fun y => absurd y q, by omega, by omega⟩
      generalize 2 * (X2.2.1 - P.2.1).toNat + 16 = MC at cl p6
      generalize 6 * (X2.2.1 - P.2.1).toNat + 256 = MS at cl p7
      refine GO.room (rc := RC + MC) (rs := RS + MS) ?_ p6 p7
      refine g_aload_n (q := 5) dX7_whole_4 rfl rfl ?_
      refine g_get (C := RX7) (T := TX7) (ci := 8) (k := 9) (q := 8) dX7_whole_5 q603 rfl in_X7 (by decide) hrc rfl rfl ?_
      refine g_if_eq (t := 18) (q := 11) dX7_whole_8 (by decide) rfl (by unfold in32; omega) (fun c8 => ?_) (fun c8 => ?_)
      · exact absurd c8 w
      · refine g_aload_n (q := 12) dX7_whole_11 rfl rfl ?_
        refine g_cvVE (I' := iX7_line) (mc := MC) (ms := MS) (rc := RC) (rs := RS) (ci := 8) (q := 15) dX7_whole_12 q646 q648 rfl qs8 gcX7_line hrc (cl) rfl rfl (fun x12 e12 y12 => by have q := y12.1; rw [← hX, txL_stop (fun z => q z.1)]; exact excL.xf hXF y12) (fun k12 z12 => ?_)
        obtain ⟨q, ow2, x2, r2⟩ := z12
        obtain ⟨rfl, rfl⟩ := p5 q
        refine g_goto (t := 4) dX7_whole_15 (by decide) ?_
        exact ih _ _ _ r2 (hXF.trans x2) lo.1 q (by have := lo.2 q; omega) hX
theorem PS0_st (hz : 0 ≤ sz) (hv : 0 ≤ vl ∧ vl ≤ 99999) : PSt sz (PS0 0 0 vl) := ⟨⟨(by decide : (0 : Int) ≤ 0), (by decide : (0 : Int) ≤ 0), hz⟩, (by decide : (0 : Int) ≤ 0 ∧ (0 : Int) ≤ 4), hv, (by decide : (0 : Int) ≤ 0 ∧ (0 : Int) ≤ 3), fun q => absurd rfl q⟩
theorem c_whole (hR : RST E ow h r so la ak ta tx rl sz tp (PS0 0 0 vl)) (hz : 0 ≤ sz ∧ sz ≤ 900) (hv : 0 ≤ vl ∧ vl ≤ 99999) (hX : txL tp sz 1000 (PSadv tp sz (PS0 0 0 vl)) = X) : CALL E iX7_whole (d + 11) (6 * sz.toNat + 16) (70 * sz.toNat + 256) [.ref r] h (qE (fun v k => v = .ref tx ∧ okL E ow h r so la ak ta tx rl sz tp X k) (excL ow h X)) := by
  have hC := hR.1.1
  have hP := PS0_ok (tp := tp) (fr := 0) (tk := 0) hz.1 hv
  have mv := hR.mv (X := PSadv tp sz (PS0 0 0 vl)) (XT.refl hC.2.1.1) rfl
  have hb := hP.1.1
  have l4 := l_whole (d := d) (X := X) hz.2 1000 _ _ _ mv.1 mv.2 hP rfl (by omega) hX
  refine GO.cast hR.self ?_
  obtain ⟨RC, eR⟩ : ∃ RC : Nat, RC = 6 * (sz - (PSadv tp sz (PS0 0 0 vl)).2.1).toNat + 16 := ⟨_, rfl⟩
  obtain ⟨RS, eS⟩ : ∃ RS : Nat, RS = 70 * (sz - (PSadv tp sz (PS0 0 0 vl)).2.1).toNat + 256 := ⟨_, rfl⟩
  rw [← eR, ← eS] at l4
  refine GO.room (rc := RC) (rs := RS) ?_ (by omega) (by omega)
  show GO E iX7_whole _ _ _ 0 [some (.ref r)] [] _ _
  refine g_aload_n (q := 1) dX7_whole_0 rfl rfl ?_
  refine g_cvV (I' := iX7_next) (mc := 0) (ms := 0) (rc := RC) (rs := RS) (ci := 8) (q := 4) dX7_whole_1 q635 q637 rfl qs6 gcX7_next rd_at (GO.deep (c_nextC (d := 0) hC hz.2 (PS0_st hz.1 hv)) (by omega)) rfl rfl ?_
  exact l4
end
