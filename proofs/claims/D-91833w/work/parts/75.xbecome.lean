/-! THE COMPONENT: becomes -/
set_option maxRecDepth 100000
/-- a head that is read at o -/
def HDs (E : gE) (h : Nat → Option va_E) (o : Nat) (ty : Option Nat) (ho : Int → Int) : Prop := h o = some (hdO o ty (ho 2016) (ho 2017)) ∧ h (o + 1) = some (aR E 6 4 (fun s => some (o + 2 + 25 * s.toNat))) ∧ (∀ s : Int, 0 ≤ s → s < 4 → h (o + 2 + 25 * s.toNat) = some (aR E 5 24 (fun a => some (o + 3 + 25 * s.toNat + a.toNat)))) ∧ ∀ s a : Int, 0 ≤ s → s < 4 → 0 ≤ a → a < 24 → h (o + 3 + 25 * s.toNat + a.toNat) = some (aI E 24 (xl ho s a))
theorem HDs_of {E : gE} {G : gH} {o : Nat} {ty : Option Nat} {ho : Int → Int} {ao : va_E} : HDs E (hH E G o ty ho ao).1 o ty ho := ⟨hO, hL, fun _ h0 h1 => hM h0 h1, fun _ _ h0 h1 g0 g1 => hI h0 h1 g0 g1⟩
section
variable {E : gE} {d p o : Nat} {tx ty : Option Nat} {G : gH} {hs ho : Int → Int} {ak : va_E} {v s a b c : Int} {Q : Outcome → gH → Prop}
theorem hUg {hs' R : Int → Int} (h0 : 0 ≤ s) (h1 : s < 4) (g0 : 0 ≤ a) (g1 : a < 24) (e1 : xl hs' s a = R) (e2 : ∀ s2 a2 : Int, 0 ≤ s2 ∧ s2 < 4 → 0 ≤ a2 ∧ a2 < 24 → ¬ (s2 = s ∧ a2 = a) → xl hs' s2 a2 = xl hs s2 a2) (e3 : hs' 2016 = hs 2016 ∧ hs' 2017 = hs 2017) : hset (hH E G p tx hs ak) (p + 3 + 25 * s.toNat + a.toNat) (aI E 24 R) = hH E G p tx hs' ak := by
  rw [show p + 3 + 25 * s.toNat + a.toNat = p + (3 + 25 * s.toNat + a.toNat) by omega]
  refine blk_set (3 + 25 * s.toNat + a.toNat) (by omega) ?_ (fun j hj hne => ?_)
  · unfold hdF
    rw [if_neg (by omega), if_neg (by omega), if_neg (by omega), if_neg (by omega)]
    have q1 : (((3 + 25 * s.toNat + a.toNat - 2) / 25 : Nat) : Int) = s := by omega
    have q2 : (((3 + 25 * s.toNat + a.toNat - 2) % 25 : Nat) : Int) - 1 = a := by omega
    rw [q1, q2, e1]
  · by_cases c : j = 0
    · subst c
      show hdO p tx (hs' 2016) (hs' 2017) = hdO p tx (hs 2016) (hs 2017)
      rw [e3.1, e3.2]
    · exact hdF_ne j hj c (fun s2 a2 q1 q2 q3 => e2 s2 a2 q1 q2 (fun q => by omega))
theorem xl_cpy : cpyI (xl hs s a) (xl ho s a) 0 0 24 = xl ho s a := by
  funext j
  unfold cpyI
  by_cases c : 0 ≤ j ∧ j < 24
  · rw [if_pos (by omega)]; congr 1; omega
  · rw [if_neg (by omega)]
    unfold xl
    by_cases z : s = 3
    · rw [if_pos z, if_pos z, if_neg (by omega), if_neg (by omega)]
    · rw [if_neg z, if_neg z, if_neg (by omega), if_neg (by omega)]
theorem lk_end (hs0 : 0 ≤ s ∧ s < 4) (ha : 0 ≤ a ∧ a < 24) : lkA s (a + 1) 0 = lkA s a 0 + (if s = 3 then 12 else 24) ∧ 0 ≤ lkA s a 0 ∧ lkA s (a + 1) 0 ≤ 2016 := by
  unfold lkA
  by_cases c : s = 3
  · rw [if_pos c, if_pos c, if_pos c]; omega
  · rw [if_neg c, if_neg c, if_neg c]; omega
theorem xl_fn {f g : Int → Int} (h : ∀ b, 0 ≤ b → b < (if s = 3 then 12 else 24) → f (lkA s a b) = g (lkA s a b)) : xl f s a = xl g s a := by
  funext b
  unfold xl
  by_cases z : s = 3
  · rw [if_pos z, if_pos z]
    by_cases r : 0 ≤ b ∧ b < 12
    · have := h b r.1 (by rw [if_pos z]; exact r.2)
      unfold lkA at this
      rw [if_pos z] at this
      rw [if_pos r, if_pos r, this]
    · rw [if_neg r, if_neg r]
  · rw [if_neg z, if_neg z]
    by_cases r : 0 ≤ b ∧ b < 24
    · have := h b r.1 (by rw [if_neg z]; exact r.2)
      unfold lkA at this
      rw [if_neg z] at this
      rw [if_pos r, if_pos r, this]
    · rw [if_neg r, if_neg r]
theorem lk_b : lkA s a b = lkA s a 0 + b := by unfold lkA; split <;> omega
/-- a row copied -/
theorem hUr (hs0 : 0 ≤ s ∧ s < 4) (ha : 0 ≤ a ∧ a < 24) : hset (hH E G p tx (cpyI hs ho 0 0 (lkA s a 0)) ak) (p + 3 + 25 * s.toNat + a.toNat) (aI E 24 (xl ho s a)) = hH E G p tx (cpyI hs ho 0 0 (lkA s (a + 1) 0)) ak := by
  obtain ⟨l1, l2, l3⟩ := lk_end hs0 ha
  refine hUg hs0.1 hs0.2 ha.1 ha.2 (xl_fn fun b b0 b1 => ?_) (fun s2 a2 q1 q2 q3 => xl_fn fun b b0 b1 => ?_) ⟨?_, ?_⟩
  · have e := lk_b (s := s) (a := a) (b := b)
    rw [cpyI_in (by omega) (by omega)]
    congr 1
    omega
  · have hl := lk_lt q1 q2 ⟨b0, b1⟩
    by_cases c1 : lkA s2 a2 b < lkA s a 0
    · rw [cpyI_in (by omega) (by omega), cpyI_in (by omega) (by omega)]
    · by_cases c2 : lkA s2 a2 b < lkA s (a + 1) 0
      · exfalso
        have e := lk_b (s := s) (a := a) (b := lkA s2 a2 b - lkA s a 0)
        have := lk_inj (s := s2) (a := a2) (b := b) (s2 := s) (a2 := a) (b2 := lkA s2 a2 b - lkA s a 0) q1 q2 ⟨b0, b1⟩ hs0 ha ⟨by omega, by omega⟩ (by omega)
        exact q3 ⟨this.1, this.2.1⟩
      · rw [cpyI_out (by omega), cpyI_out (by omega)]
  · rw [cpyI_out (by omega), cpyI_out (by omega)]
  · rw [cpyI_out (by omega), cpyI_out (by omega)]
theorem l_bc1 (hS : HDs E G.1 o ty ho) (hd1 : o + 103 ≤ p ∨ p + 103 ≤ o) (hs0 : 0 ≤ s ∧ s < 4) : ∀ (f : Nat) (a : Int), 0 ≤ a → a + f = 24 →
    GO E iX3_becomes (d + 1) 0 0 68 [some (.ref p), some (.ref o), some (vI s), some (vI 24)] [] (hH E G p tx (cpyI hs ho 0 0 (lkA s 24 0)) ak) Q →
    GO E iX3_becomes (d + 1) 0 0 33 [some (.ref p), some (.ref o), some (vI s), some (vI a)] [] (hH E G p tx (cpyI hs ho 0 0 (lkA s a 0)) ak) Q := by
  obtain ⟨c0, c1, c2, c3⟩ := hS
  have ot : ∀ (b : Nat) (hs : Int → Int), (o ≤ b ∧ b < o + 103) → (hH E G p tx hs ak).1 b = G.1 b := fun b hs hb => blk_out (by omega)
  intro f
  induction f with
  | zero =>
    intro a h0 h1 kk
    obtain rfl : a = 24 := by omega
    refine g_iload_n (q := 34) dX3_becomes_33 rfl rfl ?_
    refine g_bipush (q := 36) dX3_becomes_34 rfl ?_
    refine g_icmp_ge (t := 68) (q := 39) dX3_becomes_36 (by decide) rfl (by first | assumption | exact in32_gB | exact in32_gCmp | (unfold in32; omega)) (by first | assumption | exact in32_gB | exact in32_gCmp | (unfold in32; omega)) (fun c36 => ?_) (fun c36 => ?_)
    · exact kk
    · exact absurd c36 (by decide)
  | succ f ih =>
    intro a h0 h1 kk
    have ha : 0 ≤ a ∧ a < 24 := by omega
    refine g_iload_n (q := 34) dX3_becomes_33 rfl rfl ?_
    refine g_bipush (q := 36) dX3_becomes_34 rfl ?_
    refine g_icmp_ge (t := 68) (q := 39) dX3_becomes_36 (by decide) rfl (by first | assumption | exact in32_gB | exact in32_gCmp | (unfold in32; omega)) (by first | assumption | exact in32_gB | exact in32_gCmp | (unfold in32; omega)) (fun c36 => ?_) (fun c36 => ?_)
    · exact absurd c36 (by omega)
    · refine g_aload_n (q := 40) dX3_becomes_39 rfl rfl ?_
      refine g_get (C := RX3) (T := TX3) (ci := 4) (k := 0) (q := 43) dX3_becomes_40 q450 rfl in_X3 (by decide) ((ot _ _ (by omega)).trans c0) rfl rfl ?_
      refine g_iload_n (q := 44) dX3_becomes_43 rfl rfl ?_
      refine g_aald (t0 := 6) (q := 45) dX3_becomes_44 ((ot _ _ (by omega)).trans c1) rfl rfl (by omega) (by omega) rfl ?_
      refine g_iload_n (q := 46) dX3_becomes_45 rfl rfl ?_
      refine g_aald (t0 := 5) (q := 47) dX3_becomes_46 ((ot _ _ (by omega)).trans (c2 s (by omega) (by omega))) rfl rfl (by omega) (by omega) rfl ?_
      refine g_iconst (q := 48) dX3_becomes_47 rfl ?_
      refine g_aload_n (q := 49) dX3_becomes_48 rfl rfl ?_
      refine g_get (C := RX3) (T := TX3) (ci := 4) (k := 0) (q := 52) dX3_becomes_49 q450 rfl in_X3 (by decide) hO rfl rfl ?_
      refine g_iload_n (q := 53) dX3_becomes_52 rfl rfl ?_
      refine g_aald (t0 := 6) (q := 54) dX3_becomes_53 hL rfl rfl (by omega) (by omega) rfl ?_
      refine g_iload_n (q := 55) dX3_becomes_54 rfl rfl ?_
      refine g_aald (t0 := 5) (q := 56) dX3_becomes_55 (hM (by omega) (by omega)) rfl rfl (by omega) (by omega) rfl ?_
      refine g_iconst (q := 57) dX3_becomes_56 rfl ?_
      refine g_bipush (q := 59) dX3_becomes_57 rfl ?_
      refine g_copyI (q := 62) (n := 24) (dp := 0) (sp := 0) (n0 := 24) (n1 := 24) dX3_becomes_59 q1212 ((ot _ _ (by omega)).trans (c3 s a (by omega) (by omega) (by omega) (by omega))) (hI (by omega) (by omega) (by omega) (by omega)) (by omega) (by omega) (by omega) (by omega) (by omega) (by omega) (by omega) rfl ?_
      rw [xl_cpy]
      refine GO.cast (hUr hs0 ha) ?_
      refine g_iinc (q := 65) dX3_becomes_62 rfl gs3 rfl ?_
      refine g_goto (t := 33) dX3_becomes_65 (by decide) ?_
      exact ih _ (by omega) (by omega) kk
theorem l_bc2 (hS : HDs E G.1 o ty ho) (hd1 : o + 103 ≤ p ∨ p + 103 ≤ o) : ∀ (f : Nat) (s : Int) (x3 : Option Value), 0 ≤ s → s + f = 4 → Q (.returned none) (hH E G p tx (cpyI hs ho 0 0 2016) ak) →
    GO E iX3_becomes (d + 1) 0 0 26 [some (.ref p), some (.ref o), some (vI s), x3] [] (hH E G p tx (cpyI hs ho 0 0 (sE s)) ak) Q := by
  intro f
  induction f with
  | zero =>
    intro s x3 h0 h1 kk
    obtain rfl : s = 4 := by omega
    refine g_iload_n (q := 27) dX3_becomes_26 rfl rfl ?_
    refine g_iconst (q := 28) dX3_becomes_27 rfl ?_
    refine g_icmp_ge (t := 74) (q := 31) dX3_becomes_28 (by decide) rfl (by first | assumption | exact in32_gB | exact in32_gCmp | (unfold in32; omega)) (by first | assumption | exact in32_gB | exact in32_gCmp | (unfold in32; omega)) (fun c28 => ?_) (fun c28 => ?_)
    · exact g_vret dX3_becomes_74 rfl kk
    · exact absurd c28 (by decide)
  | succ f ih =>
    intro s x3 h0 h1 kk
    have hs0 : 0 ≤ s ∧ s < 4 := by omega
    have e0 : sE s = lkA s 0 0 := by unfold sE lkA; rw [if_neg (by omega)]; split <;> omega
    have e1 : lkA s 24 0 = sE (s + 1) := by
      unfold sE lkA
      by_cases c : s = 3
      · rw [if_pos c, if_pos (by omega)]; rfl
      · rw [if_neg c, if_neg (by omega)]; omega
    rw [e0]
    refine g_iload_n (q := 27) dX3_becomes_26 rfl rfl ?_
    refine g_iconst (q := 28) dX3_becomes_27 rfl ?_
    refine g_icmp_ge (t := 74) (q := 31) dX3_becomes_28 (by decide) rfl (by first | assumption | exact in32_gB | exact in32_gCmp | (unfold in32; omega)) (by first | assumption | exact in32_gB | exact in32_gCmp | (unfold in32; omega)) (fun c28 => ?_) (fun c28 => ?_)
    · exact absurd c28 (by omega)
    · refine g_iconst (q := 32) dX3_becomes_31 rfl ?_
      refine g_istore_n (q := 33) dX3_becomes_32 gs3 rfl ?_
      refine l_bc1 (d := d) hS hd1 hs0 24 0 (by omega) (by omega) ?_
      rw [e1]
      refine g_iinc (q := 71) dX3_becomes_68 rfl gs2 rfl ?_
      refine g_goto (t := 26) dX3_becomes_71 (by decide) ?_
      exact ih _ _ (by omega) (by omega) kk
theorem c_becomesX (hS : HDs E G.1 o ty ho) (hd1 : o + 103 ≤ p ∨ p + 103 ≤ o) : CALL E iX3_becomes (d + 1) 0 0 [.ref p, .ref o] (hH E G p tx hs ak) (qV (hH E G p ty ho ak)) := by
  have c0 := hS.1
  have ot : ∀ (tx : Option Nat) (hs : Int → Int), (hH E G p tx hs ak).1 o = some (hdO o ty (ho 2016) (ho 2017)) := fun tx hs => (blk_out (by omega)).trans c0
  have fin : ∀ k : Int, 0 ≤ k → k < 2018 → ho k = cpyI (upI (upI hs 2016 (ho 2016)) 2017 (ho 2017)) ho 0 0 2016 k := by
    intro k q1 q2
    by_cases c : k < 2016
    · rw [cpyI_in q1 (by omega)]; congr 1; omega
    · rw [cpyI_out (by omega)]
      by_cases c2 : k = 2017
      · subst c2; rw [upI_at]
      · have c3 : k = 2016 := by omega
        subst c3
        rw [upI_ne (by decide), upI_at]
  show GO E iX3_becomes _ _ _ 0 [some (.ref p), some (.ref o), none, none] [] _ _
  refine g_aload_n (q := 1) dX3_becomes_0 rfl rfl ?_
  refine g_aload_n (q := 2) dX3_becomes_1 rfl rfl ?_
  refine g_get (C := RX3) (T := TX3) (ci := 4) (k := 2) (q := 5) dX3_becomes_2 q453 rfl in_X3 (by decide) (ot _ _) rfl rfl ?_
  refine g_put (C := RX3) (T := TX3) (ci := 4) (k := 2) (q := 8) dX3_becomes_5 q453 rfl in_X3 tyX3_ok nmX3 (by decide) rfl gFit_or hO (Nat.le_of_ble_eq_true rfl) rfl ?_
  refine GO.cast (h' := hH E G p ty hs ak) (hUo (hs' := hs) (tx' := ty) (fun k q1 q2 => rfl)) ?_
  refine g_aload_n (q := 9) dX3_becomes_8 rfl rfl ?_
  refine g_aload_n (q := 10) dX3_becomes_9 rfl rfl ?_
  refine g_get (C := RX3) (T := TX3) (ci := 4) (k := 3) (q := 13) dX3_becomes_10 q454 rfl in_X3 (by decide) (ot _ _) rfl rfl ?_
  refine g_put (C := RX3) (T := TX3) (ci := 4) (k := 3) (q := 16) dX3_becomes_13 q454 rfl in_X3 tyX3_ok nmX3 (by decide) rfl gFit_int hO (Nat.le_of_ble_eq_true rfl) rfl ?_
  refine GO.cast (h' := hH E G p ty (upI hs 2016 (ho 2016)) ak) (hUo (hs' := upI hs 2016 (ho 2016)) (tx' := ty) (fun k q1 q2 => upI_ne (by omega))) ?_
  refine g_aload_n (q := 17) dX3_becomes_16 rfl rfl ?_
  refine g_aload_n (q := 18) dX3_becomes_17 rfl rfl ?_
  refine g_get (C := RX3) (T := TX3) (ci := 4) (k := 4) (q := 21) dX3_becomes_18 q456 rfl in_X3 (by decide) (ot _ _) rfl rfl ?_
  refine g_put (C := RX3) (T := TX3) (ci := 4) (k := 4) (q := 24) dX3_becomes_21 q456 rfl in_X3 tyX3_ok nmX3 (by decide) rfl gFit_int hO (Nat.le_of_ble_eq_true rfl) rfl ?_
  refine GO.cast (h' := hH E G p ty (upI (upI hs 2016 (ho 2016)) 2017 (ho 2017)) ak) (hUo (hs' := upI (upI hs 2016 (ho 2016)) 2017 (ho 2017)) (tx' := ty) (fun k q1 q2 => upI_ne (by omega))) ?_
  refine g_iconst (q := 25) dX3_becomes_24 rfl ?_
  refine g_istore_n (q := 26) dX3_becomes_25 gs2 rfl ?_
  have z := l_bc2 (E := E) (d := d) (p := p) (o := o) (tx := ty) (ty := ty) (G := G) (hs := upI (upI hs 2016 (ho 2016)) 2017 (ho 2017)) (ho := ho) (ak := ak) (Q := qV (hH E G p ty ho ak)) hS hd1 4 0 none (by omega) (by omega) ⟨rfl, hH_ext (fun k q1 q2 => fin k q1 q2)⟩
  rw [show sE 0 = 0 from rfl, cpyI_0] at z
  exact z
end
