/-! THE COMPONENT: empties, clears -/
set_option maxRecDepth 100000
theorem xl_zero {hs : Int → Int} {a b : Int} (hb : 12 ≤ b) : upI (xl hs 3 a) b 0 = xl hs 3 a := by
  funext c
  by_cases e : c = b
  · subst e; rw [upI_at]; unfold xl; rw [if_pos rfl, if_neg (by omega)]
  · rw [upI_ne e]
/-- where a sort begins -/
def sE (s : Int) : Int := if s = 4 then 2016 else 576 * s
theorem hH_ext {E : gE} {G : gH} {p : Nat} {tx : Option Nat} {hs hs' : Int → Int} {ak : va_E} (h : ∀ k, 0 ≤ k → k < 2018 → hs' k = hs k) : hH E G p tx hs ak = hH E G p tx hs' ak := by
  have e := hUo (E := E) (G := G) (p := p) (tx := tx) (tx' := tx) (hs := hs) (hs' := hs') (ak := ak) (fun k q1 q2 => h k q1 (by omega))
  rw [h 2016 (by omega) (by omega), h 2017 (by omega) (by omega), hset_self hO] at e
  exact e
section
variable {E : gE} {d p t : Nat} {tx : Option Nat} {G : gH} {hs w g : Int → Int} {ak : va_E} {v s a b c B r i z : Int} {Q : Outcome → gH → Prop}
theorem l_em1 (hs0 : 0 ≤ s ∧ s < 4) (ha : 0 ≤ a ∧ a < 24) : ∀ (f : Nat) (b : Int), 0 ≤ b → b + f = (if s = 3 then 12 else 24) →
    GO E iX3_empties d 0 0 49 [some (.ref p), some (.ref (p + 1)), some (vI 4), some (vI s), some (.ref (p + 2 + 25 * s.toNat)), some (.ref (p + 2 + 25 * s.toNat)), some (vI 24), some (vI a), some (.ref (p + 3 + 25 * s.toNat + a.toNat)), some (vI (if s = 3 then 12 else 24))] [] (hH E G p tx (zrI hs (lkA s (a + 1) 0)) ak) Q →
    GO E iX3_empties d 0 0 49 [some (.ref p), some (.ref (p + 1)), some (vI 4), some (vI s), some (.ref (p + 2 + 25 * s.toNat)), some (.ref (p + 2 + 25 * s.toNat)), some (vI 24), some (vI a), some (.ref (p + 3 + 25 * s.toNat + a.toNat)), some (vI b)] [] (hH E G p tx (zrI hs (lkA s a b)) ak) Q := by
  intro f
  induction f with
  | zero =>
    intro b h0 h1 kk
    have e : b = (if s = 3 then 12 else 24) := by omega
    have e2 : lkA s a b = lkA s (a + 1) 0 := by rw [lk_a, e]; unfold lkA; split <;> simp
    rw [e2, e]
    exact kk
  | succ f ih =>
    intro b h0 h1 kk
    have hb : 0 ≤ b ∧ b < (if s = 3 then 12 else 24) := ⟨h0, by omega⟩
    have hb2 : b < 24 := by have := hb.2; split at this <;> omega
    have hlk := lk_lt hs0 ha hb
    have ez := zrI_s (hs := hs) hlk.1
    rw [← lk_s] at ez
    refine g_iload (q := 51) dX3_empties_49 rfl rfl ?_
    refine g_bipush (q := 53) dX3_empties_51 rfl ?_
    refine g_icmp_ge (t := 68) (q := 56) dX3_empties_53 (by decide) rfl (by first | assumption | exact in32_gB | exact in32_gCmp | (unfold in32; omega)) (by first | assumption | exact in32_gB | exact in32_gCmp | (unfold in32; omega)) (fun c53 => ?_) (fun c53 => ?_)
    · exact absurd c53 (by omega)
    · refine g_aload (q := 58) dX3_empties_56 rfl rfl ?_
      refine g_iload (q := 60) dX3_empties_58 rfl rfl ?_
      refine g_iconst (q := 61) dX3_empties_60 rfl ?_
      refine g_iast (q := 62) dX3_empties_61 (hI (by omega) (by omega) (by omega) (by omega)) (by omega) (by omega)  rfl ?_
      refine GO.cast (h' := hH E G p tx (zrI hs (lkA s a (b + 1))) ak) ((hU (by omega) (by omega) (by omega) (by omega) hb).trans (by rw [ez])) ?_
      refine g_iinc (q := 65) dX3_empties_62 rfl gs9 rfl ?_
      refine g_goto (t := 49) dX3_empties_65 (by decide) ?_
      exact ih _ (by omega) (by omega) kk
theorem l_em2 (ha : 0 ≤ a ∧ a < 24) (kk : GO E iX3_empties d 0 0 68 [some (.ref p), some (.ref (p + 1)), some (vI 4), some (vI 3), some (.ref (p + 2 + 25 * (3 : Int).toNat)), some (.ref (p + 2 + 25 * (3 : Int).toNat)), some (vI 24), some (vI a), some (.ref (p + 3 + 25 * (3 : Int).toNat + a.toNat)), some (vI 24)] [] (hH E G p tx hs ak) Q) : ∀ (f : Nat) (b : Int), 12 ≤ b → b + f = 24 →
    GO E iX3_empties d 0 0 49 [some (.ref p), some (.ref (p + 1)), some (vI 4), some (vI 3), some (.ref (p + 2 + 25 * (3 : Int).toNat)), some (.ref (p + 2 + 25 * (3 : Int).toNat)), some (vI 24), some (vI a), some (.ref (p + 3 + 25 * (3 : Int).toNat + a.toNat)), some (vI b)] [] (hH E G p tx hs ak) Q := by
  intro f
  induction f with
  | zero =>
    intro b h0 h1
    obtain rfl : b = 24 := by omega
    refine g_iload (q := 51) dX3_empties_49 rfl rfl ?_
    refine g_bipush (q := 53) dX3_empties_51 rfl ?_
    refine g_icmp_ge (t := 68) (q := 56) dX3_empties_53 (by decide) rfl (by first | assumption | exact in32_gB | exact in32_gCmp | (unfold in32; omega)) (by first | assumption | exact in32_gB | exact in32_gCmp | (unfold in32; omega)) (fun c53 => ?_) (fun c53 => ?_)
    · exact kk
    · exact absurd c53 (by decide)
  | succ f ih =>
    intro b h0 h1
    refine g_iload (q := 51) dX3_empties_49 rfl rfl ?_
    refine g_bipush (q := 53) dX3_empties_51 rfl ?_
    refine g_icmp_ge (t := 68) (q := 56) dX3_empties_53 (by decide) rfl (by first | assumption | exact in32_gB | exact in32_gCmp | (unfold in32; omega)) (by first | assumption | exact in32_gB | exact in32_gCmp | (unfold in32; omega)) (fun c53 => ?_) (fun c53 => ?_)
    · exact absurd c53 (by omega)
    · refine g_aload (q := 58) dX3_empties_56 rfl rfl ?_
      refine g_iload (q := 60) dX3_empties_58 rfl rfl ?_
      refine g_iconst (q := 61) dX3_empties_60 rfl ?_
      refine g_iast (q := 62) dX3_empties_61 (hI (s := 3) (by omega) (by omega) (by omega) (by omega)) (by omega) (by omega)  rfl ?_
      rw [xl_zero h0]
      refine GO.cast (hset_self (hI (s := 3) (by omega) (by omega) (by omega) (by omega))) ?_
      refine g_iinc (q := 65) dX3_empties_62 rfl gs9 rfl ?_
      refine g_goto (t := 49) dX3_empties_65 (by decide) ?_
      exact ih _ (by omega) (by omega)
theorem l_em3 (hs0 : 0 ≤ s ∧ s < 4) : ∀ (f : Nat) (a : Int) (x8 x9 : Option Value), 0 ≤ a → a + f = 24 →
    (∀ x8 x9 : Option Value, GO E iX3_empties d 0 0 74 [some (.ref p), some (.ref (p + 1)), some (vI 4), some (vI s), some (.ref (p + 2 + 25 * s.toNat)), some (.ref (p + 2 + 25 * s.toNat)), some (vI 24), some (vI 24), x8, x9] [] (hH E G p tx (zrI hs (lkA s 24 0)) ak) Q) →
    GO E iX3_empties d 0 0 32 [some (.ref p), some (.ref (p + 1)), some (vI 4), some (vI s), some (.ref (p + 2 + 25 * s.toNat)), some (.ref (p + 2 + 25 * s.toNat)), some (vI 24), some (vI a), x8, x9] [] (hH E G p tx (zrI hs (lkA s a 0)) ak) Q := by
  intro f
  induction f with
  | zero =>
    intro a x8 x9 h0 h1 kk
    obtain rfl : a = 24 := by omega
    refine g_iload (q := 34) dX3_empties_32 rfl rfl ?_
    refine g_iload (q := 36) dX3_empties_34 rfl rfl ?_
    refine g_icmp_ge (t := 74) (q := 39) dX3_empties_36 (by decide) rfl (by first | assumption | exact in32_gB | exact in32_gCmp | (unfold in32; omega)) (by first | assumption | exact in32_gB | exact in32_gCmp | (unfold in32; omega)) (fun c36 => ?_) (fun c36 => ?_)
    · exact kk _ _
    · exact absurd c36 (by decide)
  | succ f ih =>
    intro a x8 x9 h0 h1 kk
    have ha : 0 ≤ a ∧ a < 24 := by omega
    have k68 : ∀ x8 x9 : Option Value, GO E iX3_empties d 0 0 68 [some (.ref p), some (.ref (p + 1)), some (vI 4), some (vI s), some (.ref (p + 2 + 25 * s.toNat)), some (.ref (p + 2 + 25 * s.toNat)), some (vI 24), some (vI a), x8, x9] [] (hH E G p tx (zrI hs (lkA s (a + 1) 0)) ak) Q := by
      intro x8 x9
      refine g_iinc (q := 71) dX3_empties_68 rfl gs7 rfl ?_
      refine g_goto (t := 32) dX3_empties_71 (by decide) ?_
      exact ih _ _ _ (by omega) (by omega) kk
    refine g_iload (q := 34) dX3_empties_32 rfl rfl ?_
    refine g_iload (q := 36) dX3_empties_34 rfl rfl ?_
    refine g_icmp_ge (t := 74) (q := 39) dX3_empties_36 (by decide) rfl (by first | assumption | exact in32_gB | exact in32_gCmp | (unfold in32; omega)) (by first | assumption | exact in32_gB | exact in32_gCmp | (unfold in32; omega)) (fun c36 => ?_) (fun c36 => ?_)
    · exact absurd c36 (by omega)
    · refine g_aload (q := 41) dX3_empties_39 rfl rfl ?_
      refine g_iload (q := 43) dX3_empties_41 rfl rfl ?_
      refine g_aald (t0 := 5) (q := 44) dX3_empties_43 (hM (by omega) (by omega)) rfl rfl (by omega) (by omega) rfl ?_
      refine g_astore (q := 46) dX3_empties_44 gs8 rfl ?_
      refine g_iconst (q := 47) dX3_empties_46 rfl ?_
      refine g_istore (q := 49) dX3_empties_47 gs9 rfl ?_
      refine l_em1 hs0 ha (if s = 3 then 12 else 24) 0 (by omega) (by split <;> rfl) ?_
      by_cases c : s = 3
      · subst c
        exact l_em2 ha (k68 _ _) 12 12 (by omega) (by omega)
      · rw [if_neg c]
        refine g_iload dX3_empties_49 rfl rfl ?_
        refine g_bipush dX3_empties_51 rfl ?_
        refine g_icmp_ge (t := 68) (q := 56) dX3_empties_53 (by decide) rfl (by unfold in32; omega) (by unfold in32; omega) (fun _ => k68 _ _) (fun c53 => absurd c53 (by decide))
theorem l_em4 : ∀ (f : Nat) (s : Int) (x4 x5 x6 x7 x8 x9 : Option Value), 0 ≤ s → s + f = 4 → Q (.returned none) (hH E G p tx (zrI hs 2016) ak) →
    GO E iX3_empties d 0 0 10 [some (.ref p), some (.ref (p + 1)), some (vI 4), some (vI s), x4, x5, x6, x7, x8, x9] [] (hH E G p tx (zrI hs (sE s)) ak) Q := by
  intro f
  induction f with
  | zero =>
    intro s x4 x5 x6 x7 x8 x9 h0 h1 kk
    obtain rfl : s = 4 := by omega
    refine g_iload_n (q := 11) dX3_empties_10 rfl rfl ?_
    refine g_iload_n (q := 12) dX3_empties_11 rfl rfl ?_
    refine g_icmp_ge (t := 80) (q := 15) dX3_empties_12 (by decide) rfl (by first | assumption | exact in32_gB | exact in32_gCmp | (unfold in32; omega)) (by first | assumption | exact in32_gB | exact in32_gCmp | (unfold in32; omega)) (fun c12 => ?_) (fun c12 => ?_)
    · exact g_vret dX3_empties_80 rfl kk
    · exact absurd c12 (by decide)
  | succ f ih =>
    intro s x4 x5 x6 x7 x8 x9 h0 h1 kk
    have hs0 : 0 ≤ s ∧ s < 4 := by omega
    have e0 : sE s = lkA s 0 0 := by unfold sE lkA; rw [if_neg (by omega)]; split <;> omega
    have e1 : lkA s 24 0 = sE (s + 1) := by
      unfold sE lkA
      by_cases c : s = 3
      · rw [if_pos c, if_pos (by omega)]; rfl
      · rw [if_neg c, if_neg (by omega)]; omega
    rw [e0]
    refine g_iload_n (q := 11) dX3_empties_10 rfl rfl ?_
    refine g_iload_n (q := 12) dX3_empties_11 rfl rfl ?_
    refine g_icmp_ge (t := 80) (q := 15) dX3_empties_12 (by decide) rfl (by first | assumption | exact in32_gB | exact in32_gCmp | (unfold in32; omega)) (by first | assumption | exact in32_gB | exact in32_gCmp | (unfold in32; omega)) (fun c12 => ?_) (fun c12 => ?_)
    · exact absurd c12 (by omega)
    · refine g_aload_n (q := 16) dX3_empties_15 rfl rfl ?_
      refine g_iload_n (q := 17) dX3_empties_16 rfl rfl ?_
      refine g_aald (t0 := 6) (q := 18) dX3_empties_17 hL rfl rfl (by omega) (by omega) rfl ?_
      refine g_astore (q := 20) dX3_empties_18 gs4 rfl ?_
      refine g_aload (q := 22) dX3_empties_20 rfl rfl ?_
      refine g_astore (q := 24) dX3_empties_22 gs5 rfl ?_
      refine g_aload (q := 26) dX3_empties_24 rfl rfl ?_
      refine g_alen 5 (q := 27) dX3_empties_26 (hM (by omega) (by omega)) rfl rfl rfl ?_
      refine g_istore (q := 29) dX3_empties_27 gs6 rfl ?_
      refine g_iconst (q := 30) dX3_empties_29 rfl ?_
      refine g_istore (q := 32) dX3_empties_30 gs7 rfl ?_
      refine l_em3 hs0 24 0 _ _ (by omega) (by omega) (fun x8 x9 => ?_)
      rw [e1]
      refine g_iinc (q := 77) dX3_empties_74 rfl gs3 rfl ?_
      refine g_goto (t := 10) dX3_empties_77 (by decide) ?_
      exact ih _ _ _ _ _ _ _ (by omega) (by omega) kk
theorem c_emptiesX : CALL E iX3_empties d 0 0 [.ref p] (hH E G p tx hs ak) (qV (hH E G p tx (zrI hs 2016) ak)) := by
  show GO E iX3_empties _ _ _ 0 [some (.ref p), none, none, none, none, none, none, none, none, none] [] _ _
  refine g_aload_n (q := 1) dX3_empties_0 rfl rfl ?_
  refine g_get (C := RX3) (T := TX3) (ci := 4) (k := 0) (q := 4) dX3_empties_1 q450 rfl in_X3 (by decide) hO rfl rfl ?_
  refine g_astore_n (q := 5) dX3_empties_4 gs1 rfl ?_
  refine g_aload_n (q := 6) dX3_empties_5 rfl rfl ?_
  refine g_alen 6 (q := 7) dX3_empties_6 hL rfl rfl rfl ?_
  refine g_istore_n (q := 8) dX3_empties_7 gs2 rfl ?_
  refine g_iconst (q := 9) dX3_empties_8 rfl ?_
  refine g_istore_n (q := 10) dX3_empties_9 gs3 rfl ?_
  have z := l_em4 (E := E) (d := d) (p := p) (tx := tx) (G := G) (hs := hs) (ak := ak) (Q := qV (hH E G p tx (zrI hs 2016) ak)) 4 0 none none none none none none (by omega) (by omega) ⟨rfl, rfl⟩
  rw [show sE 0 = 0 from rfl, zrI_0] at z
  exact z
theorem c_clearsX : CALL E iX3_clears (d + 1) 0 0 [.ref p, .ref t] (hH E G p tx hs ak) (qV (hH E G p (some t) (fun _ => 0) ak)) := by
  have fin : ∀ k : Int, 0 ≤ k → k < 2018 → (fun _ => 0 : Int → Int) k = zrI (upI (upI hs 2016 0) 2017 0) 2016 k := by
    intro k q1 q2
    unfold zrI
    by_cases c : 0 ≤ k ∧ k < 2016
    · rw [if_pos c]
    · rw [if_neg c]
      by_cases c2 : k = 2017
      · subst c2; rw [upI_at]
      · have c3 : k = 2016 := by omega
        subst c3
        rw [upI_ne (by decide), upI_at]
  show GO E iX3_clears _ _ _ 0 [some (.ref p), some (.ref t)] [] _ _
  refine g_aload_n (q := 1) dX3_clears_0 rfl rfl ?_
  refine g_aload_n (q := 2) dX3_clears_1 rfl rfl ?_
  refine g_put (C := RX3) (T := TX3) (ci := 4) (k := 2) (q := 5) dX3_clears_2 q453 rfl in_X3 tyX3_ok nmX3 (by decide) rfl gFit_o hO (Nat.le_of_ble_eq_true rfl) rfl ?_
  refine GO.cast (h' := hH E G p (some t) hs ak) (hUo (hs' := hs) (tx' := some t) (fun k q1 q2 => rfl)) ?_
  refine g_aload_n (q := 6) dX3_clears_5 rfl rfl ?_
  refine g_iconst (q := 7) dX3_clears_6 rfl ?_
  refine g_put (C := RX3) (T := TX3) (ci := 4) (k := 3) (q := 10) dX3_clears_7 q454 rfl in_X3 tyX3_ok nmX3 (by decide) rfl gFit_int hO (Nat.le_of_ble_eq_true rfl) rfl ?_
  refine GO.cast (h' := hH E G p (some t) (upI hs 2016 0) ak) (hUo (hs' := upI hs 2016 0) (tx' := some t) (fun k q1 q2 => upI_ne (by omega))) ?_
  refine g_aload_n (q := 11) dX3_clears_10 rfl rfl ?_
  refine g_iconst (q := 12) dX3_clears_11 rfl ?_
  refine g_put (C := RX3) (T := TX3) (ci := 4) (k := 4) (q := 15) dX3_clears_12 q456 rfl in_X3 tyX3_ok nmX3 (by decide) rfl gFit_int hO (Nat.le_of_ble_eq_true rfl) rfl ?_
  refine GO.cast (h' := hH E G p (some t) (upI (upI hs 2016 0) 2017 0) ak) (hUo (hs' := upI (upI hs 2016 0) 2017 0) (tx' := some t) (fun k q1 q2 => upI_ne (by omega))) ?_
  refine g_aload_n (q := 16) dX3_clears_15 rfl rfl ?_
  refine g_cvV (I' := iX3_empties) (mc := 0) (ms := 0) (rc := 0) (rs := 0) (ci := 4) (q := 19) dX3_clears_16 q473 q474 rfl q475 gcX3_empties hO (c_emptiesX) rfl rfl ?_
  exact g_vret dX3_clears_19 rfl ⟨rfl, hH_ext (fun k q1 q2 => fin k q1 q2)⟩
end
