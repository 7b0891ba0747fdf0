/-! THE COMPONENT: linkMany, empties, clears -/
set_option maxRecDepth 100000
theorem lnk_app {hs : Int → Int} : ∀ (n m : Nat) (k z : Int), lnkL hs (n + m) k z = lnkL hs m (k + n) (lnkL hs n k z) := by
  intro n
  induction n with
  | zero => intro m k z; rw [Nat.zero_add]; show _ = lnkL hs m (k + ((0 : Nat) : Int)) z; rw [show k + ((0 : Nat) : Int) = k from Int.add_zero k]
  | succ n ih =>
    intro m k z
    rw [Nat.succ_add]
    show lnkL hs (n + m) (k + 1) _ = lnkL hs m (k + ((n + 1 : Nat) : Int)) (lnkL hs n (k + 1) _)
    rw [ih, show k + 1 + (n : Int) = k + ((n + 1 : Nat) : Int) by omega]
/-- rows of N links, one behind the other -/
def lkR (hs : Int → Int) (N : Nat) : Nat → Int → Int → Int
  | 0, _, z => z
  | f + 1, k, z => lkR hs N f (k + N) (lnkL hs N k z)
theorem lkR_e {hs : Int → Int} {N : Nat} : ∀ (f : Nat) (k z : Int), lkR hs N f k z = lnkL hs (f * N) k z := by
  intro f
  induction f with
  | zero => intro k z; show z = lnkL hs (0 * N) k z; rw [Nat.zero_mul]; rfl
  | succ f ih =>
    intro k z
    show lkR hs N f (k + N) (lnkL hs N k z) = _
    rw [ih, Nat.succ_mul, Nat.add_comm (f * N) N, lnk_app]
theorem lk_s {s a b : Int} : lkA s a (b + 1) = lkA s a b + 1 := by unfold lkA; split <;> omega
theorem lk_a {s a : Int} : lkA s (a + 1) 0 = lkA s a 0 + (if s = 3 then (12 : Nat) else (24 : Nat) : Nat) := by unfold lkA; split <;> simp <;> omega
section
variable {E : gE} {d p : Nat} {tx : Option Nat} {G : gH} {hs w g : Int → Int} {ak : va_E} {v s a b c B r i z : Int} {Q : Outcome → gH → Prop}
theorem l_lm1 (hs0 : 0 ≤ s ∧ s < 4) (ha : 0 ≤ a ∧ a < 24) (hh : HSok B hs) : ∀ (f : Nat) (b z : Int) (x10 : Option Value), 0 ≤ b → b + f = (if s = 3 then 12 else 24) →
    (∀ x10 : Option Value, GO E iX3_linkMany d 0 0 41 [some (.ref p), some (vI s), some (vI (lnkL hs f (lkA s a b) z)), some (.ref (p + 2 + 25 * s.toNat)), some (vI 24), some (vI a), some (.ref (p + 3 + 25 * s.toNat + a.toNat)), some (.ref (p + 3 + 25 * s.toNat + a.toNat)), some (vI 24), some (vI (if s = 3 then 12 else 24)), x10] [] (hH E G p tx hs ak) Q) →
    GO E iX3_linkMany d 0 0 41 [some (.ref p), some (vI s), some (vI z), some (.ref (p + 2 + 25 * s.toNat)), some (vI 24), some (vI a), some (.ref (p + 3 + 25 * s.toNat + a.toNat)), some (.ref (p + 3 + 25 * s.toNat + a.toNat)), some (vI 24), some (vI b), x10] [] (hH E G p tx hs ak) Q := by
  intro f
  induction f with
  | zero =>
    intro b z x10 h0 h1 kk
    have e : b = (if s = 3 then 12 else 24) := by omega
    rw [e]
    exact kk _
  | succ f ih =>
    intro b z x10 h0 h1 kk
    have hb : 0 ≤ b ∧ b < (if s = 3 then 12 else 24) := ⟨h0, by omega⟩
    have hb2 : b < 24 := by have := hb.2; split at this <;> omega
    have hlk := lk_lt hs0 ha hb
    have hk := hh.1 _ hlk.1 hlk.2
    have hxl : xl hs s a b = hs (lkA s a b) := xl_in hb.1 hb.2
    have ke : lnkL hs (f + 1) (lkA s a b) z = lnkL hs f (lkA s a (b + 1)) (z + if 0 < hs (lkA s a b) then 1 else 0) := by rw [lk_s]; rfl
    rw [ke] at kk
    refine g_iload (q := 43) dX3_linkMany_41 rfl rfl ?_
    refine g_iload (q := 45) dX3_linkMany_43 rfl rfl ?_
    refine g_icmp_ge (t := 74) (q := 48) dX3_linkMany_45 (by decide) rfl (by first | assumption | exact in32_gB | exact in32_gCmp | (unfold in32; omega)) (by first | assumption | exact in32_gB | exact in32_gCmp | (unfold in32; omega)) (fun c45 => ?_) (fun c45 => ?_)
    · exact absurd c45 (by omega)
    · refine g_aload (q := 50) dX3_linkMany_48 rfl rfl ?_
      refine g_iload (q := 52) dX3_linkMany_50 rfl rfl ?_
      refine g_iald (q := 53) dX3_linkMany_52 (hI (by omega) (by omega) (by omega) (by omega)) (by omega) (by omega) rfl ?_
      rw [hxl]
      refine g_istore (q := 55) dX3_linkMany_53 gs10 rfl ?_
      refine g_iload_n (q := 56) dX3_linkMany_55 rfl rfl ?_
      refine g_iload (q := 58) dX3_linkMany_56 rfl rfl ?_
      refine g_if_le (t := 65) (q := 61) dX3_linkMany_58 (by decide) rfl (by first | assumption | exact in32_gB | exact in32_gCmp | (unfold in32; omega)) (fun c58 => ?_) (fun c58 => ?_)
      · refine g_iconst (q := 66) dX3_linkMany_65 rfl ?_
        refine g_iadd (q := 67) dX3_linkMany_66 rfl ?_
        refine g_istore_n (q := 68) dX3_linkMany_67 gs2 rfl ?_
        refine g_iinc (q := 71) dX3_linkMany_68 rfl gs9 rfl ?_
        refine g_goto (t := 41) dX3_linkMany_71 (by decide) ?_
        first
        | (rw [if_pos (show 0 < hs (lkA s a b) from c58)] at kk; exact ih _ _ _ (by omega) (by omega) kk)
        | (rw [if_neg (show ¬ 0 < hs (lkA s a b) by omega)] at kk; exact ih _ _ _ (by omega) (by omega) kk)
      · refine g_iconst (q := 62) dX3_linkMany_61 rfl ?_
        refine g_goto (t := 66) dX3_linkMany_62 (by decide) ?_
        refine g_iadd (q := 67) dX3_linkMany_66 rfl ?_
        refine g_istore_n (q := 68) dX3_linkMany_67 gs2 rfl ?_
        refine g_iinc (q := 71) dX3_linkMany_68 rfl gs9 rfl ?_
        refine g_goto (t := 41) dX3_linkMany_71 (by decide) ?_
        first
        | (rw [if_pos (show 0 < hs (lkA s a b) from c58)] at kk; exact ih _ _ _ (by omega) (by omega) kk)
        | (rw [if_neg (show ¬ 0 < hs (lkA s a b) by omega)] at kk; exact ih _ _ _ (by omega) (by omega) kk)
theorem l_lm2 (ha : 0 ≤ a ∧ a < 24) (kk : ∀ x10 : Option Value, GO E iX3_linkMany d 0 0 74 [some (.ref p), some (vI 3), some (vI z), some (.ref (p + 2 + 25 * (3 : Int).toNat)), some (vI 24), some (vI a), some (.ref (p + 3 + 25 * (3 : Int).toNat + a.toNat)), some (.ref (p + 3 + 25 * (3 : Int).toNat + a.toNat)), some (vI 24), some (vI 24), x10] [] (hH E G p tx hs ak) Q) : ∀ (f : Nat) (b : Int) (x10 : Option Value), 12 ≤ b → b + f = 24 →
    GO E iX3_linkMany d 0 0 41 [some (.ref p), some (vI 3), some (vI z), some (.ref (p + 2 + 25 * (3 : Int).toNat)), some (vI 24), some (vI a), some (.ref (p + 3 + 25 * (3 : Int).toNat + a.toNat)), some (.ref (p + 3 + 25 * (3 : Int).toNat + a.toNat)), some (vI 24), some (vI b), x10] [] (hH E G p tx hs ak) Q := by
  intro f
  induction f with
  | zero =>
    intro b x10 h0 h1
    obtain rfl : b = 24 := by omega
    refine g_iload (q := 43) dX3_linkMany_41 rfl rfl ?_
    refine g_iload (q := 45) dX3_linkMany_43 rfl rfl ?_
    refine g_icmp_ge (t := 74) (q := 48) dX3_linkMany_45 (by decide) rfl (by first | assumption | exact in32_gB | exact in32_gCmp | (unfold in32; omega)) (by first | assumption | exact in32_gB | exact in32_gCmp | (unfold in32; omega)) (fun c45 => ?_) (fun c45 => ?_)
    · exact kk _
    · exact absurd c45 (by decide)
  | succ f ih =>
    intro b x10 h0 h1
    have hxl : xl hs 3 a b = 0 := by unfold xl; rw [if_pos rfl, if_neg (by omega)]
    refine g_iload (q := 43) dX3_linkMany_41 rfl rfl ?_
    refine g_iload (q := 45) dX3_linkMany_43 rfl rfl ?_
    refine g_icmp_ge (t := 74) (q := 48) dX3_linkMany_45 (by decide) rfl (by first | assumption | exact in32_gB | exact in32_gCmp | (unfold in32; omega)) (by first | assumption | exact in32_gB | exact in32_gCmp | (unfold in32; omega)) (fun c45 => ?_) (fun c45 => ?_)
    · exact absurd c45 (by omega)
    · refine g_aload (q := 50) dX3_linkMany_48 rfl rfl ?_
      refine g_iload (q := 52) dX3_linkMany_50 rfl rfl ?_
      refine g_iald (q := 53) dX3_linkMany_52 (hI (s := 3) (by omega) (by omega) (by omega) (by omega)) (by omega) (by omega) rfl ?_
      rw [hxl]
      refine g_istore (q := 55) dX3_linkMany_53 gs10 rfl ?_
      refine g_iload_n (q := 56) dX3_linkMany_55 rfl rfl ?_
      refine g_iload (q := 58) dX3_linkMany_56 rfl rfl ?_
      refine g_if_le (t := 65) (q := 61) dX3_linkMany_58 (by decide) rfl (by first | assumption | exact in32_gB | exact in32_gCmp | (unfold in32; omega)) (fun c58 => ?_) (fun c58 => ?_)
      · refine g_iconst (q := 66) dX3_linkMany_65 rfl ?_
        refine g_iadd (q := 67) dX3_linkMany_66 rfl ?_
        refine g_istore_n (q := 68) dX3_linkMany_67 gs2 rfl ?_
        refine g_iinc (q := 71) dX3_linkMany_68 rfl gs9 rfl ?_
        refine g_goto (t := 41) dX3_linkMany_71 (by decide) ?_
        rw [Int.add_zero]; exact ih _ _ (by omega) (by omega)
      · exact absurd c58 (by decide)
theorem l_lm3 (hs0 : 0 ≤ s ∧ s < 4) (hh : HSok B hs) : ∀ (f : Nat) (a z : Int) (x6 x7 x8 x9 x10 : Option Value), 0 ≤ a → a + f = 24 →
    Q (.returned (some (vI (lkR hs (if s = 3 then 12 else 24) f (lkA s a 0) z)))) (hH E G p tx hs ak) →
    GO E iX3_linkMany d 0 0 16 [some (.ref p), some (vI s), some (vI z), some (.ref (p + 2 + 25 * s.toNat)), some (vI 24), some (vI a), x6, x7, x8, x9, x10] [] (hH E G p tx hs ak) Q := by
  intro f
  induction f with
  | zero =>
    intro a z x6 x7 x8 x9 x10 h0 h1 kk
    obtain rfl : a = 24 := by omega
    refine g_iload (q := 18) dX3_linkMany_16 rfl rfl ?_
    refine g_iload (q := 20) dX3_linkMany_18 rfl rfl ?_
    refine g_icmp_ge (t := 80) (q := 23) dX3_linkMany_20 (by decide) rfl (by first | assumption | exact in32_gB | exact in32_gCmp | (unfold in32; omega)) (by first | assumption | exact in32_gB | exact in32_gCmp | (unfold in32; omega)) (fun c20 => ?_) (fun c20 => ?_)
    · refine g_iload_n (q := 81) dX3_linkMany_80 rfl rfl ?_
      exact g_iret dX3_linkMany_81 rfl kk
    · exact absurd c20 (by decide)
  | succ f ih =>
    intro a z x6 x7 x8 x9 x10 h0 h1 kk
    have ha : 0 ≤ a ∧ a < 24 := by omega
    replace kk : Q (.returned (some (vI (lkR hs (if s = 3 then 12 else 24) f (lkA s (a + 1) 0) (lnkL hs (if s = 3 then 12 else 24) (lkA s a 0) z))))) (hH E G p tx hs ak) := by
      rw [lk_a]; exact kk
    have k74 : ∀ (x6 x7 x8 x9 x10 : Option Value), GO E iX3_linkMany d 0 0 74 [some (.ref p), some (vI s), some (vI (lnkL hs (if s = 3 then 12 else 24) (lkA s a 0) z)), some (.ref (p + 2 + 25 * s.toNat)), some (vI 24), some (vI a), x6, x7, x8, x9, x10] [] (hH E G p tx hs ak) Q := by
      intro x6 x7 x8 x9 x10
      refine g_iinc (q := 77) dX3_linkMany_74 rfl gs5 rfl ?_
      refine g_goto (t := 16) dX3_linkMany_77 (by decide) ?_
      exact ih _ _ _ _ _ _ _ (by omega) (by omega) kk
    refine g_iload (q := 18) dX3_linkMany_16 rfl rfl ?_
    refine g_iload (q := 20) dX3_linkMany_18 rfl rfl ?_
    refine g_icmp_ge (t := 80) (q := 23) dX3_linkMany_20 (by decide) rfl (by first | assumption | exact in32_gB | exact in32_gCmp | (unfold in32; omega)) (by first | assumption | exact in32_gB | exact in32_gCmp | (unfold in32; omega)) (fun c20 => ?_) (fun c20 => ?_)
    · exact absurd c20 (by omega)
    · refine g_aload_n (q := 24) dX3_linkMany_23 rfl rfl ?_
      refine g_iload (q := 26) dX3_linkMany_24 rfl rfl ?_
      refine g_aald (t0 := 5) (q := 27) dX3_linkMany_26 (hM (by omega) (by omega)) rfl rfl (by omega) (by omega) rfl ?_
      refine g_astore (q := 29) dX3_linkMany_27 gs6 rfl ?_
      refine g_aload (q := 31) dX3_linkMany_29 rfl rfl ?_
      refine g_astore (q := 33) dX3_linkMany_31 gs7 rfl ?_
      refine g_aload (q := 35) dX3_linkMany_33 rfl rfl ?_
      refine g_alen 0 (q := 36) dX3_linkMany_35 (hI (by omega) (by omega) (by omega) (by omega)) rfl rfl rfl ?_
      refine g_istore (q := 38) dX3_linkMany_36 gs8 rfl ?_
      refine g_iconst (q := 39) dX3_linkMany_38 rfl ?_
      refine g_istore (q := 41) dX3_linkMany_39 gs9 rfl ?_
      refine l_lm1 hs0 ha hh (if s = 3 then 12 else 24) 0 z _ (by omega) (by split <;> rfl) (fun x10 => ?_)
      by_cases c : s = 3
      · subst c
        exact l_lm2 ha (fun x10 => k74 _ _ _ _ x10) 12 12 _ (by omega) (by omega)
      · rw [if_neg c] at k74
        rw [if_neg c, if_neg c]
        refine g_iload dX3_linkMany_41 rfl rfl ?_
        refine g_iload dX3_linkMany_43 rfl rfl ?_
        refine g_icmp_ge (t := 74) (q := 48) dX3_linkMany_45 (by decide) rfl (by unfold in32; omega) (by unfold in32; omega) (fun _ => k74 _ _ _ _ _) (fun c45 => absurd c45 (by decide))
theorem c_linkMany (hs0 : 0 ≤ s ∧ s < 4) (hh : HSok B hs) : CALL E iX3_linkMany d 0 0 [.ref p, vI s] (hH E G p tx hs ak) (qR (vI (mLinks hs s)) (hH E G p tx hs ak)) := by
  have e : lkR hs (if s = 3 then 12 else 24) 24 (lkA s 0 0) 0 = mLinks hs s := by
    rw [lkR_e]
    unfold mLinks lkA
    by_cases c : s = 3
    · subst c; rfl
    · rw [if_neg c, if_neg c, if_neg c, show 576 * s + 24 * 0 + 0 = 576 * s by omega]
  show GO E iX3_linkMany _ _ _ 0 [some (.ref p), some (vI s), none, none, none, none, none, none, none, none, none] [] _ _
  refine g_iconst (q := 1) dX3_linkMany_0 rfl ?_
  refine g_istore_n (q := 2) dX3_linkMany_1 gs2 rfl ?_
  refine g_aload_n (q := 3) dX3_linkMany_2 rfl rfl ?_
  refine g_get (C := RX3) (T := TX3) (ci := 4) (k := 0) (q := 6) dX3_linkMany_3 q450 rfl in_X3 (by decide) hO rfl rfl ?_
  refine g_iload_n (q := 7) dX3_linkMany_6 rfl rfl ?_
  refine g_aald (t0 := 6) (q := 8) dX3_linkMany_7 hL rfl rfl (by omega) (by omega) rfl ?_
  refine g_astore_n (q := 9) dX3_linkMany_8 gs3 rfl ?_
  refine g_aload_n (q := 10) dX3_linkMany_9 rfl rfl ?_
  refine g_alen 5 (q := 11) dX3_linkMany_10 (hM (by omega) (by omega)) rfl rfl rfl ?_
  refine g_istore (q := 13) dX3_linkMany_11 gs4 rfl ?_
  refine g_iconst (q := 14) dX3_linkMany_13 rfl ?_
  refine g_istore (q := 16) dX3_linkMany_14 gs5 rfl ?_
  exact l_lm3 hs0 hh 24 0 0 _ _ _ _ _ (by omega) (by omega) ⟨by rw [e], rfl⟩
end
