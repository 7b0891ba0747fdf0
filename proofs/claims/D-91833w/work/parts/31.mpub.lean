/-! THE REFERENCE: what is asked of it -/
set_option maxRecDepth 100000
/-- it returns X; the heap is F of some scratch -/
def qS (X : Int) (F : (Int → Int) → gH) : Outcome → gH → Prop := fun o k => o = .returned (some (vI X)) ∧ ∃ y, k = F y
section
variable {E : gE} {I I' : gI} {d rc rs pc q mc ms np idx b ci : Nat} {lv : List (Option Value)} {st rest As fs : List Value} {h k : gH} {Q Q1 : Outcome → gH → Prop} {r : vw_C} {X : Int} {F : (Int → Int) → gH}
theorem g_cvS (hd : decode I.2.1 pc = .ok (.invokevirtual idx, 3)) (hlink : Cond.methodLink I.1.cls idx I'.1 ∈ lw_all) (hinst : Cond.instanceMethod I'.1 ∈ lw_all) (hcl : vwCl[ci]? = some r) (hsel : Cond.selects r.1 I'.1 I'.1 ∈ lw_all) (hg : gCode I' np) (hb : h.1 b = some (oB ci fs)) (call : CALL E I' d mc ms (.ref b :: As) h (qS X F)) (hst : st = As.reverse ++ .ref b :: rest) (hq : pc + 3 = q) (kk : ∀ y, GO E I (d + 1) rc rs q lv (vI X :: rest) (F y) Q)
    (hn : As.length = np := by rfl) (hf : (lg_sl (.ref b :: As)).length ≤ I'.2.2.1 := by exact Nat.le_of_ble_eq_true rfl) (hw : (rest.map fun v => v.category).sum ≤ 20 := by exact Nat.le_of_ble_eq_true rfl) (hm : I'.2.2.1 ≤ 33 := by exact Nat.le_of_ble_eq_true rfl) : GO E I (d + 1) (rc + mc) (rs + ms) pc lv st h Q :=
  g_cvP (P := fun v k => v = vI X ∧ ∃ y, k = F y) hd hlink hinst hcl hsel hg hb (GO.mono call fun o k z => ⟨vI X, z.1, rfl, z.2⟩) hst hq (fun v k z => by obtain ⟨rfl, y, rfl⟩ := z; exact kk y) hn hf hw hm
end
/-- how many links of n from k on -/
def lnkL (hs : Int → Int) : Nat → Int → Int → Int
  | 0, _, n => n
  | f + 1, k, n => lnkL hs f (k + 1) (n + if 0 < hs k then 1 else 0)
def mLinks (hs : Int → Int) (s : Int) : Int := lnkL hs (if s = 3 then 288 else 576) (576 * s) 0
theorem lnkL_in (hs : Int → Int) : ∀ (f : Nat) (k n : Int), n ≤ lnkL hs f k n ∧ lnkL hs f k n ≤ n + f := by
  intro f
  induction f with
  | zero => intro k n; unfold lnkL; omega
  | succ f ih =>
    intro k n
    have := ih (k + 1) (n + if 0 < hs k then 1 else 0)
    unfold lnkL
    split at this <;> (split <;> omega)
def savI (f n : Int) : Int := if f < 1 ∨ n = -1 then -2000000000 else (1000 * (f - n)).tdiv f
def verI (a b : Int) : Int := if a = -1 ∨ b = -1 then -2000000000 else (1000 * a).tdiv b
def lastL (w : Int → Int) (kl kn r : Int) : Nat → Int → (Int → Int) → Int
  | 0, _, _ => -1
  | f + 1, h, hs => if mSlips w hs r = 0 then lastL w kl kn r f (h + 1) (mHour w hs kl kn) else h
section
variable {E : gE} {d rc rs am : Nat} {G : gH}
variable {th si lo td sz pa fr tk vl fk fp hdt kl kn cd bp bl : Int} {w hs bk iW iH iB iL iS tp fv fsh lt cp md sw nd mn my wd nm mv : Int → Int}
variable {s a b r i k v e B c n what th_ : Int} {Q : Outcome → gH → Prop}
theorem c_isSlotM {h : gH} (hr : in32 s) : CALL E iX6_isSlot (d + 1) 0 0 [vI s] h (qR (vI (gB (0 ≤ s ∧ s ≤ 3))) h) := by
  have h5 := hr.1
  have h6 := hr.2
  show GO E iX6_isSlot _ _ _ 0 [some (vI s)] [] _ _
  refine g_iload_n (q := 1) dX6_isSlot_0 rfl rfl ?_
  refine g_i2l (q := 2) dX6_isSlot_1 (by first | assumption | exact in32_gB | exact in32_gCmp | (unfold in32; omega)) rfl ?_
  refine g_lconst0 (q := 3) dX6_isSlot_2 rfl ?_
  refine g_ldc2 (a := 3) (q := 6) dX6_isSlot_3 q1630 (by decide) rfl ?_
  refine g_cs (I' := iX6_in) (mc := 0) (ms := 0) (rc := 0) (rs := 0) (q := 9) dX6_isSlot_6 q1514 q1515 gcX6_in (c_inM (by unfold in64; omega) (by unfold in64; omega) (by unfold in64; omega)) rfl rfl ?_
  exact g_zret dX6_isSlot_9 rfl ⟨rfl, rfl⟩
theorem c_strength (hw : WFw w) (hh : HSok B hs) (h1 : in32 s) (h2 : in32 a) (h3 : in32 b) : CALL E iX6_strength (d + 2) 0 0 [.ref am, vI s, vI a, vI b] (mH E G am th w hs si lo bk iW iH iB iL iS tp td fv sz pa fr tk vl fk fp fsh hdt lt kl kn cp cd bp bl md sw nd mn my wd nm mv) (qR (vI (if (0 ≤ s ∧ s ≤ 3) ∧ (0 ≤ a ∧ a ≤ w 1 - 1) ∧ (if s = 3 then 0 ≤ b ∧ b ≤ 11 else 0 ≤ b ∧ b ≤ w 1 - 1) then hs (lkA s a b) else -2)) (mH E G am th w hs si lo bk iW iH iB iL iS tp td fv sz pa fr tk vl fk fp fsh hdt lt kl kn cp cd bp bl md sw nd mn my wd nm mv)) := by
  have h5 := h1.1; have h6 := h1.2; have h7 := h3.1; have h8 := h3.2; have h9 := h2.1; have h10 := h2.2
  have hn := hw.1
  have bad : ∀ {pc' : Nat}, ¬ ((0 ≤ s ∧ s ≤ 3) ∧ (0 ≤ a ∧ a ≤ w 1 - 1) ∧ (if s = 3 then 0 ≤ b ∧ b ≤ 11 else 0 ≤ b ∧ b ≤ w 1 - 1)) → GO E iX6_strength (d + 2) 0 0 48 [some (.ref am), some (vI s), some (vI a), some (vI b)] [] (mH E G am th w hs si lo bk iW iH iB iL iS tp td fv sz pa fr tk vl fk fp fsh hdt lt kl kn cp cd bp bl md sw nd mn my wd nm mv) (qR (vI (if (0 ≤ s ∧ s ≤ 3) ∧ (0 ≤ a ∧ a ≤ w 1 - 1) ∧ (if s = 3 then 0 ≤ b ∧ b ≤ 11 else 0 ≤ b ∧ b ≤ w 1 - 1) then hs (lkA s a b) else -2)) (mH E G am th w hs si lo bk iW iH iB iL iS tp td fv sz pa fr tk vl fk fp fsh hdt lt kl kn cp cd bp bl md sw nd mn my wd nm mv)) := by
    intro _ z
    rw [if_neg z]
    refine g_bipush (q := 50) dX6_strength_48 rfl ?_
    exact g_iret dX6_strength_50 rfl ⟨rfl, rfl⟩
  show GO E iX6_strength _ _ _ 0 [some (.ref am), some (vI s), some (vI a), some (vI b)] [] _ _
  refine g_iload_n (q := 1) dX6_strength_0 rfl rfl ?_
  refine g_i2l (q := 2) dX6_strength_1 (by first | assumption | exact in32_gB | exact in32_gCmp | (unfold in32; omega)) rfl ?_
  refine g_lconst0 (q := 3) dX6_strength_2 rfl ?_
  refine g_ldc2 (a := 3) (q := 6) dX6_strength_3 q1630 (by decide) rfl ?_
  refine g_cs (I' := iX6_in) (mc := 0) (ms := 0) (rc := 0) (rs := 0) (q := 9) dX6_strength_6 q1514 q1515 gcX6_in (c_inM (by unfold in64; omega) (by unfold in64; omega) (by unfold in64; omega)) rfl rfl ?_
  refine g_ifeqB (t := 48) (q := 12) dX6_strength_9 (by decide) rfl (fun c9 => ?_) (fun c9 => ?_)
  · exact bad (pc' := 0) (by intro z; first | exact c9 z.1 | exact c17 z.2.1 | (rw [if_pos c22] at z; exact c34 z.2.2) | (rw [if_neg c22] at z; exact c45 z.2.2))
  · refine g_aload_n (q := 13) dX6_strength_12 rfl rfl ?_
    refine g_iload_n (q := 14) dX6_strength_13 rfl rfl ?_
    refine g_cv (I' := iX6_isThing) (mc := 0) (ms := 0) (rc := 0) (rs := 0) (ci := 7) (q := 17) dX6_strength_14 q1632 q1634 rfl qs57 gcX6_isThing mO (c_isThingM h2 hw.1) rfl rfl ?_
    refine g_ifeqB (t := 48) (q := 20) dX6_strength_17 (by decide) rfl (fun c17 => ?_) (fun c17 => ?_)
    · exact bad (pc' := 0) (by intro z; first | exact c9 z.1 | exact c17 z.2.1 | (rw [if_pos c22] at z; exact c34 z.2.2) | (rw [if_neg c22] at z; exact c45 z.2.2))
    · refine g_iload_n (q := 21) dX6_strength_20 rfl rfl ?_
      refine g_iconst (q := 22) dX6_strength_21 rfl ?_
      refine g_icmp_ne (t := 40) (q := 25) dX6_strength_22 (by decide) rfl (by first | assumption | exact in32_gB | exact in32_gCmp | (unfold in32; omega)) (by first | assumption | exact in32_gB | exact in32_gCmp | (unfold in32; omega)) (fun c22 => ?_) (fun c22 => ?_)
      · refine g_aload_n (q := 41) dX6_strength_40 rfl rfl ?_
        refine g_iload_n (q := 42) dX6_strength_41 rfl rfl ?_
        refine g_cv (I' := iX6_isThing) (mc := 0) (ms := 0) (rc := 0) (rs := 0) (ci := 7) (q := 45) dX6_strength_42 q1632 q1634 rfl qs57 gcX6_isThing mO (c_isThingM h3 hw.1) rfl rfl ?_
        refine g_ifneB (t := 51) (q := 48) dX6_strength_45 (by decide) rfl (fun c45 => ?_) (fun c45 => ?_)
        · refine g_aload_n (q := 52) dX6_strength_51 rfl rfl ?_
          refine gm_get (k := 2) (q := 55) dX6_strength_52 q1396 (by decide) rfl rfl ?_
          refine g_iload_n (q := 56) dX6_strength_55 rfl rfl ?_
          refine g_iload_n (q := 57) dX6_strength_56 rfl rfl ?_
          refine g_iload_n (q := 58) dX6_strength_57 rfl rfl ?_
          refine g_cs (I' := iX6_linkAt) (mc := 0) (ms := 0) (rc := 0) (rs := 0) (q := 61) dX6_strength_58 q1672 q1673 gcX6_linkAt (c_linkAt h1) rfl rfl ?_
          refine g_iald (q := 62) dX6_strength_61 mA2 (lk_in c9.1 c9.2 c17.1 (by omega) (by omega) (by omega) (by omega)).1 (by have := (lk_in (s := s) (a := a) (b := b) c9.1 c9.2 c17.1 (by omega) (by omega) (by omega) (by omega)).2; omega) rfl ?_
          exact g_iret dX6_strength_62 rfl ⟨rI (if_pos ⟨c9, c17, by first | (rw [if_pos c22]; assumption) | (rw [if_neg c22]; assumption)⟩).symm, rfl⟩
        · exact bad (pc' := 0) (by intro z; first | exact c9 z.1 | exact c17 z.2.1 | (rw [if_pos c22] at z; exact c34 z.2.2) | (rw [if_neg c22] at z; exact c45 z.2.2))
      · refine g_iload_n (q := 26) dX6_strength_25 rfl rfl ?_
        refine g_i2l (q := 27) dX6_strength_26 (by first | assumption | exact in32_gB | exact in32_gCmp | (unfold in32; omega)) rfl ?_
        refine g_lconst0 (q := 28) dX6_strength_27 rfl ?_
        refine g_ldc2 (a := 11) (q := 31) dX6_strength_28 q1721 (by decide) rfl ?_
        refine g_cs (I' := iX6_in) (mc := 0) (ms := 0) (rc := 0) (rs := 0) (q := 34) dX6_strength_31 q1514 q1515 gcX6_in (c_inM (by unfold in64; omega) (by unfold in64; omega) (by unfold in64; omega)) rfl rfl ?_
        refine g_ifneB (t := 51) (q := 37) dX6_strength_34 (by decide) rfl (fun c34 => ?_) (fun c34 => ?_)
        · refine g_aload_n (q := 52) dX6_strength_51 rfl rfl ?_
          refine gm_get (k := 2) (q := 55) dX6_strength_52 q1396 (by decide) rfl rfl ?_
          refine g_iload_n (q := 56) dX6_strength_55 rfl rfl ?_
          refine g_iload_n (q := 57) dX6_strength_56 rfl rfl ?_
          refine g_iload_n (q := 58) dX6_strength_57 rfl rfl ?_
          refine g_cs (I' := iX6_linkAt) (mc := 0) (ms := 0) (rc := 0) (rs := 0) (q := 61) dX6_strength_58 q1672 q1673 gcX6_linkAt (c_linkAt h1) rfl rfl ?_
          refine g_iald (q := 62) dX6_strength_61 mA2 (lk_in c9.1 c9.2 c17.1 (by omega) (by omega) (by omega) (by omega)).1 (by have := (lk_in (s := s) (a := a) (b := b) c9.1 c9.2 c17.1 (by omega) (by omega) (by omega) (by omega)).2; omega) rfl ?_
          exact g_iret dX6_strength_62 rfl ⟨rI (if_pos ⟨c9, c17, by first | (rw [if_pos c22]; assumption) | (rw [if_neg c22]; assumption)⟩).symm, rfl⟩
        · refine g_goto (t := 48) dX6_strength_37 (by decide) ?_
          exact bad (pc' := 0) (by intro z; first | exact c9 z.1 | exact c17 z.2.1 | (rw [if_pos c22] at z; exact c34 z.2.2) | (rw [if_neg c22] at z; exact c45 z.2.2))
theorem c_linksOf (hh : HSok B hs) (h1 : 0 ≤ s) (h2 : s ≤ 3) : CALL E iX6_linksOf d 0 0 [.ref am, vI s] (mH E G am th w hs si lo bk iW iH iB iL iS tp td fv sz pa fr tk vl fk fp fsh hdt lt kl kn cp cd bp bl md sw nd mn my wd nm mv) (qR (vI (mLinks hs s)) (mH E G am th w hs si lo bk iW iH iB iL iS tp td fv sz pa fr tk vl fk fp fsh hdt lt kl kn cp cd bp bl md sw nd mn my wd nm mv)) := by
  have loop : ∀ (f : Nat) (k n : Int), 0 ≤ k → k + f = (if s = 3 then 2016 else 576 * (s + 1)) → 0 ≤ n → n ≤ k → GO E iX6_linksOf d 0 0 8 [some (.ref am), some (vI s), some (vI n), some (vI k)] [] (mH E G am th w hs si lo bk iW iH iB iL iS tp td fv sz pa fr tk vl fk fp fsh hdt lt kl kn cp cd bp bl md sw nd mn my wd nm mv) (qR (vI (lnkL hs f k n)) (mH E G am th w hs si lo bk iW iH iB iL iS tp td fv sz pa fr tk vl fk fp fsh hdt lt kl kn cp cd bp bl md sw nd mn my wd nm mv)) := by
    intro f
    induction f with
    | zero =>
      intro k n h3 h4 h5 h6
      refine g_iload_n (q := 9) dX6_linksOf_8 rfl rfl ?_
      refine g_iload_n (q := 10) dX6_linksOf_9 rfl rfl ?_
      refine g_iconst (q := 11) dX6_linksOf_10 rfl ?_
      refine g_icmp_ne (t := 20) (q := 14) dX6_linksOf_11 (by decide) rfl (by first | assumption | exact in32_gB | exact in32_gCmp | (unfold in32; omega)) (by first | assumption | exact in32_gB | exact in32_gCmp | (unfold in32; omega)) (fun c11 => ?_) (fun c11 => ?_)
      · refine g_sipush (q := 23) dX6_linksOf_20 rfl ?_
        refine g_iload_n (q := 24) dX6_linksOf_23 rfl rfl ?_
        refine g_iconst (q := 25) dX6_linksOf_24 rfl ?_
        refine g_iadd (q := 26) dX6_linksOf_25 rfl ?_
        refine g_imul (q := 27) dX6_linksOf_26 rfl ?_
        refine g_icmp_ge (t := 53) (q := 30) dX6_linksOf_27 (by decide) rfl (by unfold in32; split at h4 <;> omega) (by unfold in32; omega) (fun c27 => ?_) (fun c27 => ?_)
        · refine g_iload_n (q := 54) dX6_linksOf_53 rfl rfl ?_
          exact g_iret dX6_linksOf_54 rfl ⟨rfl, rfl⟩
        · exact absurd c27 (by first | (rw [if_pos c11] at h4; omega) | (rw [if_neg c11] at h4; omega))
      · refine g_sipush (q := 17) dX6_linksOf_14 rfl ?_
        refine g_goto (t := 27) dX6_linksOf_17 (by decide) ?_
        refine g_icmp_ge (t := 53) (q := 30) dX6_linksOf_27 (by decide) rfl (by unfold in32; split at h4 <;> omega) (by unfold in32; omega) (fun c27 => ?_) (fun c27 => ?_)
        · refine g_iload_n (q := 54) dX6_linksOf_53 rfl rfl ?_
          exact g_iret dX6_linksOf_54 rfl ⟨rfl, rfl⟩
        · exact absurd c27 (by first | (rw [if_pos c11] at h4; omega) | (rw [if_neg c11] at h4; omega))
    | succ f ih =>
      intro k n h3 h4 h5 h6
      have hk : k < 2016 := by split at h4 <;> omega
      have hx := hh.1 k h3 hk
      have step : ∀ u : Int, u = (if 0 < hs k then 1 else 0) → GO E iX6_linksOf d 0 0 45 [some (.ref am), some (vI s), some (vI n), some (vI k)] [vI u, vI n] (mH E G am th w hs si lo bk iW iH iB iL iS tp td fv sz pa fr tk vl fk fp fsh hdt lt kl kn cp cd bp bl md sw nd mn my wd nm mv) (qR (vI (lnkL hs (f + 1) k n)) (mH E G am th w hs si lo bk iW iH iB iL iS tp td fv sz pa fr tk vl fk fp fsh hdt lt kl kn cp cd bp bl md sw nd mn my wd nm mv)) := by
        intro u hu
        subst hu
        refine g_iadd (q := 46) dX6_linksOf_45 rfl ?_
        refine g_istore_n (q := 47) dX6_linksOf_46 gs2 rfl ?_
        refine g_iinc (q := 50) dX6_linksOf_47 rfl gs3 rfl ?_
        refine g_goto (t := 8) dX6_linksOf_50 (by decide) ?_
        exact ih _ _ (by omega) (by omega) (by split <;> omega) (by split <;> omega)
      refine g_iload_n (q := 9) dX6_linksOf_8 rfl rfl ?_
      refine g_iload_n (q := 10) dX6_linksOf_9 rfl rfl ?_
      refine g_iconst (q := 11) dX6_linksOf_10 rfl ?_
      refine g_icmp_ne (t := 20) (q := 14) dX6_linksOf_11 (by decide) rfl (by first | assumption | exact in32_gB | exact in32_gCmp | (unfold in32; omega)) (by first | assumption | exact in32_gB | exact in32_gCmp | (unfold in32; omega)) (fun c11 => ?_) (fun c11 => ?_)
      · refine g_sipush (q := 23) dX6_linksOf_20 rfl ?_
        refine g_iload_n (q := 24) dX6_linksOf_23 rfl rfl ?_
        refine g_iconst (q := 25) dX6_linksOf_24 rfl ?_
        refine g_iadd (q := 26) dX6_linksOf_25 rfl ?_
        refine g_imul (q := 27) dX6_linksOf_26 rfl ?_
        refine g_icmp_ge (t := 53) (q := 30) dX6_linksOf_27 (by decide) rfl (by first | assumption | exact in32_gB | exact in32_gCmp | (unfold in32; omega)) (by first | assumption | exact in32_gB | exact in32_gCmp | (unfold in32; omega)) (fun c27 => ?_) (fun c27 => ?_)
        · exact absurd c27 (by first | (rw [if_pos c11] at h4; omega) | (rw [if_neg c11] at h4; omega))
        · refine g_iload_n (q := 31) dX6_linksOf_30 rfl rfl ?_
          refine g_aload_n (q := 32) dX6_linksOf_31 rfl rfl ?_
          refine gm_get (k := 2) (q := 35) dX6_linksOf_32 q1396 (by decide) rfl rfl ?_
          refine g_iload_n (q := 36) dX6_linksOf_35 rfl rfl ?_
          refine g_iald (q := 37) dX6_linksOf_36 mA2 (by omega) (by omega) rfl ?_
          refine g_if_le (t := 44) (q := 40) dX6_linksOf_37 (by decide) rfl (by first | assumption | exact in32_gB | exact in32_gCmp | (unfold in32; omega)) (fun c37 => ?_) (fun c37 => ?_)
          · refine g_iconst (q := 45) dX6_linksOf_44 rfl ?_
            exact step _ (by first | exact (if_pos c37).symm | exact (if_neg (show ¬ 0 < hs k by omega)).symm)
          · refine g_iconst (q := 41) dX6_linksOf_40 rfl ?_
            refine g_goto (t := 45) dX6_linksOf_41 (by decide) ?_
            exact step _ (by first | exact (if_pos c37).symm | exact (if_neg (show ¬ 0 < hs k by omega)).symm)
      · refine g_sipush (q := 17) dX6_linksOf_14 rfl ?_
        refine g_goto (t := 27) dX6_linksOf_17 (by decide) ?_
        refine g_icmp_ge (t := 53) (q := 30) dX6_linksOf_27 (by decide) rfl (by first | assumption | exact in32_gB | exact in32_gCmp | (unfold in32; omega)) (by first | assumption | exact in32_gB | exact in32_gCmp | (unfold in32; omega)) (fun c27 => ?_) (fun c27 => ?_)
        · exact absurd c27 (by first | (rw [if_pos c11] at h4; omega) | (rw [if_neg c11] at h4; omega))
        · refine g_iload_n (q := 31) dX6_linksOf_30 rfl rfl ?_
          refine g_aload_n (q := 32) dX6_linksOf_31 rfl rfl ?_
          refine gm_get (k := 2) (q := 35) dX6_linksOf_32 q1396 (by decide) rfl rfl ?_
          refine g_iload_n (q := 36) dX6_linksOf_35 rfl rfl ?_
          refine g_iald (q := 37) dX6_linksOf_36 mA2 (by omega) (by omega) rfl ?_
          refine g_if_le (t := 44) (q := 40) dX6_linksOf_37 (by decide) rfl (by first | assumption | exact in32_gB | exact in32_gCmp | (unfold in32; omega)) (fun c37 => ?_) (fun c37 => ?_)
          · refine g_iconst (q := 45) dX6_linksOf_44 rfl ?_
            exact step _ (by first | exact (if_pos c37).symm | exact (if_neg (show ¬ 0 < hs k by omega)).symm)
          · refine g_iconst (q := 41) dX6_linksOf_40 rfl ?_
            refine g_goto (t := 45) dX6_linksOf_41 (by decide) ?_
            exact step _ (by first | exact (if_pos c37).symm | exact (if_neg (show ¬ 0 < hs k by omega)).symm)
  show GO E iX6_linksOf _ _ _ 0 [some (.ref am), some (vI s), none, none] [] _ _
  refine g_iconst (q := 1) dX6_linksOf_0 rfl ?_
  refine g_istore_n (q := 2) dX6_linksOf_1 gs2 rfl ?_
  refine g_sipush (q := 5) dX6_linksOf_2 rfl ?_
  refine g_iload_n (q := 6) dX6_linksOf_5 rfl rfl ?_
  refine g_imul (q := 7) dX6_linksOf_6 rfl ?_
  refine g_istore_n (q := 8) dX6_linksOf_7 gs3 rfl ?_
  exact loop (if s = 3 then 288 else 576) _ 0 (by omega) (by split <;> omega) (by omega) (by omega)
theorem c_links (hh : HSok B hs) (h1 : in32 s) : CALL E iX6_links (d + 1) 0 0 [.ref am, vI s] (mH E G am th w hs si lo bk iW iH iB iL iS tp td fv sz pa fr tk vl fk fp fsh hdt lt kl kn cp cd bp bl md sw nd mn my wd nm mv) (qR (vI (if 0 ≤ s ∧ s ≤ 3 then mLinks hs s else -2)) (mH E G am th w hs si lo bk iW iH iB iL iS tp td fv sz pa fr tk vl fk fp fsh hdt lt kl kn cp cd bp bl md sw nd mn my wd nm mv)) := by
  have h5 := h1.1; have h6 := h1.2
  show GO E iX6_links _ _ _ 0 [some (.ref am), some (vI s)] [] _ _
  refine g_iload_n (q := 1) dX6_links_0 rfl rfl ?_
  refine g_i2l (q := 2) dX6_links_1 (by first | assumption | exact in32_gB | exact in32_gCmp | (unfold in32; omega)) rfl ?_
  refine g_lconst0 (q := 3) dX6_links_2 rfl ?_
  refine g_ldc2 (a := 3) (q := 6) dX6_links_3 q1630 (by decide) rfl ?_
  refine g_cs (I' := iX6_in) (mc := 0) (ms := 0) (rc := 0) (rs := 0) (q := 9) dX6_links_6 q1514 q1515 gcX6_in (c_inM (by unfold in64; omega) (by unfold in64; omega) (by unfold in64; omega)) rfl rfl ?_
  refine g_ifeqB (t := 20) (q := 12) dX6_links_9 (by decide) rfl (fun c9 => ?_) (fun c9 => ?_)
  · refine g_bipush (q := 22) dX6_links_20 rfl ?_
    exact g_iret dX6_links_22 rfl ⟨rI (by first | rw [if_pos c9] | rw [if_neg c9]), rfl⟩
  · refine g_aload_n (q := 13) dX6_links_12 rfl rfl ?_
    refine g_iload_n (q := 14) dX6_links_13 rfl rfl ?_
    refine g_cv (I' := iX6_linksOf) (mc := 0) (ms := 0) (rc := 0) (rs := 0) (ci := 7) (q := 17) dX6_links_14 q1726 q1728 rfl qs72 gcX6_linksOf mO (c_linksOf hh c9.1 c9.2) rfl rfl ?_
    refine g_goto (t := 22) dX6_links_17 (by decide) ?_
    exact g_iret dX6_links_22 rfl ⟨rI (by first | rw [if_pos c9] | rw [if_neg c9]), rfl⟩
theorem c_support (hw : WFw w) (hh : HSok B hs) (h1 : in32 r) (h2 : in32 i) : CALL E iX6_support (d + 2) 0 0 [.ref am, vI r, vI i] (mH E G am th w hs si lo bk iW iH iB iL iS tp td fv sz pa fr tk vl fk fp fsh hdt lt kl kn cp cd bp bl md sw nd mn my wd nm mv) (qR (vI (if (0 ≤ r ∧ r ≤ w 2 - 1) ∧ (0 ≤ i ∧ i ≤ w (34 + 14 * r) - 1) then mSup w hs r i else -2)) (mH E G am th w hs si lo bk iW iH iB iL iS tp td fv sz pa fr tk vl fk fp fsh hdt lt kl kn cp cd bp bl md sw nd mn my wd nm mv)) := by
  have h5 := h1.1; have h6 := h1.2; have h7 := h2.1; have h8 := h2.2
  have h12 := hw.2.1
  show GO E iX6_support _ _ _ 0 [some (.ref am), some (vI r), some (vI i)] [] _ _
  refine g_aload_n (q := 1) dX6_support_0 rfl rfl ?_
  refine g_iload_n (q := 2) dX6_support_1 rfl rfl ?_
  refine g_cv (I' := iX6_isRow) (mc := 0) (ms := 0) (rc := 0) (rs := 0) (ci := 7) (q := 5) dX6_support_2 q1651 q1653 rfl qs60 gcX6_isRow mO (c_isRowM h1 hw.2.1) rfl rfl ?_
  refine g_ifeqB (t := 34) (q := 8) dX6_support_5 (by decide) rfl (fun c5 => ?_) (fun c5 => ?_)
  · refine g_bipush (q := 36) dX6_support_34 rfl ?_
    exact g_iret dX6_support_36 rfl ⟨rI (by first | exact (if_pos (And.intro c5 c22)).symm | exact (if_neg (fun z => c5 z.1)).symm | exact (if_neg (fun z => c22 z.2)).symm), rfl⟩
  · have h20 := hw.row c5.1 (by omega)
    refine g_iload_n (q := 9) dX6_support_8 rfl rfl ?_
    refine g_i2l (q := 10) dX6_support_9 (by first | assumption | exact in32_gB | exact in32_gCmp | (unfold in32; omega)) rfl ?_
    refine g_lconst0 (q := 11) dX6_support_10 rfl ?_
    refine g_aload_n (q := 12) dX6_support_11 rfl rfl ?_
    refine g_iload_n (q := 13) dX6_support_12 rfl rfl ?_
    refine g_cv (I' := iX6_manyOf) (mc := 0) (ms := 0) (rc := 0) (rs := 0) (ci := 7) (q := 16) dX6_support_13 q1660 q1662 rfl qs62 gcX6_manyOf mO (c_manyOf c5.1 (by omega)) rfl rfl ?_
    refine g_iconst (q := 17) dX6_support_16 rfl ?_
    refine g_isub (q := 18) dX6_support_17 rfl ?_
    refine g_i2l (q := 19) dX6_support_18 (by first | assumption | exact in32_gB | exact in32_gCmp | (unfold in32; omega)) rfl ?_
    refine g_cs (I' := iX6_in) (mc := 0) (ms := 0) (rc := 0) (rs := 0) (q := 22) dX6_support_19 q1514 q1515 gcX6_in (c_inM (by unfold in64; omega) (by unfold in64; omega) (by unfold in64; omega)) rfl rfl ?_
    refine g_ifeqB (t := 34) (q := 25) dX6_support_22 (by decide) rfl (fun c22 => ?_) (fun c22 => ?_)
    · refine g_bipush (q := 36) dX6_support_34 rfl ?_
      exact g_iret dX6_support_36 rfl ⟨rI (by first | exact (if_pos (And.intro c5 c22)).symm | exact (if_neg (fun z => c5 z.1)).symm | exact (if_neg (fun z => c22 z.2)).symm), rfl⟩
    · refine g_aload_n (q := 26) dX6_support_25 rfl rfl ?_
      refine g_iload_n (q := 27) dX6_support_26 rfl rfl ?_
      refine g_iload_n (q := 28) dX6_support_27 rfl rfl ?_
      refine g_cv (I' := iX6_supportOf) (mc := 0) (ms := 0) (rc := 0) (rs := 0) (ci := 7) (q := 31) dX6_support_28 q1664 q1666 rfl qs63 gcX6_supportOf mO (c_supportOf (d := d) hw hh c5.1 (by omega) c22.1 (by omega)) rfl rfl ?_
      refine g_goto (t := 36) dX6_support_31 (by decide) ?_
      exact g_iret dX6_support_36 rfl ⟨rI (by first | exact (if_pos (And.intro c5 c22)).symm | exact (if_neg (fun z => c5 z.1)).symm | exact (if_neg (fun z => c22 z.2)).symm), rfl⟩
theorem c_slips (hw : WFw w) (hh : HSok B hs) (h1 : in32 r) : CALL E iX6_slips (d + 3) 0 0 [.ref am, vI r] (mH E G am th w hs si lo bk iW iH iB iL iS tp td fv sz pa fr tk vl fk fp fsh hdt lt kl kn cp cd bp bl md sw nd mn my wd nm mv) (qR (vI (if 0 ≤ r ∧ r ≤ w 2 - 1 then mSlips w hs r else -2)) (mH E G am th w hs si lo bk iW iH iB iL iS tp td fv sz pa fr tk vl fk fp fsh hdt lt kl kn cp cd bp bl md sw nd mn my wd nm mv)) := by
  show GO E iX6_slips _ _ _ 0 [some (.ref am), some (vI r)] [] _ _
  refine g_aload_n (q := 1) dX6_slips_0 rfl rfl ?_
  refine g_iload_n (q := 2) dX6_slips_1 rfl rfl ?_
  refine g_cv (I' := iX6_isRow) (mc := 0) (ms := 0) (rc := 0) (rs := 0) (ci := 7) (q := 5) dX6_slips_2 q1651 q1653 rfl qs60 gcX6_isRow mO (c_isRowM h1 hw.2.1) rfl rfl ?_
  refine g_ifeqB (t := 16) (q := 8) dX6_slips_5 (by decide) rfl (fun c5 => ?_) (fun c5 => ?_)
  · refine g_bipush (q := 18) dX6_slips_16 rfl ?_
    exact g_iret dX6_slips_18 rfl ⟨rI (by first | rw [if_pos c5] | rw [if_neg c5]), rfl⟩
  · refine g_aload_n (q := 9) dX6_slips_8 rfl rfl ?_
    refine g_iload_n (q := 10) dX6_slips_9 rfl rfl ?_
    refine g_cv (I' := iX6_slipsOf) (mc := 0) (ms := 0) (rc := 0) (rs := 0) (ci := 7) (q := 13) dX6_slips_10 q1656 q1658 rfl qs61 gcX6_slipsOf mO (c_slipsOf (d := d) hw hh c5.1 (by omega)) rfl rfl ?_
    refine g_goto (t := 18) dX6_slips_13 (by decide) ?_
    exact g_iret dX6_slips_18 rfl ⟨rI (by first | rw [if_pos c5] | rw [if_neg c5]), rfl⟩
theorem c_law (hw : WFw w) (hh : HSok B hs) (hB : B ≤ 1000000000) (hkl : in32 kl) (hkn : in32 kn) (h1 : in32 what) (h2 : in32 s) (h3 : in32 v) (h4 : in32 b) : CALL E iX6_law (d + 2) 0 0 [.ref am, vI what, vI s, vI v, vI b] (mH E G am th w hs si lo bk iW iH iB iL iS tp td fv sz pa fr tk vl fk fp fsh hdt lt kl kn cp cd bp bl md sw nd mn my wd nm mv) (qR (vL (if (0 ≤ what ∧ what ≤ 2) ∧ (0 ≤ s ∧ s ≤ 3) ∧ (0 ≤ v ∧ v ≤ 1000) ∧ (0 ≤ b ∧ b ≤ w 1 - 1) then (if what = 2 ∧ 0 < s then 0 else comes w hs kl kn (if what = 2 then 8 else 4 * what + s) v (w (10 + b))) else -2000000000)) (mH E G am th w hs si lo bk iW iH iB iL iS tp td fv sz pa fr tk vl fk fp fsh hdt lt kl kn cp cd bp bl md sw nd mn my wd nm mv)) := by
  have g1 := h1.1; have g2 := h1.2; have g3 := h2.1; have g4 := h2.2; have g5 := h3.1; have g6 := h3.2; have g7 := h4.1; have g8 := h4.2
  have hn := hw.1
  show GO E iX6_law _ _ _ 0 [some (.ref am), some (vI what), some (vI s), some (vI v), some (vI b)] [] _ _
  refine g_iload_n (q := 1) dX6_law_0 rfl rfl ?_
  refine g_i2l (q := 2) dX6_law_1 (by first | assumption | exact in32_gB | exact in32_gCmp | (unfold in32; omega)) rfl ?_
  refine g_lconst0 (q := 3) dX6_law_2 rfl ?_
  refine g_ldc2 (a := 2) (q := 6) dX6_law_3 q1513 (by decide) rfl ?_
  refine g_cs (I' := iX6_in) (mc := 0) (ms := 0) (rc := 0) (rs := 0) (q := 9) dX6_law_6 q1514 q1515 gcX6_in (c_inM (by unfold in64; omega) (by unfold in64; omega) (by unfold in64; omega)) rfl rfl ?_
  refine g_ifeqB (t := 45) (q := 12) dX6_law_9 (by decide) rfl (fun c9 => ?_) (fun c9 => ?_)
  · refine g_ldc2 (a := -2000000000) (q := 48) dX6_law_45 q1636 (by decide) rfl ?_
    exact g_lret dX6_law_48 rfl ⟨rL (by first | exact (if_neg (fun z => c9 z.1)).symm | exact (if_neg (fun z => c21 z.2.1)).symm | exact (if_neg (fun z => c33 z.2.2.1)).symm | exact (if_neg (fun z => c42 z.2.2.2)).symm), rfl⟩
  · refine g_iload_n (q := 13) dX6_law_12 rfl rfl ?_
    refine g_i2l (q := 14) dX6_law_13 (by first | assumption | exact in32_gB | exact in32_gCmp | (unfold in32; omega)) rfl ?_
    refine g_lconst0 (q := 15) dX6_law_14 rfl ?_
    refine g_ldc2 (a := 3) (q := 18) dX6_law_15 q1630 (by decide) rfl ?_
    refine g_cs (I' := iX6_in) (mc := 0) (ms := 0) (rc := 0) (rs := 0) (q := 21) dX6_law_18 q1514 q1515 gcX6_in (c_inM (by unfold in64; omega) (by unfold in64; omega) (by unfold in64; omega)) rfl rfl ?_
    refine g_ifeqB (t := 45) (q := 24) dX6_law_21 (by decide) rfl (fun c21 => ?_) (fun c21 => ?_)
    · refine g_ldc2 (a := -2000000000) (q := 48) dX6_law_45 q1636 (by decide) rfl ?_
      exact g_lret dX6_law_48 rfl ⟨rL (by first | exact (if_neg (fun z => c9 z.1)).symm | exact (if_neg (fun z => c21 z.2.1)).symm | exact (if_neg (fun z => c33 z.2.2.1)).symm | exact (if_neg (fun z => c42 z.2.2.2)).symm), rfl⟩
    · refine g_iload_n (q := 25) dX6_law_24 rfl rfl ?_
      refine g_i2l (q := 26) dX6_law_25 (by first | assumption | exact in32_gB | exact in32_gCmp | (unfold in32; omega)) rfl ?_
      refine g_lconst0 (q := 27) dX6_law_26 rfl ?_
      refine g_ldc2 (a := 1000) (q := 30) dX6_law_27 q1631 (by decide) rfl ?_
      refine g_cs (I' := iX6_in) (mc := 0) (ms := 0) (rc := 0) (rs := 0) (q := 33) dX6_law_30 q1514 q1515 gcX6_in (c_inM (by unfold in64; omega) (by unfold in64; omega) (by unfold in64; omega)) rfl rfl ?_
      refine g_ifeqB (t := 45) (q := 36) dX6_law_33 (by decide) rfl (fun c33 => ?_) (fun c33 => ?_)
      · refine g_ldc2 (a := -2000000000) (q := 48) dX6_law_45 q1636 (by decide) rfl ?_
        exact g_lret dX6_law_48 rfl ⟨rL (by first | exact (if_neg (fun z => c9 z.1)).symm | exact (if_neg (fun z => c21 z.2.1)).symm | exact (if_neg (fun z => c33 z.2.2.1)).symm | exact (if_neg (fun z => c42 z.2.2.2)).symm), rfl⟩
      · refine g_aload_n (q := 37) dX6_law_36 rfl rfl ?_
        refine g_iload (q := 39) dX6_law_37 rfl rfl ?_
        refine g_cv (I' := iX6_isThing) (mc := 0) (ms := 0) (rc := 0) (rs := 0) (ci := 7) (q := 42) dX6_law_39 q1632 q1634 rfl qs57 gcX6_isThing mO (c_isThingM h4 hw.1) rfl rfl ?_
        refine g_ifneB (t := 49) (q := 45) dX6_law_42 (by decide) rfl (fun c42 => ?_) (fun c42 => ?_)
        · refine g_iload_n (q := 50) dX6_law_49 rfl rfl ?_
          refine g_iconst (q := 51) dX6_law_50 rfl ?_
          refine g_icmp_ne (t := 60) (q := 54) dX6_law_51 (by decide) rfl (by first | assumption | exact in32_gB | exact in32_gCmp | (unfold in32; omega)) (by first | assumption | exact in32_gB | exact in32_gCmp | (unfold in32; omega)) (fun c51 => ?_) (fun c51 => ?_)
          · refine g_aload_n (q := 61) dX6_law_60 rfl rfl ?_
            refine g_iload_n (q := 62) dX6_law_61 rfl rfl ?_
            refine g_iconst (q := 63) dX6_law_62 rfl ?_
            refine g_icmp_ne (t := 71) (q := 66) dX6_law_63 (by decide) rfl (by first | assumption | exact in32_gB | exact in32_gCmp | (unfold in32; omega)) (by first | assumption | exact in32_gB | exact in32_gCmp | (unfold in32; omega)) (fun c63 => ?_) (fun c63 => ?_)
            · refine g_iconst (q := 72) dX6_law_71 rfl ?_
              refine g_iload_n (q := 73) dX6_law_72 rfl rfl ?_
              refine g_imul (q := 74) dX6_law_73 rfl ?_
              refine g_iload_n (q := 75) dX6_law_74 rfl rfl ?_
              refine g_iadd (q := 76) dX6_law_75 rfl ?_
              refine g_iload_n (q := 77) dX6_law_76 rfl rfl ?_
              refine g_aload_n (q := 78) dX6_law_77 rfl rfl ?_
              refine gm_get (k := 1) (q := 81) dX6_law_78 q1395 (by decide) rfl rfl ?_
              refine g_bipush (q := 83) dX6_law_81 rfl ?_
              refine g_iload (q := 85) dX6_law_83 rfl rfl ?_
              refine g_iadd (q := 86) dX6_law_85 rfl ?_
              refine g_iald (q := 87) dX6_law_86 mA1 (by omega) (by omega) rfl ?_
              refine g_cv (I' := iX6_comesTo) (mc := 0) (ms := 0) (rc := 0) (rs := 0) (ci := 7) (q := 90) dX6_law_87 q1637 q1639 rfl qs58 gcX6_comesTo mO (c_comesTo (d := d) hw hh hB (by omega) (by omega) hkl hkn c33 (hw.easy c42.1 (by omega))) rfl rfl ?_
              exact g_lret dX6_law_90 rfl ⟨rL (by rw [if_pos ⟨c9, c21, c33, c42⟩, if_neg (by omega)]; first | exact absurd c63 c51 | exact absurd c51 c63 | rw [if_pos c63] | rw [if_neg c63]), rfl⟩
            · refine g_bipush (q := 68) dX6_law_66 rfl ?_
              refine g_goto (t := 76) dX6_law_68 (by decide) ?_
              refine g_iload_n (q := 77) dX6_law_76 rfl rfl ?_
              refine g_aload_n (q := 78) dX6_law_77 rfl rfl ?_
              refine gm_get (k := 1) (q := 81) dX6_law_78 q1395 (by decide) rfl rfl ?_
              refine g_bipush (q := 83) dX6_law_81 rfl ?_
              refine g_iload (q := 85) dX6_law_83 rfl rfl ?_
              refine g_iadd (q := 86) dX6_law_85 rfl ?_
              refine g_iald (q := 87) dX6_law_86 mA1 (by omega) (by omega) rfl ?_
              refine g_cv (I' := iX6_comesTo) (mc := 0) (ms := 0) (rc := 0) (rs := 0) (ci := 7) (q := 90) dX6_law_87 q1637 q1639 rfl qs58 gcX6_comesTo mO (c_comesTo (d := d) hw hh hB (by omega) (by omega) hkl hkn c33 (hw.easy c42.1 (by omega))) rfl rfl ?_
              exact g_lret dX6_law_90 rfl ⟨rL (by rw [if_pos ⟨c9, c21, c33, c42⟩, if_neg (by omega)]; first | exact absurd c63 c51 | exact absurd c51 c63 | rw [if_pos c63] | rw [if_neg c63]), rfl⟩
          · refine g_iload_n (q := 55) dX6_law_54 rfl rfl ?_
            refine g_if_le (t := 60) (q := 58) dX6_law_55 (by decide) rfl (by first | assumption | exact in32_gB | exact in32_gCmp | (unfold in32; omega)) (fun c55 => ?_) (fun c55 => ?_)
            · refine g_aload_n (q := 61) dX6_law_60 rfl rfl ?_
              refine g_iload_n (q := 62) dX6_law_61 rfl rfl ?_
              refine g_iconst (q := 63) dX6_law_62 rfl ?_
              refine g_icmp_ne (t := 71) (q := 66) dX6_law_63 (by decide) rfl (by first | assumption | exact in32_gB | exact in32_gCmp | (unfold in32; omega)) (by first | assumption | exact in32_gB | exact in32_gCmp | (unfold in32; omega)) (fun c63 => ?_) (fun c63 => ?_)
              · refine g_iconst (q := 72) dX6_law_71 rfl ?_
                refine g_iload_n (q := 73) dX6_law_72 rfl rfl ?_
                refine g_imul (q := 74) dX6_law_73 rfl ?_
                refine g_iload_n (q := 75) dX6_law_74 rfl rfl ?_
                refine g_iadd (q := 76) dX6_law_75 rfl ?_
                refine g_iload_n (q := 77) dX6_law_76 rfl rfl ?_
                refine g_aload_n (q := 78) dX6_law_77 rfl rfl ?_
                refine gm_get (k := 1) (q := 81) dX6_law_78 q1395 (by decide) rfl rfl ?_
                refine g_bipush (q := 83) dX6_law_81 rfl ?_
                refine g_iload (q := 85) dX6_law_83 rfl rfl ?_
                refine g_iadd (q := 86) dX6_law_85 rfl ?_
                refine g_iald (q := 87) dX6_law_86 mA1 (by omega) (by omega) rfl ?_
                refine g_cv (I' := iX6_comesTo) (mc := 0) (ms := 0) (rc := 0) (rs := 0) (ci := 7) (q := 90) dX6_law_87 q1637 q1639 rfl qs58 gcX6_comesTo mO (c_comesTo (d := d) hw hh hB (by omega) (by omega) hkl hkn c33 (hw.easy c42.1 (by omega))) rfl rfl ?_
                exact g_lret dX6_law_90 rfl ⟨rL (by rw [if_pos ⟨c9, c21, c33, c42⟩, if_neg (by omega)]; first | exact absurd c63 c51 | exact absurd c51 c63 | rw [if_pos c63] | rw [if_neg c63]), rfl⟩
              · refine g_bipush (q := 68) dX6_law_66 rfl ?_
                refine g_goto (t := 76) dX6_law_68 (by decide) ?_
                refine g_iload_n (q := 77) dX6_law_76 rfl rfl ?_
                refine g_aload_n (q := 78) dX6_law_77 rfl rfl ?_
                refine gm_get (k := 1) (q := 81) dX6_law_78 q1395 (by decide) rfl rfl ?_
                refine g_bipush (q := 83) dX6_law_81 rfl ?_
                refine g_iload (q := 85) dX6_law_83 rfl rfl ?_
                refine g_iadd (q := 86) dX6_law_85 rfl ?_
                refine g_iald (q := 87) dX6_law_86 mA1 (by omega) (by omega) rfl ?_
                refine g_cv (I' := iX6_comesTo) (mc := 0) (ms := 0) (rc := 0) (rs := 0) (ci := 7) (q := 90) dX6_law_87 q1637 q1639 rfl qs58 gcX6_comesTo mO (c_comesTo (d := d) hw hh hB (by omega) (by omega) hkl hkn c33 (hw.easy c42.1 (by omega))) rfl rfl ?_
                exact g_lret dX6_law_90 rfl ⟨rL (by rw [if_pos ⟨c9, c21, c33, c42⟩, if_neg (by omega)]; first | exact absurd c63 c51 | exact absurd c51 c63 | rw [if_pos c63] | rw [if_neg c63]), rfl⟩
            · refine g_lconst0 (q := 59) dX6_law_58 rfl ?_
              exact g_lret dX6_law_59 rfl ⟨rL (by rw [if_pos ⟨c9, c21, c33, c42⟩, if_pos ⟨c51, c55⟩]), rfl⟩
        · refine g_ldc2 (a := -2000000000) (q := 48) dX6_law_45 q1636 (by decide) rfl ?_
          exact g_lret dX6_law_48 rfl ⟨rL (by first | exact (if_neg (fun z => c9 z.1)).symm | exact (if_neg (fun z => c21 z.2.1)).symm | exact (if_neg (fun z => c33 z.2.2.1)).symm | exact (if_neg (fun z => c42 z.2.2.2)).symm), rfl⟩
end
