/-! THE REFERENCE: what would be -/
set_option maxRecDepth 100000
def goneL (w : Int → Int) (kl kn r : Int) : Nat → Int → (Int → Int) → Int
  | 0, _, _ => -1
  | f + 1, h, hs => if orM (mLearns w hs kl kn r).1 < orM (mLearns w (mZero hs) kl kn r).1 then goneL w kl kn r f (h + 1) (mHour w hs kl kn) else h
def whenL (w : Int → Int) (kl kn r : Int) : Nat → Int → Int → Int → (Int → Int) → Int
  | 0, _, best, _, _ => best
  | f + 1, h, best, least, hs => if least ≤ orM (mLearns w hs kl kn r).1 then whenL w kl kn r f (h + 1) best least (mHour w hs kl kn) else whenL w kl kn r f (h + 1) h (orM (mLearns w hs kl kn r).1) (mHour w hs kl kn)
def mWithout (w hs : Int → Int) (kl kn r s : Int) : Int := (mLearns (upI w (5 + s) 0) hs kl kn r).1
def betI (o p n : Int) : Int := if o = -1 ∨ p = -1 ∨ n = -1 then -2000000000 else n - p
def mBetween (w hs : Int → Int) (kl kn r r2 v : Int) : Int := betI (mLearns w hs kl kn r2).1 (mLearns w (mHours w kl kn v.toNat hs) kl kn r).1 (mLearns w (mHours w kl kn v.toNat (mLearns w hs kl kn r2).2) kl kn r).1
theorem WFw.noLean {w : Int → Int} {s : Int} (h : WFw w) (h0 : 0 ≤ s) (h1 : s ≤ 3) : WFw (upI w (5 + s) 0) := by
  obtain ⟨a1, a2, a3, a4, a5, a6, a7, a8, a9⟩ := h
  have n1 : upI w (5 + s) 0 1 = w 1 := upI_ne (by omega)
  have n2 : upI w (5 + s) 0 2 = w 2 := upI_ne (by omega)
  refine ⟨by rw [n1]; exact a1, by rw [n2]; exact a2, by rw [upI_ne (by omega)]; exact a3, by rw [upI_ne (by omega)]; exact a4, fun t b1 b2 => ?_, fun t b1 b2 => by rw [upI_ne (by omega)]; exact a6 t b1 b2, fun r b1 b2 => ?_, fun l b1 b2 => ?_, fun k b1 b2 => ?_⟩
  · by_cases e : t = s
    · subst e; rw [upI_at]; omega
    · rw [upI_ne (by omega)]; exact a5 t b1 b2
  · rw [n2] at b2
    rw [upI_ne (by omega), n1]
    exact ⟨(a7 r b1 b2).1, fun i c1 c2 => by rw [upI_ne (by omega)]; exact (a7 r b1 b2).2 i c1 c2⟩
  · rw [upI_ne (by omega), upI_ne (by omega)]; exact a8 l b1 b2
  · rw [upI_ne (by omega), upI_ne (by omega), upI_ne (by omega)]; exact a9 k b1 b2
theorem lrn32 {B : Int} {w hs : Int → Int} {kl kn r : Int} (hw : WFw w) (hr : 0 ≤ r) (hr1 : r < w 2) (h : HSok B hs) : -1 ≤ (mLearns w hs kl kn r).1 ∧ (mLearns w hs kl kn r).1 ≤ 40 ∧ ¬ (mLearns w hs kl kn r).1 = 0 := by
  have := (mLearns_ok (kl := kl) (kn := kn) hw hr hr1 h).2
  omega
theorem orM_in {n : Int} (h : -1 ≤ n ∧ n ≤ 40) : 0 ≤ orM n ∧ orM n ≤ 41 := by unfold orM; split <;> omega
section
variable {E : gE} {d rc rs am : Nat} {G : gH}
variable {th si lo td sz pa fr tk vl fk fp hdt kl kn cd bp bl : Int} {w hs bk iW iH iB iL iS tp fv fsh lt cp md sw nd mn my wd nm mv : Int → Int}
variable {s a b r r2 i k v e B c n : Int} {Q : Outcome → gH → Prop}
theorem c_needs (hw : WFw w) (hh : HSok B hs) (hB : B ≤ 900000000) (hkl : in32 kl) (hkn : in32 kn) (h1 : in32 r) : CALL E iX6_needs (d + 6) 0 0 [.ref am, vI r] (mH E G am th w hs si lo bk iW iH iB iL iS tp td fv sz pa fr tk vl fk fp fsh hdt lt kl kn cp 0 bp bl md sw nd mn my wd nm mv) (qS (if 0 ≤ r ∧ r ≤ w 2 - 1 then (mLearns w hs kl kn r).1 else -2) fun y => (mH E G am th w hs si lo bk iW iH iB iL iS tp td fv sz pa fr tk vl fk fp fsh hdt lt kl kn y 0 bp bl md sw nd mn my wd nm mv)) := by
  show GO E iX6_needs _ _ _ 0 [some (.ref am), some (vI r)] [] _ _
  refine g_aload_n (q := 1) dX6_needs_0 rfl rfl ?_
  refine g_iload_n (q := 2) dX6_needs_1 rfl rfl ?_
  refine g_cv (I' := iX6_isRow) (mc := 0) (ms := 0) (rc := 0) (rs := 0) (ci := 7) (q := 5) dX6_needs_2 q1651 q1653 rfl qs60 gcX6_isRow mO (c_isRowM h1 hw.2.1) rfl rfl ?_
  refine g_ifeqB (t := 16) (q := 8) dX6_needs_5 (by decide) rfl (fun c5 => ?_) (fun c5 => ?_)
  · refine g_bipush (q := 18) dX6_needs_16 rfl ?_
    exact g_iret dX6_needs_18 rfl ⟨rI (by first | exact (if_pos c5).symm | exact (if_neg c5).symm), _, rfl⟩
  · refine g_aload_n (q := 9) dX6_needs_8 rfl rfl ?_
    refine g_iload_n (q := 10) dX6_needs_9 rfl rfl ?_
    refine g_cv (I' := iX6_needsOf) (mc := 0) (ms := 0) (rc := 0) (rs := 0) (ci := 7) (q := 13) dX6_needs_10 q1742 q1744 rfl qs73 gcX6_needsOf mO (c_needsOf (d := d) hw hh hB hkl hkn c5.1 (by omega) (by omega) (by omega)) rfl rfl ?_
    refine g_goto (t := 18) dX6_needs_13 (by decide) ?_
    exact g_iret dX6_needs_18 rfl ⟨rI (by first | exact (if_pos c5).symm | exact (if_neg c5).symm), _, rfl⟩
theorem c_fresh (hw : WFw w) (hh : HSok B hs) (hB0 : 0 ≤ B) (hB : B ≤ 900000000) (hkl : in32 kl) (hkn : in32 kn) (h1 : in32 r) : CALL E iX6_fresh (d + 6) 0 0 [.ref am, vI r] (mH E G am th w hs si lo bk iW iH iB iL iS tp td fv sz pa fr tk vl fk fp fsh hdt lt kl kn cp 0 bp bl md sw nd mn my wd nm mv) (qS (if 0 ≤ r ∧ r ≤ w 2 - 1 then (mLearns w (mZero hs) kl kn r).1 else -2) fun y => (mH E G am th w hs si lo bk iW iH iB iL iS tp td fv sz pa fr tk vl fk fp fsh hdt lt kl kn y 0 bp bl md sw nd mn my wd nm mv)) := by
  show GO E iX6_fresh _ _ _ 0 [some (.ref am), some (vI r)] [] _ _
  refine g_aload_n (q := 1) dX6_fresh_0 rfl rfl ?_
  refine g_iload_n (q := 2) dX6_fresh_1 rfl rfl ?_
  refine g_cv (I' := iX6_isRow) (mc := 0) (ms := 0) (rc := 0) (rs := 0) (ci := 7) (q := 5) dX6_fresh_2 q1651 q1653 rfl qs60 gcX6_isRow mO (c_isRowM h1 hw.2.1) rfl rfl ?_
  refine g_ifeqB (t := 16) (q := 8) dX6_fresh_5 (by decide) rfl (fun c5 => ?_) (fun c5 => ?_)
  · refine g_bipush (q := 18) dX6_fresh_16 rfl ?_
    exact g_iret dX6_fresh_18 rfl ⟨rI (by first | exact (if_pos c5).symm | exact (if_neg c5).symm), _, rfl⟩
  · refine g_aload_n (q := 9) dX6_fresh_8 rfl rfl ?_
    refine g_iload_n (q := 10) dX6_fresh_9 rfl rfl ?_
    refine g_cv (I' := iX6_freshOf) (mc := 0) (ms := 0) (rc := 0) (rs := 0) (ci := 7) (q := 13) dX6_fresh_10 q1758 q1760 rfl qs76 gcX6_freshOf mO (c_freshOf (d := d) hw hh hB0 hB hkl hkn c5.1 (by omega) (by omega) (by omega)) rfl rfl ?_
    refine g_goto (t := 18) dX6_fresh_13 (by decide) ?_
    exact g_iret dX6_fresh_18 rfl ⟨rI (by first | exact (if_pos c5).symm | exact (if_neg c5).symm), _, rfl⟩
theorem c_saving (hw : WFw w) (hh : HSok B hs) (hB0 : 0 ≤ B) (hB : B ≤ 900000000) (hkl : in32 kl) (hkn : in32 kn) (h1 : in32 r) : CALL E iX6_saving (d + 6) 0 0 [.ref am, vI r] (mH E G am th w hs si lo bk iW iH iB iL iS tp td fv sz pa fr tk vl fk fp fsh hdt lt kl kn cp 0 bp bl md sw nd mn my wd nm mv) (qS (if 0 ≤ r ∧ r ≤ w 2 - 1 then savI (mLearns w (mZero hs) kl kn r).1 (mLearns w hs kl kn r).1 else -2000000000) fun y => (mH E G am th w hs si lo bk iW iH iB iL iS tp td fv sz pa fr tk vl fk fp fsh hdt lt kl kn y 0 bp bl md sw nd mn my wd nm mv)) := by
  by_cases z : 0 ≤ r ∧ r ≤ w 2 - 1
  · have l1 := lrn32 (kl := kl) (kn := kn) hw z.1 (by omega) hh
    have l2 := lrn32 (kl := kl) (kn := kn) hw z.1 (by omega) (hh.zero hB0)
    rw [if_pos z]
    unfold savI
    show GO E iX6_saving _ _ _ 0 [some (.ref am), some (vI r), none, none] [] _ _
    refine g_aload_n (q := 1) dX6_saving_0 rfl rfl ?_
    refine g_iload_n (q := 2) dX6_saving_1 rfl rfl ?_
    refine g_cv (I' := iX6_isRow) (mc := 0) (ms := 0) (rc := 0) (rs := 0) (ci := 7) (q := 5) dX6_saving_2 q1651 q1653 rfl qs60 gcX6_isRow mO (c_isRowM h1 hw.2.1) rfl rfl ?_
    refine g_ifneB (t := 12) (q := 8) dX6_saving_5 (by decide) rfl (fun c5 => ?_) (fun c5 => ?_)
    · refine g_aload_n (q := 13) dX6_saving_12 rfl rfl ?_
      refine g_iload_n (q := 14) dX6_saving_13 rfl rfl ?_
      refine g_cv (I' := iX6_freshOf) (mc := 0) (ms := 0) (rc := 0) (rs := 0) (ci := 7) (q := 17) dX6_saving_14 q1758 q1760 rfl qs76 gcX6_freshOf mO (c_freshOf (d := d) hw hh hB0 hB hkl hkn z.1 (by omega) (by omega) (by omega)) rfl rfl ?_
      refine g_istore_n (q := 18) dX6_saving_17 gs2 rfl ?_
      refine g_aload_n (q := 19) dX6_saving_18 rfl rfl ?_
      refine g_iload_n (q := 20) dX6_saving_19 rfl rfl ?_
      refine g_cv (I' := iX6_needsOf) (mc := 0) (ms := 0) (rc := 0) (rs := 0) (ci := 7) (q := 23) dX6_saving_20 q1742 q1744 rfl qs73 gcX6_needsOf mO (c_needsOf (d := d) hw hh hB hkl hkn z.1 (by omega) (by omega) (by omega)) rfl rfl ?_
      refine g_istore_n (q := 24) dX6_saving_23 gs3 rfl ?_
      refine g_iload_n (q := 25) dX6_saving_24 rfl rfl ?_
      refine g_iconst (q := 26) dX6_saving_25 rfl ?_
      refine g_icmp_lt (t := 34) (q := 29) dX6_saving_26 (by decide) rfl (by first | assumption | exact in32_gB | exact in32_gCmp | (unfold in32; omega)) (by first | assumption | exact in32_gB | exact in32_gCmp | (unfold in32; omega)) (fun c26 => ?_) (fun c26 => ?_)
      · refine g_ldcw (a := -2000000000) (q := 37) dX6_saving_34 q1766 (by decide) rfl ?_
        refine g_goto (t := 49) dX6_saving_37 (by decide) ?_
        exact g_iret dX6_saving_49 rfl ⟨rI (by first | exact (if_pos (by omega)).symm | exact (if_neg (by omega)).symm), _, rfl⟩
      · refine g_iload_n (q := 30) dX6_saving_29 rfl rfl ?_
        refine g_iconst (q := 31) dX6_saving_30 rfl ?_
        refine g_icmp_ne (t := 40) (q := 34) dX6_saving_31 (by decide) rfl (by first | assumption | exact in32_gB | exact in32_gCmp | (unfold in32; omega)) (by first | assumption | exact in32_gB | exact in32_gCmp | (unfold in32; omega)) (fun c31 => ?_) (fun c31 => ?_)
        · refine g_sipush (q := 43) dX6_saving_40 rfl ?_
          refine g_iload_n (q := 44) dX6_saving_43 rfl rfl ?_
          refine g_iload_n (q := 45) dX6_saving_44 rfl rfl ?_
          refine g_isub (q := 46) dX6_saving_45 rfl ?_
          refine g_imul (q := 47) dX6_saving_46 rfl ?_
          refine g_iload_n (q := 48) dX6_saving_47 rfl rfl ?_
          refine g_idiv (q := 49) dX6_saving_48 (by unfold in32; omega) (by unfold in32; omega) (by omega) rfl ?_
          exact g_iret dX6_saving_49 rfl ⟨rI (by first | exact (if_pos (by omega)).symm | exact (if_neg (by omega)).symm), _, rfl⟩
        · refine g_ldcw (a := -2000000000) (q := 37) dX6_saving_34 q1766 (by decide) rfl ?_
          refine g_goto (t := 49) dX6_saving_37 (by decide) ?_
          exact g_iret dX6_saving_49 rfl ⟨rI (by first | exact (if_pos (by omega)).symm | exact (if_neg (by omega)).symm), _, rfl⟩
    · exact absurd z c5
  · rw [if_neg z]
    show GO E iX6_saving _ _ _ 0 [some (.ref am), some (vI r), none, none] [] _ _
    refine g_aload_n (q := 1) dX6_saving_0 rfl rfl ?_
    refine g_iload_n (q := 2) dX6_saving_1 rfl rfl ?_
    refine g_cv (I' := iX6_isRow) (mc := 0) (ms := 0) (rc := 0) (rs := 0) (ci := 7) (q := 5) dX6_saving_2 q1651 q1653 rfl qs60 gcX6_isRow mO (c_isRowM h1 hw.2.1) rfl rfl ?_
    refine g_ifneB (t := 12) (q := 8) dX6_saving_5 (by decide) rfl (fun c5 => ?_) (fun c5 => ?_)
    · exact absurd c5 z
    · refine g_ldcw (a := -2000000000) (q := 11) dX6_saving_8 q1766 (by decide) rfl ?_
      exact g_iret dX6_saving_11 rfl ⟨rfl, _, rfl⟩
theorem c_verse (hw : WFw w) (hh : HSok B hs) (hB0 : 0 ≤ B) (hB : B ≤ 900000000) (hkl : in32 kl) (hkn : in32 kn) (h1 : in32 r) (h2 : in32 r2) : CALL E iX6_verse (d + 6) 0 0 [.ref am, vI r, vI r2] (mH E G am th w hs si lo bk iW iH iB iL iS tp td fv sz pa fr tk vl fk fp fsh hdt lt kl kn cp 0 bp bl md sw nd mn my wd nm mv) (qS (if (0 ≤ r ∧ r ≤ w 2 - 1) ∧ (0 ≤ r2 ∧ r2 ≤ w 2 - 1) then verI (mLearns w (mZero hs) kl kn r).1 (mLearns w (mZero hs) kl kn r2).1 else -2000000000) fun y => (mH E G am th w hs si lo bk iW iH iB iL iS tp td fv sz pa fr tk vl fk fp fsh hdt lt kl kn y 0 bp bl md sw nd mn my wd nm mv)) := by
  by_cases z : (0 ≤ r ∧ r ≤ w 2 - 1) ∧ (0 ≤ r2 ∧ r2 ≤ w 2 - 1)
  · have l1 := lrn32 (kl := kl) (kn := kn) hw z.1.1 (by omega) (hh.zero hB0)
    have l2 := lrn32 (kl := kl) (kn := kn) hw z.2.1 (by omega) (hh.zero hB0)
    rw [if_pos z]
    unfold verI
    show GO E iX6_verse _ _ _ 0 [some (.ref am), some (vI r), some (vI r2), none, none] [] _ _
    refine g_aload_n (q := 1) dX6_verse_0 rfl rfl ?_
    refine g_iload_n (q := 2) dX6_verse_1 rfl rfl ?_
    refine g_cv (I' := iX6_isRow) (mc := 0) (ms := 0) (rc := 0) (rs := 0) (ci := 7) (q := 5) dX6_verse_2 q1651 q1653 rfl qs60 gcX6_isRow mO (c_isRowM h1 hw.2.1) rfl rfl ?_
    refine g_ifeqB (t := 16) (q := 8) dX6_verse_5 (by decide) rfl (fun c5 => ?_) (fun c5 => ?_)
    · exact absurd z.1 c5
    · refine g_aload_n (q := 9) dX6_verse_8 rfl rfl ?_
      refine g_iload_n (q := 10) dX6_verse_9 rfl rfl ?_
      refine g_cv (I' := iX6_isRow) (mc := 0) (ms := 0) (rc := 0) (rs := 0) (ci := 7) (q := 13) dX6_verse_10 q1651 q1653 rfl qs60 gcX6_isRow mO (c_isRowM h2 hw.2.1) rfl rfl ?_
      refine g_ifneB (t := 20) (q := 16) dX6_verse_13 (by decide) rfl (fun c13 => ?_) (fun c13 => ?_)
      · refine g_aload_n (q := 21) dX6_verse_20 rfl rfl ?_
        refine g_iload_n (q := 22) dX6_verse_21 rfl rfl ?_
        refine g_cv (I' := iX6_freshOf) (mc := 0) (ms := 0) (rc := 0) (rs := 0) (ci := 7) (q := 25) dX6_verse_22 q1758 q1760 rfl qs76 gcX6_freshOf mO (c_freshOf (d := d) hw hh hB0 hB hkl hkn z.1.1 (by omega) (by omega) (by omega)) rfl rfl ?_
        refine g_istore_n (q := 26) dX6_verse_25 gs3 rfl ?_
        refine g_aload_n (q := 27) dX6_verse_26 rfl rfl ?_
        refine g_iload_n (q := 28) dX6_verse_27 rfl rfl ?_
        refine g_cv (I' := iX6_freshOf) (mc := 0) (ms := 0) (rc := 0) (rs := 0) (ci := 7) (q := 31) dX6_verse_28 q1758 q1760 rfl qs76 gcX6_freshOf mO (c_freshOf (d := d) hw hh hB0 hB hkl hkn z.2.1 (by omega) (by omega) (by omega)) rfl rfl ?_
        refine g_istore (q := 33) dX6_verse_31 gs4 rfl ?_
        refine g_iload_n (q := 34) dX6_verse_33 rfl rfl ?_
        refine g_iconst (q := 35) dX6_verse_34 rfl ?_
        refine g_icmp_eq (t := 44) (q := 38) dX6_verse_35 (by decide) rfl (by first | assumption | exact in32_gB | exact in32_gCmp | (unfold in32; omega)) (by first | assumption | exact in32_gB | exact in32_gCmp | (unfold in32; omega)) (fun c35 => ?_) (fun c35 => ?_)
        · refine g_ldcw (a := -2000000000) (q := 47) dX6_verse_44 q1766 (by decide) rfl ?_
          refine g_goto (t := 58) dX6_verse_47 (by decide) ?_
          exact g_iret dX6_verse_58 rfl ⟨rI (by first | exact (if_pos (by omega)).symm | exact (if_neg (by omega)).symm), _, rfl⟩
        · refine g_iload (q := 40) dX6_verse_38 rfl rfl ?_
          refine g_iconst (q := 41) dX6_verse_40 rfl ?_
          refine g_icmp_ne (t := 50) (q := 44) dX6_verse_41 (by decide) rfl (by first | assumption | exact in32_gB | exact in32_gCmp | (unfold in32; omega)) (by first | assumption | exact in32_gB | exact in32_gCmp | (unfold in32; omega)) (fun c41 => ?_) (fun c41 => ?_)
          · refine g_sipush (q := 53) dX6_verse_50 rfl ?_
            refine g_iload_n (q := 54) dX6_verse_53 rfl rfl ?_
            refine g_imul (q := 55) dX6_verse_54 rfl ?_
            refine g_iload (q := 57) dX6_verse_55 rfl rfl ?_
            refine g_idiv (q := 58) dX6_verse_57 (by unfold in32; omega) (by unfold in32; omega) (by omega) rfl ?_
            exact g_iret dX6_verse_58 rfl ⟨rI (by first | exact (if_pos (by omega)).symm | exact (if_neg (by omega)).symm), _, rfl⟩
          · refine g_ldcw (a := -2000000000) (q := 47) dX6_verse_44 q1766 (by decide) rfl ?_
            refine g_goto (t := 58) dX6_verse_47 (by decide) ?_
            exact g_iret dX6_verse_58 rfl ⟨rI (by first | exact (if_pos (by omega)).symm | exact (if_neg (by omega)).symm), _, rfl⟩
      · exact absurd z.2 c13
  · rw [if_neg z]
    show GO E iX6_verse _ _ _ 0 [some (.ref am), some (vI r), some (vI r2), none, none] [] _ _
    refine g_aload_n (q := 1) dX6_verse_0 rfl rfl ?_
    refine g_iload_n (q := 2) dX6_verse_1 rfl rfl ?_
    refine g_cv (I' := iX6_isRow) (mc := 0) (ms := 0) (rc := 0) (rs := 0) (ci := 7) (q := 5) dX6_verse_2 q1651 q1653 rfl qs60 gcX6_isRow mO (c_isRowM h1 hw.2.1) rfl rfl ?_
    refine g_ifeqB (t := 16) (q := 8) dX6_verse_5 (by decide) rfl (fun c5 => ?_) (fun c5 => ?_)
    · refine g_ldcw (a := -2000000000) (q := 19) dX6_verse_16 q1766 (by decide) rfl ?_
      exact g_iret dX6_verse_19 rfl ⟨rfl, _, rfl⟩
    · refine g_aload_n (q := 9) dX6_verse_8 rfl rfl ?_
      refine g_iload_n (q := 10) dX6_verse_9 rfl rfl ?_
      refine g_cv (I' := iX6_isRow) (mc := 0) (ms := 0) (rc := 0) (rs := 0) (ci := 7) (q := 13) dX6_verse_10 q1651 q1653 rfl qs60 gcX6_isRow mO (c_isRowM h2 hw.2.1) rfl rfl ?_
      refine g_ifneB (t := 20) (q := 16) dX6_verse_13 (by decide) rfl (fun c13 => ?_) (fun c13 => ?_)
      · exact absurd ⟨c5, c13⟩ z
      · refine g_ldcw (a := -2000000000) (q := 19) dX6_verse_16 q1766 (by decide) rfl ?_
        exact g_iret dX6_verse_19 rfl ⟨rfl, _, rfl⟩
theorem c_after (hw : WFw w) (hh : HSok B hs) (hB0 : 0 ≤ B) (hB : B ≤ 800000000) (hkl : in32 kl) (hkn : in32 kn) (h1 : in32 r) (h2 : in32 v) : CALL E iX6_after (d + 6) 0 0 [.ref am, vI r, vI v] (mH E G am th w hs si lo bk iW iH iB iL iS tp td fv sz pa fr tk vl fk fp fsh hdt lt kl kn cp 0 bp bl md sw nd mn my wd nm mv) (qS (if (0 ≤ r ∧ r ≤ w 2 - 1) ∧ (0 ≤ v ∧ v ≤ 200) then (mLearns w (mHours w kl kn v.toNat hs) kl kn r).1 else -2) fun y => (mH E G am th w hs si lo bk iW iH iB iL iS tp td fv sz pa fr tk vl fk fp fsh hdt lt kl kn y 0 bp bl md sw nd mn my wd nm mv)) := by
  have h7 := h2.1
  have h8 := h2.2
  by_cases z : (0 ≤ r ∧ r ≤ w 2 - 1) ∧ (0 ≤ v ∧ v ≤ 200)
  · have hx := HSok.hours (kl := kl) (kn := kn) hw v.toNat B hs hh hB0
    rw [if_pos z]
    show GO E iX6_after _ _ _ 0 [some (.ref am), some (vI r), some (vI v), none] [] _ _
    refine g_aload_n (q := 1) dX6_after_0 rfl rfl ?_
    refine g_iload_n (q := 2) dX6_after_1 rfl rfl ?_
    refine g_cv (I' := iX6_isRow) (mc := 0) (ms := 0) (rc := 0) (rs := 0) (ci := 7) (q := 5) dX6_after_2 q1651 q1653 rfl qs60 gcX6_isRow mO (c_isRowM h1 hw.2.1) rfl rfl ?_
    refine g_ifeqB (t := 20) (q := 8) dX6_after_5 (by decide) rfl (fun c5 => ?_) (fun c5 => ?_)
    · exact absurd z.1 c5
    · refine g_iload_n (q := 9) dX6_after_8 rfl rfl ?_
      refine g_i2l (q := 10) dX6_after_9 (by first | assumption | exact in32_gB | exact in32_gCmp | (unfold in32; omega)) rfl ?_
      refine g_lconst0 (q := 11) dX6_after_10 rfl ?_
      refine g_ldc2 (a := 200) (q := 14) dX6_after_11 q1708 (by decide) rfl ?_
      refine g_cs (I' := iX6_in) (mc := 0) (ms := 0) (rc := 0) (rs := 0) (q := 17) dX6_after_14 q1514 q1515 gcX6_in (c_inM (by unfold in64; omega) (by unfold in64; omega) (by unfold in64; omega)) rfl rfl ?_
      refine g_ifneB (t := 23) (q := 20) dX6_after_17 (by decide) rfl (fun c17 => ?_) (fun c17 => ?_)
      · refine g_aload_n (q := 24) dX6_after_23 rfl rfl ?_
        refine g_cvV (I' := iX6_copy) (mc := 0) (ms := 0) (rc := 0) (rs := 0) (ci := 7) (q := 27) dX6_after_24 q1746 q1748 rfl qs74 gcX6_copy mO (c_copy (by omega) (by omega)) rfl rfl ?_
        refine g_aload_n (q := 28) dX6_after_27 rfl rfl ?_
        refine g_iload_n (q := 29) dX6_after_28 rfl rfl ?_
        refine g_cvV (I' := iX6_hoursGo) (mc := 0) (ms := 0) (rc := 0) (rs := 0) (ci := 7) (q := 32) dX6_after_29 q1709 q1711 rfl qs70 gcX6_hoursGo mO (c_hoursGo (d := d + 2) hw hB0 (by omega) hkl hkn (by omega) hh) rfl rfl ?_
        refine g_aload_n (q := 33) dX6_after_32 rfl rfl ?_
        refine g_iload_n (q := 34) dX6_after_33 rfl rfl ?_
        refine g_cv (I' := iX6_learns) (mc := 0) (ms := 0) (rc := 0) (rs := 0) (ci := 7) (q := 37) dX6_after_34 q1700 q1702 rfl qs69 gcX6_learns mO (c_learns (d := d + 1) hw hx (by omega) hkl hkn z.1.1 (by omega)) rfl rfl ?_
        refine g_istore_n (q := 38) dX6_after_37 gs3 rfl ?_
        refine g_aload_n (q := 39) dX6_after_38 rfl rfl ?_
        refine g_cvV (I' := iX6_takeBack) (mc := 0) (ms := 0) (rc := 0) (rs := 0) (ci := 7) (q := 42) dX6_after_39 q1750 q1752 rfl qs75 gcX6_takeBack mO (c_back (c := 0) (hs0 := hs) (by omega) (by omega) (fun j h2 h3 => by rw [cpyI_in (by omega) (by omega)]; congr 1; omega)) rfl rfl ?_
        refine g_iload_n (q := 43) dX6_after_42 rfl rfl ?_
        exact g_iret dX6_after_43 rfl ⟨rfl, _, rfl⟩
      · exact absurd z.2 c17
  · rw [if_neg z]
    show GO E iX6_after _ _ _ 0 [some (.ref am), some (vI r), some (vI v), none] [] _ _
    refine g_aload_n (q := 1) dX6_after_0 rfl rfl ?_
    refine g_iload_n (q := 2) dX6_after_1 rfl rfl ?_
    refine g_cv (I' := iX6_isRow) (mc := 0) (ms := 0) (rc := 0) (rs := 0) (ci := 7) (q := 5) dX6_after_2 q1651 q1653 rfl qs60 gcX6_isRow mO (c_isRowM h1 hw.2.1) rfl rfl ?_
    refine g_ifeqB (t := 20) (q := 8) dX6_after_5 (by decide) rfl (fun c5 => ?_) (fun c5 => ?_)
    · refine g_bipush (q := 22) dX6_after_20 rfl ?_
      exact g_iret dX6_after_22 rfl ⟨rfl, _, rfl⟩
    · refine g_iload_n (q := 9) dX6_after_8 rfl rfl ?_
      refine g_i2l (q := 10) dX6_after_9 (by first | assumption | exact in32_gB | exact in32_gCmp | (unfold in32; omega)) rfl ?_
      refine g_lconst0 (q := 11) dX6_after_10 rfl ?_
      refine g_ldc2 (a := 200) (q := 14) dX6_after_11 q1708 (by decide) rfl ?_
      refine g_cs (I' := iX6_in) (mc := 0) (ms := 0) (rc := 0) (rs := 0) (q := 17) dX6_after_14 q1514 q1515 gcX6_in (c_inM (by unfold in64; omega) (by unfold in64; omega) (by unfold in64; omega)) rfl rfl ?_
      refine g_ifneB (t := 23) (q := 20) dX6_after_17 (by decide) rfl (fun c17 => ?_) (fun c17 => ?_)
      · exact absurd ⟨c5, c17⟩ z
      · refine g_bipush (q := 22) dX6_after_20 rfl ?_
        exact g_iret dX6_after_22 rfl ⟨rfl, _, rfl⟩
theorem c_lasts (hw : WFw w) (hh : HSok B hs) (hB0 : 0 ≤ B) (hB : B ≤ 800000000) (hkl : in32 kl) (hkn : in32 kn) (h1 : in32 r) : CALL E iX6_lasts (d + 4) 0 0 [.ref am, vI r] (mH E G am th w hs si lo bk iW iH iB iL iS tp td fv sz pa fr tk vl fk fp fsh hdt lt kl kn cp 0 bp bl md sw nd mn my wd nm mv) (qS (if 0 ≤ r ∧ r ≤ w 2 - 1 then lastL w kl kn r 201 0 hs else -2) fun y => (mH E G am th w hs si lo bk iW iH iB iL iS tp td fv sz pa fr tk vl fk fp fsh hdt lt kl kn y 0 bp bl md sw nd mn my wd nm mv)) := by
  by_cases z : 0 ≤ r ∧ r ≤ w 2 - 1
  · rw [if_pos z]
    have fin : ∀ (hs1 : Int → Int) (x3 : Option Value) (u : Int), GO E iX6_lasts (d + 4) 0 0 54 [some (.ref am), some (vI r), some (vI u), x3] [] (mH E G am th w hs1 si lo bk iW iH iB iL iS tp td fv sz pa fr tk vl fk fp fsh hdt lt kl kn (cpyI cp hs (2018 * 0) 0 2018) (0 + 1) bp bl md sw nd mn my wd nm mv) (qS u fun y => (mH E G am th w hs si lo bk iW iH iB iL iS tp td fv sz pa fr tk vl fk fp fsh hdt lt kl kn y 0 bp bl md sw nd mn my wd nm mv)) := by
      intro hs1 x3 u
      refine g_aload_n (q := 55) dX6_lasts_54 rfl rfl ?_
      refine g_cvV (I' := iX6_takeBack) (mc := 0) (ms := 0) (rc := 0) (rs := 0) (ci := 7) (q := 58) dX6_lasts_55 q1750 q1752 rfl qs75 gcX6_takeBack mO (c_back (c := 0) (hs0 := hs) (by omega) (by omega) (fun j h2 h3 => by rw [cpyI_in (by omega) (by omega)]; congr 1; omega)) rfl rfl ?_
      refine g_iload_n (q := 59) dX6_lasts_58 rfl rfl ?_
      exact g_iret dX6_lasts_59 rfl ⟨rfl, _, rfl⟩
    have out : ∀ (hs1 : Int → Int) (h u : Int), 0 ≤ h → h ≤ 1000 → (0 ≤ u ∧ u ≤ 1000) → GO E iX6_lasts (d + 4) 0 0 19 [some (.ref am), some (vI r), some (vI u), some (vI h)] [] (mH E G am th w hs1 si lo bk iW iH iB iL iS tp td fv sz pa fr tk vl fk fp fsh hdt lt kl kn (cpyI cp hs (2018 * 0) 0 2018) (0 + 1) bp bl md sw nd mn my wd nm mv) (qS u fun y => (mH E G am th w hs si lo bk iW iH iB iL iS tp td fv sz pa fr tk vl fk fp fsh hdt lt kl kn y 0 bp bl md sw nd mn my wd nm mv)) := by
      intro hs1 h u g1 g2 g3
      refine g_iload_n (q := 20) dX6_lasts_19 rfl rfl ?_
      refine g_sipush (q := 23) dX6_lasts_20 rfl ?_
      refine g_icmp_gt (t := 54) (q := 26) dX6_lasts_23 (by decide) rfl (by first | assumption | exact in32_gB | exact in32_gCmp | (unfold in32; omega)) (by first | assumption | exact in32_gB | exact in32_gCmp | (unfold in32; omega)) (fun c23 => ?_) (fun c23 => ?_)
      · exact fin _ _ _
      · refine g_iload_n (q := 27) dX6_lasts_26 rfl rfl ?_
        refine g_iconst (q := 28) dX6_lasts_27 rfl ?_
        refine g_icmp_ne (t := 54) (q := 31) dX6_lasts_28 (by decide) rfl (by first | assumption | exact in32_gB | exact in32_gCmp | (unfold in32; omega)) (by first | assumption | exact in32_gB | exact in32_gCmp | (unfold in32; omega)) (fun c28 => ?_) (fun c28 => ?_)
        · exact fin _ _ _
        · exact absurd c28 (by omega)
    have loop : ∀ (f : Nat) (h B : Int) (hs1 : Int → Int), HSok B hs1 → 0 ≤ B → B + f ≤ 900000000 → 0 ≤ h → h + f = 201 → GO E iX6_lasts (d + 4) 0 0 19 [some (.ref am), some (vI r), some (vI (-1)), some (vI h)] [] (mH E G am th w hs1 si lo bk iW iH iB iL iS tp td fv sz pa fr tk vl fk fp fsh hdt lt kl kn (cpyI cp hs (2018 * 0) 0 2018) (0 + 1) bp bl md sw nd mn my wd nm mv) (qS (lastL w kl kn r f h hs1) fun y => (mH E G am th w hs si lo bk iW iH iB iL iS tp td fv sz pa fr tk vl fk fp fsh hdt lt kl kn y 0 bp bl md sw nd mn my wd nm mv)) := by
      intro f
      induction f with
      | zero =>
        intro h B hs1 g g1 g2 g3 g4
        refine g_iload_n (q := 20) dX6_lasts_19 rfl rfl ?_
        refine g_sipush (q := 23) dX6_lasts_20 rfl ?_
        refine g_icmp_gt (t := 54) (q := 26) dX6_lasts_23 (by decide) rfl (by first | assumption | exact in32_gB | exact in32_gCmp | (unfold in32; omega)) (by first | assumption | exact in32_gB | exact in32_gCmp | (unfold in32; omega)) (fun c23 => ?_) (fun c23 => ?_)
        · exact fin _ _ _
        · exact absurd c23 (by omega)
      | succ f ih =>
        intro h B hs1 g g1 g2 g3 g4
        by_cases y : mSlips w hs1 r = 0
        · rw [show lastL w kl kn r (f + 1) h hs1 = lastL w kl kn r f (h + 1) (mHour w hs1 kl kn) from if_pos y]
          refine g_iload_n (q := 20) dX6_lasts_19 rfl rfl ?_
          refine g_sipush (q := 23) dX6_lasts_20 rfl ?_
          refine g_icmp_gt (t := 54) (q := 26) dX6_lasts_23 (by decide) rfl (by first | assumption | exact in32_gB | exact in32_gCmp | (unfold in32; omega)) (by first | assumption | exact in32_gB | exact in32_gCmp | (unfold in32; omega)) (fun c23 => ?_) (fun c23 => ?_)
          · exact absurd c23 (by omega)
          · refine g_iload_n (q := 27) dX6_lasts_26 rfl rfl ?_
            refine g_iconst (q := 28) dX6_lasts_27 rfl ?_
            refine g_icmp_ne (t := 54) (q := 31) dX6_lasts_28 (by decide) rfl (by first | assumption | exact in32_gB | exact in32_gCmp | (unfold in32; omega)) (by first | assumption | exact in32_gB | exact in32_gCmp | (unfold in32; omega)) (fun c28 => ?_) (fun c28 => ?_)
            · exact absurd rfl c28
            · refine g_aload_n (q := 32) dX6_lasts_31 rfl rfl ?_
              refine g_iload_n (q := 33) dX6_lasts_32 rfl rfl ?_
              refine g_cv (I' := iX6_slipsOf) (mc := 0) (ms := 0) (rc := 0) (rs := 0) (ci := 7) (q := 36) dX6_lasts_33 q1656 q1658 rfl qs61 gcX6_slipsOf mO (c_slipsOf (d := d + 1) hw g z.1 (by omega)) rfl rfl ?_
              refine g_if_eq (t := 44) (q := 39) dX6_lasts_36 (by decide) rfl mSlips_32 (fun c36 => ?_) (fun c36 => ?_)
              · refine g_aload_n (q := 45) dX6_lasts_44 rfl rfl ?_
                refine g_cvV (I' := iX6_hourGoes) (mc := 0) (ms := 0) (rc := 0) (rs := 0) (ci := 7) (q := 48) dX6_lasts_45 q1713 q1715 rfl qs71 gcX6_hourGoes mO (c_hourGoes (d := d + 1) hw g (by omega) hkl hkn) rfl rfl ?_
                refine g_iinc (q := 51) dX6_lasts_48 rfl gs3 rfl ?_
                refine g_goto (t := 19) dX6_lasts_51 (by decide) ?_
                exact ih _ (B + 1) _ (g.hour hw g1) (by omega) (by omega) (by omega) (by omega)
              · exact absurd y c36
        · rw [show lastL w kl kn r (f + 1) h hs1 = h from if_neg y]
          refine g_iload_n (q := 20) dX6_lasts_19 rfl rfl ?_
          refine g_sipush (q := 23) dX6_lasts_20 rfl ?_
          refine g_icmp_gt (t := 54) (q := 26) dX6_lasts_23 (by decide) rfl (by first | assumption | exact in32_gB | exact in32_gCmp | (unfold in32; omega)) (by first | assumption | exact in32_gB | exact in32_gCmp | (unfold in32; omega)) (fun c23 => ?_) (fun c23 => ?_)
          · exact absurd c23 (by omega)
          · refine g_iload_n (q := 27) dX6_lasts_26 rfl rfl ?_
            refine g_iconst (q := 28) dX6_lasts_27 rfl ?_
            refine g_icmp_ne (t := 54) (q := 31) dX6_lasts_28 (by decide) rfl (by first | assumption | exact in32_gB | exact in32_gCmp | (unfold in32; omega)) (by first | assumption | exact in32_gB | exact in32_gCmp | (unfold in32; omega)) (fun c28 => ?_) (fun c28 => ?_)
            · exact absurd rfl c28
            · refine g_aload_n (q := 32) dX6_lasts_31 rfl rfl ?_
              refine g_iload_n (q := 33) dX6_lasts_32 rfl rfl ?_
              refine g_cv (I' := iX6_slipsOf) (mc := 0) (ms := 0) (rc := 0) (rs := 0) (ci := 7) (q := 36) dX6_lasts_33 q1656 q1658 rfl qs61 gcX6_slipsOf mO (c_slipsOf (d := d + 1) hw g z.1 (by omega)) rfl rfl ?_
              refine g_if_eq (t := 44) (q := 39) dX6_lasts_36 (by decide) rfl mSlips_32 (fun c36 => ?_) (fun c36 => ?_)
              · exact absurd c36 y
              · refine g_iload_n (q := 40) dX6_lasts_39 rfl rfl ?_
                refine g_istore_n (q := 41) dX6_lasts_40 gs2 rfl ?_
                refine g_goto (t := 48) dX6_lasts_41 (by decide) ?_
                refine g_iinc (q := 51) dX6_lasts_48 rfl gs3 rfl ?_
                refine g_goto (t := 19) dX6_lasts_51 (by decide) ?_
                exact out _ _ _ (by omega) (by omega) (by omega)
    show GO E iX6_lasts _ _ _ 0 [some (.ref am), some (vI r), none, none] [] _ _
    refine g_aload_n (q := 1) dX6_lasts_0 rfl rfl ?_
    refine g_iload_n (q := 2) dX6_lasts_1 rfl rfl ?_
    refine g_cv (I' := iX6_isRow) (mc := 0) (ms := 0) (rc := 0) (rs := 0) (ci := 7) (q := 5) dX6_lasts_2 q1651 q1653 rfl qs60 gcX6_isRow mO (c_isRowM h1 hw.2.1) rfl rfl ?_
    refine g_ifneB (t := 11) (q := 8) dX6_lasts_5 (by decide) rfl (fun c5 => ?_) (fun c5 => ?_)
    · refine g_aload_n (q := 12) dX6_lasts_11 rfl rfl ?_
      refine g_cvV (I' := iX6_copy) (mc := 0) (ms := 0) (rc := 0) (rs := 0) (ci := 7) (q := 15) dX6_lasts_12 q1746 q1748 rfl qs74 gcX6_copy mO (c_copy (by omega) (by omega)) rfl rfl ?_
      refine g_iconst (q := 16) dX6_lasts_15 rfl ?_
      refine g_istore_n (q := 17) dX6_lasts_16 gs2 rfl ?_
      refine g_iconst (q := 18) dX6_lasts_17 rfl ?_
      refine g_istore_n (q := 19) dX6_lasts_18 gs3 rfl ?_
      exact loop 201 0 B hs hh hB0 (by omega) (by omega) (by omega)
    · exact absurd z c5
  · rw [if_neg z]
    show GO E iX6_lasts _ _ _ 0 [some (.ref am), some (vI r), none, none] [] _ _
    refine g_aload_n (q := 1) dX6_lasts_0 rfl rfl ?_
    refine g_iload_n (q := 2) dX6_lasts_1 rfl rfl ?_
    refine g_cv (I' := iX6_isRow) (mc := 0) (ms := 0) (rc := 0) (rs := 0) (ci := 7) (q := 5) dX6_lasts_2 q1651 q1653 rfl qs60 gcX6_isRow mO (c_isRowM h1 hw.2.1) rfl rfl ?_
    refine g_ifneB (t := 11) (q := 8) dX6_lasts_5 (by decide) rfl (fun c5 => ?_) (fun c5 => ?_)
    · exact absurd c5 z
    · refine g_bipush (q := 10) dX6_lasts_8 rfl ?_
      exact g_iret dX6_lasts_10 rfl ⟨rfl, _, rfl⟩
end
