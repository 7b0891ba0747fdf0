/-! THE REFERENCE: between, evening, what is left -/
set_option maxRecDepth 100000
/-- the whole support of a row -/
def lftL (w hs : Int → Int) (r : Int) : Nat → Int → Int → Int
  | 0, _, s => s
  | f + 1, i, s => lftL w hs r f (i + 1) (s + mSup w hs r i)
def mLeft (w hs : Int → Int) (r : Int) : Int := lftL w hs r (w (34 + 14 * r)).toNat 0 0
theorem lftL_in {B : Int} {w hs : Int → Int} {r : Int} (hw : WFw w) (hh : HSok B hs) (hr : 0 ≤ r) (hr1 : r < w 2) : ∀ (f : Nat) (i s : Int), 0 ≤ i → i + f = w (34 + 14 * r) → 0 ≤ s → s ≤ 4000 * i → 0 ≤ lftL w hs r f i s ∧ lftL w hs r f i s ≤ 48000 := by
  intro f
  have hrow := hw.row hr hr1
  induction f with
  | zero => intro i s h0 h1 h2 h3; unfold lftL; omega
  | succ f ih =>
    intro i s h0 h1 h2 h3
    have := mSup_in hw hh hr hr1 h0 (by omega)
    exact ih _ _ (by omega) (by omega) (by omega) (by omega)
theorem mLeft_in {B : Int} {w hs : Int → Int} {r : Int} (hw : WFw w) (hh : HSok B hs) (hr : 0 ≤ r) (hr1 : r < w 2) : 0 ≤ mLeft w hs r ∧ mLeft w hs r ≤ 48000 := by
  have hrow := hw.row hr hr1
  exact lftL_in hw hh hr hr1 _ _ _ (by omega) (by omega) (by omega) (by omega)
section
variable {E : gE} {d rc rs am : Nat} {G : gH}
variable {th si lo td sz pa fr tk vl fk fp hdt kl kn cd bp bl : Int} {w hs bk iW iH iB iL iS tp fv fsh lt cp md sw nd mn my wd nm mv : Int → Int}
variable {s a b r r2 i k v e B c n l : Int} {Q : Outcome → gH → Prop}
theorem c_leftOf (hw : WFw w) (hh : HSok B hs) (hr : 0 ≤ r) (hr1 : r < w 2) : CALL E iX6_leftOf (d + 2) 0 0 [.ref am, vI r] (mH E G am th w hs si lo bk iW iH iB iL iS tp td fv sz pa fr tk vl fk fp fsh hdt lt kl kn cp cd bp bl md sw nd mn my wd nm mv) (qR (vI (mLeft w hs r)) (mH E G am th w hs si lo bk iW iH iB iL iS tp td fv sz pa fr tk vl fk fp fsh hdt lt kl kn cp cd bp bl md sw nd mn my wd nm mv)) := by
  have h12 := hw.2.1
  have hrow := hw.row hr hr1
  have loop : ∀ (f : Nat) (i s : Int), 0 ≤ i → i + f = w (34 + 14 * r) → GO E iX6_leftOf (d + 2) 0 0 4 [some (.ref am), some (vI r), some (vI s), some (vI i)] [] (mH E G am th w hs si lo bk iW iH iB iL iS tp td fv sz pa fr tk vl fk fp fsh hdt lt kl kn cp cd bp bl md sw nd mn my wd nm mv) (qR (vI (lftL w hs r f i s)) (mH E G am th w hs si lo bk iW iH iB iL iS tp td fv sz pa fr tk vl fk fp fsh hdt lt kl kn cp cd bp bl md sw nd mn my wd nm mv)) := by
    intro f
    induction f with
    | zero =>
      intro i s h0 h1
      refine g_iload_n (q := 5) dX6_leftOf_4 rfl rfl ?_
      refine g_aload_n (q := 6) dX6_leftOf_5 rfl rfl ?_
      refine g_iload_n (q := 7) dX6_leftOf_6 rfl rfl ?_
      refine g_cv (I' := iX6_manyOf) (mc := 0) (ms := 0) (rc := 0) (rs := 0) (ci := 7) (q := 10) dX6_leftOf_7 q1660 q1662 rfl qs62 gcX6_manyOf mO (c_manyOf hr (by omega)) rfl rfl ?_
      refine g_icmp_ge (t := 28) (q := 13) dX6_leftOf_10 (by decide) rfl (by first | assumption | exact in32_gB | exact in32_gCmp | (unfold in32; omega)) (by first | assumption | exact in32_gB | exact in32_gCmp | (unfold in32; omega)) (fun c10 => ?_) (fun c10 => ?_)
      · refine g_iload_n (q := 29) dX6_leftOf_28 rfl rfl ?_
        exact g_iret dX6_leftOf_29 rfl ⟨rfl, rfl⟩
      · exact absurd c10 (by omega)
    | succ f ih =>
      intro i s h0 h1
      refine g_iload_n (q := 5) dX6_leftOf_4 rfl rfl ?_
      refine g_aload_n (q := 6) dX6_leftOf_5 rfl rfl ?_
      refine g_iload_n (q := 7) dX6_leftOf_6 rfl rfl ?_
      refine g_cv (I' := iX6_manyOf) (mc := 0) (ms := 0) (rc := 0) (rs := 0) (ci := 7) (q := 10) dX6_leftOf_7 q1660 q1662 rfl qs62 gcX6_manyOf mO (c_manyOf hr (by omega)) rfl rfl ?_
      refine g_icmp_ge (t := 28) (q := 13) dX6_leftOf_10 (by decide) rfl (by first | assumption | exact in32_gB | exact in32_gCmp | (unfold in32; omega)) (by first | assumption | exact in32_gB | exact in32_gCmp | (unfold in32; omega)) (fun c10 => ?_) (fun c10 => ?_)
      · exact absurd c10 (by omega)
      · refine g_iload_n (q := 14) dX6_leftOf_13 rfl rfl ?_
        refine g_aload_n (q := 15) dX6_leftOf_14 rfl rfl ?_
        refine g_iload_n (q := 16) dX6_leftOf_15 rfl rfl ?_
        refine g_iload_n (q := 17) dX6_leftOf_16 rfl rfl ?_
        refine g_cv (I' := iX6_supportOf) (mc := 0) (ms := 0) (rc := 0) (rs := 0) (ci := 7) (q := 20) dX6_leftOf_17 q1664 q1666 rfl qs63 gcX6_supportOf mO (c_supportOf (d := d) hw hh hr hr1 h0 (by omega)) rfl rfl ?_
        refine g_iadd (q := 21) dX6_leftOf_20 rfl ?_
        refine g_istore_n (q := 22) dX6_leftOf_21 gs2 rfl ?_
        refine g_iinc (q := 25) dX6_leftOf_22 rfl gs3 rfl ?_
        refine g_goto (t := 4) dX6_leftOf_25 (by decide) ?_
        exact ih _ _ (by omega) (by omega)
  show GO E iX6_leftOf _ _ _ 0 [some (.ref am), some (vI r), none, none] [] _ _
  refine g_iconst (q := 1) dX6_leftOf_0 rfl ?_
  refine g_istore_n (q := 2) dX6_leftOf_1 gs2 rfl ?_
  refine g_iconst (q := 3) dX6_leftOf_2 rfl ?_
  refine g_istore_n (q := 4) dX6_leftOf_3 gs3 rfl ?_
  exact loop _ 0 0 (by omega) (by omega)
theorem c_between (hw : WFw w) (hh : HSok B hs) (hB0 : 0 ≤ B) (hB : B ≤ 800000000) (hkl : in32 kl) (hkn : in32 kn) (h1 : in32 r) (h2 : in32 r2) (h3 : in32 v) : CALL E iX6_between (d + 6) 0 0 [.ref am, vI r, vI r2, vI v] (mH E G am th w hs si lo bk iW iH iB iL iS tp td fv sz pa fr tk vl fk fp fsh hdt lt kl kn cp 0 bp bl md sw nd mn my wd nm mv) (qS (if ((0 ≤ r ∧ r ≤ w 2 - 1) ∧ (0 ≤ r2 ∧ r2 ≤ w 2 - 1)) ∧ ¬ r = r2 ∧ (1 ≤ v ∧ v ≤ 200) then mBetween w hs kl kn r r2 v else -2000000000) fun y => (mH E G am th w hs si lo bk iW iH iB iL iS tp td fv sz pa fr tk vl fk fp fsh hdt lt kl kn y 0 bp bl md sw nd mn my wd nm mv)) := by
  have h7 := h3.1
  have h8 := h3.2
  by_cases z : ((0 ≤ r ∧ r ≤ w 2 - 1) ∧ (0 ≤ r2 ∧ r2 ≤ w 2 - 1)) ∧ ¬ r = r2 ∧ (1 ≤ v ∧ v ≤ 200)
  · have hx := HSok.hours (kl := kl) (kn := kn) hw v.toNat B hs hh hB0
    have ho := (mLearns_ok (kl := kl) (kn := kn) hw z.1.2.1 (show r2 < w 2 by omega) hh).1
    have hx2 := HSok.hours (kl := kl) (kn := kn) hw v.toNat _ _ ho (by omega)
    have l1 := lrn32 (kl := kl) (kn := kn) hw z.1.1.1 (show r < w 2 by omega) hx
    have l2 := lrn32 (kl := kl) (kn := kn) hw z.1.2.1 (show r2 < w 2 by omega) hh
    have l3 := lrn32 (kl := kl) (kn := kn) hw z.1.1.1 (show r < w 2 by omega) hx2
    rw [if_pos z]
    unfold mBetween betI
    show GO E iX6_between _ _ _ 0 [some (.ref am), some (vI r), some (vI r2), some (vI v), none, none, none] [] _ _
    refine g_aload_n (q := 1) dX6_between_0 rfl rfl ?_
    refine g_iload_n (q := 2) dX6_between_1 rfl rfl ?_
    refine g_cv (I' := iX6_isRow) (mc := 0) (ms := 0) (rc := 0) (rs := 0) (ci := 7) (q := 5) dX6_between_2 q1651 q1653 rfl qs60 gcX6_isRow mO (c_isRowM h1 hw.2.1) rfl rfl ?_
    refine g_ifeqB (t := 33) (q := 8) dX6_between_5 (by decide) rfl (fun c5 => ?_) (fun c5 => ?_)
    · exact absurd z.1.1 c5
    · refine g_aload_n (q := 9) dX6_between_8 rfl rfl ?_
      refine g_iload_n (q := 10) dX6_between_9 rfl rfl ?_
      refine g_cv (I' := iX6_isRow) (mc := 0) (ms := 0) (rc := 0) (rs := 0) (ci := 7) (q := 13) dX6_between_10 q1651 q1653 rfl qs60 gcX6_isRow mO (c_isRowM h2 hw.2.1) rfl rfl ?_
      refine g_ifeqB (t := 33) (q := 16) dX6_between_13 (by decide) rfl (fun c13 => ?_) (fun c13 => ?_)
      · exact absurd z.1.2 c13
      · refine g_iload_n (q := 17) dX6_between_16 rfl rfl ?_
        refine g_iload_n (q := 18) dX6_between_17 rfl rfl ?_
        refine g_icmp_eq (t := 33) (q := 21) dX6_between_18 (by decide) rfl (by first | assumption | exact in32_gB | exact in32_gCmp | (unfold in32; omega)) (by first | assumption | exact in32_gB | exact in32_gCmp | (unfold in32; omega)) (fun c18 => ?_) (fun c18 => ?_)
        · exact absurd c18 z.2.1
        · refine g_iload_n (q := 22) dX6_between_21 rfl rfl ?_
          refine g_i2l (q := 23) dX6_between_22 (by first | assumption | exact in32_gB | exact in32_gCmp | (unfold in32; omega)) rfl ?_
          refine g_lconst1 (q := 24) dX6_between_23 rfl ?_
          refine g_ldc2 (a := 200) (q := 27) dX6_between_24 q1708 (by decide) rfl ?_
          refine g_cs (I' := iX6_in) (mc := 0) (ms := 0) (rc := 0) (rs := 0) (q := 30) dX6_between_27 q1514 q1515 gcX6_in (c_inM (by unfold in64; omega) (by unfold in64; omega) (by unfold in64; omega)) rfl rfl ?_
          refine g_ifneB (t := 37) (q := 33) dX6_between_30 (by decide) rfl (fun c30 => ?_) (fun c30 => ?_)
          · refine g_aload_n (q := 38) dX6_between_37 rfl rfl ?_
            refine g_cvV (I' := iX6_copy) (mc := 0) (ms := 0) (rc := 0) (rs := 0) (ci := 7) (q := 41) dX6_between_38 q1746 q1748 rfl qs74 gcX6_copy mO (c_copy (by omega) (by omega)) rfl rfl ?_
            refine g_aload_n (q := 42) dX6_between_41 rfl rfl ?_
            refine g_iload_n (q := 43) dX6_between_42 rfl rfl ?_
            refine g_cvV (I' := iX6_hoursGo) (mc := 0) (ms := 0) (rc := 0) (rs := 0) (ci := 7) (q := 46) dX6_between_43 q1709 q1711 rfl qs70 gcX6_hoursGo mO (c_hoursGo (d := d + 2) hw hB0 (by omega) hkl hkn (by omega) hh) rfl rfl ?_
            refine g_aload_n (q := 47) dX6_between_46 rfl rfl ?_
            refine g_iload_n (q := 48) dX6_between_47 rfl rfl ?_
            refine g_cv (I' := iX6_learns) (mc := 0) (ms := 0) (rc := 0) (rs := 0) (ci := 7) (q := 51) dX6_between_48 q1700 q1702 rfl qs69 gcX6_learns mO (c_learns (d := d + 1) hw hx (by omega) hkl hkn z.1.1.1 (by omega)) rfl rfl ?_
            refine g_istore (q := 53) dX6_between_51 gs4 rfl ?_
            refine g_aload_n (q := 54) dX6_between_53 rfl rfl ?_
            refine g_cvV (I' := iX6_takeBack) (mc := 0) (ms := 0) (rc := 0) (rs := 0) (ci := 7) (q := 57) dX6_between_54 q1750 q1752 rfl qs75 gcX6_takeBack mO (c_back (c := 0) (hs0 := hs) (by omega) (by omega) (fun j h2 h3 => by rw [cpyI_in (by omega) (by omega)]; congr 1; omega)) rfl rfl ?_
            refine g_aload_n (q := 58) dX6_between_57 rfl rfl ?_
            refine g_cvV (I' := iX6_copy) (mc := 0) (ms := 0) (rc := 0) (rs := 0) (ci := 7) (q := 61) dX6_between_58 q1746 q1748 rfl qs74 gcX6_copy mO (c_copy (by omega) (by omega)) rfl rfl ?_
            refine g_aload_n (q := 62) dX6_between_61 rfl rfl ?_
            refine g_iload_n (q := 63) dX6_between_62 rfl rfl ?_
            refine g_cv (I' := iX6_learns) (mc := 0) (ms := 0) (rc := 0) (rs := 0) (ci := 7) (q := 66) dX6_between_63 q1700 q1702 rfl qs69 gcX6_learns mO (c_learns (d := d + 1) hw hh (by omega) hkl hkn z.1.2.1 (by omega)) rfl rfl ?_
            refine g_iconst (q := 67) dX6_between_66 rfl ?_
            refine g_icmp_eq (t := 74) (q := 70) dX6_between_67 (by decide) rfl (by first | assumption | exact in32_gB | exact in32_gCmp | (unfold in32; omega)) (by first | assumption | exact in32_gB | exact in32_gCmp | (unfold in32; omega)) (fun c67 => ?_) (fun c67 => ?_)
            · refine g_iconst (q := 75) dX6_between_74 rfl ?_
              refine g_istore (q := 77) dX6_between_75 gs5 rfl ?_
              refine g_aload_n (q := 78) dX6_between_77 rfl rfl ?_
              refine g_iload_n (q := 79) dX6_between_78 rfl rfl ?_
              refine g_cvV (I' := iX6_hoursGo) (mc := 0) (ms := 0) (rc := 0) (rs := 0) (ci := 7) (q := 82) dX6_between_79 q1709 q1711 rfl qs70 gcX6_hoursGo mO (c_hoursGo (d := d + 2) hw (B := B + 40) (by omega) (by omega) hkl hkn (by omega) ho) rfl rfl ?_
              refine g_aload_n (q := 83) dX6_between_82 rfl rfl ?_
              refine g_iload_n (q := 84) dX6_between_83 rfl rfl ?_
              refine g_cv (I' := iX6_learns) (mc := 0) (ms := 0) (rc := 0) (rs := 0) (ci := 7) (q := 87) dX6_between_84 q1700 q1702 rfl qs69 gcX6_learns mO (c_learns (d := d + 1) hw hx2 (by omega) hkl hkn z.1.1.1 (by omega)) rfl rfl ?_
              refine g_istore (q := 89) dX6_between_87 gs6 rfl ?_
              refine g_aload_n (q := 90) dX6_between_89 rfl rfl ?_
              refine g_cvV (I' := iX6_takeBack) (mc := 0) (ms := 0) (rc := 0) (rs := 0) (ci := 7) (q := 93) dX6_between_90 q1750 q1752 rfl qs75 gcX6_takeBack mO (c_back (c := 0) (hs0 := hs) (by omega) (by omega) (fun j h2 h3 => by rw [cpyI_in (by omega) (by omega)]; congr 1; omega)) rfl rfl ?_
              refine g_iload (q := 95) dX6_between_93 rfl rfl ?_
              refine g_if_eq (t := 110) (q := 98) dX6_between_95 (by decide) rfl (by first | assumption | exact in32_gB | exact in32_gCmp | (unfold in32; omega)) (fun c95 => ?_) (fun c95 => absurd c95 (by decide))
              refine g_ldcw (a := -2000000000) (q := 113) dX6_between_110 q1766 (by decide) rfl ?_
              refine g_goto (t := 121) dX6_between_113 (by decide) ?_
              exact g_iret dX6_between_121 rfl ⟨rI (by first | exact (if_pos (by omega)).symm | exact (if_neg (by omega)).symm), _, rfl⟩
            · refine g_iconst (q := 71) dX6_between_70 rfl ?_
              refine g_goto (t := 75) dX6_between_71 (by decide) ?_
              refine g_istore (q := 77) dX6_between_75 gs5 rfl ?_
              refine g_aload_n (q := 78) dX6_between_77 rfl rfl ?_
              refine g_iload_n (q := 79) dX6_between_78 rfl rfl ?_
              refine g_cvV (I' := iX6_hoursGo) (mc := 0) (ms := 0) (rc := 0) (rs := 0) (ci := 7) (q := 82) dX6_between_79 q1709 q1711 rfl qs70 gcX6_hoursGo mO (c_hoursGo (d := d + 2) hw (B := B + 40) (by omega) (by omega) hkl hkn (by omega) ho) rfl rfl ?_
              refine g_aload_n (q := 83) dX6_between_82 rfl rfl ?_
              refine g_iload_n (q := 84) dX6_between_83 rfl rfl ?_
              refine g_cv (I' := iX6_learns) (mc := 0) (ms := 0) (rc := 0) (rs := 0) (ci := 7) (q := 87) dX6_between_84 q1700 q1702 rfl qs69 gcX6_learns mO (c_learns (d := d + 1) hw hx2 (by omega) hkl hkn z.1.1.1 (by omega)) rfl rfl ?_
              refine g_istore (q := 89) dX6_between_87 gs6 rfl ?_
              refine g_aload_n (q := 90) dX6_between_89 rfl rfl ?_
              refine g_cvV (I' := iX6_takeBack) (mc := 0) (ms := 0) (rc := 0) (rs := 0) (ci := 7) (q := 93) dX6_between_90 q1750 q1752 rfl qs75 gcX6_takeBack mO (c_back (c := 0) (hs0 := hs) (by omega) (by omega) (fun j h2 h3 => by rw [cpyI_in (by omega) (by omega)]; congr 1; omega)) rfl rfl ?_
              refine g_iload (q := 95) dX6_between_93 rfl rfl ?_
              refine g_if_eq (t := 110) (q := 98) dX6_between_95 (by decide) rfl (by first | assumption | exact in32_gB | exact in32_gCmp | (unfold in32; omega)) (fun c95 => absurd c95 (by decide)) (fun c95 => ?_)
              refine g_iload (q := 100) dX6_between_98 rfl rfl ?_
              refine g_iconst (q := 101) dX6_between_100 rfl ?_
              refine g_icmp_eq (t := 110) (q := 104) dX6_between_101 (by decide) rfl (by first | assumption | exact in32_gB | exact in32_gCmp | (unfold in32; omega)) (by first | assumption | exact in32_gB | exact in32_gCmp | (unfold in32; omega)) (fun c101 => ?_) (fun c101 => ?_)
              · refine g_ldcw (a := -2000000000) (q := 113) dX6_between_110 q1766 (by decide) rfl ?_
                refine g_goto (t := 121) dX6_between_113 (by decide) ?_
                exact g_iret dX6_between_121 rfl ⟨rI (by first | exact (if_pos (by omega)).symm | exact (if_neg (by omega)).symm), _, rfl⟩
              · refine g_iload (q := 106) dX6_between_104 rfl rfl ?_
                refine g_iconst (q := 107) dX6_between_106 rfl ?_
                refine g_icmp_ne (t := 116) (q := 110) dX6_between_107 (by decide) rfl (by first | assumption | exact in32_gB | exact in32_gCmp | (unfold in32; omega)) (by first | assumption | exact in32_gB | exact in32_gCmp | (unfold in32; omega)) (fun c107 => ?_) (fun c107 => ?_)
                · refine g_iload (q := 118) dX6_between_116 rfl rfl ?_
                  refine g_iload (q := 120) dX6_between_118 rfl rfl ?_
                  refine g_isub (q := 121) dX6_between_120 rfl ?_
                  exact g_iret dX6_between_121 rfl ⟨rI (by first | exact (if_pos (by omega)).symm | exact (if_neg (by omega)).symm), _, rfl⟩
                · refine g_ldcw (a := -2000000000) (q := 113) dX6_between_110 q1766 (by decide) rfl ?_
                  refine g_goto (t := 121) dX6_between_113 (by decide) ?_
                  exact g_iret dX6_between_121 rfl ⟨rI (by first | exact (if_pos (by omega)).symm | exact (if_neg (by omega)).symm), _, rfl⟩
          · exact absurd z.2.2 c30
  · rw [if_neg z]
    show GO E iX6_between _ _ _ 0 [some (.ref am), some (vI r), some (vI r2), some (vI v), none, none, none] [] _ _
    refine g_aload_n (q := 1) dX6_between_0 rfl rfl ?_
    refine g_iload_n (q := 2) dX6_between_1 rfl rfl ?_
    refine g_cv (I' := iX6_isRow) (mc := 0) (ms := 0) (rc := 0) (rs := 0) (ci := 7) (q := 5) dX6_between_2 q1651 q1653 rfl qs60 gcX6_isRow mO (c_isRowM h1 hw.2.1) rfl rfl ?_
    refine g_ifeqB (t := 33) (q := 8) dX6_between_5 (by decide) rfl (fun c5 => ?_) (fun c5 => ?_)
    · refine g_ldcw (a := -2000000000) (q := 36) dX6_between_33 q1766 (by decide) rfl ?_
      exact g_iret dX6_between_36 rfl ⟨rfl, _, rfl⟩
    · refine g_aload_n (q := 9) dX6_between_8 rfl rfl ?_
      refine g_iload_n (q := 10) dX6_between_9 rfl rfl ?_
      refine g_cv (I' := iX6_isRow) (mc := 0) (ms := 0) (rc := 0) (rs := 0) (ci := 7) (q := 13) dX6_between_10 q1651 q1653 rfl qs60 gcX6_isRow mO (c_isRowM h2 hw.2.1) rfl rfl ?_
      refine g_ifeqB (t := 33) (q := 16) dX6_between_13 (by decide) rfl (fun c13 => ?_) (fun c13 => ?_)
      · refine g_ldcw (a := -2000000000) (q := 36) dX6_between_33 q1766 (by decide) rfl ?_
        exact g_iret dX6_between_36 rfl ⟨rfl, _, rfl⟩
      · refine g_iload_n (q := 17) dX6_between_16 rfl rfl ?_
        refine g_iload_n (q := 18) dX6_between_17 rfl rfl ?_
        refine g_icmp_eq (t := 33) (q := 21) dX6_between_18 (by decide) rfl (by first | assumption | exact in32_gB | exact in32_gCmp | (unfold in32; omega)) (by first | assumption | exact in32_gB | exact in32_gCmp | (unfold in32; omega)) (fun c18 => ?_) (fun c18 => ?_)
        · refine g_ldcw (a := -2000000000) (q := 36) dX6_between_33 q1766 (by decide) rfl ?_
          exact g_iret dX6_between_36 rfl ⟨rfl, _, rfl⟩
        · refine g_iload_n (q := 22) dX6_between_21 rfl rfl ?_
          refine g_i2l (q := 23) dX6_between_22 (by first | assumption | exact in32_gB | exact in32_gCmp | (unfold in32; omega)) rfl ?_
          refine g_lconst1 (q := 24) dX6_between_23 rfl ?_
          refine g_ldc2 (a := 200) (q := 27) dX6_between_24 q1708 (by decide) rfl ?_
          refine g_cs (I' := iX6_in) (mc := 0) (ms := 0) (rc := 0) (rs := 0) (q := 30) dX6_between_27 q1514 q1515 gcX6_in (c_inM (by unfold in64; omega) (by unfold in64; omega) (by unfold in64; omega)) rfl rfl ?_
          refine g_ifneB (t := 37) (q := 33) dX6_between_30 (by decide) rfl (fun c30 => ?_) (fun c30 => ?_)
          · exact absurd ⟨⟨c5, c13⟩, c18, c30⟩ z
          · refine g_ldcw (a := -2000000000) (q := 36) dX6_between_33 q1766 (by decide) rfl ?_
            exact g_iret dX6_between_36 rfl ⟨rfl, _, rfl⟩
theorem c_evening (hw : WFw w) (hh : HSok B hs) (hB0 : 0 ≤ B) (hB : B ≤ 800000000) (hkl : in32 kl) (hkn : in32 kn) (h1 : in32 r) (h2 : in32 l) (h3 : in32 v) : CALL E iX6_evening (d + 6) 0 0 [.ref am, vI r, vI l, vI v] (mH E G am th w hs si lo bk iW iH iB iL iS tp td fv sz pa fr tk vl fk fp fsh hdt lt kl kn cp 0 bp bl md sw nd mn my wd nm mv) (qS (if (0 ≤ r ∧ r ≤ w 2 - 1) ∧ (0 ≤ l ∧ l ≤ 23) ∧ (0 ≤ v ∧ v ≤ 200) then mEvening w hs kl kn r l v else -2000000000) fun y => (mH E G am th w hs si lo bk iW iH iB iL iS tp td fv sz pa fr tk vl fk fp fsh hdt lt kl kn y 0 bp bl md sw nd mn my wd nm mv)) := by
  have h7 := h3.1
  have h8 := h3.2
  have h9 := h2.1
  have h10 := h2.2
  by_cases z : (0 ≤ r ∧ r ≤ w 2 - 1) ∧ (0 ≤ l ∧ l ≤ 23) ∧ (0 ≤ v ∧ v ≤ 200)
  · have hr1 : r < w 2 := by omega
    have ho := (mLearns_ok (kl := kl) (kn := kn) hw z.1.1 hr1 hh).1
    have hx := HSok.hours (kl := kl) (kn := kn) hw (l + v).toNat _ _ ho (by omega)
    have hl := HSok.hours (kl := kl) (kn := kn) hw l.toNat B hs hh hB0
    have hl2 := (mLearns_ok (kl := kl) (kn := kn) hw z.1.1 hr1 hl).1
    have hx2 := HSok.hours (kl := kl) (kn := kn) hw v.toNat _ _ hl2 (by omega)
    have l1 := lrn32 (kl := kl) (kn := kn) hw z.1.1 hr1 hh
    have l2 := lrn32 (kl := kl) (kn := kn) hw z.1.1 hr1 hx
    have l3 := lrn32 (kl := kl) (kn := kn) hw z.1.1 hr1 hl
    have l4 := lrn32 (kl := kl) (kn := kn) hw z.1.1 hr1 hx2
    rw [if_pos z]
    unfold mEvening eveI
    show GO E iX6_evening _ _ _ 0 [some (.ref am), some (vI r), some (vI l), some (vI v), none, none, none, none] [] _ _
    refine g_aload_n (q := 1) dX6_evening_0 rfl rfl ?_
    refine g_iload_n (q := 2) dX6_evening_1 rfl rfl ?_
    refine g_cv (I' := iX6_isRow) (mc := 0) (ms := 0) (rc := 0) (rs := 0) (ci := 7) (q := 5) dX6_evening_2 q1651 q1653 rfl qs60 gcX6_isRow mO (c_isRowM h1 hw.2.1) rfl rfl ?_
    refine g_ifeqB (t := 32) (q := 8) dX6_evening_5 (by decide) rfl (fun c5 => ?_) (fun c5 => ?_)
    · exact absurd z.1 c5
    · refine g_iload_n (q := 9) dX6_evening_8 rfl rfl ?_
      refine g_i2l (q := 10) dX6_evening_9 (by first | assumption | exact in32_gB | exact in32_gCmp | (unfold in32; omega)) rfl ?_
      refine g_lconst0 (q := 11) dX6_evening_10 rfl ?_
      refine g_ldc2 (a := 23) (q := 14) dX6_evening_11 q1794 (by decide) rfl ?_
      refine g_cs (I' := iX6_in) (mc := 0) (ms := 0) (rc := 0) (rs := 0) (q := 17) dX6_evening_14 q1514 q1515 gcX6_in (c_inM (by unfold in64; omega) (by unfold in64; omega) (by unfold in64; omega)) rfl rfl ?_
      refine g_ifeqB (t := 32) (q := 20) dX6_evening_17 (by decide) rfl (fun c17 => ?_) (fun c17 => ?_)
      · exact absurd z.2.1 c17
      · refine g_iload_n (q := 21) dX6_evening_20 rfl rfl ?_
        refine g_i2l (q := 22) dX6_evening_21 (by first | assumption | exact in32_gB | exact in32_gCmp | (unfold in32; omega)) rfl ?_
        refine g_lconst0 (q := 23) dX6_evening_22 rfl ?_
        refine g_ldc2 (a := 200) (q := 26) dX6_evening_23 q1708 (by decide) rfl ?_
        refine g_cs (I' := iX6_in) (mc := 0) (ms := 0) (rc := 0) (rs := 0) (q := 29) dX6_evening_26 q1514 q1515 gcX6_in (c_inM (by unfold in64; omega) (by unfold in64; omega) (by unfold in64; omega)) rfl rfl ?_
        refine g_ifneB (t := 36) (q := 32) dX6_evening_29 (by decide) rfl (fun c29 => ?_) (fun c29 => ?_)
        · refine g_aload_n (q := 37) dX6_evening_36 rfl rfl ?_
          refine g_cvV (I' := iX6_copy) (mc := 0) (ms := 0) (rc := 0) (rs := 0) (ci := 7) (q := 40) dX6_evening_37 q1746 q1748 rfl qs74 gcX6_copy mO (c_copy (by omega) (by omega)) rfl rfl ?_
          refine g_aload_n (q := 41) dX6_evening_40 rfl rfl ?_
          refine g_iload_n (q := 42) dX6_evening_41 rfl rfl ?_
          refine g_cv (I' := iX6_learns) (mc := 0) (ms := 0) (rc := 0) (rs := 0) (ci := 7) (q := 45) dX6_evening_42 q1700 q1702 rfl qs69 gcX6_learns mO (c_learns (d := d + 1) hw hh (by omega) hkl hkn z.1.1 hr1) rfl rfl ?_
          refine g_iconst (q := 46) dX6_evening_45 rfl ?_
          refine g_icmp_eq (t := 53) (q := 49) dX6_evening_46 (by decide) rfl (by first | assumption | exact in32_gB | exact in32_gCmp | (unfold in32; omega)) (by first | assumption | exact in32_gB | exact in32_gCmp | (unfold in32; omega)) (fun c46 => ?_) (fun c46 => ?_)
          · refine g_iconst (q := 54) dX6_evening_53 rfl ?_
            refine g_istore (q := 56) dX6_evening_54 gs4 rfl ?_
            refine g_aload_n (q := 57) dX6_evening_56 rfl rfl ?_
            refine g_iload_n (q := 58) dX6_evening_57 rfl rfl ?_
            refine g_iload_n (q := 59) dX6_evening_58 rfl rfl ?_
            refine g_iadd (q := 60) dX6_evening_59 rfl ?_
            refine g_cvV (I' := iX6_hoursGo) (mc := 0) (ms := 0) (rc := 0) (rs := 0) (ci := 7) (q := 63) dX6_evening_60 q1709 q1711 rfl qs70 gcX6_hoursGo mO (c_hoursGo (d := d + 2) hw (B := B + 40) (by omega) (by omega) hkl hkn (by omega) ho) rfl rfl ?_
            refine g_aload_n (q := 64) dX6_evening_63 rfl rfl ?_
            refine g_iload_n (q := 65) dX6_evening_64 rfl rfl ?_
            refine g_cv (I' := iX6_learns) (mc := 0) (ms := 0) (rc := 0) (rs := 0) (ci := 7) (q := 68) dX6_evening_65 q1700 q1702 rfl qs69 gcX6_learns mO (c_learns (d := d + 1) hw hx (by omega) hkl hkn z.1.1 hr1) rfl rfl ?_
            refine g_istore (q := 70) dX6_evening_68 gs5 rfl ?_
            refine g_aload_n (q := 71) dX6_evening_70 rfl rfl ?_
            refine g_cvV (I' := iX6_takeBack) (mc := 0) (ms := 0) (rc := 0) (rs := 0) (ci := 7) (q := 74) dX6_evening_71 q1750 q1752 rfl qs75 gcX6_takeBack mO (c_back (c := 0) (hs0 := hs) (by omega) (by omega) (fun j h2 h3 => by rw [cpyI_in (by omega) (by omega)]; congr 1; omega)) rfl rfl ?_
            refine g_aload_n (q := 75) dX6_evening_74 rfl rfl ?_
            refine g_cvV (I' := iX6_copy) (mc := 0) (ms := 0) (rc := 0) (rs := 0) (ci := 7) (q := 78) dX6_evening_75 q1746 q1748 rfl qs74 gcX6_copy mO (c_copy (by omega) (by omega)) rfl rfl ?_
            refine g_aload_n (q := 79) dX6_evening_78 rfl rfl ?_
            refine g_iload_n (q := 80) dX6_evening_79 rfl rfl ?_
            refine g_cvV (I' := iX6_hoursGo) (mc := 0) (ms := 0) (rc := 0) (rs := 0) (ci := 7) (q := 83) dX6_evening_80 q1709 q1711 rfl qs70 gcX6_hoursGo mO (c_hoursGo (d := d + 2) hw hB0 (by omega) hkl hkn (by omega) hh) rfl rfl ?_
            refine g_aload_n (q := 84) dX6_evening_83 rfl rfl ?_
            refine g_iload_n (q := 85) dX6_evening_84 rfl rfl ?_
            refine g_cv (I' := iX6_learns) (mc := 0) (ms := 0) (rc := 0) (rs := 0) (ci := 7) (q := 88) dX6_evening_85 q1700 q1702 rfl qs69 gcX6_learns mO (c_learns (d := d + 1) hw hl (by omega) hkl hkn z.1.1 hr1) rfl rfl ?_
            refine g_iconst (q := 89) dX6_evening_88 rfl ?_
            refine g_icmp_eq (t := 96) (q := 92) dX6_evening_89 (by decide) rfl (by first | assumption | exact in32_gB | exact in32_gCmp | (unfold in32; omega)) (by first | assumption | exact in32_gB | exact in32_gCmp | (unfold in32; omega)) (fun c89 => ?_) (fun c89 => ?_)
            · refine g_iconst (q := 97) dX6_evening_96 rfl ?_
              refine g_istore (q := 99) dX6_evening_97 gs6 rfl ?_
              refine g_aload_n (q := 100) dX6_evening_99 rfl rfl ?_
              refine g_iload_n (q := 101) dX6_evening_100 rfl rfl ?_
              refine g_cvV (I' := iX6_hoursGo) (mc := 0) (ms := 0) (rc := 0) (rs := 0) (ci := 7) (q := 104) dX6_evening_101 q1709 q1711 rfl qs70 gcX6_hoursGo mO (c_hoursGo (d := d + 2) hw (B := B + (l.toNat : Int) + 40) (by omega) (by omega) hkl hkn (by omega) hl2) rfl rfl ?_
              refine g_aload_n (q := 105) dX6_evening_104 rfl rfl ?_
              refine g_iload_n (q := 106) dX6_evening_105 rfl rfl ?_
              refine g_cv (I' := iX6_learns) (mc := 0) (ms := 0) (rc := 0) (rs := 0) (ci := 7) (q := 109) dX6_evening_106 q1700 q1702 rfl qs69 gcX6_learns mO (c_learns (d := d + 1) hw hx2 (by omega) hkl hkn z.1.1 hr1) rfl rfl ?_
              refine g_istore (q := 111) dX6_evening_109 gs7 rfl ?_
              refine g_aload_n (q := 112) dX6_evening_111 rfl rfl ?_
              refine g_cvV (I' := iX6_takeBack) (mc := 0) (ms := 0) (rc := 0) (rs := 0) (ci := 7) (q := 115) dX6_evening_112 q1750 q1752 rfl qs75 gcX6_takeBack mO (c_back (c := 0) (hs0 := hs) (by omega) (by omega) (fun j h2 h3 => by rw [cpyI_in (by omega) (by omega)]; congr 1; omega)) rfl rfl ?_
              refine g_iload (q := 117) dX6_evening_115 rfl rfl ?_
              refine g_if_eq (t := 137) (q := 120) dX6_evening_117 (by decide) rfl (by first | assumption | exact in32_gB | exact in32_gCmp | (unfold in32; omega)) (fun c117 => ?_) (fun c117 => absurd c117 (by decide))
              refine g_ldcw (a := -2000000000) (q := 140) dX6_evening_137 q1766 (by decide) rfl ?_
              refine g_goto (t := 148) dX6_evening_140 (by decide) ?_
              exact g_iret dX6_evening_148 rfl ⟨rI (by first | exact (if_pos (by omega)).symm | exact (if_neg (by omega)).symm), _, rfl⟩
            · refine g_iconst (q := 93) dX6_evening_92 rfl ?_
              refine g_goto (t := 97) dX6_evening_93 (by decide) ?_
              refine g_istore (q := 99) dX6_evening_97 gs6 rfl ?_
              refine g_aload_n (q := 100) dX6_evening_99 rfl rfl ?_
              refine g_iload_n (q := 101) dX6_evening_100 rfl rfl ?_
              refine g_cvV (I' := iX6_hoursGo) (mc := 0) (ms := 0) (rc := 0) (rs := 0) (ci := 7) (q := 104) dX6_evening_101 q1709 q1711 rfl qs70 gcX6_hoursGo mO (c_hoursGo (d := d + 2) hw (B := B + (l.toNat : Int) + 40) (by omega) (by omega) hkl hkn (by omega) hl2) rfl rfl ?_
              refine g_aload_n (q := 105) dX6_evening_104 rfl rfl ?_
              refine g_iload_n (q := 106) dX6_evening_105 rfl rfl ?_
              refine g_cv (I' := iX6_learns) (mc := 0) (ms := 0) (rc := 0) (rs := 0) (ci := 7) (q := 109) dX6_evening_106 q1700 q1702 rfl qs69 gcX6_learns mO (c_learns (d := d + 1) hw hx2 (by omega) hkl hkn z.1.1 hr1) rfl rfl ?_
              refine g_istore (q := 111) dX6_evening_109 gs7 rfl ?_
              refine g_aload_n (q := 112) dX6_evening_111 rfl rfl ?_
              refine g_cvV (I' := iX6_takeBack) (mc := 0) (ms := 0) (rc := 0) (rs := 0) (ci := 7) (q := 115) dX6_evening_112 q1750 q1752 rfl qs75 gcX6_takeBack mO (c_back (c := 0) (hs0 := hs) (by omega) (by omega) (fun j h2 h3 => by rw [cpyI_in (by omega) (by omega)]; congr 1; omega)) rfl rfl ?_
              refine g_iload (q := 117) dX6_evening_115 rfl rfl ?_
              refine g_if_eq (t := 137) (q := 120) dX6_evening_117 (by decide) rfl (by first | assumption | exact in32_gB | exact in32_gCmp | (unfold in32; omega)) (fun c117 => ?_) (fun c117 => absurd c117 (by decide))
              refine g_ldcw (a := -2000000000) (q := 140) dX6_evening_137 q1766 (by decide) rfl ?_
              refine g_goto (t := 148) dX6_evening_140 (by decide) ?_
              exact g_iret dX6_evening_148 rfl ⟨rI (by first | exact (if_pos (by omega)).symm | exact (if_neg (by omega)).symm), _, rfl⟩
          · refine g_iconst (q := 50) dX6_evening_49 rfl ?_
            refine g_goto (t := 54) dX6_evening_50 (by decide) ?_
            refine g_istore (q := 56) dX6_evening_54 gs4 rfl ?_
            refine g_aload_n (q := 57) dX6_evening_56 rfl rfl ?_
            refine g_iload_n (q := 58) dX6_evening_57 rfl rfl ?_
            refine g_iload_n (q := 59) dX6_evening_58 rfl rfl ?_
            refine g_iadd (q := 60) dX6_evening_59 rfl ?_
            refine g_cvV (I' := iX6_hoursGo) (mc := 0) (ms := 0) (rc := 0) (rs := 0) (ci := 7) (q := 63) dX6_evening_60 q1709 q1711 rfl qs70 gcX6_hoursGo mO (c_hoursGo (d := d + 2) hw (B := B + 40) (by omega) (by omega) hkl hkn (by omega) ho) rfl rfl ?_
            refine g_aload_n (q := 64) dX6_evening_63 rfl rfl ?_
            refine g_iload_n (q := 65) dX6_evening_64 rfl rfl ?_
            refine g_cv (I' := iX6_learns) (mc := 0) (ms := 0) (rc := 0) (rs := 0) (ci := 7) (q := 68) dX6_evening_65 q1700 q1702 rfl qs69 gcX6_learns mO (c_learns (d := d + 1) hw hx (by omega) hkl hkn z.1.1 hr1) rfl rfl ?_
            refine g_istore (q := 70) dX6_evening_68 gs5 rfl ?_
            refine g_aload_n (q := 71) dX6_evening_70 rfl rfl ?_
            refine g_cvV (I' := iX6_takeBack) (mc := 0) (ms := 0) (rc := 0) (rs := 0) (ci := 7) (q := 74) dX6_evening_71 q1750 q1752 rfl qs75 gcX6_takeBack mO (c_back (c := 0) (hs0 := hs) (by omega) (by omega) (fun j h2 h3 => by rw [cpyI_in (by omega) (by omega)]; congr 1; omega)) rfl rfl ?_
            refine g_aload_n (q := 75) dX6_evening_74 rfl rfl ?_
            refine g_cvV (I' := iX6_copy) (mc := 0) (ms := 0) (rc := 0) (rs := 0) (ci := 7) (q := 78) dX6_evening_75 q1746 q1748 rfl qs74 gcX6_copy mO (c_copy (by omega) (by omega)) rfl rfl ?_
            refine g_aload_n (q := 79) dX6_evening_78 rfl rfl ?_
            refine g_iload_n (q := 80) dX6_evening_79 rfl rfl ?_
            refine g_cvV (I' := iX6_hoursGo) (mc := 0) (ms := 0) (rc := 0) (rs := 0) (ci := 7) (q := 83) dX6_evening_80 q1709 q1711 rfl qs70 gcX6_hoursGo mO (c_hoursGo (d := d + 2) hw hB0 (by omega) hkl hkn (by omega) hh) rfl rfl ?_
            refine g_aload_n (q := 84) dX6_evening_83 rfl rfl ?_
            refine g_iload_n (q := 85) dX6_evening_84 rfl rfl ?_
            refine g_cv (I' := iX6_learns) (mc := 0) (ms := 0) (rc := 0) (rs := 0) (ci := 7) (q := 88) dX6_evening_85 q1700 q1702 rfl qs69 gcX6_learns mO (c_learns (d := d + 1) hw hl (by omega) hkl hkn z.1.1 hr1) rfl rfl ?_
            refine g_iconst (q := 89) dX6_evening_88 rfl ?_
            refine g_icmp_eq (t := 96) (q := 92) dX6_evening_89 (by decide) rfl (by first | assumption | exact in32_gB | exact in32_gCmp | (unfold in32; omega)) (by first | assumption | exact in32_gB | exact in32_gCmp | (unfold in32; omega)) (fun c89 => ?_) (fun c89 => ?_)
            · refine g_iconst (q := 97) dX6_evening_96 rfl ?_
              refine g_istore (q := 99) dX6_evening_97 gs6 rfl ?_
              refine g_aload_n (q := 100) dX6_evening_99 rfl rfl ?_
              refine g_iload_n (q := 101) dX6_evening_100 rfl rfl ?_
              refine g_cvV (I' := iX6_hoursGo) (mc := 0) (ms := 0) (rc := 0) (rs := 0) (ci := 7) (q := 104) dX6_evening_101 q1709 q1711 rfl qs70 gcX6_hoursGo mO (c_hoursGo (d := d + 2) hw (B := B + (l.toNat : Int) + 40) (by omega) (by omega) hkl hkn (by omega) hl2) rfl rfl ?_
              refine g_aload_n (q := 105) dX6_evening_104 rfl rfl ?_
              refine g_iload_n (q := 106) dX6_evening_105 rfl rfl ?_
              refine g_cv (I' := iX6_learns) (mc := 0) (ms := 0) (rc := 0) (rs := 0) (ci := 7) (q := 109) dX6_evening_106 q1700 q1702 rfl qs69 gcX6_learns mO (c_learns (d := d + 1) hw hx2 (by omega) hkl hkn z.1.1 hr1) rfl rfl ?_
              refine g_istore (q := 111) dX6_evening_109 gs7 rfl ?_
              refine g_aload_n (q := 112) dX6_evening_111 rfl rfl ?_
              refine g_cvV (I' := iX6_takeBack) (mc := 0) (ms := 0) (rc := 0) (rs := 0) (ci := 7) (q := 115) dX6_evening_112 q1750 q1752 rfl qs75 gcX6_takeBack mO (c_back (c := 0) (hs0 := hs) (by omega) (by omega) (fun j h2 h3 => by rw [cpyI_in (by omega) (by omega)]; congr 1; omega)) rfl rfl ?_
              refine g_iload (q := 117) dX6_evening_115 rfl rfl ?_
              refine g_if_eq (t := 137) (q := 120) dX6_evening_117 (by decide) rfl (by first | assumption | exact in32_gB | exact in32_gCmp | (unfold in32; omega)) (fun c117 => absurd c117 (by decide)) (fun c117 => ?_)
              refine g_iload (q := 122) dX6_evening_120 rfl rfl ?_
              refine g_if_eq (t := 137) (q := 125) dX6_evening_122 (by decide) rfl (by first | assumption | exact in32_gB | exact in32_gCmp | (unfold in32; omega)) (fun c122 => ?_) (fun c122 => absurd c122 (by decide))
              refine g_ldcw (a := -2000000000) (q := 140) dX6_evening_137 q1766 (by decide) rfl ?_
              refine g_goto (t := 148) dX6_evening_140 (by decide) ?_
              exact g_iret dX6_evening_148 rfl ⟨rI (by first | exact (if_pos (by omega)).symm | exact (if_neg (by omega)).symm), _, rfl⟩
            · refine g_iconst (q := 93) dX6_evening_92 rfl ?_
              refine g_goto (t := 97) dX6_evening_93 (by decide) ?_
              refine g_istore (q := 99) dX6_evening_97 gs6 rfl ?_
              refine g_aload_n (q := 100) dX6_evening_99 rfl rfl ?_
              refine g_iload_n (q := 101) dX6_evening_100 rfl rfl ?_
              refine g_cvV (I' := iX6_hoursGo) (mc := 0) (ms := 0) (rc := 0) (rs := 0) (ci := 7) (q := 104) dX6_evening_101 q1709 q1711 rfl qs70 gcX6_hoursGo mO (c_hoursGo (d := d + 2) hw (B := B + (l.toNat : Int) + 40) (by omega) (by omega) hkl hkn (by omega) hl2) rfl rfl ?_
              refine g_aload_n (q := 105) dX6_evening_104 rfl rfl ?_
              refine g_iload_n (q := 106) dX6_evening_105 rfl rfl ?_
              refine g_cv (I' := iX6_learns) (mc := 0) (ms := 0) (rc := 0) (rs := 0) (ci := 7) (q := 109) dX6_evening_106 q1700 q1702 rfl qs69 gcX6_learns mO (c_learns (d := d + 1) hw hx2 (by omega) hkl hkn z.1.1 hr1) rfl rfl ?_
              refine g_istore (q := 111) dX6_evening_109 gs7 rfl ?_
              refine g_aload_n (q := 112) dX6_evening_111 rfl rfl ?_
              refine g_cvV (I' := iX6_takeBack) (mc := 0) (ms := 0) (rc := 0) (rs := 0) (ci := 7) (q := 115) dX6_evening_112 q1750 q1752 rfl qs75 gcX6_takeBack mO (c_back (c := 0) (hs0 := hs) (by omega) (by omega) (fun j h2 h3 => by rw [cpyI_in (by omega) (by omega)]; congr 1; omega)) rfl rfl ?_
              refine g_iload (q := 117) dX6_evening_115 rfl rfl ?_
              refine g_if_eq (t := 137) (q := 120) dX6_evening_117 (by decide) rfl (by first | assumption | exact in32_gB | exact in32_gCmp | (unfold in32; omega)) (fun c117 => absurd c117 (by decide)) (fun c117 => ?_)
              refine g_iload (q := 122) dX6_evening_120 rfl rfl ?_
              refine g_if_eq (t := 137) (q := 125) dX6_evening_122 (by decide) rfl (by first | assumption | exact in32_gB | exact in32_gCmp | (unfold in32; omega)) (fun c122 => absurd c122 (by decide)) (fun c122 => ?_)
              refine g_iload (q := 127) dX6_evening_125 rfl rfl ?_
              refine g_iconst (q := 128) dX6_evening_127 rfl ?_
              refine g_icmp_eq (t := 137) (q := 131) dX6_evening_128 (by decide) rfl (by first | assumption | exact in32_gB | exact in32_gCmp | (unfold in32; omega)) (by first | assumption | exact in32_gB | exact in32_gCmp | (unfold in32; omega)) (fun c128 => ?_) (fun c128 => ?_)
              · refine g_ldcw (a := -2000000000) (q := 140) dX6_evening_137 q1766 (by decide) rfl ?_
                refine g_goto (t := 148) dX6_evening_140 (by decide) ?_
                exact g_iret dX6_evening_148 rfl ⟨rI (by first | exact (if_pos (by omega)).symm | exact (if_neg (by omega)).symm), _, rfl⟩
              · refine g_iload (q := 133) dX6_evening_131 rfl rfl ?_
                refine g_iconst (q := 134) dX6_evening_133 rfl ?_
                refine g_icmp_ne (t := 143) (q := 137) dX6_evening_134 (by decide) rfl (by first | assumption | exact in32_gB | exact in32_gCmp | (unfold in32; omega)) (by first | assumption | exact in32_gB | exact in32_gCmp | (unfold in32; omega)) (fun c134 => ?_) (fun c134 => ?_)
                · refine g_iload (q := 145) dX6_evening_143 rfl rfl ?_
                  refine g_iload (q := 147) dX6_evening_145 rfl rfl ?_
                  refine g_isub (q := 148) dX6_evening_147 rfl ?_
                  exact g_iret dX6_evening_148 rfl ⟨rI (by first | exact (if_pos (by omega)).symm | exact (if_neg (by omega)).symm), _, rfl⟩
                · refine g_ldcw (a := -2000000000) (q := 140) dX6_evening_137 q1766 (by decide) rfl ?_
                  refine g_goto (t := 148) dX6_evening_140 (by decide) ?_
                  exact g_iret dX6_evening_148 rfl ⟨rI (by first | exact (if_pos (by omega)).symm | exact (if_neg (by omega)).symm), _, rfl⟩
        · exact absurd z.2.2 c29
  · rw [if_neg z]
    show GO E iX6_evening _ _ _ 0 [some (.ref am), some (vI r), some (vI l), some (vI v), none, none, none, none] [] _ _
    refine g_aload_n (q := 1) dX6_evening_0 rfl rfl ?_
    refine g_iload_n (q := 2) dX6_evening_1 rfl rfl ?_
    refine g_cv (I' := iX6_isRow) (mc := 0) (ms := 0) (rc := 0) (rs := 0) (ci := 7) (q := 5) dX6_evening_2 q1651 q1653 rfl qs60 gcX6_isRow mO (c_isRowM h1 hw.2.1) rfl rfl ?_
    refine g_ifeqB (t := 32) (q := 8) dX6_evening_5 (by decide) rfl (fun c5 => ?_) (fun c5 => ?_)
    · refine g_ldcw (a := -2000000000) (q := 35) dX6_evening_32 q1766 (by decide) rfl ?_
      exact g_iret dX6_evening_35 rfl ⟨rfl, _, rfl⟩
    · refine g_iload_n (q := 9) dX6_evening_8 rfl rfl ?_
      refine g_i2l (q := 10) dX6_evening_9 (by first | assumption | exact in32_gB | exact in32_gCmp | (unfold in32; omega)) rfl ?_
      refine g_lconst0 (q := 11) dX6_evening_10 rfl ?_
      refine g_ldc2 (a := 23) (q := 14) dX6_evening_11 q1794 (by decide) rfl ?_
      refine g_cs (I' := iX6_in) (mc := 0) (ms := 0) (rc := 0) (rs := 0) (q := 17) dX6_evening_14 q1514 q1515 gcX6_in (c_inM (by unfold in64; omega) (by unfold in64; omega) (by unfold in64; omega)) rfl rfl ?_
      refine g_ifeqB (t := 32) (q := 20) dX6_evening_17 (by decide) rfl (fun c17 => ?_) (fun c17 => ?_)
      · refine g_ldcw (a := -2000000000) (q := 35) dX6_evening_32 q1766 (by decide) rfl ?_
        exact g_iret dX6_evening_35 rfl ⟨rfl, _, rfl⟩
      · refine g_iload_n (q := 21) dX6_evening_20 rfl rfl ?_
        refine g_i2l (q := 22) dX6_evening_21 (by first | assumption | exact in32_gB | exact in32_gCmp | (unfold in32; omega)) rfl ?_
        refine g_lconst0 (q := 23) dX6_evening_22 rfl ?_
        refine g_ldc2 (a := 200) (q := 26) dX6_evening_23 q1708 (by decide) rfl ?_
        refine g_cs (I' := iX6_in) (mc := 0) (ms := 0) (rc := 0) (rs := 0) (q := 29) dX6_evening_26 q1514 q1515 gcX6_in (c_inM (by unfold in64; omega) (by unfold in64; omega) (by unfold in64; omega)) rfl rfl ?_
        refine g_ifneB (t := 36) (q := 32) dX6_evening_29 (by decide) rfl (fun c29 => ?_) (fun c29 => ?_)
        · exact absurd ⟨c5, c17, c29⟩ z
        · refine g_ldcw (a := -2000000000) (q := 35) dX6_evening_32 q1766 (by decide) rfl ?_
          exact g_iret dX6_evening_35 rfl ⟨rfl, _, rfl⟩
end
