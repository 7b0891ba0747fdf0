/-! THE REFERENCE: what would be, 2 -/
set_option maxRecDepth 100000
def eveI (p q a b : Int) : Int := if p = -1 ∨ q = -1 ∨ a = -1 ∨ b = -1 then -2000000000 else a - b
def mEvening (w hs : Int → Int) (kl kn r l v : Int) : Int :=
  eveI (mLearns w hs kl kn r).1 (mLearns w (mHours w kl kn l.toNat hs) kl kn r).1
    (mLearns w (mHours w kl kn (l + v).toNat (mLearns w hs kl kn r).2) kl kn r).1
    (mLearns w (mHours w kl kn v.toNat (mLearns w (mHours w kl kn l.toNat hs) kl kn r).2) kl kn r).1
def mustL (w hs : Int → Int) (kl kn r : Int) : Nat → Int → Int → Int
  | 0, _, best => best
  | f + 1, s, best => mustL w hs kl kn r f (s + 1) (if orM (mWithout w hs kl kn r best) < orM (mWithout w hs kl kn r s) then s else best)
section
variable {E : gE} {d rc rs am : Nat} {G : gH}
variable {th si lo td sz pa fr tk vl fk fp hdt kl kn cd bp bl : Int} {w hs bk iW iH iB iL iS tp fv fsh lt cp md sw nd mn my wd nm mv : Int → Int}
variable {s a b r r2 i k v e B c n l : Int} {Q : Outcome → gH → Prop}
theorem c_gone (hw : WFw w) (hh : HSok B hs) (hB0 : 0 ≤ B) (hB : B ≤ 800000000) (hkl : in32 kl) (hkn : in32 kn) (h1 : in32 r) : CALL E iX6_gone (d + 6) 0 0 [.ref am, vI r] (mH E G am th w hs si lo bk iW iH iB iL iS tp td fv sz pa fr tk vl fk fp fsh hdt lt kl kn cp 0 bp bl md sw nd mn my wd nm mv) (qS (if 0 ≤ r ∧ r ≤ w 2 - 1 then goneL w kl kn r 61 0 hs else -2) fun y => (mH E G am th w hs si lo bk iW iH iB iL iS tp td fv sz pa fr tk vl fk fp fsh hdt lt kl kn y 0 bp bl md sw nd mn my wd nm mv)) := by
  by_cases z : 0 ≤ r ∧ r ≤ w 2 - 1
  · rw [if_pos z]
    have fin : ∀ (hs1 cp1 : Int → Int) (x3 : Option Value) (u : Int), (∀ j, 0 ≤ j → j < 2018 → cp1 (2018 * 0 + j) = hs j) → GO E iX6_gone (d + 6) 0 0 64 [some (.ref am), some (vI r), some (vI u), x3] [] (mH E G am th w hs1 si lo bk iW iH iB iL iS tp td fv sz pa fr tk vl fk fp fsh hdt lt kl kn cp1 (0 + 1) bp bl md sw nd mn my wd nm mv) (qS u fun y => (mH E G am th w hs si lo bk iW iH iB iL iS tp td fv sz pa fr tk vl fk fp fsh hdt lt kl kn y 0 bp bl md sw nd mn my wd nm mv)) := by
      intro hs1 cp1 x3 u hc
      refine g_aload_n (q := 65) dX6_gone_64 rfl rfl ?_
      refine g_cvV (I' := iX6_takeBack) (mc := 0) (ms := 0) (rc := 0) (rs := 0) (ci := 7) (q := 68) dX6_gone_65 q1750 q1752 rfl qs75 gcX6_takeBack mO (c_back (c := 0) (hs0 := hs) (by omega) (by omega) hc) rfl rfl ?_
      refine g_iload_n (q := 69) dX6_gone_68 rfl rfl ?_
      exact g_iret dX6_gone_69 rfl ⟨rfl, _, rfl⟩
    have out : ∀ (hs1 cp1 : Int → Int) (h u : Int), (∀ j, 0 ≤ j → j < 2018 → cp1 (2018 * 0 + j) = hs j) → 0 ≤ h → h ≤ 1000 → (0 ≤ u ∧ u ≤ 1000) → GO E iX6_gone (d + 6) 0 0 19 [some (.ref am), some (vI r), some (vI u), some (vI h)] [] (mH E G am th w hs1 si lo bk iW iH iB iL iS tp td fv sz pa fr tk vl fk fp fsh hdt lt kl kn cp1 (0 + 1) bp bl md sw nd mn my wd nm mv) (qS u fun y => (mH E G am th w hs si lo bk iW iH iB iL iS tp td fv sz pa fr tk vl fk fp fsh hdt lt kl kn y 0 bp bl md sw nd mn my wd nm mv)) := by
      intro hs1 cp1 h u hc g1 g2 g3
      refine g_iload_n (q := 20) dX6_gone_19 rfl rfl ?_
      refine g_bipush (q := 22) dX6_gone_20 rfl ?_
      refine g_icmp_gt (t := 64) (q := 25) dX6_gone_22 (by decide) rfl (by first | assumption | exact in32_gB | exact in32_gCmp | (unfold in32; omega)) (by first | assumption | exact in32_gB | exact in32_gCmp | (unfold in32; omega)) (fun c22 => ?_) (fun c22 => ?_)
      · exact fin _ _ _ _ hc
      · refine g_iload_n (q := 26) dX6_gone_25 rfl rfl ?_
        refine g_iconst (q := 27) dX6_gone_26 rfl ?_
        refine g_icmp_ne (t := 64) (q := 30) dX6_gone_27 (by decide) rfl (by first | assumption | exact in32_gB | exact in32_gCmp | (unfold in32; omega)) (by first | assumption | exact in32_gB | exact in32_gCmp | (unfold in32; omega)) (fun c27 => ?_) (fun c27 => ?_)
        · exact fin _ _ _ _ hc
        · exact absurd c27 (by omega)
    have loop : ∀ (f : Nat) (h B : Int) (hs1 cp1 : Int → Int), (∀ j, 0 ≤ j → j < 2018 → cp1 (2018 * 0 + j) = hs j) → HSok B hs1 → 0 ≤ B → B + f ≤ 900000000 → 0 ≤ h → h + f = 61 → GO E iX6_gone (d + 6) 0 0 19 [some (.ref am), some (vI r), some (vI (-1)), some (vI h)] [] (mH E G am th w hs1 si lo bk iW iH iB iL iS tp td fv sz pa fr tk vl fk fp fsh hdt lt kl kn cp1 (0 + 1) bp bl md sw nd mn my wd nm mv) (qS (goneL w kl kn r f h hs1) fun y => (mH E G am th w hs si lo bk iW iH iB iL iS tp td fv sz pa fr tk vl fk fp fsh hdt lt kl kn y 0 bp bl md sw nd mn my wd nm mv)) := by
      intro f
      induction f with
      | zero =>
        intro h B hs1 cp1 hc g g1 g2 g3 g4
        refine g_iload_n (q := 20) dX6_gone_19 rfl rfl ?_
        refine g_bipush (q := 22) dX6_gone_20 rfl ?_
        refine g_icmp_gt (t := 64) (q := 25) dX6_gone_22 (by decide) rfl (by first | assumption | exact in32_gB | exact in32_gCmp | (unfold in32; omega)) (by first | assumption | exact in32_gB | exact in32_gCmp | (unfold in32; omega)) (fun c22 => ?_) (fun c22 => ?_)
        · exact fin _ _ _ _ hc
        · exact absurd c22 (by omega)
      | succ f ih =>
        intro h B hs1 cp1 hc g g1 g2 g3 g4
        have l1 := lrn32 (kl := kl) (kn := kn) hw z.1 (show r < w 2 by omega) g
        have l2 := lrn32 (kl := kl) (kn := kn) hw z.1 (show r < w 2 by omega) (g.zero g1)
        have o1 := orM_in (n := (mLearns w hs1 kl kn r).1) (by omega)
        have o2 := orM_in (n := (mLearns w (mZero hs1) kl kn r).1) (by omega)
        by_cases y : orM (mLearns w hs1 kl kn r).1 < orM (mLearns w (mZero hs1) kl kn r).1
        · rw [show goneL w kl kn r (f + 1) h hs1 = goneL w kl kn r f (h + 1) (mHour w hs1 kl kn) from if_pos y]
          refine g_iload_n (q := 20) dX6_gone_19 rfl rfl ?_
          refine g_bipush (q := 22) dX6_gone_20 rfl ?_
          refine g_icmp_gt (t := 64) (q := 25) dX6_gone_22 (by decide) rfl (by first | assumption | exact in32_gB | exact in32_gCmp | (unfold in32; omega)) (by first | assumption | exact in32_gB | exact in32_gCmp | (unfold in32; omega)) (fun c22 => ?_) (fun c22 => ?_)
          · exact absurd c22 (by omega)
          · refine g_iload_n (q := 26) dX6_gone_25 rfl rfl ?_
            refine g_iconst (q := 27) dX6_gone_26 rfl ?_
            refine g_icmp_ne (t := 64) (q := 30) dX6_gone_27 (by decide) rfl (by first | assumption | exact in32_gB | exact in32_gCmp | (unfold in32; omega)) (by first | assumption | exact in32_gB | exact in32_gCmp | (unfold in32; omega)) (fun c27 => ?_) (fun c27 => ?_)
            · exact absurd rfl c27
            · refine g_aload_n (q := 31) dX6_gone_30 rfl rfl ?_
              refine g_iload_n (q := 32) dX6_gone_31 rfl rfl ?_
              refine g_cv (I' := iX6_needsOf) (mc := 0) (ms := 0) (rc := 0) (rs := 0) (ci := 7) (q := 35) dX6_gone_32 q1742 q1744 rfl qs73 gcX6_needsOf mO (c_needsOf (d := d) hw g (by omega) hkl hkn z.1 (by omega) (by omega) (by omega)) rfl rfl ?_
              refine g_cs (I' := iX6_orMany) (mc := 0) (ms := 0) (rc := 0) (rs := 0) (q := 38) dX6_gone_35 q1779 q1780 gcX6_orMany (c_orMany (by unfold in32; omega)) rfl rfl ?_
              refine g_aload_n (q := 39) dX6_gone_38 rfl rfl ?_
              refine g_iload_n (q := 40) dX6_gone_39 rfl rfl ?_
              refine g_cv (I' := iX6_freshOf) (mc := 0) (ms := 0) (rc := 0) (rs := 0) (ci := 7) (q := 43) dX6_gone_40 q1758 q1760 rfl qs76 gcX6_freshOf mO (c_freshOf (d := d) hw g g1 (by omega) hkl hkn z.1 (by omega) (by omega) (by omega)) rfl rfl ?_
              refine g_cs (I' := iX6_orMany) (mc := 0) (ms := 0) (rc := 0) (rs := 0) (q := 46) dX6_gone_43 q1779 q1780 gcX6_orMany (c_orMany (by unfold in32; omega)) rfl rfl ?_
              refine g_icmp_lt (t := 54) (q := 49) dX6_gone_46 (by decide) rfl (by first | assumption | exact in32_gB | exact in32_gCmp | (unfold in32; omega)) (by first | assumption | exact in32_gB | exact in32_gCmp | (unfold in32; omega)) (fun c46 => ?_) (fun c46 => ?_)
              · refine g_aload_n (q := 55) dX6_gone_54 rfl rfl ?_
                refine g_cvV (I' := iX6_hourGoes) (mc := 0) (ms := 0) (rc := 0) (rs := 0) (ci := 7) (q := 58) dX6_gone_55 q1713 q1715 rfl qs71 gcX6_hourGoes mO (c_hourGoes (d := d + 3) hw g (by omega) hkl hkn) rfl rfl ?_
                refine g_iinc (q := 61) dX6_gone_58 rfl gs3 rfl ?_
                refine g_goto (t := 19) dX6_gone_61 (by decide) ?_
                exact ih _ (B + 1) _ _ (fun j p1 p2 => by rw [cpyI_out (by omega), cpyI_out (by omega)]; exact hc j p1 p2) (g.hour hw g1) (by omega) (by omega) (by omega) (by omega)
              · exact absurd y (by omega)
        · rw [show goneL w kl kn r (f + 1) h hs1 = h from if_neg y]
          refine g_iload_n (q := 20) dX6_gone_19 rfl rfl ?_
          refine g_bipush (q := 22) dX6_gone_20 rfl ?_
          refine g_icmp_gt (t := 64) (q := 25) dX6_gone_22 (by decide) rfl (by first | assumption | exact in32_gB | exact in32_gCmp | (unfold in32; omega)) (by first | assumption | exact in32_gB | exact in32_gCmp | (unfold in32; omega)) (fun c22 => ?_) (fun c22 => ?_)
          · exact absurd c22 (by omega)
          · refine g_iload_n (q := 26) dX6_gone_25 rfl rfl ?_
            refine g_iconst (q := 27) dX6_gone_26 rfl ?_
            refine g_icmp_ne (t := 64) (q := 30) dX6_gone_27 (by decide) rfl (by first | assumption | exact in32_gB | exact in32_gCmp | (unfold in32; omega)) (by first | assumption | exact in32_gB | exact in32_gCmp | (unfold in32; omega)) (fun c27 => ?_) (fun c27 => ?_)
            · exact absurd rfl c27
            · refine g_aload_n (q := 31) dX6_gone_30 rfl rfl ?_
              refine g_iload_n (q := 32) dX6_gone_31 rfl rfl ?_
              refine g_cv (I' := iX6_needsOf) (mc := 0) (ms := 0) (rc := 0) (rs := 0) (ci := 7) (q := 35) dX6_gone_32 q1742 q1744 rfl qs73 gcX6_needsOf mO (c_needsOf (d := d) hw g (by omega) hkl hkn z.1 (by omega) (by omega) (by omega)) rfl rfl ?_
              refine g_cs (I' := iX6_orMany) (mc := 0) (ms := 0) (rc := 0) (rs := 0) (q := 38) dX6_gone_35 q1779 q1780 gcX6_orMany (c_orMany (by unfold in32; omega)) rfl rfl ?_
              refine g_aload_n (q := 39) dX6_gone_38 rfl rfl ?_
              refine g_iload_n (q := 40) dX6_gone_39 rfl rfl ?_
              refine g_cv (I' := iX6_freshOf) (mc := 0) (ms := 0) (rc := 0) (rs := 0) (ci := 7) (q := 43) dX6_gone_40 q1758 q1760 rfl qs76 gcX6_freshOf mO (c_freshOf (d := d) hw g g1 (by omega) hkl hkn z.1 (by omega) (by omega) (by omega)) rfl rfl ?_
              refine g_cs (I' := iX6_orMany) (mc := 0) (ms := 0) (rc := 0) (rs := 0) (q := 46) dX6_gone_43 q1779 q1780 gcX6_orMany (c_orMany (by unfold in32; omega)) rfl rfl ?_
              refine g_icmp_lt (t := 54) (q := 49) dX6_gone_46 (by decide) rfl (by first | assumption | exact in32_gB | exact in32_gCmp | (unfold in32; omega)) (by first | assumption | exact in32_gB | exact in32_gCmp | (unfold in32; omega)) (fun c46 => ?_) (fun c46 => ?_)
              · exact absurd c46 y
              · refine g_iload_n (q := 50) dX6_gone_49 rfl rfl ?_
                refine g_istore_n (q := 51) dX6_gone_50 gs2 rfl ?_
                refine g_goto (t := 58) dX6_gone_51 (by decide) ?_
                refine g_iinc (q := 61) dX6_gone_58 rfl gs3 rfl ?_
                refine g_goto (t := 19) dX6_gone_61 (by decide) ?_
                exact out _ _ _ _ (fun j p1 p2 => by rw [cpyI_out (by omega), cpyI_out (by omega)]; exact hc j p1 p2) (by omega) (by omega) (by omega)
    show GO E iX6_gone _ _ _ 0 [some (.ref am), some (vI r), none, none] [] _ _
    refine g_aload_n (q := 1) dX6_gone_0 rfl rfl ?_
    refine g_iload_n (q := 2) dX6_gone_1 rfl rfl ?_
    refine g_cv (I' := iX6_isRow) (mc := 0) (ms := 0) (rc := 0) (rs := 0) (ci := 7) (q := 5) dX6_gone_2 q1651 q1653 rfl qs60 gcX6_isRow mO (c_isRowM h1 hw.2.1) rfl rfl ?_
    refine g_ifneB (t := 11) (q := 8) dX6_gone_5 (by decide) rfl (fun c5 => ?_) (fun c5 => ?_)
    · refine g_aload_n (q := 12) dX6_gone_11 rfl rfl ?_
      refine g_cvV (I' := iX6_copy) (mc := 0) (ms := 0) (rc := 0) (rs := 0) (ci := 7) (q := 15) dX6_gone_12 q1746 q1748 rfl qs74 gcX6_copy mO (c_copy (by omega) (by omega)) rfl rfl ?_
      refine g_iconst (q := 16) dX6_gone_15 rfl ?_
      refine g_istore_n (q := 17) dX6_gone_16 gs2 rfl ?_
      refine g_iconst (q := 18) dX6_gone_17 rfl ?_
      refine g_istore_n (q := 19) dX6_gone_18 gs3 rfl ?_
      exact loop 61 0 B hs _ (fun j h2 h3 => by rw [cpyI_in (by omega) (by omega)]; congr 1; omega) hh hB0 (by omega) (by omega) (by omega)
    · exact absurd z c5
  · rw [if_neg z]
    show GO E iX6_gone _ _ _ 0 [some (.ref am), some (vI r), none, none] [] _ _
    refine g_aload_n (q := 1) dX6_gone_0 rfl rfl ?_
    refine g_iload_n (q := 2) dX6_gone_1 rfl rfl ?_
    refine g_cv (I' := iX6_isRow) (mc := 0) (ms := 0) (rc := 0) (rs := 0) (ci := 7) (q := 5) dX6_gone_2 q1651 q1653 rfl qs60 gcX6_isRow mO (c_isRowM h1 hw.2.1) rfl rfl ?_
    refine g_ifneB (t := 11) (q := 8) dX6_gone_5 (by decide) rfl (fun c5 => ?_) (fun c5 => ?_)
    · exact absurd c5 z
    · refine g_bipush (q := 10) dX6_gone_8 rfl ?_
      exact g_iret dX6_gone_10 rfl ⟨rfl, _, rfl⟩
theorem c_when (hw : WFw w) (hh : HSok B hs) (hB0 : 0 ≤ B) (hB : B ≤ 800000000) (hkl : in32 kl) (hkn : in32 kn) (h1 : in32 r) : CALL E iX6_when (d + 6) 0 0 [.ref am, vI r] (mH E G am th w hs si lo bk iW iH iB iL iS tp td fv sz pa fr tk vl fk fp fsh hdt lt kl kn cp 0 bp bl md sw nd mn my wd nm mv) (qS (if 0 ≤ r ∧ r ≤ w 2 - 1 then whenL w kl kn r 24 0 (-1) 41 hs else -2) fun y => (mH E G am th w hs si lo bk iW iH iB iL iS tp td fv sz pa fr tk vl fk fp fsh hdt lt kl kn y 0 bp bl md sw nd mn my wd nm mv)) := by
  by_cases z : 0 ≤ r ∧ r ≤ w 2 - 1
  · rw [if_pos z]
    have loop : ∀ (f : Nat) (h B best least : Int) (hs1 cp1 : Int → Int) (x5 : Option Value), (∀ j, 0 ≤ j → j < 2018 → cp1 (2018 * 0 + j) = hs j) → HSok B hs1 → 0 ≤ B → B + f ≤ 900000000 → 0 ≤ h → h + f = 24 → (0 ≤ least ∧ least ≤ 41) → GO E iX6_when (d + 6) 0 0 23 [some (.ref am), some (vI r), some (vI best), some (vI least), some (vI h), x5] [] (mH E G am th w hs1 si lo bk iW iH iB iL iS tp td fv sz pa fr tk vl fk fp fsh hdt lt kl kn cp1 (0 + 1) bp bl md sw nd mn my wd nm mv) (qS (whenL w kl kn r f h best least hs1) fun y => (mH E G am th w hs si lo bk iW iH iB iL iS tp td fv sz pa fr tk vl fk fp fsh hdt lt kl kn y 0 bp bl md sw nd mn my wd nm mv)) := by
      intro f
      induction f with
      | zero =>
        intro h B best least hs1 cp1 x5 hc g g1 g2 g3 g4 g5
        refine g_iload (q := 25) dX6_when_23 rfl rfl ?_
        refine g_bipush (q := 27) dX6_when_25 rfl ?_
        refine g_icmp_ge (t := 62) (q := 30) dX6_when_27 (by decide) rfl (by first | assumption | exact in32_gB | exact in32_gCmp | (unfold in32; omega)) (by first | assumption | exact in32_gB | exact in32_gCmp | (unfold in32; omega)) (fun c27 => ?_) (fun c27 => ?_)
        · refine g_aload_n (q := 63) dX6_when_62 rfl rfl ?_
          refine g_cvV (I' := iX6_takeBack) (mc := 0) (ms := 0) (rc := 0) (rs := 0) (ci := 7) (q := 66) dX6_when_63 q1750 q1752 rfl qs75 gcX6_takeBack mO (c_back (c := 0) (hs0 := hs) (by omega) (by omega) hc) rfl rfl ?_
          refine g_iload_n (q := 67) dX6_when_66 rfl rfl ?_
          exact g_iret dX6_when_67 rfl ⟨rfl, _, rfl⟩
        · exact absurd c27 (by omega)
      | succ f ih =>
        intro h B best least hs1 cp1 x5 hc g g1 g2 g3 g4 g5
        have l1 := lrn32 (kl := kl) (kn := kn) hw z.1 (show r < w 2 by omega) g
        have o1 := orM_in (n := (mLearns w hs1 kl kn r).1) (by omega)
        by_cases y : least ≤ orM (mLearns w hs1 kl kn r).1
        · rw [show whenL w kl kn r (f + 1) h best least hs1 = whenL w kl kn r f (h + 1) best least (mHour w hs1 kl kn) from if_pos y]
          refine g_iload (q := 25) dX6_when_23 rfl rfl ?_
          refine g_bipush (q := 27) dX6_when_25 rfl ?_
          refine g_icmp_ge (t := 62) (q := 30) dX6_when_27 (by decide) rfl (by first | assumption | exact in32_gB | exact in32_gCmp | (unfold in32; omega)) (by first | assumption | exact in32_gB | exact in32_gCmp | (unfold in32; omega)) (fun c27 => ?_) (fun c27 => ?_)
          · exact absurd c27 (by omega)
          · refine g_aload_n (q := 31) dX6_when_30 rfl rfl ?_
            refine g_iload_n (q := 32) dX6_when_31 rfl rfl ?_
            refine g_cv (I' := iX6_needsOf) (mc := 0) (ms := 0) (rc := 0) (rs := 0) (ci := 7) (q := 35) dX6_when_32 q1742 q1744 rfl qs73 gcX6_needsOf mO (c_needsOf (d := d) hw g (by omega) hkl hkn z.1 (by omega) (by omega) (by omega)) rfl rfl ?_
            refine g_cs (I' := iX6_orMany) (mc := 0) (ms := 0) (rc := 0) (rs := 0) (q := 38) dX6_when_35 q1779 q1780 gcX6_orMany (c_orMany (by unfold in32; omega)) rfl rfl ?_
            refine g_istore (q := 40) dX6_when_38 gs5 rfl ?_
            refine g_iload (q := 42) dX6_when_40 rfl rfl ?_
            refine g_iload_n (q := 43) dX6_when_42 rfl rfl ?_
            refine g_icmp_ge (t := 52) (q := 46) dX6_when_43 (by decide) rfl (by first | assumption | exact in32_gB | exact in32_gCmp | (unfold in32; omega)) (by first | assumption | exact in32_gB | exact in32_gCmp | (unfold in32; omega)) (fun c43 => ?_) (fun c43 => ?_)
            · refine g_aload_n (q := 53) dX6_when_52 rfl rfl ?_
              refine g_cvV (I' := iX6_hourGoes) (mc := 0) (ms := 0) (rc := 0) (rs := 0) (ci := 7) (q := 56) dX6_when_53 q1713 q1715 rfl qs71 gcX6_hourGoes mO (c_hourGoes (d := d + 3) hw g (by omega) hkl hkn) rfl rfl ?_
              refine g_iinc (q := 59) dX6_when_56 rfl gs4 rfl ?_
              refine g_goto (t := 23) dX6_when_59 (by decide) ?_
              exact ih _ (B + 1) _ _ _ _ _ (fun j p1 p2 => by rw [cpyI_out (by omega)]; exact hc j p1 p2) (g.hour hw g1) (by omega) (by omega) (by omega) (by omega) g5
            · exact absurd y (by omega)
        · rw [show whenL w kl kn r (f + 1) h best least hs1 = whenL w kl kn r f (h + 1) h (orM (mLearns w hs1 kl kn r).1) (mHour w hs1 kl kn) from if_neg y]
          refine g_iload (q := 25) dX6_when_23 rfl rfl ?_
          refine g_bipush (q := 27) dX6_when_25 rfl ?_
          refine g_icmp_ge (t := 62) (q := 30) dX6_when_27 (by decide) rfl (by first | assumption | exact in32_gB | exact in32_gCmp | (unfold in32; omega)) (by first | assumption | exact in32_gB | exact in32_gCmp | (unfold in32; omega)) (fun c27 => ?_) (fun c27 => ?_)
          · exact absurd c27 (by omega)
          · refine g_aload_n (q := 31) dX6_when_30 rfl rfl ?_
            refine g_iload_n (q := 32) dX6_when_31 rfl rfl ?_
            refine g_cv (I' := iX6_needsOf) (mc := 0) (ms := 0) (rc := 0) (rs := 0) (ci := 7) (q := 35) dX6_when_32 q1742 q1744 rfl qs73 gcX6_needsOf mO (c_needsOf (d := d) hw g (by omega) hkl hkn z.1 (by omega) (by omega) (by omega)) rfl rfl ?_
            refine g_cs (I' := iX6_orMany) (mc := 0) (ms := 0) (rc := 0) (rs := 0) (q := 38) dX6_when_35 q1779 q1780 gcX6_orMany (c_orMany (by unfold in32; omega)) rfl rfl ?_
            refine g_istore (q := 40) dX6_when_38 gs5 rfl ?_
            refine g_iload (q := 42) dX6_when_40 rfl rfl ?_
            refine g_iload_n (q := 43) dX6_when_42 rfl rfl ?_
            refine g_icmp_ge (t := 52) (q := 46) dX6_when_43 (by decide) rfl (by first | assumption | exact in32_gB | exact in32_gCmp | (unfold in32; omega)) (by first | assumption | exact in32_gB | exact in32_gCmp | (unfold in32; omega)) (fun c43 => ?_) (fun c43 => ?_)
            · exact absurd c43 y
            · refine g_iload (q := 48) dX6_when_46 rfl rfl ?_
              refine g_istore_n (q := 49) dX6_when_48 gs3 rfl ?_
              refine g_iload (q := 51) dX6_when_49 rfl rfl ?_
              refine g_istore_n (q := 52) dX6_when_51 gs2 rfl ?_
              refine g_aload_n (q := 53) dX6_when_52 rfl rfl ?_
              refine g_cvV (I' := iX6_hourGoes) (mc := 0) (ms := 0) (rc := 0) (rs := 0) (ci := 7) (q := 56) dX6_when_53 q1713 q1715 rfl qs71 gcX6_hourGoes mO (c_hourGoes (d := d + 3) hw g (by omega) hkl hkn) rfl rfl ?_
              refine g_iinc (q := 59) dX6_when_56 rfl gs4 rfl ?_
              refine g_goto (t := 23) dX6_when_59 (by decide) ?_
              exact ih _ (B + 1) _ _ _ _ _ (fun j p1 p2 => by rw [cpyI_out (by omega)]; exact hc j p1 p2) (g.hour hw g1) (by omega) (by omega) (by omega) (by omega) o1
    show GO E iX6_when _ _ _ 0 [some (.ref am), some (vI r), none, none, none, none] [] _ _
    refine g_aload_n (q := 1) dX6_when_0 rfl rfl ?_
    refine g_iload_n (q := 2) dX6_when_1 rfl rfl ?_
    refine g_cv (I' := iX6_isRow) (mc := 0) (ms := 0) (rc := 0) (rs := 0) (ci := 7) (q := 5) dX6_when_2 q1651 q1653 rfl qs60 gcX6_isRow mO (c_isRowM h1 hw.2.1) rfl rfl ?_
    refine g_ifneB (t := 11) (q := 8) dX6_when_5 (by decide) rfl (fun c5 => ?_) (fun c5 => ?_)
    · refine g_aload_n (q := 12) dX6_when_11 rfl rfl ?_
      refine g_cvV (I' := iX6_copy) (mc := 0) (ms := 0) (rc := 0) (rs := 0) (ci := 7) (q := 15) dX6_when_12 q1746 q1748 rfl qs74 gcX6_copy mO (c_copy (by omega) (by omega)) rfl rfl ?_
      refine g_iconst (q := 16) dX6_when_15 rfl ?_
      refine g_istore_n (q := 17) dX6_when_16 gs2 rfl ?_
      refine g_bipush (q := 19) dX6_when_17 rfl ?_
      refine g_istore_n (q := 20) dX6_when_19 gs3 rfl ?_
      refine g_iconst (q := 21) dX6_when_20 rfl ?_
      refine g_istore (q := 23) dX6_when_21 gs4 rfl ?_
      exact loop 24 0 B (-1) 41 hs _ _ (fun j h2 h3 => by rw [cpyI_in (by omega) (by omega)]; congr 1; omega) hh hB0 (by omega) (by omega) (by omega) (by omega)
    · exact absurd z c5
  · rw [if_neg z]
    show GO E iX6_when _ _ _ 0 [some (.ref am), some (vI r), none, none, none, none] [] _ _
    refine g_aload_n (q := 1) dX6_when_0 rfl rfl ?_
    refine g_iload_n (q := 2) dX6_when_1 rfl rfl ?_
    refine g_cv (I' := iX6_isRow) (mc := 0) (ms := 0) (rc := 0) (rs := 0) (ci := 7) (q := 5) dX6_when_2 q1651 q1653 rfl qs60 gcX6_isRow mO (c_isRowM h1 hw.2.1) rfl rfl ?_
    refine g_ifneB (t := 11) (q := 8) dX6_when_5 (by decide) rfl (fun c5 => ?_) (fun c5 => ?_)
    · exact absurd c5 z
    · refine g_bipush (q := 10) dX6_when_8 rfl ?_
      exact g_iret dX6_when_10 rfl ⟨rfl, _, rfl⟩
theorem up_back {w : Int → Int} {k x : Int} : upI (upI w k x) k (w k) = w := by
  funext j
  by_cases e : j = k
  · subst e; rw [upI_at]
  · rw [upI_ne e, upI_ne e]
theorem c_without (hw : WFw w) (hh : HSok B hs) (hB : B ≤ 900000000) (hkl : in32 kl) (hkn : in32 kn) (h1 : in32 r) (h2 : in32 s) : CALL E iX6_without (d + 6) 0 0 [.ref am, vI r, vI s] (mH E G am th w hs si lo bk iW iH iB iL iS tp td fv sz pa fr tk vl fk fp fsh hdt lt kl kn cp 0 bp bl md sw nd mn my wd nm mv) (qS (if (0 ≤ r ∧ r ≤ w 2 - 1) ∧ (0 ≤ s ∧ s ≤ 3) then mWithout w hs kl kn r s else -2) fun y => (mH E G am th w hs si lo bk iW iH iB iL iS tp td fv sz pa fr tk vl fk fp fsh hdt lt kl kn y 0 bp bl md sw nd mn my wd nm mv)) := by
  have h7 := h2.1
  have h8 := h2.2
  by_cases z : (0 ≤ r ∧ r ≤ w 2 - 1) ∧ (0 ≤ s ∧ s ≤ 3)
  · have hw2 := hw.noLean z.2.1 z.2.2
    have n2 : upI w (5 + s) 0 2 = w 2 := upI_ne (by omega)
    rw [if_pos z]
    show GO E iX6_without _ _ _ 0 [some (.ref am), some (vI r), some (vI s), none, none] [] _ _
    refine g_aload_n (q := 1) dX6_without_0 rfl rfl ?_
    refine g_iload_n (q := 2) dX6_without_1 rfl rfl ?_
    refine g_cv (I' := iX6_isRow) (mc := 0) (ms := 0) (rc := 0) (rs := 0) (ci := 7) (q := 5) dX6_without_2 q1651 q1653 rfl qs60 gcX6_isRow mO (c_isRowM h1 hw.2.1) rfl rfl ?_
    refine g_ifeqB (t := 20) (q := 8) dX6_without_5 (by decide) rfl (fun c5 => ?_) (fun c5 => ?_)
    · exact absurd z.1 c5
    · refine g_iload_n (q := 9) dX6_without_8 rfl rfl ?_
      refine g_i2l (q := 10) dX6_without_9 (by first | assumption | exact in32_gB | exact in32_gCmp | (unfold in32; omega)) rfl ?_
      refine g_lconst0 (q := 11) dX6_without_10 rfl ?_
      refine g_ldc2 (a := 3) (q := 14) dX6_without_11 q1630 (by decide) rfl ?_
      refine g_cs (I' := iX6_in) (mc := 0) (ms := 0) (rc := 0) (rs := 0) (q := 17) dX6_without_14 q1514 q1515 gcX6_in (c_inM (by unfold in64; omega) (by unfold in64; omega) (by unfold in64; omega)) rfl rfl ?_
      refine g_ifneB (t := 23) (q := 20) dX6_without_17 (by decide) rfl (fun c17 => ?_) (fun c17 => ?_)
      · refine g_aload_n (q := 24) dX6_without_23 rfl rfl ?_
        refine gm_get (k := 1) (q := 27) dX6_without_24 q1395 (by decide) rfl rfl ?_
        refine g_iconst (q := 28) dX6_without_27 rfl ?_
        refine g_iload_n (q := 29) dX6_without_28 rfl rfl ?_
        refine g_iadd (q := 30) dX6_without_29 rfl ?_
        refine g_iald (q := 31) dX6_without_30 mA1 (by omega) (by omega) rfl ?_
        refine g_istore_n (q := 32) dX6_without_31 gs3 rfl ?_
        refine g_aload_n (q := 33) dX6_without_32 rfl rfl ?_
        refine gm_get (k := 1) (q := 36) dX6_without_33 q1395 (by decide) rfl rfl ?_
        refine g_iconst (q := 37) dX6_without_36 rfl ?_
        refine g_iload_n (q := 38) dX6_without_37 rfl rfl ?_
        refine g_iadd (q := 39) dX6_without_38 rfl ?_
        refine g_iconst (q := 40) dX6_without_39 rfl ?_
        refine gm_st1 (q := 41) dX6_without_40 (by omega) (by omega)  rfl ?_
        refine g_aload_n (q := 42) dX6_without_41 rfl rfl ?_
        refine g_iload_n (q := 43) dX6_without_42 rfl rfl ?_
        refine g_cv (I' := iX6_needsOf) (mc := 0) (ms := 0) (rc := 0) (rs := 0) (ci := 7) (q := 46) dX6_without_43 q1742 q1744 rfl qs73 gcX6_needsOf mO (c_needsOf (d := d) hw2 hh hB hkl hkn z.1.1 (by rw [n2]; omega) (by omega) (by omega)) rfl rfl ?_
        refine g_istore (q := 48) dX6_without_46 gs4 rfl ?_
        refine g_aload_n (q := 49) dX6_without_48 rfl rfl ?_
        refine gm_get (k := 1) (q := 52) dX6_without_49 q1395 (by decide) rfl rfl ?_
        refine g_iconst (q := 53) dX6_without_52 rfl ?_
        refine g_iload_n (q := 54) dX6_without_53 rfl rfl ?_
        refine g_iadd (q := 55) dX6_without_54 rfl ?_
        refine g_iload_n (q := 56) dX6_without_55 rfl rfl ?_
        refine gm_st1 (q := 57) dX6_without_56 (by omega) (by omega)  rfl ?_
        rw [up_back]
        refine g_iload (q := 59) dX6_without_57 rfl rfl ?_
        exact g_iret dX6_without_59 rfl ⟨rfl, _, rfl⟩
      · exact absurd z.2 c17
  · rw [if_neg z]
    show GO E iX6_without _ _ _ 0 [some (.ref am), some (vI r), some (vI s), none, none] [] _ _
    refine g_aload_n (q := 1) dX6_without_0 rfl rfl ?_
    refine g_iload_n (q := 2) dX6_without_1 rfl rfl ?_
    refine g_cv (I' := iX6_isRow) (mc := 0) (ms := 0) (rc := 0) (rs := 0) (ci := 7) (q := 5) dX6_without_2 q1651 q1653 rfl qs60 gcX6_isRow mO (c_isRowM h1 hw.2.1) rfl rfl ?_
    refine g_ifeqB (t := 20) (q := 8) dX6_without_5 (by decide) rfl (fun c5 => ?_) (fun c5 => ?_)
    · refine g_bipush (q := 22) dX6_without_20 rfl ?_
      exact g_iret dX6_without_22 rfl ⟨rfl, _, rfl⟩
    · refine g_iload_n (q := 9) dX6_without_8 rfl rfl ?_
      refine g_i2l (q := 10) dX6_without_9 (by first | assumption | exact in32_gB | exact in32_gCmp | (unfold in32; omega)) rfl ?_
      refine g_lconst0 (q := 11) dX6_without_10 rfl ?_
      refine g_ldc2 (a := 3) (q := 14) dX6_without_11 q1630 (by decide) rfl ?_
      refine g_cs (I' := iX6_in) (mc := 0) (ms := 0) (rc := 0) (rs := 0) (q := 17) dX6_without_14 q1514 q1515 gcX6_in (c_inM (by unfold in64; omega) (by unfold in64; omega) (by unfold in64; omega)) rfl rfl ?_
      refine g_ifneB (t := 23) (q := 20) dX6_without_17 (by decide) rfl (fun c17 => ?_) (fun c17 => ?_)
      · exact absurd ⟨c5, c17⟩ z
      · refine g_bipush (q := 22) dX6_without_20 rfl ?_
        exact g_iret dX6_without_22 rfl ⟨rfl, _, rfl⟩
theorem c_must (hw : WFw w) (hh : HSok B hs) (hB : B ≤ 900000000) (hkl : in32 kl) (hkn : in32 kn) (h1 : in32 r) : CALL E iX6_must (d + 7) 0 0 [.ref am, vI r] (mH E G am th w hs si lo bk iW iH iB iL iS tp td fv sz pa fr tk vl fk fp fsh hdt lt kl kn cp 0 bp bl md sw nd mn my wd nm mv) (qS (if 0 ≤ r ∧ r ≤ w 2 - 1 then mustL w hs kl kn r 3 1 0 else -2) fun y => (mH E G am th w hs si lo bk iW iH iB iL iS tp td fv sz pa fr tk vl fk fp fsh hdt lt kl kn y 0 bp bl md sw nd mn my wd nm mv)) := by
  by_cases z : 0 ≤ r ∧ r ≤ w 2 - 1
  · rw [if_pos z]
    have lw : ∀ s : Int, 0 ≤ s → s ≤ 3 → -1 ≤ mWithout w hs kl kn r s ∧ mWithout w hs kl kn r s ≤ 40 := by
      intro s p1 p2
      have := lrn32 (kl := kl) (kn := kn) (hw.noLean p1 p2) z.1 (by rw [upI_ne (by omega)]; omega) hh
      exact ⟨this.1, this.2.1⟩
    have cwo : ∀ (s : Int) (cp : Int → Int), 0 ≤ s → s ≤ 3 → CALL E iX6_without (d + 6) 0 0 [.ref am, vI r, vI s] (mH E G am th w hs si lo bk iW iH iB iL iS tp td fv sz pa fr tk vl fk fp fsh hdt lt kl kn cp 0 bp bl md sw nd mn my wd nm mv) (qS (mWithout w hs kl kn r s) fun y => (mH E G am th w hs si lo bk iW iH iB iL iS tp td fv sz pa fr tk vl fk fp fsh hdt lt kl kn y 0 bp bl md sw nd mn my wd nm mv)) := by
      intro s cp p1 p2
      have := c_without (E := E) (d := d) (am := am) (G := G) (th := th) (si := si) (lo := lo) (td := td) (sz := sz) (pa := pa) (fr := fr) (tk := tk) (vl := vl) (fk := fk) (fp := fp) (hdt := hdt) (bp := bp) (bl := bl) (bk := bk) (iW := iW) (iH := iH) (iB := iB) (iL := iL) (iS := iS) (tp := tp) (fv := fv) (fsh := fsh) (lt := lt) (cp := cp) (md := md) (sw := sw) (nd := nd) (mn := mn) (my := my) (wd := wd) (nm := nm) (mv := mv) (s := s) hw hh hB hkl hkn h1 (by unfold in32; omega)
      rw [if_pos ⟨z, p1, p2⟩] at this
      exact this
    have loop : ∀ (f : Nat) (s best : Int) (cp : Int → Int), 1 ≤ s → s + f = 4 → 0 ≤ best → best ≤ 3 → GO E iX6_must (d + 7) 0 0 15 [some (.ref am), some (vI r), some (vI best), some (vI s)] [] (mH E G am th w hs si lo bk iW iH iB iL iS tp td fv sz pa fr tk vl fk fp fsh hdt lt kl kn cp 0 bp bl md sw nd mn my wd nm mv) (qS (mustL w hs kl kn r f s best) fun y => (mH E G am th w hs si lo bk iW iH iB iL iS tp td fv sz pa fr tk vl fk fp fsh hdt lt kl kn y 0 bp bl md sw nd mn my wd nm mv)) := by
      intro f
      induction f with
      | zero =>
        intro s best cp g1 g2 g3 g4
        refine g_iload_n (q := 16) dX6_must_15 rfl rfl ?_
        refine g_iconst (q := 17) dX6_must_16 rfl ?_
        refine g_icmp_ge (t := 49) (q := 20) dX6_must_17 (by decide) rfl (by first | assumption | exact in32_gB | exact in32_gCmp | (unfold in32; omega)) (by first | assumption | exact in32_gB | exact in32_gCmp | (unfold in32; omega)) (fun c17 => ?_) (fun c17 => ?_)
        · refine g_iload_n (q := 50) dX6_must_49 rfl rfl ?_
          exact g_iret dX6_must_50 rfl ⟨rfl, _, rfl⟩
        · exact absurd c17 (by omega)
      | succ f ih =>
        intro s best cp g1 g2 g3 g4
        have l1 := lw s (by omega) (by omega)
        have l2 := lw best (by omega) (by omega)
        have o1 := orM_in l1
        have o2 := orM_in l2
        have eq1 : mustL w hs kl kn r (f + 1) s best = mustL w hs kl kn r f (s + 1) (if orM (mWithout w hs kl kn r best) < orM (mWithout w hs kl kn r s) then s else best) := rfl
        rw [eq1]
        refine g_iload_n (q := 16) dX6_must_15 rfl rfl ?_
        refine g_iconst (q := 17) dX6_must_16 rfl ?_
        refine g_icmp_ge (t := 49) (q := 20) dX6_must_17 (by decide) rfl (by first | assumption | exact in32_gB | exact in32_gCmp | (unfold in32; omega)) (by first | assumption | exact in32_gB | exact in32_gCmp | (unfold in32; omega)) (fun c17 => ?_) (fun c17 => ?_)
        · exact absurd c17 (by omega)
        · refine g_aload_n (q := 21) dX6_must_20 rfl rfl ?_
          refine g_iload_n (q := 22) dX6_must_21 rfl rfl ?_
          refine g_iload_n (q := 23) dX6_must_22 rfl rfl ?_
          refine g_cvS (I' := iX6_without) (mc := 0) (ms := 0) (rc := 0) (rs := 0) (ci := 7) (q := 26) dX6_must_23 q1861 q1783 rfl q1784 gcX6_without mO (cwo _ _ (by omega) (by omega)) rfl rfl (fun cp23 => ?_)
          refine g_cs (I' := iX6_orMany) (mc := 0) (ms := 0) (rc := 0) (rs := 0) (q := 29) dX6_must_26 q1779 q1780 gcX6_orMany (c_orMany (by unfold in32; omega)) rfl rfl ?_
          refine g_aload_n (q := 30) dX6_must_29 rfl rfl ?_
          refine g_iload_n (q := 31) dX6_must_30 rfl rfl ?_
          refine g_iload_n (q := 32) dX6_must_31 rfl rfl ?_
          refine g_cvS (I' := iX6_without) (mc := 0) (ms := 0) (rc := 0) (rs := 0) (ci := 7) (q := 35) dX6_must_32 q1861 q1783 rfl q1784 gcX6_without mO (cwo _ _ (by omega) (by omega)) rfl rfl (fun cp32 => ?_)
          refine g_cs (I' := iX6_orMany) (mc := 0) (ms := 0) (rc := 0) (rs := 0) (q := 38) dX6_must_35 q1779 q1780 gcX6_orMany (c_orMany (by unfold in32; omega)) rfl rfl ?_
          refine g_icmp_le (t := 43) (q := 41) dX6_must_38 (by decide) rfl (by first | assumption | exact in32_gB | exact in32_gCmp | (unfold in32; omega)) (by first | assumption | exact in32_gB | exact in32_gCmp | (unfold in32; omega)) (fun c38 => ?_) (fun c38 => ?_)
          · first
              | rw [if_neg (show ¬ orM (mWithout w hs kl kn r best) < orM (mWithout w hs kl kn r s) by omega)]
              | rw [if_pos (show orM (mWithout w hs kl kn r best) < orM (mWithout w hs kl kn r s) by omega)]
            refine g_iinc (q := 46) dX6_must_43 rfl gs3 rfl ?_
            refine g_goto (t := 15) dX6_must_46 (by decide) ?_
            exact ih _ _ _ (by omega) (by omega) (by omega) (by omega)
          · refine g_iload_n (q := 42) dX6_must_41 rfl rfl ?_
            refine g_istore_n (q := 43) dX6_must_42 gs2 rfl ?_
            first
              | rw [if_neg (show ¬ orM (mWithout w hs kl kn r best) < orM (mWithout w hs kl kn r s) by omega)]
              | rw [if_pos (show orM (mWithout w hs kl kn r best) < orM (mWithout w hs kl kn r s) by omega)]
            refine g_iinc (q := 46) dX6_must_43 rfl gs3 rfl ?_
            refine g_goto (t := 15) dX6_must_46 (by decide) ?_
            exact ih _ _ _ (by omega) (by omega) (by omega) (by omega)
    show GO E iX6_must _ _ _ 0 [some (.ref am), some (vI r), none, none] [] _ _
    refine g_aload_n (q := 1) dX6_must_0 rfl rfl ?_
    refine g_iload_n (q := 2) dX6_must_1 rfl rfl ?_
    refine g_cv (I' := iX6_isRow) (mc := 0) (ms := 0) (rc := 0) (rs := 0) (ci := 7) (q := 5) dX6_must_2 q1651 q1653 rfl qs60 gcX6_isRow mO (c_isRowM h1 hw.2.1) rfl rfl ?_
    refine g_ifneB (t := 11) (q := 8) dX6_must_5 (by decide) rfl (fun c5 => ?_) (fun c5 => ?_)
    · refine g_iconst (q := 12) dX6_must_11 rfl ?_
      refine g_istore_n (q := 13) dX6_must_12 gs2 rfl ?_
      refine g_iconst (q := 14) dX6_must_13 rfl ?_
      refine g_istore_n (q := 15) dX6_must_14 gs3 rfl ?_
      exact loop 3 1 0 cp (by omega) (by omega) (by omega) (by omega)
    · exact absurd z c5
  · rw [if_neg z]
    show GO E iX6_must _ _ _ 0 [some (.ref am), some (vI r), none, none] [] _ _
    refine g_aload_n (q := 1) dX6_must_0 rfl rfl ?_
    refine g_iload_n (q := 2) dX6_must_1 rfl rfl ?_
    refine g_cv (I' := iX6_isRow) (mc := 0) (ms := 0) (rc := 0) (rs := 0) (ci := 7) (q := 5) dX6_must_2 q1651 q1653 rfl qs60 gcX6_isRow mO (c_isRowM h1 hw.2.1) rfl rfl ?_
    refine g_ifneB (t := 11) (q := 8) dX6_must_5 (by decide) rfl (fun c5 => ?_) (fun c5 => ?_)
    · exact absurd c5 z
    · refine g_bipush (q := 10) dX6_must_8 rfl ?_
      exact g_iret dX6_must_10 rfl ⟨rfl, _, rfl⟩
end
