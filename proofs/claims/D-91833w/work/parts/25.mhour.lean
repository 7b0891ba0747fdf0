/-! THE REFERENCE: hours -/
set_option maxRecDepth 100000
section
variable {E : gE} {d rc rs am : Nat} {G : gH}
variable {th si lo td sz pa fr tk vl fk fp hdt kl kn cd bp bl : Int} {w hs bk iW iH iB iL iS tp fv fsh lt cp md sw nd mn my wd nm mv : Int → Int}
variable {s a b r i k v e B c : Int} {Q : Outcome → gH → Prop}
/-- an hour over the second things, head at 24 -/
theorem l_hour3 (hw : WFw w) (hB : B ≤ 1000000000) (hkl : in32 kl) (hkn : in32 kn) (hs0 : 0 ≤ s) (hs1 : s ≤ 3) (ha : 0 ≤ a) (ha1 : a < w 1) :
    ∀ (n : Nat) (b : Int) (hs : Int → Int) (x5 : Option Value), HSok B hs → 0 ≤ b → b + n = (if s = 3 then 12 else w 1) →
    (∀ (x4 x5 : Option Value), GO E iX6_hourGoes (d + 2) 0 0 105 [some (.ref am), some (vI (w 1)), some (vI s), some (vI a), x4, x5] [] (mH E G am th w (mHrB w kl kn s a n b hs) si lo bk iW iH iB iL iS tp td fv sz pa fr tk vl fk fp fsh hdt lt kl kn cp cd bp bl md sw nd mn my wd nm mv) Q) →
    GO E iX6_hourGoes (d + 2) 0 0 24 [some (.ref am), some (vI (w 1)), some (vI s), some (vI a), some (vI b), x5] [] (mH E G am th w hs si lo bk iW iH iB iL iS tp td fv sz pa fr tk vl fk fp fsh hdt lt kl kn cp cd bp bl md sw nd mn my wd nm mv) Q := by
  intro n
  have hn := hw.1
  induction n with
  | zero =>
    intro b hs x5 hh h0 h1 kk
    have body : ∀ lim : Int, lim = (if s = 3 then 12 else w 1) → GO E iX6_hourGoes (d + 2) 0 0 37 [some (.ref am), some (vI (w 1)), some (vI s), some (vI a), some (vI b), x5] [vI lim, vI b] (mH E G am th w hs si lo bk iW iH iB iL iS tp td fv sz pa fr tk vl fk fp fsh hdt lt kl kn cp cd bp bl md sw nd mn my wd nm mv) Q := by
      intro lim hlim
      have hl2 : lim ≤ 24 := by split at hlim <;> omega
      refine g_icmp_ge (t := 105) (q := 40) dX6_hourGoes_37 (by decide) rfl (by first | assumption | exact in32_gB | exact in32_gCmp | (unfold in32; omega)) (by first | assumption | exact in32_gB | exact in32_gCmp | (unfold in32; omega)) (fun c37 => ?_) (fun c37 => ?_)
      · exact kk _ _
      · exact absurd c37 (by omega)
    refine g_iload (q := 26) dX6_hourGoes_24 rfl rfl ?_
    refine g_iload_n (q := 27) dX6_hourGoes_26 rfl rfl ?_
    refine g_iconst (q := 28) dX6_hourGoes_27 rfl ?_
    refine g_icmp_ne (t := 36) (q := 31) dX6_hourGoes_28 (by decide) rfl (by first | assumption | exact in32_gB | exact in32_gCmp | (unfold in32; omega)) (by first | assumption | exact in32_gB | exact in32_gCmp | (unfold in32; omega)) (fun c28 => ?_) (fun c28 => ?_)
    · refine g_iload_n (q := 37) dX6_hourGoes_36 rfl rfl ?_
      exact body _ (by first | rw [if_pos c28] | rw [if_neg c28])
    · refine g_bipush (q := 33) dX6_hourGoes_31 rfl ?_
      refine g_goto (t := 37) dX6_hourGoes_33 (by decide) ?_
      exact body _ (by first | rw [if_pos c28] | rw [if_neg c28])
  | succ n ih =>
    intro b hs x5 hh h0 h1 kk
    have hb24 : b < 24 := by split at h1 <;> omega
    have hb12 : s = 3 → b < 12 := by intro z; rw [if_pos z] at h1; omega
    have hk := lk_in hs0 hs1 ha (by omega) h0 hb24 hb12
    have hx := hh.1 _ hk.1 hk.2
    have hE : 0 ≤ w (10 + if s = 3 then a else b) ∧ w (10 + if s = 3 then a else b) ≤ 9 := hw.easy (by split <;> omega) (by split <;> omega)
    have hc := comes_in (w := w) (hs := hs) (kl := kl) (law := 4 + s) (has := hs (lkA s a b)) (ea := w (10 + if s = 3 then a else b)) hkn
    have eq1 : mHrB w kl kn s a (n + 1) b hs = mHrB w kl kn s a n (b + 1) (if 0 < hs (lkA s a b) then mChg hs (lkA s a b) (-(comes w hs kl kn (4 + s) (hs (lkA s a b)) (w (10 + if s = 3 then a else b)))) else hs) := rfl
    rw [eq1] at kk
    have fall : ∀ ea : Int, ea = (if s = 3 then a else b) → 0 < hs (lkA s a b) → GO E iX6_hourGoes (d + 2) 0 0 90 [some (.ref am), some (vI (w 1)), some (vI s), some (vI a), some (vI b), some (vI (lkA s a b))] [vI ea, vI 10, .ref (am + 1), vI (hs (lkA s a b)), vI (4 + s), .ref am, vI (lkA s a b), .ref am] (mH E G am th w hs si lo bk iW iH iB iL iS tp td fv sz pa fr tk vl fk fp fsh hdt lt kl kn cp cd bp bl md sw nd mn my wd nm mv) Q := by
      intro ea hea hpos
      subst hea
      rw [if_pos hpos] at kk
      refine g_iadd (q := 91) dX6_hourGoes_90 rfl ?_
      refine g_iald (q := 92) dX6_hourGoes_91 mA1 (by split <;> omega) (by split <;> omega) rfl ?_
      refine g_cv (I' := iX6_comesTo) (mc := 0) (ms := 0) (rc := 0) (rs := 0) (ci := 7) (q := 95) dX6_hourGoes_92 q1637 q1639 rfl qs58 gcX6_comesTo mO (c_comesTo (d := d) hw hh hB (by omega) (by omega) hkl hkn hx hE) rfl rfl ?_
      refine g_lneg (q := 96) dX6_hourGoes_95 rfl ?_
      refine g_cvV (I' := iX6_changes) (mc := 0) (ms := 0) (rc := 0) (rs := 0) (ci := 7) (q := 99) dX6_hourGoes_96 q1686 q1688 rfl qs67 gcX6_changes mO (c_changes (d := d) hk.1 hk.2 hh (by omega)) rfl rfl ?_
      refine g_iinc (q := 102) dX6_hourGoes_99 rfl gs4 rfl ?_
      refine g_goto (t := 24) dX6_hourGoes_102 (by decide) ?_
      exact ih _ _ _ (hh.chg hk.1 hk.2) (by omega) (by omega) kk
    have body : ∀ lim : Int, lim = (if s = 3 then 12 else w 1) → GO E iX6_hourGoes (d + 2) 0 0 37 [some (.ref am), some (vI (w 1)), some (vI s), some (vI a), some (vI b), x5] [vI lim, vI b] (mH E G am th w hs si lo bk iW iH iB iL iS tp td fv sz pa fr tk vl fk fp fsh hdt lt kl kn cp cd bp bl md sw nd mn my wd nm mv) Q := by
      intro lim hlim
      have hl2 : 0 ≤ lim ∧ lim ≤ 24 := by split at hlim <;> omega
      refine g_icmp_ge (t := 105) (q := 40) dX6_hourGoes_37 (by decide) rfl (by first | assumption | exact in32_gB | exact in32_gCmp | (unfold in32; omega)) (by first | assumption | exact in32_gB | exact in32_gCmp | (unfold in32; omega)) (fun c37 => ?_) (fun c37 => ?_)
      · exact absurd c37 (by omega)
      · refine g_iload_n (q := 41) dX6_hourGoes_40 rfl rfl ?_
        refine g_iload_n (q := 42) dX6_hourGoes_41 rfl rfl ?_
        refine g_iload (q := 44) dX6_hourGoes_42 rfl rfl ?_
        refine g_cs (I' := iX6_linkAt) (mc := 0) (ms := 0) (rc := 0) (rs := 0) (q := 47) dX6_hourGoes_44 q1672 q1673 gcX6_linkAt (c_linkAt (by unfold in32; omega)) rfl rfl ?_
        refine g_istore (q := 49) dX6_hourGoes_47 gs5 rfl ?_
        refine g_aload_n (q := 50) dX6_hourGoes_49 rfl rfl ?_
        refine gm_get (k := 2) (q := 53) dX6_hourGoes_50 q1396 (by decide) rfl rfl ?_
        refine g_iload (q := 55) dX6_hourGoes_53 rfl rfl ?_
        refine g_iald (q := 56) dX6_hourGoes_55 mA2 (by omega) (by omega) rfl ?_
        refine g_if_le (t := 99) (q := 59) dX6_hourGoes_56 (by decide) rfl (by first | assumption | exact in32_gB | exact in32_gCmp | (unfold in32; omega)) (fun c56 => ?_) (fun c56 => ?_)
        · rw [if_neg (by omega)] at kk
          refine g_iinc (q := 102) dX6_hourGoes_99 rfl gs4 rfl ?_
          refine g_goto (t := 24) dX6_hourGoes_102 (by decide) ?_
          exact ih _ _ _ hh (by omega) (by omega) kk
        · refine g_aload_n (q := 60) dX6_hourGoes_59 rfl rfl ?_
          refine g_iload (q := 62) dX6_hourGoes_60 rfl rfl ?_
          refine g_aload_n (q := 63) dX6_hourGoes_62 rfl rfl ?_
          refine g_iconst (q := 64) dX6_hourGoes_63 rfl ?_
          refine g_iload_n (q := 65) dX6_hourGoes_64 rfl rfl ?_
          refine g_iadd (q := 66) dX6_hourGoes_65 rfl ?_
          refine g_aload_n (q := 67) dX6_hourGoes_66 rfl rfl ?_
          refine gm_get (k := 2) (q := 70) dX6_hourGoes_67 q1396 (by decide) rfl rfl ?_
          refine g_iload (q := 72) dX6_hourGoes_70 rfl rfl ?_
          refine g_iald (q := 73) dX6_hourGoes_72 mA2 (by omega) (by omega) rfl ?_
          refine g_aload_n (q := 74) dX6_hourGoes_73 rfl rfl ?_
          refine gm_get (k := 1) (q := 77) dX6_hourGoes_74 q1395 (by decide) rfl rfl ?_
          refine g_bipush (q := 79) dX6_hourGoes_77 rfl ?_
          refine g_iload_n (q := 80) dX6_hourGoes_79 rfl rfl ?_
          refine g_iconst (q := 81) dX6_hourGoes_80 rfl ?_
          refine g_icmp_ne (t := 88) (q := 84) dX6_hourGoes_81 (by decide) rfl (by first | assumption | exact in32_gB | exact in32_gCmp | (unfold in32; omega)) (by first | assumption | exact in32_gB | exact in32_gCmp | (unfold in32; omega)) (fun c81 => ?_) (fun c81 => ?_)
          · refine g_iload (q := 90) dX6_hourGoes_88 rfl rfl ?_
            exact fall _ (by first | rw [if_pos c81] | rw [if_neg c81]) c56
          · refine g_iload_n (q := 85) dX6_hourGoes_84 rfl rfl ?_
            refine g_goto (t := 90) dX6_hourGoes_85 (by decide) ?_
            exact fall _ (by first | rw [if_pos c81] | rw [if_neg c81]) c56
    refine g_iload (q := 26) dX6_hourGoes_24 rfl rfl ?_
    refine g_iload_n (q := 27) dX6_hourGoes_26 rfl rfl ?_
    refine g_iconst (q := 28) dX6_hourGoes_27 rfl ?_
    refine g_icmp_ne (t := 36) (q := 31) dX6_hourGoes_28 (by decide) rfl (by first | assumption | exact in32_gB | exact in32_gCmp | (unfold in32; omega)) (by first | assumption | exact in32_gB | exact in32_gCmp | (unfold in32; omega)) (fun c28 => ?_) (fun c28 => ?_)
    · refine g_iload_n (q := 37) dX6_hourGoes_36 rfl rfl ?_
      exact body _ (by first | rw [if_pos c28] | rw [if_neg c28])
    · refine g_bipush (q := 33) dX6_hourGoes_31 rfl ?_
      refine g_goto (t := 37) dX6_hourGoes_33 (by decide) ?_
      exact body _ (by first | rw [if_pos c28] | rw [if_neg c28])
/-- over the first things, head at 16 -/
theorem l_hour2 (hw : WFw w) (hB : B ≤ 1000000000) (hkl : in32 kl) (hkn : in32 kn) (hs0 : 0 ≤ s) (hs1 : s ≤ 3) :
    ∀ (n : Nat) (a : Int) (hs : Int → Int) (x4 x5 : Option Value), HSok B hs → 0 ≤ a → a + n = w 1 →
    (∀ (x3 x4 x5 : Option Value), GO E iX6_hourGoes (d + 2) 0 0 111 [some (.ref am), some (vI (w 1)), some (vI s), x3, x4, x5] [] (mH E G am th w (mHrA w kl kn s n a hs) si lo bk iW iH iB iL iS tp td fv sz pa fr tk vl fk fp fsh hdt lt kl kn cp cd bp bl md sw nd mn my wd nm mv) Q) →
    GO E iX6_hourGoes (d + 2) 0 0 16 [some (.ref am), some (vI (w 1)), some (vI s), some (vI a), x4, x5] [] (mH E G am th w hs si lo bk iW iH iB iL iS tp td fv sz pa fr tk vl fk fp fsh hdt lt kl kn cp cd bp bl md sw nd mn my wd nm mv) Q := by
  intro n
  have hn := hw.1
  induction n with
  | zero =>
    intro a hs x4 x5 hh h0 h1 kk
    refine g_iload_n (q := 17) dX6_hourGoes_16 rfl rfl ?_
    refine g_iload_n (q := 18) dX6_hourGoes_17 rfl rfl ?_
    refine g_icmp_ge (t := 111) (q := 21) dX6_hourGoes_18 (by decide) rfl (by first | assumption | exact in32_gB | exact in32_gCmp | (unfold in32; omega)) (by first | assumption | exact in32_gB | exact in32_gCmp | (unfold in32; omega)) (fun c18 => ?_) (fun c18 => ?_)
    · exact kk _ _ _
    · exact absurd c18 (by omega)
  | succ n ih =>
    intro a hs x4 x5 hh h0 h1 kk
    have g : HSok B (mHrB w kl kn s a (if s = 3 then 12 else (w 1).toNat) 0 hs) := HSok.hrB hs0 hs1 h0 (by omega) _ _ _ hh (by omega) (by split <;> omega) (by intro z; rw [if_pos z]; omega)
    have next : ∀ (x4 x5 : Option Value), GO E iX6_hourGoes (d + 2) 0 0 105 [some (.ref am), some (vI (w 1)), some (vI s), some (vI a), x4, x5] [] (mH E G am th w (mHrB w kl kn s a (if s = 3 then 12 else (w 1).toNat) 0 hs) si lo bk iW iH iB iL iS tp td fv sz pa fr tk vl fk fp fsh hdt lt kl kn cp cd bp bl md sw nd mn my wd nm mv) Q := by
      intro x4 x5
      refine g_iinc (q := 108) dX6_hourGoes_105 rfl gs3 rfl ?_
      refine g_goto (t := 16) dX6_hourGoes_108 (by decide) ?_
      exact ih _ _ _ _ g (by omega) (by omega) kk
    refine g_iload_n (q := 17) dX6_hourGoes_16 rfl rfl ?_
    refine g_iload_n (q := 18) dX6_hourGoes_17 rfl rfl ?_
    refine g_icmp_ge (t := 111) (q := 21) dX6_hourGoes_18 (by decide) rfl (by first | assumption | exact in32_gB | exact in32_gCmp | (unfold in32; omega)) (by first | assumption | exact in32_gB | exact in32_gCmp | (unfold in32; omega)) (fun c18 => ?_) (fun c18 => ?_)
    · exact absurd c18 (by omega)
    · refine g_iconst (q := 22) dX6_hourGoes_21 rfl ?_
      refine g_istore (q := 24) dX6_hourGoes_22 gs4 rfl ?_
      exact l_hour3 (d := d) hw hB hkl hkn hs0 hs1 h0 (by omega) (if s = 3 then 12 else (w 1).toNat) 0 hs _ hh (by omega) (by split <;> omega) next
theorem l_hour1 (hw : WFw w) (hB : B ≤ 1000000000) (hkl : in32 kl) (hkn : in32 kn) :
    ∀ (n : Nat) (s : Int) (hs : Int → Int) (x3 x4 x5 : Option Value), HSok B hs → 0 ≤ s → s + n = 4 →
    (∀ (x2 x3 x4 x5 : Option Value), GO E iX6_hourGoes (d + 2) 0 0 117 [some (.ref am), some (vI (w 1)), x2, x3, x4, x5] [] (mH E G am th w (mHrS w kl kn n s hs) si lo bk iW iH iB iL iS tp td fv sz pa fr tk vl fk fp fsh hdt lt kl kn cp cd bp bl md sw nd mn my wd nm mv) Q) →
    GO E iX6_hourGoes (d + 2) 0 0 9 [some (.ref am), some (vI (w 1)), some (vI s), x3, x4, x5] [] (mH E G am th w hs si lo bk iW iH iB iL iS tp td fv sz pa fr tk vl fk fp fsh hdt lt kl kn cp cd bp bl md sw nd mn my wd nm mv) Q := by
  intro n
  have hn := hw.1
  induction n with
  | zero =>
    intro s hs x3 x4 x5 hh h0 h1 kk
    refine g_iload_n (q := 10) dX6_hourGoes_9 rfl rfl ?_
    refine g_iconst (q := 11) dX6_hourGoes_10 rfl ?_
    refine g_icmp_ge (t := 117) (q := 14) dX6_hourGoes_11 (by decide) rfl (by first | assumption | exact in32_gB | exact in32_gCmp | (unfold in32; omega)) (by first | assumption | exact in32_gB | exact in32_gCmp | (unfold in32; omega)) (fun c11 => ?_) (fun c11 => ?_)
    · exact kk _ _ _ _
    · exact absurd c11 (by omega)
  | succ n ih =>
    intro s hs x3 x4 x5 hh h0 h1 kk
    have g : HSok B (mHrA w kl kn s (w 1).toNat 0 hs) := HSok.hrA hw h0 (by omega) _ _ _ hh (by omega) (by omega)
    have next : ∀ (x3 x4 x5 : Option Value), GO E iX6_hourGoes (d + 2) 0 0 111 [some (.ref am), some (vI (w 1)), some (vI s), x3, x4, x5] [] (mH E G am th w (mHrA w kl kn s (w 1).toNat 0 hs) si lo bk iW iH iB iL iS tp td fv sz pa fr tk vl fk fp fsh hdt lt kl kn cp cd bp bl md sw nd mn my wd nm mv) Q := by
      intro x3 x4 x5
      refine g_iinc (q := 114) dX6_hourGoes_111 rfl gs2 rfl ?_
      refine g_goto (t := 9) dX6_hourGoes_114 (by decide) ?_
      exact ih _ _ _ _ _ g (by omega) (by omega) kk
    refine g_iload_n (q := 10) dX6_hourGoes_9 rfl rfl ?_
    refine g_iconst (q := 11) dX6_hourGoes_10 rfl ?_
    refine g_icmp_ge (t := 117) (q := 14) dX6_hourGoes_11 (by decide) rfl (by first | assumption | exact in32_gB | exact in32_gCmp | (unfold in32; omega)) (by first | assumption | exact in32_gB | exact in32_gCmp | (unfold in32; omega)) (fun c11 => ?_) (fun c11 => ?_)
    · exact absurd c11 (by omega)
    · refine g_iconst (q := 15) dX6_hourGoes_14 rfl ?_
      refine g_istore_n (q := 16) dX6_hourGoes_15 gs3 rfl ?_
      exact l_hour2 (d := d) hw hB hkl hkn h0 (by omega) (w 1).toNat 0 hs _ _ hh (by omega) (by omega) next
theorem c_hourGoes (hw : WFw w) (hh : HSok B hs) (hB : B ≤ 1000000000) (hkl : in32 kl) (hkn : in32 kn) : CALL E iX6_hourGoes (d + 2) 0 0 [.ref am] (mH E G am th w hs si lo bk iW iH iB iL iS tp td fv sz pa fr tk vl fk fp fsh hdt lt kl kn cp cd bp bl md sw nd mn my wd nm mv) (qV (mH E G am th w (mHour w hs kl kn) si lo bk iW iH iB iL iS tp td fv sz pa fr tk vl fk fp fsh hdt lt kl kn cp cd bp bl md sw nd mn my wd nm mv)) := by
  have key : ∀ (x2 x3 x4 x5 : Option Value), GO E iX6_hourGoes (d + 2) 0 0 117 [some (.ref am), some (vI (w 1)), x2, x3, x4, x5] [] (mH E G am th w (mHrS w kl kn 4 0 hs) si lo bk iW iH iB iL iS tp td fv sz pa fr tk vl fk fp fsh hdt lt kl kn cp cd bp bl md sw nd mn my wd nm mv) (qV (mH E G am th w (mHour w hs kl kn) si lo bk iW iH iB iL iS tp td fv sz pa fr tk vl fk fp fsh hdt lt kl kn cp cd bp bl md sw nd mn my wd nm mv)) := by
    intro x2 x3 x4 x5
    refine g_aload_n (q := 118) dX6_hourGoes_117 rfl rfl ?_
    refine gm_get (k := 2) (q := 121) dX6_hourGoes_118 q1396 (by decide) rfl rfl ?_
    refine g_sipush (q := 124) dX6_hourGoes_121 rfl ?_
    refine g_dup2 (q := 125) dX6_hourGoes_124 rfl ?_
    refine g_iald (q := 126) dX6_hourGoes_125 mA2 (by omega) (by omega) rfl ?_
    refine g_iconst (q := 127) dX6_hourGoes_126 rfl ?_
    refine g_iadd (q := 128) dX6_hourGoes_127 rfl ?_
    refine gm_st2 (q := 129) dX6_hourGoes_128 (by omega) (by omega)  rfl ?_
    refine g_aload_n (q := 130) dX6_hourGoes_129 rfl rfl ?_
    refine gm_get (k := 2) (q := 133) dX6_hourGoes_130 q1396 (by decide) rfl rfl ?_
    refine g_sipush (q := 136) dX6_hourGoes_133 rfl ?_
    refine g_iconst (q := 137) dX6_hourGoes_136 rfl ?_
    refine gm_st2 (q := 138) dX6_hourGoes_137 (by omega) (by omega)  rfl ?_
    exact g_vret dX6_hourGoes_138 rfl ⟨rfl, rfl⟩
  show GO E iX6_hourGoes _ _ _ 0 [some (.ref am), none, none, none, none, none] [] _ _
  refine g_aload_n (q := 1) dX6_hourGoes_0 rfl rfl ?_
  refine gm_get (k := 1) (q := 4) dX6_hourGoes_1 q1395 (by decide) rfl rfl ?_
  refine g_iconst (q := 5) dX6_hourGoes_4 rfl ?_
  refine g_iald (q := 6) dX6_hourGoes_5 mA1 (by omega) (by omega) rfl ?_
  refine g_istore_n (q := 7) dX6_hourGoes_6 gs1 rfl ?_
  refine g_iconst (q := 8) dX6_hourGoes_7 rfl ?_
  refine g_istore_n (q := 9) dX6_hourGoes_8 gs2 rfl ?_
  exact l_hour1 (d := d) hw hB hkl hkn 4 0 hs _ _ _ hh (by omega) (by omega) key
theorem c_hoursGo (hw : WFw w) (hB0 : 0 ≤ B) (hB : B ≤ 900000000) (hkl : in32 kl) (hkn : in32 kn) (hv : -2000000000 ≤ v ∧ v ≤ 1000000) (hh : HSok B hs) : CALL E iX6_hoursGo (d + 3) 0 0 [.ref am, vI v] (mH E G am th w hs si lo bk iW iH iB iL iS tp td fv sz pa fr tk vl fk fp fsh hdt lt kl kn cp cd bp bl md sw nd mn my wd nm mv) (qV (mH E G am th w (mHours w kl kn v.toNat hs) si lo bk iW iH iB iL iS tp td fv sz pa fr tk vl fk fp fsh hdt lt kl kn cp cd bp bl md sw nd mn my wd nm mv)) := by
  have loop : ∀ (n : Nat) (i B : Int) (hs : Int → Int), HSok B hs → 0 ≤ i → i ≤ 1000000 → (v - i).toNat = n → 0 ≤ B → B + n ≤ 1000000000 → GO E iX6_hoursGo (d + 3) 0 0 2 [some (.ref am), some (vI v), some (vI i)] [] (mH E G am th w hs si lo bk iW iH iB iL iS tp td fv sz pa fr tk vl fk fp fsh hdt lt kl kn cp cd bp bl md sw nd mn my wd nm mv) (qV (mH E G am th w (mHours w kl kn n hs) si lo bk iW iH iB iL iS tp td fv sz pa fr tk vl fk fp fsh hdt lt kl kn cp cd bp bl md sw nd mn my wd nm mv)) := by
    intro n
    induction n with
    | zero =>
      intro i B hs hh h0 h9 h1 h2 h3
      refine g_iload_n (q := 3) dX6_hoursGo_2 rfl rfl ?_
      refine g_iload_n (q := 4) dX6_hoursGo_3 rfl rfl ?_
      refine g_icmp_ge (t := 17) (q := 7) dX6_hoursGo_4 (by decide) rfl (by unfold in32; omega) (by unfold in32; omega) (fun c4 => ?_) (fun c4 => ?_)
      · exact g_vret dX6_hoursGo_17 rfl ⟨rfl, rfl⟩
      · exact absurd c4 (by omega)
    | succ n ih =>
      intro i B hs hh h0 h9 h1 h2 h3
      refine g_iload_n (q := 3) dX6_hoursGo_2 rfl rfl ?_
      refine g_iload_n (q := 4) dX6_hoursGo_3 rfl rfl ?_
      refine g_icmp_ge (t := 17) (q := 7) dX6_hoursGo_4 (by decide) rfl (by first | assumption | exact in32_gB | exact in32_gCmp | (unfold in32; omega)) (by first | assumption | exact in32_gB | exact in32_gCmp | (unfold in32; omega)) (fun c4 => ?_) (fun c4 => ?_)
      · exact absurd c4 (by omega)
      · refine g_aload_n (q := 8) dX6_hoursGo_7 rfl rfl ?_
        refine g_cvV (I' := iX6_hourGoes) (mc := 0) (ms := 0) (rc := 0) (rs := 0) (ci := 7) (q := 11) dX6_hoursGo_8 q1713 q1715 rfl qs71 gcX6_hourGoes mO (c_hourGoes (d := d) hw hh (by omega) hkl hkn) rfl rfl ?_
        refine g_iinc (q := 14) dX6_hoursGo_11 rfl gs2 rfl ?_
        refine g_goto (t := 2) dX6_hoursGo_14 (by decide) ?_
        exact ih _ (B + 1) _ (hh.hour hw h2) (by omega) (by omega) (by omega) (by omega) (by omega)
  show GO E iX6_hoursGo _ _ _ 0 [some (.ref am), some (vI v), none] [] _ _
  refine g_iconst (q := 1) dX6_hoursGo_0 rfl ?_
  refine g_istore_n (q := 2) dX6_hoursGo_1 gs2 rfl ?_
  exact loop v.toNat 0 B hs hh (by omega) (by omega) (by omega) hB0 (by omega)
end
