/-! THE REFERENCE: fitsBook -/
set_option maxRecDepth 100000
/-- a book in order -/
def BKok (w bk : Int → Int) (si : Int) : Prop := ∀ j, 0 ≤ j → j < si → (0 ≤ bk (6 * j) ∧ bk (6 * j) < w 2) ∧ (0 ≤ bk (6 * j + 1) ∧ bk (6 * j + 1) ≤ 50) ∧ (0 ≤ bk (6 * j + 2) ∧ bk (6 * j + 2) ≤ 1000000) ∧ (0 ≤ bk (6 * j + 5) ∧ bk (6 * j + 5) ≤ 2)
def fbH (w bk : Int → Int) (kl kn i : Int) (hs : Int → Int) : Int → Int := mHours w kl kn (bk (6 * i + 2) - hs 2016).toNat hs
def fbS (w bk : Int → Int) (kl kn i : Int) (hs : Int → Int) : (Int → Int) × Int :=
  if bk (6 * i + 5) = 0 then (mRdN w kl kn (bk (6 * i)) (bk (6 * i + 1)).toNat (fbH w bk kl kn i hs), 1)
  else ((mLearns w (fbH w bk kl kn i hs) kl kn (bk (6 * i))).2, if (mLearns w (fbH w bk kl kn i hs) kl kn (bk (6 * i))).1 = (if bk (6 * i + 5) = 2 then -1 else bk (6 * i + 1)) then 1 else 0)
def fbL (w bk : Int → Int) (kl kn : Int) : Nat → Int → (Int → Int) × Int → Int
  | 0, _, p => p.2
  | f + 1, i, p => if p.2 = 0 then 0 else fbL w bk kl kn f (i + 1) (fbS w bk kl kn i p.1)
def mFits (w bk : Int → Int) (kl kn si : Int) : Int := fbL w bk kl kn si.toNat 0 (fun _ => 0, 1)
theorem g_zret01 {E : gE} {I : gI} {d rc rs pc : Nat} {lv : List (Option Value)} {h : gH} {Q : Outcome → gH → Prop} {a : Int} (ha : a = 0 ∨ a = 1) (hd : decode I.2.1 pc = .ok (.ireturn, 1)) (hr : I.2.2.2.1 = some .boolean) (hq : Q (.returned (some (vI a))) h) : GO E I d rc rs pc lv [vI a] h Q := by
  rcases ha with rfl | rfl
  · exact g_zret0 hd hr hq
  · exact g_zret1 hd hr hq
section
variable {E : gE} {d rc rs am : Nat} {G : gH}
variable {th si lo td sz pa fr tk vl fk fp hdt kl kn cd bp bl : Int} {w hs bk iW iH iB iL iS tp fv fsh lt cp md sw nd mn my wd nm mv : Int → Int}
variable {s a b r r2 i k v e B c n l left days dg : Int} {Q : Outcome → gH → Prop}
/-- a sitting's readings, head at 64 -/
theorem l_fits1 (hw : WFw w) (hkl : in32 kl) (hkn : in32 kn) (hi : 0 ≤ i ∧ i < 60) (hb0 : 0 ≤ bk (6 * i) ∧ bk (6 * i) < w 2) (hb1 : 0 ≤ bk (6 * i + 1) ∧ bk (6 * i + 1) ≤ 50) :
    ∀ (f : Nat) (j B : Int) (hs : Int → Int), HSok B hs → B + f ≤ 900000000 → 0 ≤ j → j + f = bk (6 * i + 1) →
    (∀ x : Option Value, GO E iX6_fitsBook (d + 5) 0 0 93 [some (.ref am), some (vI 1), some (vI i), some (vI (6 * i)), x] [] (mH E G am th w (mRdN w kl kn (bk (6 * i)) f hs) si lo bk iW iH iB iL iS tp td fv sz pa fr tk vl fk fp fsh hdt lt kl kn cp cd bp bl md sw nd mn my wd nm mv) Q) →
    GO E iX6_fitsBook (d + 5) 0 0 64 [some (.ref am), some (vI 1), some (vI i), some (vI (6 * i)), some (vI j)] [] (mH E G am th w hs si lo bk iW iH iB iL iS tp td fv sz pa fr tk vl fk fp fsh hdt lt kl kn cp cd bp bl md sw nd mn my wd nm mv) Q := by
  intro f
  induction f with
  | zero =>
    intro j B hs h h0 h1 h2 kk
    refine g_iload (q := 66) dX6_fitsBook_64 rfl rfl ?_
    refine g_aload_n (q := 67) dX6_fitsBook_66 rfl rfl ?_
    refine gm_get (k := 5) (q := 70) dX6_fitsBook_67 q1399 (by decide) rfl rfl ?_
    refine g_iload_n (q := 71) dX6_fitsBook_70 rfl rfl ?_
    refine g_iconst (q := 72) dX6_fitsBook_71 rfl ?_
    refine g_iadd (q := 73) dX6_fitsBook_72 rfl ?_
    refine g_iald (q := 74) dX6_fitsBook_73 mA5 (by omega) (by omega) rfl ?_
    refine g_icmp_ge (t := 93) (q := 77) dX6_fitsBook_74 (by decide) rfl (by first | assumption | exact in32_gB | exact in32_gCmp | (unfold in32; omega)) (by first | assumption | exact in32_gB | exact in32_gCmp | (unfold in32; omega)) (fun c74 => ?_) (fun c74 => ?_)
    · exact kk _
    · exact absurd c74 (by omega)
  | succ f ih =>
    intro j B hs h h0 h1 h2 kk
    refine g_iload (q := 66) dX6_fitsBook_64 rfl rfl ?_
    refine g_aload_n (q := 67) dX6_fitsBook_66 rfl rfl ?_
    refine gm_get (k := 5) (q := 70) dX6_fitsBook_67 q1399 (by decide) rfl rfl ?_
    refine g_iload_n (q := 71) dX6_fitsBook_70 rfl rfl ?_
    refine g_iconst (q := 72) dX6_fitsBook_71 rfl ?_
    refine g_iadd (q := 73) dX6_fitsBook_72 rfl ?_
    refine g_iald (q := 74) dX6_fitsBook_73 mA5 (by omega) (by omega) rfl ?_
    refine g_icmp_ge (t := 93) (q := 77) dX6_fitsBook_74 (by decide) rfl (by first | assumption | exact in32_gB | exact in32_gCmp | (unfold in32; omega)) (by first | assumption | exact in32_gB | exact in32_gCmp | (unfold in32; omega)) (fun c74 => ?_) (fun c74 => ?_)
    · exact absurd c74 (by omega)
    · refine g_aload_n (q := 78) dX6_fitsBook_77 rfl rfl ?_
      refine g_aload_n (q := 79) dX6_fitsBook_78 rfl rfl ?_
      refine gm_get (k := 5) (q := 82) dX6_fitsBook_79 q1399 (by decide) rfl rfl ?_
      refine g_iload_n (q := 83) dX6_fitsBook_82 rfl rfl ?_
      refine g_iald (q := 84) dX6_fitsBook_83 mA5 (by omega) (by omega) rfl ?_
      refine g_cvV (I' := iX6_reads) (mc := 0) (ms := 0) (rc := 0) (rs := 0) (ci := 7) (q := 87) dX6_fitsBook_84 q1678 q1680 rfl qs65 gcX6_reads mO (c_reads (d := d + 1) hw h (by omega) hkl hkn hb0.1 hb0.2) rfl rfl ?_
      refine g_iinc (q := 90) dX6_fitsBook_87 rfl gs4 rfl ?_
      refine g_goto (t := 64) dX6_fitsBook_90 (by decide) ?_
      exact ih _ (B + 1) _ (h.reads hw hb0.1 hb0.2) (by omega) (by omega) (by omega) kk
theorem fbS_ok (hw : WFw w) (hh : HSok B hs) (hB0 : 0 ≤ B) (hb0 : 0 ≤ bk (6 * i) ∧ bk (6 * i) < w 2) (hb1 : 0 ≤ bk (6 * i + 1) ∧ bk (6 * i + 1) ≤ 50) (hb2 : 0 ≤ bk (6 * i + 2) ∧ bk (6 * i + 2) ≤ 1000000) : HSok (B + 1000000) (fbH w bk kl kn i hs) ∧ HSok (B + 1000050) (fbS w bk kl kn i hs).1 ∧ ((fbS w bk kl kn i hs).2 = 0 ∨ (fbS w bk kl kn i hs).2 = 1) := by
  have hx : HSok (B + 1000000) (fbH w bk kl kn i hs) := (HSok.hours (kl := kl) (kn := kn) hw (bk (6 * i + 2) - hs 2016).toNat B hs hh hB0).mono (by have := hh.2.1; omega)
  refine ⟨hx, ?_⟩
  unfold fbS
  by_cases c : bk (6 * i + 5) = 0
  · rw [if_pos c]
    exact ⟨(HSok.rdN hw hb0.1 hb0.2 _ _ _ hx).mono (by omega), Or.inr rfl⟩
  · rw [if_neg c]
    refine ⟨((mLearns_ok hw hb0.1 hb0.2 hx).1).mono (by omega), ?_⟩
    by_cases q : (mLearns w (fbH w bk kl kn i hs) kl kn (bk (6 * i))).1 = (if bk (6 * i + 5) = 2 then -1 else bk (6 * i + 1))
    · exact Or.inr (if_pos q)
    · exact Or.inl (if_neg q)
theorem c_fitsBook (hw : WFw w) (hh : HSok B hs) (hkl : in32 kl) (hkn : in32 kn) (hs0 : 0 ≤ si ∧ si ≤ 60) (hbk : BKok w bk si) :
    CALL E iX6_fitsBook (d + 5) 0 0 [.ref am] (mH E G am th w hs si lo bk iW iH iB iL iS tp td fv sz pa fr tk vl fk fp fsh hdt lt kl kn cp 0 bp bl md sw nd mn my wd nm mv) (qP fun v k => v = vI (mFits w bk kl kn si) ∧ (mFits w bk kl kn si = 0 ∨ mFits w bk kl kn si = 1) ∧ ∃ y, k = (mH E G am th w hs si lo bk iW iH iB iL iS tp td fv sz pa fr tk vl fk fp fsh hdt lt kl kn y 0 bp bl md sw nd mn my wd nm mv)) := by
  have loop : ∀ (f : Nat) (i B g : Int) (hs1 : Int → Int) (x3 x4 : Option Value), HSok B hs1 → 0 ≤ B → B + 1000050 * f ≤ 800000000 → 0 ≤ i → i + f = si → (g = 0 ∨ g = 1) → fbL w bk kl kn f i (hs1, g) = mFits w bk kl kn si →
      GO E iX6_fitsBook (d + 5) 0 0 12 [some (.ref am), some (vI g), some (vI i), x3, x4] [] (mH E G am th w hs1 si lo bk iW iH iB iL iS tp td fv sz pa fr tk vl fk fp fsh hdt lt kl kn (cpyI cp hs (2018 * 0) 0 2018) (0 + 1) bp bl md sw nd mn my wd nm mv) (qP fun v k => v = vI (mFits w bk kl kn si) ∧ (mFits w bk kl kn si = 0 ∨ mFits w bk kl kn si = 1) ∧ ∃ y, k = (mH E G am th w hs si lo bk iW iH iB iL iS tp td fv sz pa fr tk vl fk fp fsh hdt lt kl kn y 0 bp bl md sw nd mn my wd nm mv)) := by
    have last : ∀ (i g : Int) (hs1 : Int → Int) (x3 x4 : Option Value), (g = 0 ∨ g = 1) → g = mFits w bk kl kn si → GO E iX6_fitsBook (d + 5) 0 0 145 [some (.ref am), some (vI g), some (vI i), x3, x4] [] (mH E G am th w hs1 si lo bk iW iH iB iL iS tp td fv sz pa fr tk vl fk fp fsh hdt lt kl kn (cpyI cp hs (2018 * 0) 0 2018) (0 + 1) bp bl md sw nd mn my wd nm mv) (qP fun v k => v = vI (mFits w bk kl kn si) ∧ (mFits w bk kl kn si = 0 ∨ mFits w bk kl kn si = 1) ∧ ∃ y, k = (mH E G am th w hs si lo bk iW iH iB iL iS tp td fv sz pa fr tk vl fk fp fsh hdt lt kl kn y 0 bp bl md sw nd mn my wd nm mv)) := by
      intro i g hs1 x3 x4 hg e
      rw [← e]
      refine g_aload_n (q := 146) dX6_fitsBook_145 rfl rfl ?_
      refine g_cvV (I' := iX6_takeBack) (mc := 0) (ms := 0) (rc := 0) (rs := 0) (ci := 7) (q := 149) dX6_fitsBook_146 q1750 q1752 rfl qs75 gcX6_takeBack mO (c_back (c := 0) (hs0 := hs) (by omega) (by omega) (fun j q2 q3 => by rw [cpyI_in (by omega) (by omega)]; congr 1; omega)) rfl rfl ?_
      refine g_iload_n (q := 150) dX6_fitsBook_149 rfl rfl ?_
      exact (g_zret01 hg) dX6_fitsBook_150 rfl ⟨_, rfl, rfl, hg, _, rfl⟩
    intro f
    induction f with
    | zero =>
      intro i B g hs1 x3 x4 q1 q2 q3 q4 q5 q6 q7
      refine g_iload_n (q := 13) dX6_fitsBook_12 rfl rfl ?_
      refine g_aload_n (q := 14) dX6_fitsBook_13 rfl rfl ?_
      refine gm_get (k := 3) (q := 17) dX6_fitsBook_14 q1397 (by decide) rfl rfl ?_
      refine g_icmp_ge (t := 145) (q := 20) dX6_fitsBook_17 (by decide) rfl (by first | assumption | exact in32_gB | exact in32_gCmp | (unfold in32; omega)) (by first | assumption | exact in32_gB | exact in32_gCmp | (unfold in32; omega)) (fun c17 => ?_) (fun c17 => ?_)
      · exact last _ _ _ _ _ q6 q7
      · exact absurd c17 (by omega)
    | succ f ih =>
      intro i B g hs1 x3 x4 q1 q2 q3 q4 q5 q6 q7
      obtain ⟨b0, b1, b2, b5⟩ := hbk i q4 (by omega)
      have hho := q1.2.1
      obtain ⟨o1, o2, o3⟩ := fbS_ok (kl := kl) (kn := kn) hw q1 q2 b0 b1 b2
      obtain ⟨o4, o5⟩ := mLearns_ok (kl := kl) (kn := kn) hw b0.1 b0.2 o1
      replace q7 : (if g = 0 then 0 else fbL w bk kl kn f (i + 1) (fbS w bk kl kn i hs1)) = mFits w bk kl kn si := q7
      have nx : ∀ (g2 : Int) (hs2 : Int → Int) (x3 x4 : Option Value), g ≠ 0 → (hs2, g2) = fbS w bk kl kn i hs1 → GO E iX6_fitsBook (d + 5) 0 0 139 [some (.ref am), some (vI g2), some (vI i), x3, x4] [] (mH E G am th w hs2 si lo bk iW iH iB iL iS tp td fv sz pa fr tk vl fk fp fsh hdt lt kl kn (cpyI cp hs (2018 * 0) 0 2018) (0 + 1) bp bl md sw nd mn my wd nm mv) (qP fun v k => v = vI (mFits w bk kl kn si) ∧ (mFits w bk kl kn si = 0 ∨ mFits w bk kl kn si = 1) ∧ ∃ y, k = (mH E G am th w hs si lo bk iW iH iB iL iS tp td fv sz pa fr tk vl fk fp fsh hdt lt kl kn y 0 bp bl md sw nd mn my wd nm mv)) := by
        intro g2 hs2 x3 x4 hg e
        rw [if_neg hg, ← e] at q7
        rw [← e] at o2 o3
        refine g_iinc (q := 142) dX6_fitsBook_139 rfl gs2 rfl ?_
        refine g_goto (t := 12) dX6_fitsBook_142 (by decide) ?_
        exact ih (i + 1) (B + 1000050) g2 hs2 _ _ o2 (by omega) (by omega) (by omega) (by omega) o3 q7
      have k93 : ∀ x : Option Value, g ≠ 0 → bk (6 * i + 5) = 0 → GO E iX6_fitsBook (d + 5) 0 0 93 [some (.ref am), some (vI 1), some (vI i), some (vI (6 * i)), x] [] (mH E G am th w (mRdN w kl kn (bk (6 * i)) (bk (6 * i + 1)).toNat (fbH w bk kl kn i hs1)) si lo bk iW iH iB iL iS tp td fv sz pa fr tk vl fk fp fsh hdt lt kl kn (cpyI cp hs (2018 * 0) 0 2018) (0 + 1) bp bl md sw nd mn my wd nm mv) (qP fun v k => v = vI (mFits w bk kl kn si) ∧ (mFits w bk kl kn si = 0 ∨ mFits w bk kl kn si = 1) ∧ ∃ y, k = (mH E G am th w hs si lo bk iW iH iB iL iS tp td fv sz pa fr tk vl fk fp fsh hdt lt kl kn y 0 bp bl md sw nd mn my wd nm mv)) := by
        intro x hg z5
        refine g_goto (t := 139) dX6_fitsBook_93 (by decide) ?_
        exact nx _ _ _ _ hg (by unfold fbS; rw [if_pos z5])
      have k50 : ∀ x : Option Value, g ≠ 0 → GO E iX6_fitsBook (d + 5) 0 0 50 [some (.ref am), some (vI 1), some (vI i), some (vI (6 * i)), x] [] (mH E G am th w (fbH w bk kl kn i hs1) si lo bk iW iH iB iL iS tp td fv sz pa fr tk vl fk fp fsh hdt lt kl kn (cpyI cp hs (2018 * 0) 0 2018) (0 + 1) bp bl md sw nd mn my wd nm mv) (qP fun v k => v = vI (mFits w bk kl kn si) ∧ (mFits w bk kl kn si = 0 ∨ mFits w bk kl kn si = 1) ∧ ∃ y, k = (mH E G am th w hs si lo bk iW iH iB iL iS tp td fv sz pa fr tk vl fk fp fsh hdt lt kl kn y 0 bp bl md sw nd mn my wd nm mv)) := by
        intro x hg
        refine g_aload_n (q := 51) dX6_fitsBook_50 rfl rfl ?_
        refine gm_get (k := 5) (q := 54) dX6_fitsBook_51 q1399 (by decide) rfl rfl ?_
        refine g_iload_n (q := 55) dX6_fitsBook_54 rfl rfl ?_
        refine g_iconst (q := 56) dX6_fitsBook_55 rfl ?_
        refine g_iadd (q := 57) dX6_fitsBook_56 rfl ?_
        refine g_iald (q := 58) dX6_fitsBook_57 mA5 (by omega) (by omega) rfl ?_
        refine g_if_ne (t := 96) (q := 61) dX6_fitsBook_58 (by decide) rfl (by first | assumption | exact in32_gB | exact in32_gCmp | (unfold in32; omega)) (fun c58 => ?_) (fun c58 => ?_)
        · refine g_aload_n (q := 97) dX6_fitsBook_96 rfl rfl ?_
          refine g_aload_n (q := 98) dX6_fitsBook_97 rfl rfl ?_
          refine gm_get (k := 5) (q := 101) dX6_fitsBook_98 q1399 (by decide) rfl rfl ?_
          refine g_iload_n (q := 102) dX6_fitsBook_101 rfl rfl ?_
          refine g_iald (q := 103) dX6_fitsBook_102 mA5 (by omega) (by omega) rfl ?_
          refine g_cv (I' := iX6_learns) (mc := 0) (ms := 0) (rc := 0) (rs := 0) (ci := 7) (q := 106) dX6_fitsBook_103 q1700 q1702 rfl qs69 gcX6_learns mO (c_learns (d := d) hw o1 (by omega) hkl hkn b0.1 b0.2) rfl rfl ?_
          refine g_aload_n (q := 107) dX6_fitsBook_106 rfl rfl ?_
          refine gm_get (k := 5) (q := 110) dX6_fitsBook_107 q1399 (by decide) rfl rfl ?_
          refine g_iload_n (q := 111) dX6_fitsBook_110 rfl rfl ?_
          refine g_iconst (q := 112) dX6_fitsBook_111 rfl ?_
          refine g_iadd (q := 113) dX6_fitsBook_112 rfl ?_
          refine g_iald (q := 114) dX6_fitsBook_113 mA5 (by omega) (by omega) rfl ?_
          refine g_iconst (q := 115) dX6_fitsBook_114 rfl ?_
          refine g_icmp_ne (t := 122) (q := 118) dX6_fitsBook_115 (by decide) rfl (by first | assumption | exact in32_gB | exact in32_gCmp | (unfold in32; omega)) (by first | assumption | exact in32_gB | exact in32_gCmp | (unfold in32; omega)) (fun c115 => ?_) (fun c115 => ?_)
          · refine g_aload_n (q := 123) dX6_fitsBook_122 rfl rfl ?_
            refine gm_get (k := 5) (q := 126) dX6_fitsBook_123 q1399 (by decide) rfl rfl ?_
            refine g_iload_n (q := 127) dX6_fitsBook_126 rfl rfl ?_
            refine g_iconst (q := 128) dX6_fitsBook_127 rfl ?_
            refine g_iadd (q := 129) dX6_fitsBook_128 rfl ?_
            refine g_iald (q := 130) dX6_fitsBook_129 mA5 (by omega) (by omega) rfl ?_
            refine g_icmp_ne (t := 137) (q := 133) dX6_fitsBook_130 (by decide) rfl (by first | assumption | exact in32_gB | exact in32_gCmp | (unfold in32; omega)) (by first | assumption | exact in32_gB | exact in32_gCmp | (unfold in32; omega)) (fun c130 => ?_) (fun c130 => ?_)
            · refine g_iconst (q := 138) dX6_fitsBook_137 rfl ?_
              refine g_istore_n (q := 139) dX6_fitsBook_138 gs1 rfl ?_
              refine nx _ _ _ _ hg ?_
              unfold fbS
              rw [if_neg c58]
              first
              | rw [if_neg c115, if_neg c130]
              | rw [if_neg c115, if_pos c130]
              | rw [if_pos c115, if_neg c130]
              | rw [if_pos c115, if_pos c130]
            · refine g_iconst (q := 134) dX6_fitsBook_133 rfl ?_
              refine g_goto (t := 138) dX6_fitsBook_134 (by decide) ?_
              refine g_istore_n (q := 139) dX6_fitsBook_138 gs1 rfl ?_
              refine nx _ _ _ _ hg ?_
              unfold fbS
              rw [if_neg c58]
              first
              | rw [if_neg c115, if_neg c130]
              | rw [if_neg c115, if_pos c130]
              | rw [if_pos c115, if_neg c130]
              | rw [if_pos c115, if_pos c130]
          · refine g_iconst (q := 119) dX6_fitsBook_118 rfl ?_
            refine g_goto (t := 130) dX6_fitsBook_119 (by decide) ?_
            refine g_icmp_ne (t := 137) (q := 133) dX6_fitsBook_130 (by decide) rfl (by first | assumption | exact in32_gB | exact in32_gCmp | (unfold in32; omega)) (by first | assumption | exact in32_gB | exact in32_gCmp | (unfold in32; omega)) (fun c130 => ?_) (fun c130 => ?_)
            · refine g_iconst (q := 138) dX6_fitsBook_137 rfl ?_
              refine g_istore_n (q := 139) dX6_fitsBook_138 gs1 rfl ?_
              refine nx _ _ _ _ hg ?_
              unfold fbS
              rw [if_neg c58]
              first
              | rw [if_neg c115, if_neg c130]
              | rw [if_neg c115, if_pos c130]
              | rw [if_pos c115, if_neg c130]
              | rw [if_pos c115, if_pos c130]
            · refine g_iconst (q := 134) dX6_fitsBook_133 rfl ?_
              refine g_goto (t := 138) dX6_fitsBook_134 (by decide) ?_
              refine g_istore_n (q := 139) dX6_fitsBook_138 gs1 rfl ?_
              refine nx _ _ _ _ hg ?_
              unfold fbS
              rw [if_neg c58]
              first
              | rw [if_neg c115, if_neg c130]
              | rw [if_neg c115, if_pos c130]
              | rw [if_pos c115, if_neg c130]
              | rw [if_pos c115, if_pos c130]
        · refine g_iconst (q := 62) dX6_fitsBook_61 rfl ?_
          refine g_istore (q := 64) dX6_fitsBook_62 gs4 rfl ?_
          exact l_fits1 (d := d) hw hkl hkn (by omega) b0 b1 (bk (6 * i + 1)).toNat 0 _ _ o1 (by omega) (by omega) (by omega) (fun x => k93 x hg c58)
      refine g_iload_n (q := 13) dX6_fitsBook_12 rfl rfl ?_
      refine g_aload_n (q := 14) dX6_fitsBook_13 rfl rfl ?_
      refine gm_get (k := 3) (q := 17) dX6_fitsBook_14 q1397 (by decide) rfl rfl ?_
      refine g_icmp_ge (t := 145) (q := 20) dX6_fitsBook_17 (by decide) rfl (by first | assumption | exact in32_gB | exact in32_gCmp | (unfold in32; omega)) (by first | assumption | exact in32_gB | exact in32_gCmp | (unfold in32; omega)) (fun c17 => ?_) (fun c17 => ?_)
      · exact absurd c17 (by omega)
      · refine g_iload_n (q := 21) dX6_fitsBook_20 rfl rfl ?_
        refine g_if_eq (t := 145) (q := 24) dX6_fitsBook_21 (by decide) rfl (by first | assumption | exact in32_gB | exact in32_gCmp | (unfold in32; omega)) (fun c21 => ?_) (fun c21 => ?_)
        · exact last _ _ _ _ _ q6 (by rw [if_pos c21] at q7; rw [c21]; exact q7)
        · obtain rfl : g = 1 := by omega
          refine g_bipush (q := 26) dX6_fitsBook_24 rfl ?_
          refine g_iload_n (q := 27) dX6_fitsBook_26 rfl rfl ?_
          refine g_imul (q := 28) dX6_fitsBook_27 rfl ?_
          refine g_istore_n (q := 29) dX6_fitsBook_28 gs3 rfl ?_
          refine g_aload_n (q := 30) dX6_fitsBook_29 rfl rfl ?_
          refine g_aload_n (q := 31) dX6_fitsBook_30 rfl rfl ?_
          refine gm_get (k := 5) (q := 34) dX6_fitsBook_31 q1399 (by decide) rfl rfl ?_
          refine g_iload_n (q := 35) dX6_fitsBook_34 rfl rfl ?_
          refine g_iconst (q := 36) dX6_fitsBook_35 rfl ?_
          refine g_iadd (q := 37) dX6_fitsBook_36 rfl ?_
          refine g_iald (q := 38) dX6_fitsBook_37 mA5 (by omega) (by omega) rfl ?_
          refine g_aload_n (q := 39) dX6_fitsBook_38 rfl rfl ?_
          refine gm_get (k := 2) (q := 42) dX6_fitsBook_39 q1396 (by decide) rfl rfl ?_
          refine g_sipush (q := 45) dX6_fitsBook_42 rfl ?_
          refine g_iald (q := 46) dX6_fitsBook_45 mA2 (by omega) (by omega) rfl ?_
          refine g_isub (q := 47) dX6_fitsBook_46 rfl ?_
          refine g_cvV (I' := iX6_hoursGo) (mc := 0) (ms := 0) (rc := 0) (rs := 0) (ci := 7) (q := 50) dX6_fitsBook_47 q1709 q1711 rfl qs70 gcX6_hoursGo mO (c_hoursGo (d := d + 1) hw q2 (by omega) hkl hkn (by omega) q1) rfl rfl ?_
          exact k50 _ (by decide)
  show GO E iX6_fitsBook _ _ _ 0 [some (.ref am), none, none, none, none] [] _ _
  refine g_aload_n (q := 1) dX6_fitsBook_0 rfl rfl ?_
  refine g_cvV (I' := iX6_copy) (mc := 0) (ms := 0) (rc := 0) (rs := 0) (ci := 7) (q := 4) dX6_fitsBook_1 q1746 q1748 rfl qs74 gcX6_copy mO (c_copy (by omega) (by omega)) rfl rfl ?_
  refine g_aload_n (q := 5) dX6_fitsBook_4 rfl rfl ?_
  refine g_cvV (I' := iX6_clearHead) (mc := 0) (ms := 0) (rc := 0) (rs := 0) (ci := 7) (q := 8) dX6_fitsBook_5 q1622 q1624 rfl qs56 gcX6_clearHead mO (c_clearHead) rfl rfl ?_
  refine g_iconst (q := 9) dX6_fitsBook_8 rfl ?_
  refine g_istore_n (q := 10) dX6_fitsBook_9 gs1 rfl ?_
  refine g_iconst (q := 11) dX6_fitsBook_10 rfl ?_
  refine g_istore_n (q := 12) dX6_fitsBook_11 gs2 rfl ?_
  exact loop si.toNat 0 0 1 (fun _ => 0) _ _ ⟨fun _ _ _ => ⟨Int.le_refl 0, (by decide : (0 : Int) ≤ 1000)⟩, ⟨by decide, by decide⟩, ⟨by decide, by decide⟩⟩ (by omega) (by omega) (by omega) (by omega) (Or.inr rfl) rfl
end
