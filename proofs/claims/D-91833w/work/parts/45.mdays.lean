/-! THE REFERENCE: days -/
set_option maxRecDepth 100000
/-- head, book, sittings, lost, world -/
abbrev DS : Type := (Int → Int) × (Int → Int) × Int × Int × (Int → Int)
def dRd (kl kn r n : Int) (hs bk : Int → Int) (si lo : Int) (w : Int → Int) : DS :=
  (mRdN w kl kn r n.toNat hs, sitB (bkN bk si) (siN si) r n (mRdN w kl kn r n.toNat hs 2016) (mOnes (mSlips w hs r)) (mOnes (mSlips w (mRdN w kl kn r n.toNat hs) r)) 0, siN si + 1, loN lo si, usedI w r n)
def lnN (x : Int) : Int := if x = -1 then 40 else x
def dLn (kl kn r : Int) (hs bk : Int → Int) (si lo : Int) (w : Int → Int) : DS :=
  ((mLearns w hs kl kn r).2, sitB (bkN bk si) (siN si) r (if (mLearns w hs kl kn r).1 = -1 then 40 else (mLearns w hs kl kn r).1) ((mLearns w hs kl kn r).2 2016) (mOnes (mSlips w hs r)) (mOnes (mSlips w (mLearns w hs kl kn r).2 r)) (if (mLearns w hs kl kn r).1 = -1 then 2 else 1), siN si + 1, loN lo si, usedI w r (if (mLearns w hs kl kn r).1 = -1 then 40 else (mLearns w hs kl kn r).1))
def dyS (kl kn h r n : Int) (hs bk : Int → Int) (si lo : Int) (w : Int → Int) : DS :=
  if n = 0 then dLn kl kn r (mHours w kl kn h.toNat hs) bk si lo w else dRd kl kn r n (mHours w kl kn h.toNat hs) bk si lo w
abbrev dyC (nm w : Int → Int) (j : Int) : Prop := (0 ≤ nm j ∧ nm j ≤ 200) ∧ (0 ≤ nm (j + 1) ∧ nm (j + 1) ≤ w 2 - 1) ∧ (0 ≤ nm (j + 2) ∧ nm (j + 2) ≤ 50)
def dyL (nm : Int → Int) (kl kn : Int) : Nat → Int → Int → DS → Int × DS
  | 0, _, n, D => (n, D)
  | f + 1, j, n, D => if dyC nm D.2.2.2.2 j then dyL nm kl kn f (j + 3) (n + 1) (dyS kl kn (nm j) (nm (j + 1)) (nm (j + 2)) D.1 D.2.1 D.2.2.1 D.2.2.2.1 D.2.2.2.2) else dyL nm kl kn f (j + 3) n D
theorem WFw.used {w : Int → Int} {r n : Int} (h : WFw w) (h0 : 0 ≤ r) (h1 : r < w 2) : WFw (usedI w r n) := by
  have h2 := h.2.1
  obtain ⟨a1, a2, a3, a4, a5, a6, a7, a8, a9⟩ := h
  have e : ∀ x, x ≠ 34 + 14 * r + 1 + 12 → usedI w r n x = w x := fun x hx => upI_ne hx
  refine ⟨?_, ?_, ?_, ?_, ?_, ?_, ?_, ?_, ?_⟩
  · rw [e 1 (by omega)]; exact a1
  · rw [e 2 (by omega)]; exact a2
  · rw [e 3 (by omega)]; exact a3
  · rw [e 4 (by omega)]; exact a4
  · intro s q1 q2; rw [e _ (by omega)]; exact a5 s q1 q2
  · intro t q1 q2; rw [e _ (by omega)]; exact a6 t q1 q2
  · intro x q1 q2
    rw [e 2 (by omega)] at q2
    obtain ⟨p1, p2⟩ := a7 x q1 q2
    rw [e (34 + 14 * x) (by omega), e 1 (by omega)]
    refine ⟨p1, fun i i1 i2 => ?_⟩
    rw [e _ (by omega)]
    exact p2 i i1 i2
  · intro l q1 q2; rw [e _ (by omega), e _ (by omega)]; exact a8 l q1 q2
  · intro k q1 q2; rw [e _ (by omega), e _ (by omega), e _ (by omega)]; exact a9 k q1 q2
theorem used_e {w : Int → Int} {r n x : Int} (hx : x ≠ 34 + 14 * r + 1 + 12) : usedI w r n x = w x := upI_ne hx
theorem siN_ok {si : Int} (h : 0 ≤ si ∧ si ≤ 60) : 0 ≤ siN si + 1 ∧ siN si + 1 ≤ 60 := by unfold siN; split <;> omega
section
variable {E : gE} {d rc rs am : Nat} {G : gH}
variable {th si lo td sz pa fr tk vl fk fp hdt kl kn cd bp bl : Int} {w hs bk iW iH iB iL iS tp fv fsh lt cp md sw nd mn my wd nm mv : Int → Int}
variable {s a b r r2 i k v e B c n l low high : Int} {Q : Outcome → gH → Prop}
theorem c_days (hw : WFw w) (hh : HSok B hs) (hB0 : 0 ≤ B) (hB : B ≤ 600000000) (hkl : in32 kl) (hkn : in32 kn) (hs0 : 0 ≤ si ∧ si ≤ 60) (hmy : 0 ≤ my s ∧ my s ≤ 60) (hnm : ∀ j, 0 ≤ j → j < 240 → in64 (nm j)) (h1 : 0 ≤ s ∧ s ≤ 3) :
    CALL E iX6_days (d + 6) 0 0 [.ref am, vI s] (mH E G am th w hs si lo bk iW iH iB iL iS tp td fv sz pa fr tk vl fk fp fsh hdt lt kl kn cp cd bp bl md sw nd mn my wd nm mv) (qP fun o k => ∃ P : Int × DS, P = dyL nm kl kn (my s / 3).toNat (60 * s) 0 (hs, bk, si, lo, w) ∧ o = vI P.1 ∧ k = (mH E G am th P.2.2.2.2.2 P.2.1 P.2.2.2.1 P.2.2.2.2.1 P.2.2.1 iW iH iB iL iS tp td fv sz pa fr tk vl fk fp fsh hdt lt kl kn cp cd bp bl md sw nd mn my wd nm mv)) := by
  generalize eP : dyL nm kl kn (my s / 3).toNat (60 * s) 0 (hs, bk, si, lo, w) = P
  have loop : ∀ (f : Nat) (i B n : Int) (hs bk : Int → Int) (si lo : Int) (w : Int → Int) (x4 x5 x6 x7 x8 x9 x10 : Option Value), WFw w → HSok B hs → 0 ≤ B → B + 250 * f ≤ 700000000 → (0 ≤ si ∧ si ≤ 60) → 0 ≤ i → i + 3 * f ≤ my s → my s < i + 3 * f + 3 → 0 ≤ n → n + f ≤ 100 → dyL nm kl kn f (60 * s + i) n (hs, bk, si, lo, w) = P →
      GO E iX6_days (d + 6) 0 0 27 [some (.ref am), some (vI s), some (vI n), some (vI i), x4, x5, x6, x7, x8, x9, x10] [] (mH E G am th w hs si lo bk iW iH iB iL iS tp td fv sz pa fr tk vl fk fp fsh hdt lt kl kn cp cd bp bl md sw nd mn my wd nm mv) (qP fun o k => ∃ P2 : Int × DS, P2 = P ∧ o = vI P2.1 ∧ k = (mH E G am th P2.2.2.2.2.2 P2.2.1 P2.2.2.2.1 P2.2.2.2.2.1 P2.2.2.1 iW iH iB iL iS tp td fv sz pa fr tk vl fk fp fsh hdt lt kl kn cp cd bp bl md sw nd mn my wd nm mv)) := by
    intro f
    induction f with
    | zero =>
      intro i B n hs bk si lo w x4 x5 x6 x7 x8 x9 x10 q1 q2 q3 q4 q5 q6 q7 q8 q9 qa qb
      refine g_iload_n (q := 28) dX6_days_27 rfl rfl ?_
      refine g_iconst (q := 29) dX6_days_28 rfl ?_
      refine g_iadd (q := 30) dX6_days_29 rfl ?_
      refine g_aload_n (q := 31) dX6_days_30 rfl rfl ?_
      refine gm_get (k := 34) (q := 34) dX6_days_31 q1428 (by decide) rfl rfl ?_
      refine g_iload_n (q := 35) dX6_days_34 rfl rfl ?_
      refine g_iald (q := 36) dX6_days_35 mA34 (by omega) (by omega) rfl ?_
      refine g_icmp_ge (t := 172) (q := 39) dX6_days_36 (by decide) rfl (by first | assumption | exact in32_gB | exact in32_gCmp | (unfold in32; omega)) (by first | assumption | exact in32_gB | exact in32_gCmp | (unfold in32; omega)) (fun c36 => ?_) (fun c36 => ?_)
      · refine g_iload_n (q := 173) dX6_days_172 rfl rfl ?_
        exact g_iret dX6_days_173 rfl ⟨_, rfl, _, qb, rfl, rfl⟩
      · exact absurd c36 (by omega)
    | succ f ih =>
      intro i B n hs bk si lo w x4 x5 x6 x7 x8 x9 x10 q1 q2 q3 q4 q5 q6 q7 q8 q9 qa qb
      have hw2 := q1.2.1
      have m1 := hnm (60 * s + i) (by omega) (by omega)
      have m2 := hnm (60 * s + i + 1) (by omega) (by omega)
      have m3 := hnm (60 * s + i + 2) (by omega) (by omega)
      replace qb : (if dyC nm w (60 * s + i) then dyL nm kl kn f (60 * s + i + 3) (n + 1) (dyS kl kn (nm (60 * s + i)) (nm (60 * s + i + 1)) (nm (60 * s + i + 2)) hs bk si lo w) else dyL nm kl kn f (60 * s + i + 3) n (hs, bk, si, lo, w)) = P := qb
      have e3 : 60 * s + i + 3 = 60 * s + (i + 3) := by omega
      rw [e3] at qb
      have no : ¬ dyC nm w (60 * s + i) → ∀ x4 x5 x6 x7 x8 x9 x10 : Option Value, GO E iX6_days (d + 6) 0 0 166 [some (.ref am), some (vI s), some (vI n), some (vI i), x4, x5, x6, x7, x8, x9, x10] [] (mH E G am th w hs si lo bk iW iH iB iL iS tp td fv sz pa fr tk vl fk fp fsh hdt lt kl kn cp cd bp bl md sw nd mn my wd nm mv) (qP fun o k => ∃ P2 : Int × DS, P2 = P ∧ o = vI P2.1 ∧ k = (mH E G am th P2.2.2.2.2.2 P2.2.1 P2.2.2.2.1 P2.2.2.2.2.1 P2.2.2.1 iW iH iB iL iS tp td fv sz pa fr tk vl fk fp fsh hdt lt kl kn cp cd bp bl md sw nd mn my wd nm mv)) := by
        intro z x4 x5 x6 x7 x8 x9 x10
        rw [if_neg z] at qb
        refine g_iinc (q := 169) dX6_days_166 rfl gs3 rfl ?_
        refine g_goto (t := 27) dX6_days_169 (by decide) ?_
        exact ih (i + 3) B n _ _ _ _ _ _ _ _ _ _ _ _ q1 q2 q3 (by omega) q5 (by omega) (by omega) (by omega) q9 (by omega) qb
      have yes : dyC nm w (60 * s + i) → ∀ (hs2 bk2 : Int → Int) (si2 lo2 : Int) (w2 : Int → Int) (x4 x5 x6 x7 x8 x9 x10 : Option Value), WFw w2 → HSok (B + 250) hs2 → (0 ≤ si2 ∧ si2 ≤ 60) → (hs2, bk2, si2, lo2, w2) = dyS kl kn (nm (60 * s + i)) (nm (60 * s + i + 1)) (nm (60 * s + i + 2)) hs bk si lo w → GO E iX6_days (d + 6) 0 0 163 [some (.ref am), some (vI s), some (vI n), some (vI i), x4, x5, x6, x7, x8, x9, x10] [] (mH E G am th w2 hs2 si2 lo2 bk2 iW iH iB iL iS tp td fv sz pa fr tk vl fk fp fsh hdt lt kl kn cp cd bp bl md sw nd mn my wd nm mv) (qP fun o k => ∃ P2 : Int × DS, P2 = P ∧ o = vI P2.1 ∧ k = (mH E G am th P2.2.2.2.2.2 P2.2.1 P2.2.2.2.1 P2.2.2.2.2.1 P2.2.2.1 iW iH iB iL iS tp td fv sz pa fr tk vl fk fp fsh hdt lt kl kn cp cd bp bl md sw nd mn my wd nm mv)) := by
        intro z hs2 bk2 si2 lo2 w2 x4 x5 x6 x7 x8 x9 x10 p1 p2 p3 e
        rw [if_pos z, ← e] at qb
        refine g_iinc (q := 166) dX6_days_163 rfl gs2 rfl ?_
        refine g_iinc (q := 169) dX6_days_166 rfl gs3 rfl ?_
        refine g_goto (t := 27) dX6_days_169 (by decide) ?_
        exact ih (i + 3) (B + 250) (n + 1) _ _ _ _ _ _ _ _ _ _ _ _ p1 p2 (by omega) (by omega) p3 (by omega) (by omega) (by omega) (by omega) (by omega) qb
      by_cases z : dyC nm w (60 * s + i)
      · have hr1 : nm (60 * s + i + 1) < w 2 := by omega
        have hH : HSok (B + 200) (mHours w kl kn (nm (60 * s + i)).toNat hs) := (HSok.hours q1 (nm (60 * s + i)).toNat B hs q2 q3).mono (by omega)
        have hL := mLearns_ok (kl := kl) (kn := kn) q1 z.2.1.1 hr1 hH
        have hR := HSok.rdN (kl := kl) (kn := kn) q1 z.2.1.1 hr1 (nm (60 * s + i + 2)).toNat _ _ hH
        refine g_iload_n (q := 28) dX6_days_27 rfl rfl ?_
        refine g_iconst (q := 29) dX6_days_28 rfl ?_
        refine g_iadd (q := 30) dX6_days_29 rfl ?_
        refine g_aload_n (q := 31) dX6_days_30 rfl rfl ?_
        refine gm_get (k := 34) (q := 34) dX6_days_31 q1428 (by decide) rfl rfl ?_
        refine g_iload_n (q := 35) dX6_days_34 rfl rfl ?_
        refine g_iald (q := 36) dX6_days_35 mA34 (by omega) (by omega) rfl ?_
        refine g_icmp_ge (t := 172) (q := 39) dX6_days_36 (by decide) rfl (by first | assumption | exact in32_gB | exact in32_gCmp | (unfold in32; omega)) (by first | assumption | exact in32_gB | exact in32_gCmp | (unfold in32; omega)) (fun c36 => ?_) (fun c36 => ?_)
        · exact absurd c36 (by omega)
        · refine g_aload_n (q := 40) dX6_days_39 rfl rfl ?_
          refine gm_get (k := 36) (q := 43) dX6_days_40 q1430 (by decide) rfl rfl ?_
          refine g_bipush (q := 45) dX6_days_43 rfl ?_
          refine g_iload_n (q := 46) dX6_days_45 rfl rfl ?_
          refine g_imul (q := 47) dX6_days_46 rfl ?_
          refine g_iload_n (q := 48) dX6_days_47 rfl rfl ?_
          refine g_iadd (q := 49) dX6_days_48 rfl ?_
          refine g_lald (q := 50) dX6_days_49 mA36 (by omega) (by omega) rfl ?_
          refine g_lstore (q := 52) dX6_days_50 gt4 rfl ?_
          refine g_aload_n (q := 53) dX6_days_52 rfl rfl ?_
          refine gm_get (k := 36) (q := 56) dX6_days_53 q1430 (by decide) rfl rfl ?_
          refine g_bipush (q := 58) dX6_days_56 rfl ?_
          refine g_iload_n (q := 59) dX6_days_58 rfl rfl ?_
          refine g_imul (q := 60) dX6_days_59 rfl ?_
          refine g_iload_n (q := 61) dX6_days_60 rfl rfl ?_
          refine g_iadd (q := 62) dX6_days_61 rfl ?_
          refine g_iconst (q := 63) dX6_days_62 rfl ?_
          refine g_iadd (q := 64) dX6_days_63 rfl ?_
          refine g_lald (q := 65) dX6_days_64 mA36 (by omega) (by omega) rfl ?_
          refine g_lstore (q := 67) dX6_days_65 gt6 rfl ?_
          refine g_aload_n (q := 68) dX6_days_67 rfl rfl ?_
          refine gm_get (k := 36) (q := 71) dX6_days_68 q1430 (by decide) rfl rfl ?_
          refine g_bipush (q := 73) dX6_days_71 rfl ?_
          refine g_iload_n (q := 74) dX6_days_73 rfl rfl ?_
          refine g_imul (q := 75) dX6_days_74 rfl ?_
          refine g_iload_n (q := 76) dX6_days_75 rfl rfl ?_
          refine g_iadd (q := 77) dX6_days_76 rfl ?_
          refine g_iconst (q := 78) dX6_days_77 rfl ?_
          refine g_iadd (q := 79) dX6_days_78 rfl ?_
          refine g_lald (q := 80) dX6_days_79 mA36 (by omega) (by omega) rfl ?_
          refine g_lstore (q := 82) dX6_days_80 gt8 rfl ?_
          refine g_lload (q := 84) dX6_days_82 rfl rfl ?_
          refine g_lconst0 (q := 85) dX6_days_84 rfl ?_
          refine g_ldc2 (a := 200) (q := 88) dX6_days_85 q1708 (by decide) rfl ?_
          refine g_cs (I' := iX6_in) (mc := 0) (ms := 0) (rc := 0) (rs := 0) (q := 91) dX6_days_88 q1514 q1515 gcX6_in (c_inM m1 (by unfold in64; omega) (by unfold in64; omega)) rfl rfl ?_
          refine g_ifeqB (t := 166) (q := 94) dX6_days_91 (by decide) rfl (fun c91 => ?_) (fun c91 => ?_)
          · exact absurd z.1 c91
          · refine g_lload (q := 96) dX6_days_94 rfl rfl ?_
            refine g_lconst0 (q := 97) dX6_days_96 rfl ?_
            refine g_aload_n (q := 98) dX6_days_97 rfl rfl ?_
            refine gm_get (k := 1) (q := 101) dX6_days_98 q1395 (by decide) rfl rfl ?_
            refine g_iconst (q := 102) dX6_days_101 rfl ?_
            refine g_iald (q := 103) dX6_days_102 mA1 (by omega) (by omega) rfl ?_
            refine g_iconst (q := 104) dX6_days_103 rfl ?_
            refine g_isub (q := 105) dX6_days_104 rfl ?_
            refine g_i2l (q := 106) dX6_days_105 (by first | assumption | exact in32_gB | exact in32_gCmp | (unfold in32; omega)) rfl ?_
            refine g_cs (I' := iX6_in) (mc := 0) (ms := 0) (rc := 0) (rs := 0) (q := 109) dX6_days_106 q1514 q1515 gcX6_in (c_inM m2 (by unfold in64; omega) (by unfold in64; omega)) rfl rfl ?_
            refine g_ifeqB (t := 166) (q := 112) dX6_days_109 (by decide) rfl (fun c109 => ?_) (fun c109 => ?_)
            · exact absurd z.2.1 c109
            · refine g_lload (q := 114) dX6_days_112 rfl rfl ?_
              refine g_lconst0 (q := 115) dX6_days_114 rfl ?_
              refine g_ldc2 (a := 50) (q := 118) dX6_days_115 q1655 (by decide) rfl ?_
              refine g_cs (I' := iX6_in) (mc := 0) (ms := 0) (rc := 0) (rs := 0) (q := 121) dX6_days_118 q1514 q1515 gcX6_in (c_inM m3 (by unfold in64; omega) (by unfold in64; omega)) rfl rfl ?_
              refine g_ifneB (t := 127) (q := 124) dX6_days_121 (by decide) rfl (fun c121 => ?_) (fun c121 => ?_)
              · refine g_aload_n (q := 128) dX6_days_127 rfl rfl ?_
                refine g_lload (q := 130) dX6_days_128 rfl rfl ?_
                refine g_l2i (q := 131) dX6_days_130 rfl ?_
                refine g_cvV (I' := iX6_hoursGo) (mc := 0) (ms := 0) (rc := 0) (rs := 0) (ci := 7) (q := 134) dX6_days_131 q1709 q1711 rfl qs70 gcX6_hoursGo mO (c_hoursGo (d := d + 2) q1 q3 (by omega) hkl hkn (by omega) q2) rfl rfl ?_
                refine g_lload (q := 136) dX6_days_134 rfl rfl ?_
                refine g_lconst0 (q := 137) dX6_days_136 rfl ?_
                refine g_lcmp (q := 138) dX6_days_137 (by first | assumption | (unfold in64; omega)) (by first | assumption | (unfold in64; omega)) rfl ?_
                refine g_cif_ne (t := 151) (q := 141) dX6_days_138 (by decide) rfl (fun c138 => ?_) (fun c138 => ?_)
                · refine g_aload_n (q := 152) dX6_days_151 rfl rfl ?_
                  refine g_lload (q := 154) dX6_days_152 rfl rfl ?_
                  refine g_l2i (q := 155) dX6_days_154 rfl ?_
                  refine g_lload (q := 157) dX6_days_155 rfl rfl ?_
                  refine g_l2i (q := 158) dX6_days_157 rfl ?_
                  refine g_cv (I' := iX6_read) (mc := 0) (ms := 0) (rc := 0) (rs := 0) (ci := 7) (q := 161) dX6_days_158 q1887 q1648 rfl q1649 gcX6_read mO (c_read (d := d + 1) q1 hH (by omega) hkl hkn z.2.1.1 z.2.1.2 (by omega) z.2.2.2 q5.1 q5.2) rfl rfl ?_
                  refine g_istore (q := 163) dX6_days_161 gs10 rfl ?_
                  first
                  | (refine yes z _ _ _ _ _ _ _ _ _ _ _ _ (q1.used z.2.1.1 hr1) (hL.1.mono (by omega)) (siN_ok q5) ?_; unfold dyS; rw [if_pos c138]; rfl)
                  | (refine yes z _ _ _ _ _ _ _ _ _ _ _ _ (q1.used z.2.1.1 hr1) (hR.mono (by omega)) (siN_ok q5) ?_; unfold dyS; rw [if_neg c138]; rfl)
                · refine g_aload_n (q := 142) dX6_days_141 rfl rfl ?_
                  refine g_lload (q := 144) dX6_days_142 rfl rfl ?_
                  refine g_l2i (q := 145) dX6_days_144 rfl ?_
                  refine g_cv (I' := iX6_learn) (mc := 0) (ms := 0) (rc := 0) (rs := 0) (ci := 7) (q := 148) dX6_days_145 q1886 q1697 rfl q1698 gcX6_learn mO (c_learn (d := d) q1 hH (by omega) hkl hkn z.2.1.1 z.2.1.2 q5.1 q5.2) rfl rfl ?_
                  refine g_goto (t := 161) dX6_days_148 (by decide) ?_
                  refine g_istore (q := 163) dX6_days_161 gs10 rfl ?_
                  first
                  | (refine yes z _ _ _ _ _ _ _ _ _ _ _ _ (q1.used z.2.1.1 hr1) (hL.1.mono (by omega)) (siN_ok q5) ?_; unfold dyS; rw [if_pos c138]; rfl)
                  | (refine yes z _ _ _ _ _ _ _ _ _ _ _ _ (q1.used z.2.1.1 hr1) (hR.mono (by omega)) (siN_ok q5) ?_; unfold dyS; rw [if_neg c138]; rfl)
              · exact absurd z.2.2 c121
      · refine g_iload_n (q := 28) dX6_days_27 rfl rfl ?_
        refine g_iconst (q := 29) dX6_days_28 rfl ?_
        refine g_iadd (q := 30) dX6_days_29 rfl ?_
        refine g_aload_n (q := 31) dX6_days_30 rfl rfl ?_
        refine gm_get (k := 34) (q := 34) dX6_days_31 q1428 (by decide) rfl rfl ?_
        refine g_iload_n (q := 35) dX6_days_34 rfl rfl ?_
        refine g_iald (q := 36) dX6_days_35 mA34 (by omega) (by omega) rfl ?_
        refine g_icmp_ge (t := 172) (q := 39) dX6_days_36 (by decide) rfl (by first | assumption | exact in32_gB | exact in32_gCmp | (unfold in32; omega)) (by first | assumption | exact in32_gB | exact in32_gCmp | (unfold in32; omega)) (fun c36 => ?_) (fun c36 => ?_)
        · exact absurd c36 (by omega)
        · refine g_aload_n (q := 40) dX6_days_39 rfl rfl ?_
          refine gm_get (k := 36) (q := 43) dX6_days_40 q1430 (by decide) rfl rfl ?_
          refine g_bipush (q := 45) dX6_days_43 rfl ?_
          refine g_iload_n (q := 46) dX6_days_45 rfl rfl ?_
          refine g_imul (q := 47) dX6_days_46 rfl ?_
          refine g_iload_n (q := 48) dX6_days_47 rfl rfl ?_
          refine g_iadd (q := 49) dX6_days_48 rfl ?_
          refine g_lald (q := 50) dX6_days_49 mA36 (by omega) (by omega) rfl ?_
          refine g_lstore (q := 52) dX6_days_50 gt4 rfl ?_
          refine g_aload_n (q := 53) dX6_days_52 rfl rfl ?_
          refine gm_get (k := 36) (q := 56) dX6_days_53 q1430 (by decide) rfl rfl ?_
          refine g_bipush (q := 58) dX6_days_56 rfl ?_
          refine g_iload_n (q := 59) dX6_days_58 rfl rfl ?_
          refine g_imul (q := 60) dX6_days_59 rfl ?_
          refine g_iload_n (q := 61) dX6_days_60 rfl rfl ?_
          refine g_iadd (q := 62) dX6_days_61 rfl ?_
          refine g_iconst (q := 63) dX6_days_62 rfl ?_
          refine g_iadd (q := 64) dX6_days_63 rfl ?_
          refine g_lald (q := 65) dX6_days_64 mA36 (by omega) (by omega) rfl ?_
          refine g_lstore (q := 67) dX6_days_65 gt6 rfl ?_
          refine g_aload_n (q := 68) dX6_days_67 rfl rfl ?_
          refine gm_get (k := 36) (q := 71) dX6_days_68 q1430 (by decide) rfl rfl ?_
          refine g_bipush (q := 73) dX6_days_71 rfl ?_
          refine g_iload_n (q := 74) dX6_days_73 rfl rfl ?_
          refine g_imul (q := 75) dX6_days_74 rfl ?_
          refine g_iload_n (q := 76) dX6_days_75 rfl rfl ?_
          refine g_iadd (q := 77) dX6_days_76 rfl ?_
          refine g_iconst (q := 78) dX6_days_77 rfl ?_
          refine g_iadd (q := 79) dX6_days_78 rfl ?_
          refine g_lald (q := 80) dX6_days_79 mA36 (by omega) (by omega) rfl ?_
          refine g_lstore (q := 82) dX6_days_80 gt8 rfl ?_
          refine g_lload (q := 84) dX6_days_82 rfl rfl ?_
          refine g_lconst0 (q := 85) dX6_days_84 rfl ?_
          refine g_ldc2 (a := 200) (q := 88) dX6_days_85 q1708 (by decide) rfl ?_
          refine g_cs (I' := iX6_in) (mc := 0) (ms := 0) (rc := 0) (rs := 0) (q := 91) dX6_days_88 q1514 q1515 gcX6_in (c_inM m1 (by unfold in64; omega) (by unfold in64; omega)) rfl rfl ?_
          refine g_ifeqB (t := 166) (q := 94) dX6_days_91 (by decide) rfl (fun c91 => ?_) (fun c91 => ?_)
          · exact no z _ _ _ _ _ _ _
          · refine g_lload (q := 96) dX6_days_94 rfl rfl ?_
            refine g_lconst0 (q := 97) dX6_days_96 rfl ?_
            refine g_aload_n (q := 98) dX6_days_97 rfl rfl ?_
            refine gm_get (k := 1) (q := 101) dX6_days_98 q1395 (by decide) rfl rfl ?_
            refine g_iconst (q := 102) dX6_days_101 rfl ?_
            refine g_iald (q := 103) dX6_days_102 mA1 (by omega) (by omega) rfl ?_
            refine g_iconst (q := 104) dX6_days_103 rfl ?_
            refine g_isub (q := 105) dX6_days_104 rfl ?_
            refine g_i2l (q := 106) dX6_days_105 (by first | assumption | exact in32_gB | exact in32_gCmp | (unfold in32; omega)) rfl ?_
            refine g_cs (I' := iX6_in) (mc := 0) (ms := 0) (rc := 0) (rs := 0) (q := 109) dX6_days_106 q1514 q1515 gcX6_in (c_inM m2 (by unfold in64; omega) (by unfold in64; omega)) rfl rfl ?_
            refine g_ifeqB (t := 166) (q := 112) dX6_days_109 (by decide) rfl (fun c109 => ?_) (fun c109 => ?_)
            · exact no z _ _ _ _ _ _ _
            · refine g_lload (q := 114) dX6_days_112 rfl rfl ?_
              refine g_lconst0 (q := 115) dX6_days_114 rfl ?_
              refine g_ldc2 (a := 50) (q := 118) dX6_days_115 q1655 (by decide) rfl ?_
              refine g_cs (I' := iX6_in) (mc := 0) (ms := 0) (rc := 0) (rs := 0) (q := 121) dX6_days_118 q1514 q1515 gcX6_in (c_inM m3 (by unfold in64; omega) (by unfold in64; omega)) rfl rfl ?_
              refine g_ifneB (t := 127) (q := 124) dX6_days_121 (by decide) rfl (fun c121 => ?_) (fun c121 => ?_)
              · exact absurd ⟨c91, c109, c121⟩ z
              · refine g_goto (t := 166) dX6_days_124 (by decide) ?_
                exact no z _ _ _ _ _ _ _
  have hs32 : in32 s := by unfold in32; omega
  show GO E iX6_days _ _ _ 0 [some (.ref am), some (vI s), none, none, none, none, none, none, none, none, none] [] _ _
  refine g_iload_n (q := 1) dX6_days_0 rfl rfl ?_
  refine g_cs (I' := iX6_isSlot) (mc := 0) (ms := 0) (rc := 0) (rs := 0) (q := 4) dX6_days_1 q1833 q1834 gcX6_isSlot (c_isSlotM hs32) rfl rfl ?_
  refine g_ifneB (t := 10) (q := 7) dX6_days_4 (by decide) rfl (fun c4 => ?_) (fun c4 => ?_)
  · refine g_aload_n (q := 11) dX6_days_10 rfl rfl ?_
    refine gm_get (k := 34) (q := 14) dX6_days_11 q1428 (by decide) rfl rfl ?_
    refine g_iload_n (q := 15) dX6_days_14 rfl rfl ?_
    refine g_iald (q := 16) dX6_days_15 mA34 (by omega) (by omega) rfl ?_
    refine g_iconst (q := 17) dX6_days_16 rfl ?_
    refine g_icmp_ne (t := 23) (q := 20) dX6_days_17 (by decide) rfl (by first | assumption | exact in32_gB | exact in32_gCmp | (unfold in32; omega)) (by first | assumption | exact in32_gB | exact in32_gCmp | (unfold in32; omega)) (fun c17 => ?_) (fun c17 => ?_)
    · refine g_iconst (q := 24) dX6_days_23 rfl ?_
      refine g_istore_n (q := 25) dX6_days_24 gs2 rfl ?_
      refine g_iconst (q := 26) dX6_days_25 rfl ?_
      refine g_istore_n (q := 27) dX6_days_26 gs3 rfl ?_
      exact loop (my s / 3).toNat 0 B 0 hs bk si lo w _ _ _ _ _ _ _ hw hh hB0 (by omega) hs0 (by omega) (by omega) (by omega) (by omega) (by omega) (by rw [Int.add_zero]; exact eP)
    · exact absurd c17 (by omega)
  · exact absurd h1 c4
theorem c_days_bad (hr : in32 s) (h1 : ¬ (0 ≤ s ∧ s ≤ 3)) : CALL E iX6_days (d + 2) 0 0 [.ref am, vI s] (mH E G am th w hs si lo bk iW iH iB iL iS tp td fv sz pa fr tk vl fk fp fsh hdt lt kl kn cp cd bp bl md sw nd mn my wd nm mv) (qR (vI (-2)) (mH E G am th w hs si lo bk iW iH iB iL iS tp td fv sz pa fr tk vl fk fp fsh hdt lt kl kn cp cd bp bl md sw nd mn my wd nm mv)) := by
  show GO E iX6_days _ _ _ 0 [some (.ref am), some (vI s), none, none, none, none, none, none, none, none, none] [] _ _
  refine g_iload_n (q := 1) dX6_days_0 rfl rfl ?_
  refine g_cs (I' := iX6_isSlot) (mc := 0) (ms := 0) (rc := 0) (rs := 0) (q := 4) dX6_days_1 q1833 q1834 gcX6_isSlot (c_isSlotM hr) rfl rfl ?_
  refine g_ifneB (t := 10) (q := 7) dX6_days_4 (by decide) rfl (fun c4 => ?_) (fun c4 => ?_)
  · exact absurd c4 h1
  · refine g_bipush (q := 9) dX6_days_7 rfl ?_
    exact g_iret dX6_days_9 rfl ⟨rfl, rfl⟩
theorem c_days_none (h1 : 0 ≤ s ∧ s ≤ 3) (h2 : my s = -1) : CALL E iX6_days (d + 2) 0 0 [.ref am, vI s] (mH E G am th w hs si lo bk iW iH iB iL iS tp td fv sz pa fr tk vl fk fp fsh hdt lt kl kn cp cd bp bl md sw nd mn my wd nm mv) (qR (vI (-6)) (mH E G am th w hs si lo bk iW iH iB iL iS tp td fv sz pa fr tk vl fk fp fsh hdt lt kl kn cp cd bp bl md sw nd mn my wd nm mv)) := by
  have hs32 : in32 s := by unfold in32; omega
  show GO E iX6_days _ _ _ 0 [some (.ref am), some (vI s), none, none, none, none, none, none, none, none, none] [] _ _
  refine g_iload_n (q := 1) dX6_days_0 rfl rfl ?_
  refine g_cs (I' := iX6_isSlot) (mc := 0) (ms := 0) (rc := 0) (rs := 0) (q := 4) dX6_days_1 q1833 q1834 gcX6_isSlot (c_isSlotM hs32) rfl rfl ?_
  refine g_ifneB (t := 10) (q := 7) dX6_days_4 (by decide) rfl (fun c4 => ?_) (fun c4 => ?_)
  · refine g_aload_n (q := 11) dX6_days_10 rfl rfl ?_
    refine gm_get (k := 34) (q := 14) dX6_days_11 q1428 (by decide) rfl rfl ?_
    refine g_iload_n (q := 15) dX6_days_14 rfl rfl ?_
    refine g_iald (q := 16) dX6_days_15 mA34 (by omega) (by omega) rfl ?_
    refine g_iconst (q := 17) dX6_days_16 rfl ?_
    refine g_icmp_ne (t := 23) (q := 20) dX6_days_17 (by decide) rfl (by first | assumption | exact in32_gB | exact in32_gCmp | (unfold in32; omega)) (by first | assumption | exact in32_gB | exact in32_gCmp | (unfold in32; omega)) (fun c17 => ?_) (fun c17 => ?_)
    · exact absurd h2 c17
    · refine g_bipush (q := 22) dX6_days_20 rfl ?_
      exact g_iret dX6_days_22 rfl ⟨rfl, rfl⟩
  · exact absurd h1 c4
end
