/-! THE REFERENCE: parts, count -/
set_option maxRecDepth 100000
def imM (W : Int → Int) (r : Int) : Int := if 0 ≤ r ∧ r ≤ W 2 - 1 then W (34 + 14 * r) else 0
def imN (W H : Int → Int) (kl kn r : Int) : Int := if 0 ≤ r ∧ r ≤ W 2 - 1 then orM (mLearns W H kl kn r).1 else 0
def ptL (W H w hs : Int → Int) (kl kn : Int) : Nat → Int → Int → Int → Int
  | 0, _, b, _ => b
  | f + 1, r, b, m => if imM W r = w (34 + 14 * r) then
      (if ((orM (mLearns w hs kl kn r).1 - imN W H kl kn r).natAbs : Int) ≤ m then ptL W H w hs kl kn f (r + 1) b m else ptL W H w hs kl kn f (r + 1) r ((orM (mLearns w hs kl kn r).1 - imN W H kl kn r).natAbs : Int))
    else ptL W H w hs kl kn f (r + 1) b m
def mParts (W H w hs : Int → Int) (kl kn : Int) : Int := ptL W H w hs kl kn (w 2).toNat 0 (-1) (-1)
theorem orL_in {w hs : Int → Int} {kl kn r B : Int} (hw : WFw w) (hr : 0 ≤ r) (hr1 : r < w 2) (h : HSok B hs) : 1 ≤ orM (mLearns w hs kl kn r).1 ∧ orM (mLearns w hs kl kn r).1 ≤ 41 := by
  have := (mLearns_ok (kl := kl) (kn := kn) hw hr hr1 h).2
  unfold orM
  split <;> omega
section
variable {E : gE} {d rc rs am : Nat} {G : gH}
variable {th si lo td sz pa fr tk vl fk fp hdt kl kn cd bp bl : Int} {w hs bk iW iH iB iL iS tp fv fsh lt cp md sw nd mn my wd nm mv : Int → Int}
variable {s a b r r2 i k v e B B2 c n l low high : Int} {Q : Outcome → gH → Prop} {uW uH uB : Int → Int → Int} {W H : Int → Int}
theorem l_parts1 (hk : 0 ≤ k ∧ k ≤ 2) : ∀ (f : Nat) (i : Int), 0 ≤ i → i + f = 1120 → (GO E iX6_parts d 0 0 59 [some (.ref am), some (vI k), some (vI (1120)), none, none, none] [] (mH E G am th w hs si lo bk iW iH iB iL iS tp td fv sz pa fr tk vl fk fp fsh hdt lt kl kn cp cd bp bl md (cpyI sw w (0) (0) 1120) nd mn my wd nm mv) Q) → GO E iX6_parts d 0 0 34 [some (.ref am), some (vI k), some (vI (i)), none, none, none] [] (mH E G am th w hs si lo bk iW iH iB iL iS tp td fv sz pa fr tk vl fk fp fsh hdt lt kl kn cp cd bp bl md (cpyI sw w (0) (0) i) nd mn my wd nm mv) Q := by
  intro f
  induction f with
  | zero =>
    intro i h2 h3 kk
    obtain rfl : i = 1120 := by omega
    refine g_iload_n (q := 35) dX6_parts_34 rfl rfl ?_
    refine g_sipush (q := 38) dX6_parts_35 rfl ?_
    refine g_icmp_ge (t := 59) (q := 41) dX6_parts_38 (by decide) rfl (by first | assumption | exact in32_gB | exact in32_gCmp | (unfold in32; omega)) (by first | assumption | exact in32_gB | exact in32_gCmp | (unfold in32; omega)) (fun c38 => ?_) (fun c38 => ?_)
    · exact kk
    · exact absurd c38 (by first | decide | omega)
  | succ f ih =>
    intro i h2 h3 kk
    have e3 := cpyI_s (dst := sw) (src := w) (dO := 0) (sO := 0) h2
    try simp only [Int.zero_add] at e3
    refine g_iload_n (q := 35) dX6_parts_34 rfl rfl ?_
    refine g_sipush (q := 38) dX6_parts_35 rfl ?_
    refine g_icmp_ge (t := 59) (q := 41) dX6_parts_38 (by decide) rfl (by first | assumption | exact in32_gB | exact in32_gCmp | (unfold in32; omega)) (by first | assumption | exact in32_gB | exact in32_gCmp | (unfold in32; omega)) (fun c38 => ?_) (fun c38 => ?_)
    · exact absurd c38 (by omega)
    · refine g_aload_n (q := 42) dX6_parts_41 rfl rfl ?_
      refine gm_get (k := 31) (q := 45) dX6_parts_42 q1425 (by decide) rfl rfl ?_
      refine g_iload_n (q := 46) dX6_parts_45 rfl rfl ?_
      refine g_aload_n (q := 47) dX6_parts_46 rfl rfl ?_
      refine gm_get (k := 1) (q := 50) dX6_parts_47 q1395 (by decide) rfl rfl ?_
      refine g_iload_n (q := 51) dX6_parts_50 rfl rfl ?_
      refine g_iald (q := 52) dX6_parts_51 mA1 (by omega) (by omega) rfl ?_
      refine gm_st31 (q := 53) dX6_parts_52 (by omega) (by omega)  rfl ?_
      rw [e3]
      refine g_iinc (q := 56) dX6_parts_53 rfl gs2 rfl ?_
      refine g_goto (t := 34) dX6_parts_56 (by decide) ?_
      exact ih _ (by omega) (by omega) kk
theorem l_parts1_0 (hk : 0 ≤ k ∧ k ≤ 2) (kk : GO E iX6_parts d 0 0 59 [some (.ref am), some (vI k), some (vI (1120)), none, none, none] [] (mH E G am th w hs si lo bk iW iH iB iL iS tp td fv sz pa fr tk vl fk fp fsh hdt lt kl kn cp cd bp bl md (cpyI sw w (0) (0) 1120) nd mn my wd nm mv) Q) : GO E iX6_parts d 0 0 34 [some (.ref am), some (vI k), some (vI (0)), none, none, none] [] (mH E G am th w hs si lo bk iW iH iB iL iS tp td fv sz pa fr tk vl fk fp fsh hdt lt kl kn cp cd bp bl md sw nd mn my wd nm mv) Q := by
  have := l_parts1 (E := E) (d := d) (am := am) (G := G) hk 1120 0 (by omega) (by omega) kk
  rw [cpyI_0] at this
  exact this
theorem l_parts2 (hk : 0 ≤ k ∧ k ≤ 2) : ∀ (f : Nat) (i : Int), 0 ≤ i → i + f = 1120 → (GO E iX6_parts d 0 0 154 [some (.ref am), some (vI k), some (vI (1120)), none, none, none] [] (mH E G am th (cpyI w sw (0) (0) 1120) hs si lo bk iW iH iB iL iS tp td fv sz pa fr tk vl fk fp fsh hdt lt kl kn cp cd bp bl md sw nd mn my wd nm mv) Q) → GO E iX6_parts d 0 0 129 [some (.ref am), some (vI k), some (vI (i)), none, none, none] [] (mH E G am th (cpyI w sw (0) (0) i) hs si lo bk iW iH iB iL iS tp td fv sz pa fr tk vl fk fp fsh hdt lt kl kn cp cd bp bl md sw nd mn my wd nm mv) Q := by
  intro f
  induction f with
  | zero =>
    intro i h2 h3 kk
    obtain rfl : i = 1120 := by omega
    refine g_iload_n (q := 130) dX6_parts_129 rfl rfl ?_
    refine g_sipush (q := 133) dX6_parts_130 rfl ?_
    refine g_icmp_ge (t := 154) (q := 136) dX6_parts_133 (by decide) rfl (by first | assumption | exact in32_gB | exact in32_gCmp | (unfold in32; omega)) (by first | assumption | exact in32_gB | exact in32_gCmp | (unfold in32; omega)) (fun c133 => ?_) (fun c133 => ?_)
    · exact kk
    · exact absurd c133 (by first | decide | omega)
  | succ f ih =>
    intro i h2 h3 kk
    have e3 := cpyI_s (dst := w) (src := sw) (dO := 0) (sO := 0) h2
    try simp only [Int.zero_add] at e3
    refine g_iload_n (q := 130) dX6_parts_129 rfl rfl ?_
    refine g_sipush (q := 133) dX6_parts_130 rfl ?_
    refine g_icmp_ge (t := 154) (q := 136) dX6_parts_133 (by decide) rfl (by first | assumption | exact in32_gB | exact in32_gCmp | (unfold in32; omega)) (by first | assumption | exact in32_gB | exact in32_gCmp | (unfold in32; omega)) (fun c133 => ?_) (fun c133 => ?_)
    · exact absurd c133 (by omega)
    · refine g_aload_n (q := 137) dX6_parts_136 rfl rfl ?_
      refine gm_get (k := 1) (q := 140) dX6_parts_137 q1395 (by decide) rfl rfl ?_
      refine g_iload_n (q := 141) dX6_parts_140 rfl rfl ?_
      refine g_aload_n (q := 142) dX6_parts_141 rfl rfl ?_
      refine gm_get (k := 31) (q := 145) dX6_parts_142 q1425 (by decide) rfl rfl ?_
      refine g_iload_n (q := 146) dX6_parts_145 rfl rfl ?_
      refine g_iald (q := 147) dX6_parts_146 mA31 (by omega) (by omega) rfl ?_
      refine gm_st1 (q := 148) dX6_parts_147 (by omega) (by omega)  rfl ?_
      rw [e3]
      refine g_iinc (q := 151) dX6_parts_148 rfl gs2 rfl ?_
      refine g_goto (t := 129) dX6_parts_151 (by decide) ?_
      exact ih _ (by omega) (by omega) kk
theorem l_parts2_0 (hk : 0 ≤ k ∧ k ≤ 2) (kk : GO E iX6_parts d 0 0 154 [some (.ref am), some (vI k), some (vI (1120)), none, none, none] [] (mH E G am th (cpyI w sw (0) (0) 1120) hs si lo bk iW iH iB iL iS tp td fv sz pa fr tk vl fk fp fsh hdt lt kl kn cp cd bp bl md sw nd mn my wd nm mv) Q) : GO E iX6_parts d 0 0 129 [some (.ref am), some (vI k), some (vI (0)), none, none, none] [] (mH E G am th w hs si lo bk iW iH iB iL iS tp td fv sz pa fr tk vl fk fp fsh hdt lt kl kn cp cd bp bl md sw nd mn my wd nm mv) Q := by
  have := l_parts2 (E := E) (d := d) (am := am) (G := G) hk 1120 0 (by omega) (by omega) kk
  rw [cpyI_0] at this
  exact this
/-- its rows, head at 66 -/
theorem l_parts3 (hw : WFw w) (hh : HSok B hs) (hB : B ≤ 900000000) (hkl : in32 kl) (hkn : in32 kn) : ∀ (f : Nat) (i : Int) (cp mn nd : Int → Int), 0 ≤ i → i + f = 12 →
    (∀ y mn nd : Int → Int, (∀ j, 0 ≤ j → j < 12 → mn j = imM w j ∧ nd j = imN w hs kl kn j) → (∀ j, 0 ≤ j → j < 2018 → y j = cp j) → GO E iX6_parts (d + 6) 0 0 127 [some (.ref am), some (vI k), some (vI 12), none, none, none] [] (mH E G am th w hs si lo bk iW iH iB iL iS tp td fv sz pa fr tk vl fk fp fsh hdt lt kl kn y 1 bp bl md sw nd mn my wd nm mv) Q) →
    (∀ j, 0 ≤ j → j < i → mn j = imM w j ∧ nd j = imN w hs kl kn j) →
    GO E iX6_parts (d + 6) 0 0 66 [some (.ref am), some (vI k), some (vI i), none, none, none] [] (mH E G am th w hs si lo bk iW iH iB iL iS tp td fv sz pa fr tk vl fk fp fsh hdt lt kl kn cp 1 bp bl md sw nd mn my wd nm mv) Q := by
  have hw2 := hw.2.1
  intro f
  induction f with
  | zero =>
    intro i cp mn nd h2 h3 kk hx
    obtain rfl : i = 12 := by omega
    refine g_iload_n (q := 67) dX6_parts_66 rfl rfl ?_
    refine g_bipush (q := 69) dX6_parts_67 rfl ?_
    refine g_icmp_ge (t := 127) (q := 72) dX6_parts_69 (by decide) rfl (by first | assumption | exact in32_gB | exact in32_gCmp | (unfold in32; omega)) (by first | assumption | exact in32_gB | exact in32_gCmp | (unfold in32; omega)) (fun c69 => ?_) (fun c69 => ?_)
    · exact kk _ _ _ (fun j q1 q2 => hx j q1 q2) (fun _ _ _ => rfl)
    · exact absurd c69 (by decide)
  | succ f ih =>
    intro i cp mn nd h2 h3 kk hx
    by_cases z : 0 ≤ i ∧ i ≤ w 2 - 1
    · have oM := mLearns_ok (kl := kl) (kn := kn) hw h2 (show i < w 2 by omega) hh
      refine g_iload_n (q := 67) dX6_parts_66 rfl rfl ?_
      refine g_bipush (q := 69) dX6_parts_67 rfl ?_
      refine g_icmp_ge (t := 127) (q := 72) dX6_parts_69 (by decide) rfl (by first | assumption | exact in32_gB | exact in32_gCmp | (unfold in32; omega)) (by first | assumption | exact in32_gB | exact in32_gCmp | (unfold in32; omega)) (fun c69 => ?_) (fun c69 => ?_)
      · exact absurd c69 (by omega)
      · refine g_aload_n (q := 73) dX6_parts_72 rfl rfl ?_
        refine gm_get (k := 33) (q := 76) dX6_parts_73 q1427 (by decide) rfl rfl ?_
        refine g_iload_n (q := 77) dX6_parts_76 rfl rfl ?_
        refine g_aload_n (q := 78) dX6_parts_77 rfl rfl ?_
        refine g_iload_n (q := 79) dX6_parts_78 rfl rfl ?_
        refine g_cv (I' := iX6_isRow) (mc := 0) (ms := 0) (rc := 0) (rs := 0) (ci := 7) (q := 82) dX6_parts_79 q1651 q1653 rfl qs60 gcX6_isRow mO (c_isRowM (by unfold in32; omega) hw2) rfl rfl ?_
        refine g_ifeqB (t := 93) (q := 85) dX6_parts_82 (by decide) rfl (fun c82 => ?_) (fun c82 => ?_)
        · exact absurd z c82
        · refine g_aload_n (q := 86) dX6_parts_85 rfl rfl ?_
          refine g_iload_n (q := 87) dX6_parts_86 rfl rfl ?_
          refine g_cv (I' := iX6_manyOf) (mc := 0) (ms := 0) (rc := 0) (rs := 0) (ci := 7) (q := 90) dX6_parts_87 q1660 q1662 rfl qs62 gcX6_manyOf mO (c_manyOf (by omega) (by omega)) rfl rfl ?_
          refine g_goto (t := 94) dX6_parts_90 (by decide) ?_
          refine gm_st33 (q := 95) dX6_parts_94 (by omega) (by omega)  rfl ?_
          refine g_aload_n (q := 96) dX6_parts_95 rfl rfl ?_
          refine gm_get (k := 32) (q := 99) dX6_parts_96 q1426 (by decide) rfl rfl ?_
          refine g_iload_n (q := 100) dX6_parts_99 rfl rfl ?_
          refine g_aload_n (q := 101) dX6_parts_100 rfl rfl ?_
          refine g_iload_n (q := 102) dX6_parts_101 rfl rfl ?_
          refine g_cv (I' := iX6_isRow) (mc := 0) (ms := 0) (rc := 0) (rs := 0) (ci := 7) (q := 105) dX6_parts_102 q1651 q1653 rfl qs60 gcX6_isRow mO (c_isRowM (by unfold in32; omega) hw2) rfl rfl ?_
          refine g_ifeqB (t := 119) (q := 108) dX6_parts_105 (by decide) rfl (fun c105 => ?_) (fun c105 => ?_)
          · exact absurd z c105
          · refine g_aload_n (q := 109) dX6_parts_108 rfl rfl ?_
            refine g_iload_n (q := 110) dX6_parts_109 rfl rfl ?_
            refine g_cv (I' := iX6_needsOf) (mc := 0) (ms := 0) (rc := 0) (rs := 0) (ci := 7) (q := 113) dX6_parts_110 q1742 q1744 rfl qs73 gcX6_needsOf mO (c_needsOf (d := d) hw hh hB hkl hkn h2 (by omega) (by omega) (by omega)) rfl rfl ?_
            refine g_cs (I' := iX6_orMany) (mc := 0) (ms := 0) (rc := 0) (rs := 0) (q := 116) dX6_parts_113 q1779 q1780 gcX6_orMany (c_orMany (by unfold in32; omega)) rfl rfl ?_
            refine g_goto (t := 120) dX6_parts_116 (by decide) ?_
            refine gm_st32 (q := 121) dX6_parts_120 (by omega) (by omega)  rfl ?_
            refine g_iinc (q := 124) dX6_parts_121 rfl gs2 rfl ?_
            refine g_goto (t := 66) dX6_parts_124 (by decide) ?_
            refine ih _ _ _ _ (by omega) (by omega) (fun y mn nd p1 p2 => kk y mn nd p1 (fun j q1 q2 => ?_)) (fun j q1 q2 => ?_)
            · rw [p2 j q1 q2, cpyI_out (by omega)]
            · by_cases e : j = i
              · subst e; rw [upI_at, upI_at]; unfold imM imN; rw [if_pos z, if_pos z]; exact ⟨rfl, rfl⟩
              · rw [upI_ne e, upI_ne e]; exact hx j q1 (by omega)
    · refine g_iload_n (q := 67) dX6_parts_66 rfl rfl ?_
      refine g_bipush (q := 69) dX6_parts_67 rfl ?_
      refine g_icmp_ge (t := 127) (q := 72) dX6_parts_69 (by decide) rfl (by first | assumption | exact in32_gB | exact in32_gCmp | (unfold in32; omega)) (by first | assumption | exact in32_gB | exact in32_gCmp | (unfold in32; omega)) (fun c69 => ?_) (fun c69 => ?_)
      · exact absurd c69 (by omega)
      · refine g_aload_n (q := 73) dX6_parts_72 rfl rfl ?_
        refine gm_get (k := 33) (q := 76) dX6_parts_73 q1427 (by decide) rfl rfl ?_
        refine g_iload_n (q := 77) dX6_parts_76 rfl rfl ?_
        refine g_aload_n (q := 78) dX6_parts_77 rfl rfl ?_
        refine g_iload_n (q := 79) dX6_parts_78 rfl rfl ?_
        refine g_cv (I' := iX6_isRow) (mc := 0) (ms := 0) (rc := 0) (rs := 0) (ci := 7) (q := 82) dX6_parts_79 q1651 q1653 rfl qs60 gcX6_isRow mO (c_isRowM (by unfold in32; omega) hw2) rfl rfl ?_
        refine g_ifeqB (t := 93) (q := 85) dX6_parts_82 (by decide) rfl (fun c82 => ?_) (fun c82 => ?_)
        · refine g_iconst (q := 94) dX6_parts_93 rfl ?_
          refine gm_st33 (q := 95) dX6_parts_94 (by omega) (by omega)  rfl ?_
          refine g_aload_n (q := 96) dX6_parts_95 rfl rfl ?_
          refine gm_get (k := 32) (q := 99) dX6_parts_96 q1426 (by decide) rfl rfl ?_
          refine g_iload_n (q := 100) dX6_parts_99 rfl rfl ?_
          refine g_aload_n (q := 101) dX6_parts_100 rfl rfl ?_
          refine g_iload_n (q := 102) dX6_parts_101 rfl rfl ?_
          refine g_cv (I' := iX6_isRow) (mc := 0) (ms := 0) (rc := 0) (rs := 0) (ci := 7) (q := 105) dX6_parts_102 q1651 q1653 rfl qs60 gcX6_isRow mO (c_isRowM (by unfold in32; omega) hw2) rfl rfl ?_
          refine g_ifeqB (t := 119) (q := 108) dX6_parts_105 (by decide) rfl (fun c105 => ?_) (fun c105 => ?_)
          · refine g_iconst (q := 120) dX6_parts_119 rfl ?_
            refine gm_st32 (q := 121) dX6_parts_120 (by omega) (by omega)  rfl ?_
            refine g_iinc (q := 124) dX6_parts_121 rfl gs2 rfl ?_
            refine g_goto (t := 66) dX6_parts_124 (by decide) ?_
            refine ih _ _ _ _ (by omega) (by omega) kk (fun j q1 q2 => ?_)
            by_cases e : j = i
            · subst e; rw [upI_at, upI_at]; unfold imM imN; rw [if_neg z, if_neg z]; exact ⟨rfl, rfl⟩
            · rw [upI_ne e, upI_ne e]; exact hx j q1 (by omega)
          · exact absurd c105 z
        · exact absurd c82 z
/-- its last loop, head at 165 -/
theorem l_parts4 (hw : WFw w) (hh : HSok B hs) (hB : B ≤ 900000000) (hkl : in32 kl) (hkn : in32 kn) (hW : WFw W) (hH : HSok B2 H) (hmn : ∀ j, 0 ≤ j → j < 12 → mn j = imM W j ∧ nd j = imN W H kl kn j) : ∀ (f : Nat) (i b m : Int) (cp : Int → Int) (x5 : Option Value), 0 ≤ i → i + f = w 2 → (-1 ≤ b ∧ b < 12) → (-1 ≤ m ∧ m ≤ 100) →
    (∀ y : Int → Int, Q (.returned (some (vI (ptL W H w hs kl kn f i b m)))) (mH E G am th w hs si lo bk iW iH iB iL iS tp td fv sz pa fr tk vl fk fp fsh hdt lt kl kn y 0 bp bl md sw nd mn my wd nm mv)) →
    GO E iX6_parts (d + 6) 0 0 165 [some (.ref am), some (vI k), some (vI b), some (vI m), some (vI i), x5] [] (mH E G am th w hs si lo bk iW iH iB iL iS tp td fv sz pa fr tk vl fk fp fsh hdt lt kl kn cp 0 bp bl md sw nd mn my wd nm mv) Q := by
  have hw2 := hw.2.1
  have hW2 := hW.2.1
  intro f
  induction f with
  | zero =>
    intro i b m cp x5 h2 h3 h4 h5 kk
    refine g_iload (q := 167) dX6_parts_165 rfl rfl ?_
    refine g_aload_n (q := 168) dX6_parts_167 rfl rfl ?_
    refine gm_get (k := 1) (q := 171) dX6_parts_168 q1395 (by decide) rfl rfl ?_
    refine g_iconst (q := 172) dX6_parts_171 rfl ?_
    refine g_iald (q := 173) dX6_parts_172 mA1 (by omega) (by omega) rfl ?_
    refine g_icmp_ge (t := 238) (q := 176) dX6_parts_173 (by decide) rfl (by first | assumption | exact in32_gB | exact in32_gCmp | (unfold in32; omega)) (by first | assumption | exact in32_gB | exact in32_gCmp | (unfold in32; omega)) (fun c173 => ?_) (fun c173 => ?_)
    · refine g_iload_n (q := 239) dX6_parts_238 rfl rfl ?_
      exact g_iret dX6_parts_239 rfl (kk _)
    · exact absurd c173 (by omega)
  | succ f ih =>
    intro i b m cp x5 h2 h3 h4 h5 kk
    have oM := orL_in (kl := kl) (kn := kn) hw h2 (show i < w 2 by omega) hh
    have oL := mLearns_ok (kl := kl) (kn := kn) hw h2 (show i < w 2 by omega) hh
    obtain ⟨m1, m2⟩ := hmn i h2 (by omega)
    have hrw := hw.row h2 (show i < w 2 by omega)
    have i1 : 0 ≤ imM W i ∧ imM W i ≤ 12 := by
      unfold imM
      split
      · rename_i z; have := hW.row z.1 (show i < W 2 by omega); omega
      · omega
    have i2 : 0 ≤ imN W H kl kn i ∧ imN W H kl kn i ≤ 41 := by
      unfold imN
      split
      · rename_i z; have := orL_in (kl := kl) (kn := kn) hW z.1 (show i < W 2 by omega) hH; omega
      · omega
    rw [← m1] at i1
    rw [← m2] at i2
    replace kk : ∀ y : Int → Int, Q (.returned (some (vI (if mn i = w (34 + 14 * i) then (if ((orM (mLearns w hs kl kn i).1 - nd i).natAbs : Int) ≤ m then ptL W H w hs kl kn f (i + 1) b m else ptL W H w hs kl kn f (i + 1) i ((orM (mLearns w hs kl kn i).1 - nd i).natAbs : Int)) else ptL W H w hs kl kn f (i + 1) b m)))) (mH E G am th w hs si lo bk iW iH iB iL iS tp td fv sz pa fr tk vl fk fp fsh hdt lt kl kn y 0 bp bl md sw nd mn my wd nm mv) := by
      rw [m1, m2]; exact kk
    refine g_iload (q := 167) dX6_parts_165 rfl rfl ?_
    refine g_aload_n (q := 168) dX6_parts_167 rfl rfl ?_
    refine gm_get (k := 1) (q := 171) dX6_parts_168 q1395 (by decide) rfl rfl ?_
    refine g_iconst (q := 172) dX6_parts_171 rfl ?_
    refine g_iald (q := 173) dX6_parts_172 mA1 (by omega) (by omega) rfl ?_
    refine g_icmp_ge (t := 238) (q := 176) dX6_parts_173 (by decide) rfl (by first | assumption | exact in32_gB | exact in32_gCmp | (unfold in32; omega)) (by first | assumption | exact in32_gB | exact in32_gCmp | (unfold in32; omega)) (fun c173 => ?_) (fun c173 => ?_)
    · exact absurd c173 (by omega)
    · refine g_aload_n (q := 177) dX6_parts_176 rfl rfl ?_
      refine gm_get (k := 33) (q := 180) dX6_parts_177 q1427 (by decide) rfl rfl ?_
      refine g_iload (q := 182) dX6_parts_180 rfl rfl ?_
      refine g_iald (q := 183) dX6_parts_182 mA33 (by omega) (by omega) rfl ?_
      refine g_aload_n (q := 184) dX6_parts_183 rfl rfl ?_
      refine g_iload (q := 186) dX6_parts_184 rfl rfl ?_
      refine g_cv (I' := iX6_manyOf) (mc := 0) (ms := 0) (rc := 0) (rs := 0) (ci := 7) (q := 189) dX6_parts_186 q1660 q1662 rfl qs62 gcX6_manyOf mO (c_manyOf (by omega) (by omega)) rfl rfl ?_
      refine g_icmp_eq (t := 195) (q := 192) dX6_parts_189 (by decide) rfl (by first | assumption | exact in32_gB | exact in32_gCmp | (unfold in32; omega)) (by first | assumption | exact in32_gB | exact in32_gCmp | (unfold in32; omega)) (fun c189 => ?_) (fun c189 => ?_)
      · refine g_aload_n (q := 196) dX6_parts_195 rfl rfl ?_
        refine g_iload (q := 198) dX6_parts_196 rfl rfl ?_
        refine g_cv (I' := iX6_needsOf) (mc := 0) (ms := 0) (rc := 0) (rs := 0) (ci := 7) (q := 201) dX6_parts_198 q1742 q1744 rfl qs73 gcX6_needsOf mO (c_needsOf (d := d) hw hh hB hkl hkn h2 (by omega) (by omega) (by omega)) rfl rfl ?_
        refine g_cs (I' := iX6_orMany) (mc := 0) (ms := 0) (rc := 0) (rs := 0) (q := 204) dX6_parts_201 q1779 q1780 gcX6_orMany (c_orMany (by unfold in32; omega)) rfl rfl ?_
        refine g_aload_n (q := 205) dX6_parts_204 rfl rfl ?_
        refine gm_get (k := 32) (q := 208) dX6_parts_205 q1426 (by decide) rfl rfl ?_
        refine g_iload (q := 210) dX6_parts_208 rfl rfl ?_
        refine g_iald (q := 211) dX6_parts_210 mA32 (by omega) (by omega) rfl ?_
        refine g_isub (q := 212) dX6_parts_211 rfl ?_
        refine g_cs (I' := iJ3_abs) (mc := 0) (ms := 0) (rc := 0) (rs := 0) (q := 215) dX6_parts_212 q1892 q1368 gcJ3_abs (c_abs (by unfold in32; omega) (by omega)) rfl rfl ?_
        refine g_istore (q := 217) dX6_parts_215 gs5 rfl ?_
        refine g_iload (q := 219) dX6_parts_217 rfl rfl ?_
        refine g_iload_n (q := 220) dX6_parts_219 rfl rfl ?_
        refine g_icmp_gt (t := 226) (q := 223) dX6_parts_220 (by decide) rfl (by first | assumption | exact in32_gB | exact in32_gCmp | (unfold in32; omega)) (by first | assumption | exact in32_gB | exact in32_gCmp | (unfold in32; omega)) (fun c220 => ?_) (fun c220 => ?_)
        · refine g_iload (q := 228) dX6_parts_226 rfl rfl ?_
          refine g_istore_n (q := 229) dX6_parts_228 gs2 rfl ?_
          refine g_iload (q := 231) dX6_parts_229 rfl rfl ?_
          refine g_istore_n (q := 232) dX6_parts_231 gs3 rfl ?_
          refine g_iinc (q := 235) dX6_parts_232 rfl gs4 rfl ?_
          refine g_goto (t := 165) dX6_parts_235 (by decide) ?_
          first
          | (rw [if_neg c189] at kk; exact ih _ _ _ _ _ (by omega) (by omega) (by omega) (by omega) kk)
          | (rw [if_pos c189, if_pos c220] at kk; exact ih _ _ _ _ _ (by omega) (by omega) (by omega) (by omega) kk)
          | (rw [if_pos c189, if_neg (show ¬ ((orM (mLearns w hs kl kn i).1 - nd i).natAbs : Int) ≤ m by omega)] at kk; exact ih _ _ _ _ _ (by omega) (by omega) (by omega) (by omega) kk)
        · refine g_goto (t := 232) dX6_parts_223 (by decide) ?_
          refine g_iinc (q := 235) dX6_parts_232 rfl gs4 rfl ?_
          refine g_goto (t := 165) dX6_parts_235 (by decide) ?_
          first
          | (rw [if_neg c189] at kk; exact ih _ _ _ _ _ (by omega) (by omega) (by omega) (by omega) kk)
          | (rw [if_pos c189, if_pos c220] at kk; exact ih _ _ _ _ _ (by omega) (by omega) (by omega) (by omega) kk)
          | (rw [if_pos c189, if_neg (show ¬ ((orM (mLearns w hs kl kn i).1 - nd i).natAbs : Int) ≤ m by omega)] at kk; exact ih _ _ _ _ _ (by omega) (by omega) (by omega) (by omega) kk)
      · refine g_goto (t := 232) dX6_parts_192 (by decide) ?_
        refine g_iinc (q := 235) dX6_parts_232 rfl gs4 rfl ?_
        refine g_goto (t := 165) dX6_parts_235 (by decide) ?_
        first
        | (rw [if_neg c189] at kk; exact ih _ _ _ _ _ (by omega) (by omega) (by omega) (by omega) kk)
        | (rw [if_pos c189, if_pos c220] at kk; exact ih _ _ _ _ _ (by omega) (by omega) (by omega) (by omega) kk)
        | (rw [if_pos c189, if_neg (show ¬ ((orM (mLearns w hs kl kn i).1 - nd i).natAbs : Int) ≤ m by omega)] at kk; exact ih _ _ _ _ _ (by omega) (by omega) (by omega) (by omega) kk)
theorem c_parts (hw : WFw w) (hh : HSok B hs) (hB : B ≤ 900000000) (hB2 : B2 ≤ 900000000) (hkl : in32 kl) (hkn : in32 kn) (hW : WFw (uW k)) (hH : HSok B2 (uH k)) (hk : 0 ≤ k ∧ k ≤ 2) (hi : in32 (iS k)) (h0 : iS k ≠ -1) :
    CALL E iX6_parts (d + 6) 0 0 [.ref am, vI k] (mH E G am th w hs si lo bk (fl 1120 uW) (fl 2018 uH) iB iL iS tp td fv sz pa fr tk vl fk fp fsh hdt lt kl kn cp 0 bp bl md sw nd mn my wd nm mv) (qP fun o k2 => o = vI (mParts (uW k) (uH k) w hs kl kn) ∧ ∃ y s2 m2 n2, k2 = (mH E G am th w hs si lo bk (fl 1120 uW) (fl 2018 uH) iB iL iS tp td fv sz pa fr tk vl fk fp fsh hdt lt kl kn y 0 bp bl md s2 n2 m2 my wd nm mv)) := by
  have hw2 := hw.2.1
  show GO E iX6_parts _ _ _ 0 [some (.ref am), some (vI k), none, none, none, none] [] _ _
  refine g_iload_n (q := 1) dX6_parts_0 rfl rfl ?_
  refine g_i2l (q := 2) dX6_parts_1 (by first | assumption | exact in32_gB | exact in32_gCmp | (unfold in32; omega)) rfl ?_
  refine g_lconst0 (q := 3) dX6_parts_2 rfl ?_
  refine g_ldc2 (a := 2) (q := 6) dX6_parts_3 q1513 (by decide) rfl ?_
  refine g_cs (I' := iX6_in) (mc := 0) (ms := 0) (rc := 0) (rs := 0) (q := 9) dX6_parts_6 q1514 q1515 gcX6_in (c_inM (by unfold in64; omega) (by unfold in64; omega) (by unfold in64; omega)) rfl rfl ?_
  refine g_ifneB (t := 15) (q := 12) dX6_parts_9 (by decide) rfl (fun c9 => ?_) (fun c9 => ?_)
  · refine g_aload_n (q := 16) dX6_parts_15 rfl rfl ?_
    refine gm_get (k := 10) (q := 19) dX6_parts_16 q1404 (by decide) rfl rfl ?_
    refine g_iload_n (q := 20) dX6_parts_19 rfl rfl ?_
    refine g_iald (q := 21) dX6_parts_20 mA10 (by omega) (by omega) rfl ?_
    refine g_iconst (q := 22) dX6_parts_21 rfl ?_
    refine g_icmp_ne (t := 28) (q := 25) dX6_parts_22 (by decide) rfl (by first | assumption | exact in32_gB | exact in32_gCmp | (unfold in32; omega)) (by first | assumption | exact in32_gB | exact in32_gCmp | (unfold in32; omega)) (fun c22 => ?_) (fun c22 => ?_)
    · refine g_aload_n (q := 29) dX6_parts_28 rfl rfl ?_
      refine g_cvV (I' := iX6_copy) (mc := 0) (ms := 0) (rc := 0) (rs := 0) (ci := 7) (q := 32) dX6_parts_29 q1746 q1748 rfl qs74 gcX6_copy mO (c_copy (by omega) (by omega)) rfl rfl ?_
      refine g_iconst (q := 33) dX6_parts_32 rfl ?_
      refine g_istore_n (q := 34) dX6_parts_33 gs2 rfl ?_
      refine l_parts1_0 hk ?_
      refine g_aload_n (q := 60) dX6_parts_59 rfl rfl ?_
      refine g_iload_n (q := 61) dX6_parts_60 rfl rfl ?_
      refine g_cvV (I' := iX6_takeImage) (mc := 0) (ms := 0) (rc := 0) (rs := 0) (ci := 7) (q := 64) dX6_parts_61 q1521 q1523 rfl qs42 gcX6_takeImage mO (c_takeImage hk) rfl rfl ?_
      refine g_iconst (q := 65) dX6_parts_64 rfl ?_
      refine g_istore_n (q := 66) dX6_parts_65 gs2 rfl ?_
      refine l_parts3 (d := d) hW hH hB2 hkl hkn 12 0 _ _ _ (by omega) (by omega) (fun y m2 n2 p1 p2 => ?_) (fun j q1 q2 => absurd q2 (by omega))
      refine g_iconst (q := 128) dX6_parts_127 rfl ?_
      refine g_istore_n (q := 129) dX6_parts_128 gs2 rfl ?_
      refine l_parts2_0 hk ?_
      refine GO.heapx (mX1 (g' := w) (fun j h2 h3 => by rw [cpyI_in h2 (by omega), cpyI_in (by omega) (by omega)]; congr 1; omega)) ?_
      refine g_aload_n (q := 155) dX6_parts_154 rfl rfl ?_
      refine g_cvV (I' := iX6_takeBack) (mc := 0) (ms := 0) (rc := 0) (rs := 0) (ci := 7) (q := 158) dX6_parts_155 q1750 q1752 rfl qs75 gcX6_takeBack mO (c_back (c := 0) (hs0 := hs) (by omega) (by omega) (fun j q2 q3 => by rw [Int.mul_zero, Int.zero_add, p2 j q2 q3, cpyI_in (by omega) (by omega)]; congr 1; omega)) rfl rfl ?_
      refine g_iconst (q := 159) dX6_parts_158 rfl ?_
      refine g_istore_n (q := 160) dX6_parts_159 gs2 rfl ?_
      refine g_iconst (q := 161) dX6_parts_160 rfl ?_
      refine g_istore_n (q := 162) dX6_parts_161 gs3 rfl ?_
      refine g_iconst (q := 163) dX6_parts_162 rfl ?_
      refine g_istore (q := 165) dX6_parts_163 gs4 rfl ?_
      exact l_parts4 (d := d) hw hh hB hkl hkn hW hH p1 (w 2).toNat 0 (-1) (-1) _ _ (by omega) (by omega) (by omega) (by omega) (fun y2 => ⟨_, rfl, rfl, y2, _, _, _, rfl⟩)
    · exact absurd c22 h0
  · exact absurd hk c9
theorem c_parts_none (hk : 0 ≤ k ∧ k ≤ 2) (h0 : iS k = -1) : CALL E iX6_parts (d + 1) 0 0 [.ref am, vI k] (mH E G am th w hs si lo bk iW iH iB iL iS tp td fv sz pa fr tk vl fk fp fsh hdt lt kl kn cp cd bp bl md sw nd mn my wd nm mv) (qR (vI (-6)) (mH E G am th w hs si lo bk iW iH iB iL iS tp td fv sz pa fr tk vl fk fp fsh hdt lt kl kn cp cd bp bl md sw nd mn my wd nm mv)) := by
  show GO E iX6_parts _ _ _ 0 [some (.ref am), some (vI k), none, none, none, none] [] _ _
  refine g_iload_n (q := 1) dX6_parts_0 rfl rfl ?_
  refine g_i2l (q := 2) dX6_parts_1 (by first | assumption | exact in32_gB | exact in32_gCmp | (unfold in32; omega)) rfl ?_
  refine g_lconst0 (q := 3) dX6_parts_2 rfl ?_
  refine g_ldc2 (a := 2) (q := 6) dX6_parts_3 q1513 (by decide) rfl ?_
  refine g_cs (I' := iX6_in) (mc := 0) (ms := 0) (rc := 0) (rs := 0) (q := 9) dX6_parts_6 q1514 q1515 gcX6_in (c_inM (by unfold in64; omega) (by unfold in64; omega) (by unfold in64; omega)) rfl rfl ?_
  refine g_ifneB (t := 15) (q := 12) dX6_parts_9 (by decide) rfl (fun c9 => ?_) (fun c9 => ?_)
  · refine g_aload_n (q := 16) dX6_parts_15 rfl rfl ?_
    refine gm_get (k := 10) (q := 19) dX6_parts_16 q1404 (by decide) rfl rfl ?_
    refine g_iload_n (q := 20) dX6_parts_19 rfl rfl ?_
    refine g_iald (q := 21) dX6_parts_20 mA10 (by omega) (by omega) rfl ?_
    refine g_iconst (q := 22) dX6_parts_21 rfl ?_
    refine g_icmp_ne (t := 28) (q := 25) dX6_parts_22 (by decide) rfl (by first | assumption | exact in32_gB | exact in32_gCmp | (unfold in32; omega)) (by first | assumption | exact in32_gB | exact in32_gCmp | (unfold in32; omega)) (fun c22 => ?_) (fun c22 => ?_)
    · exact absurd h0 c22
    · refine g_bipush (q := 27) dX6_parts_25 rfl ?_
      exact g_iret dX6_parts_27 rfl ⟨rfl, rfl⟩
  · exact absurd hk c9
theorem c_parts_bad (hr : in32 k) (hk : ¬ (0 ≤ k ∧ k ≤ 2)) : CALL E iX6_parts (d + 1) 0 0 [.ref am, vI k] (mH E G am th w hs si lo bk iW iH iB iL iS tp td fv sz pa fr tk vl fk fp fsh hdt lt kl kn cp cd bp bl md sw nd mn my wd nm mv) (qR (vI (-2)) (mH E G am th w hs si lo bk iW iH iB iL iS tp td fv sz pa fr tk vl fk fp fsh hdt lt kl kn cp cd bp bl md sw nd mn my wd nm mv)) := by
  have h1 := hr.1
  have h2 := hr.2
  show GO E iX6_parts _ _ _ 0 [some (.ref am), some (vI k), none, none, none, none] [] _ _
  refine g_iload_n (q := 1) dX6_parts_0 rfl rfl ?_
  refine g_i2l (q := 2) dX6_parts_1 (by first | assumption | exact in32_gB | exact in32_gCmp | (unfold in32; omega)) rfl ?_
  refine g_lconst0 (q := 3) dX6_parts_2 rfl ?_
  refine g_ldc2 (a := 2) (q := 6) dX6_parts_3 q1513 (by decide) rfl ?_
  refine g_cs (I' := iX6_in) (mc := 0) (ms := 0) (rc := 0) (rs := 0) (q := 9) dX6_parts_6 q1514 q1515 gcX6_in (c_inM (by unfold in64; omega) (by unfold in64; omega) (by unfold in64; omega)) rfl rfl ?_
  refine g_ifneB (t := 15) (q := 12) dX6_parts_9 (by decide) rfl (fun c9 => ?_) (fun c9 => ?_)
  · exact absurd c9 hk
  · refine g_bipush (q := 14) dX6_parts_12 rfl ?_
    exact g_iret dX6_parts_14 rfl ⟨rfl, rfl⟩
end
