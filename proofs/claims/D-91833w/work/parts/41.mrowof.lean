/-! THE REFERENCE: rowOf -/
set_option maxRecDepth 100000
/-- whether a slot's numbers are a row: from the i-th on -/
def roD (nm : Int → Int) (k i : Int) : Nat → Int → Prop
  | 0, _ => True
  | f + 1, j => ¬ nm (60 * k + j) = nm (60 * k + i) ∧ roD nm k i f (j + 1)
def roW (nm : Int → Int) (k t : Int) : Nat → Int → Prop
  | 0, _ => True
  | f + 1, i => (0 ≤ nm (60 * k + i) ∧ nm (60 * k + i) ≤ t - 1) ∧ roD nm k i i.toNat 0 ∧ roW nm k t f (i + 1)
section
variable {E : gE} {d rc rs am : Nat} {G : gH}
variable {th si lo td sz pa fr tk vl fk fp hdt kl kn cd bp bl : Int} {w hs bk iW iH iB iL iS tp fv fsh lt cp md sw nd mn my wd nm mv : Int → Int}
variable {s a b r r2 i k v e B c n l left days dg : Int} {Q : Outcome → gH → Prop}
theorem l_rowOf1 (hk : 0 ≤ k ∧ k < 4) (hi0 : 0 ≤ i) (hi : i < 12) (hnm : ∀ j, 0 ≤ j → j < 240 → in64 (nm j)) : ∀ (f : Nat) (j : Int), 0 ≤ j → j + f = i →
    (roD nm k i f j → ∀ x : Option Value, GO E iX6_rowOf (d + 2) 0 0 124 [some (.ref am), some (vI k), some (vI i), some (vL (nm (60 * k + i))), none, x] [] (mH E G am th w hs si lo bk iW iH iB iL iS tp td fv sz pa fr tk vl fk fp fsh hdt lt kl kn cp cd bp bl md sw nd mn my wd nm mv) Q) →
    (¬ roD nm k i f j → Q (.returned (some (vI (-2)))) (mH E G am th w hs si lo bk iW iH iB iL iS tp td fv sz pa fr tk vl fk fp fsh hdt lt kl kn cp cd bp bl md sw nd mn my wd nm mv)) →
    GO E iX6_rowOf (d + 2) 0 0 92 [some (.ref am), some (vI k), some (vI i), some (vL (nm (60 * k + i))), none, some (vI j)] [] (mH E G am th w hs si lo bk iW iH iB iL iS tp td fv sz pa fr tk vl fk fp fsh hdt lt kl kn cp cd bp bl md sw nd mn my wd nm mv) Q := by
  have t1 := hnm (60 * k + i) (by omega) (by omega)
  intro f
  induction f with
  | zero =>
    intro j h0 h1 ky ko
    refine g_iload (q := 94) dX6_rowOf_92 rfl rfl ?_
    refine g_iload_n (q := 95) dX6_rowOf_94 rfl rfl ?_
    refine g_icmp_ge (t := 124) (q := 98) dX6_rowOf_95 (by decide) rfl (by first | assumption | exact in32_gB | exact in32_gCmp | (unfold in32; omega)) (by first | assumption | exact in32_gB | exact in32_gCmp | (unfold in32; omega)) (fun c95 => ?_) (fun c95 => ?_)
    · exact ky trivial _
    · exact absurd c95 (by omega)
  | succ f ih =>
    intro j h0 h1 ky ko
    have t2 := hnm (60 * k + j) (by omega) (by omega)
    refine g_iload (q := 94) dX6_rowOf_92 rfl rfl ?_
    refine g_iload_n (q := 95) dX6_rowOf_94 rfl rfl ?_
    refine g_icmp_ge (t := 124) (q := 98) dX6_rowOf_95 (by decide) rfl (by first | assumption | exact in32_gB | exact in32_gCmp | (unfold in32; omega)) (by first | assumption | exact in32_gB | exact in32_gCmp | (unfold in32; omega)) (fun c95 => ?_) (fun c95 => ?_)
    · exact absurd c95 (by omega)
    · refine g_aload_n (q := 99) dX6_rowOf_98 rfl rfl ?_
      refine gm_get (k := 36) (q := 102) dX6_rowOf_99 q1430 (by decide) rfl rfl ?_
      refine g_bipush (q := 104) dX6_rowOf_102 rfl ?_
      refine g_iload_n (q := 105) dX6_rowOf_104 rfl rfl ?_
      refine g_imul (q := 106) dX6_rowOf_105 rfl ?_
      refine g_iload (q := 108) dX6_rowOf_106 rfl rfl ?_
      refine g_iadd (q := 109) dX6_rowOf_108 rfl ?_
      refine g_lald (q := 110) dX6_rowOf_109 mA36 (by omega) (by omega) rfl ?_
      refine g_lload_n (q := 111) dX6_rowOf_110 rfl rfl ?_
      refine g_lcmp (q := 112) dX6_rowOf_111 (by first | assumption | (unfold in64; omega)) (by first | assumption | (unfold in64; omega)) rfl ?_
      refine g_cif_ne (t := 118) (q := 115) dX6_rowOf_112 (by decide) rfl (fun c112 => ?_) (fun c112 => ?_)
      · refine g_iinc (q := 121) dX6_rowOf_118 rfl gs5 rfl ?_
        refine g_goto (t := 92) dX6_rowOf_121 (by decide) ?_
        exact ih _ (by omega) (by omega) (fun q => ky ⟨c112, q⟩) (fun q => ko (fun q2 => q q2.2))
      · refine g_bipush (q := 117) dX6_rowOf_115 rfl ?_
        exact g_iret dX6_rowOf_117 rfl (ko (fun q => q.1 c112))
/-- the numbers' loop, head at 47 -/
theorem l_rowOf2 (hw1 : 0 ≤ w 1 ∧ w 1 ≤ 24) (hk : 0 ≤ k ∧ k < 4) (hmy : 2 ≤ my k ∧ my k ≤ 12) (hnm : ∀ j, 0 ≤ j → j < 240 → in64 (nm j)) : ∀ (f : Nat) (i : Int) (x3 x4 x5 : Option Value), 0 ≤ i → i + f = my k →
    (roW nm k (w 1) f i → ∀ x2 x3 x4 x5 : Option Value, GO E iX6_rowOf (d + 2) 0 0 130 [some (.ref am), some (vI k), x2, x3, x4, x5] [] (mH E G am th w hs si lo bk iW iH iB iL iS tp td fv sz pa fr tk vl fk fp fsh hdt lt kl kn cp cd bp bl md sw nd mn my wd nm mv) Q) →
    (¬ roW nm k (w 1) f i → Q (.returned (some (vI (-2)))) (mH E G am th w hs si lo bk iW iH iB iL iS tp td fv sz pa fr tk vl fk fp fsh hdt lt kl kn cp cd bp bl md sw nd mn my wd nm mv)) →
    GO E iX6_rowOf (d + 2) 0 0 47 [some (.ref am), some (vI k), some (vI i), x3, x4, x5] [] (mH E G am th w hs si lo bk iW iH iB iL iS tp td fv sz pa fr tk vl fk fp fsh hdt lt kl kn cp cd bp bl md sw nd mn my wd nm mv) Q := by
  intro f
  induction f with
  | zero =>
    intro i x3 x4 x5 h0 h1 ky ko
    refine g_iload_n (q := 48) dX6_rowOf_47 rfl rfl ?_
    refine g_aload_n (q := 49) dX6_rowOf_48 rfl rfl ?_
    refine gm_get (k := 34) (q := 52) dX6_rowOf_49 q1428 (by decide) rfl rfl ?_
    refine g_iload_n (q := 53) dX6_rowOf_52 rfl rfl ?_
    refine g_iald (q := 54) dX6_rowOf_53 mA34 (by omega) (by omega) rfl ?_
    refine g_icmp_ge (t := 130) (q := 57) dX6_rowOf_54 (by decide) rfl (by first | assumption | exact in32_gB | exact in32_gCmp | (unfold in32; omega)) (by first | assumption | exact in32_gB | exact in32_gCmp | (unfold in32; omega)) (fun c54 => ?_) (fun c54 => ?_)
    · exact ky trivial _ _ _ _
    · exact absurd c54 (by omega)
  | succ f ih =>
    intro i x3 x4 x5 h0 h1 ky ko
    have t2 := hnm (60 * k + i) (by omega) (by omega)
    have nx : ((0 ≤ nm (60 * k + i) ∧ nm (60 * k + i) ≤ w 1 - 1) ∧ roD nm k i i.toNat 0) → ∀ x : Option Value, GO E iX6_rowOf (d + 2) 0 0 124 [some (.ref am), some (vI k), some (vI i), some (vL (nm (60 * k + i))), none, x] [] (mH E G am th w hs si lo bk iW iH iB iL iS tp td fv sz pa fr tk vl fk fp fsh hdt lt kl kn cp cd bp bl md sw nd mn my wd nm mv) Q := by
      intro q x
      refine g_iinc (q := 127) dX6_rowOf_124 rfl gs2 rfl ?_
      refine g_goto (t := 47) dX6_rowOf_127 (by decide) ?_
      exact ih _ _ _ _ (by omega) (by omega) (fun q2 => ky ⟨q.1, q.2, q2⟩) (fun q2 => ko (fun q3 => q2 q3.2.2))
    refine g_iload_n (q := 48) dX6_rowOf_47 rfl rfl ?_
    refine g_aload_n (q := 49) dX6_rowOf_48 rfl rfl ?_
    refine gm_get (k := 34) (q := 52) dX6_rowOf_49 q1428 (by decide) rfl rfl ?_
    refine g_iload_n (q := 53) dX6_rowOf_52 rfl rfl ?_
    refine g_iald (q := 54) dX6_rowOf_53 mA34 (by omega) (by omega) rfl ?_
    refine g_icmp_ge (t := 130) (q := 57) dX6_rowOf_54 (by decide) rfl (by first | assumption | exact in32_gB | exact in32_gCmp | (unfold in32; omega)) (by first | assumption | exact in32_gB | exact in32_gCmp | (unfold in32; omega)) (fun c54 => ?_) (fun c54 => ?_)
    · exact absurd c54 (by omega)
    · refine g_aload_n (q := 58) dX6_rowOf_57 rfl rfl ?_
      refine gm_get (k := 36) (q := 61) dX6_rowOf_58 q1430 (by decide) rfl rfl ?_
      refine g_bipush (q := 63) dX6_rowOf_61 rfl ?_
      refine g_iload_n (q := 64) dX6_rowOf_63 rfl rfl ?_
      refine g_imul (q := 65) dX6_rowOf_64 rfl ?_
      refine g_iload_n (q := 66) dX6_rowOf_65 rfl rfl ?_
      refine g_iadd (q := 67) dX6_rowOf_66 rfl ?_
      refine g_lald (q := 68) dX6_rowOf_67 mA36 (by omega) (by omega) rfl ?_
      refine g_lstore_n (q := 69) dX6_rowOf_68 gt3 rfl ?_
      refine g_lload_n (q := 70) dX6_rowOf_69 rfl rfl ?_
      refine g_lconst0 (q := 71) dX6_rowOf_70 rfl ?_
      refine g_aload_n (q := 72) dX6_rowOf_71 rfl rfl ?_
      refine gm_get (k := 1) (q := 75) dX6_rowOf_72 q1395 (by decide) rfl rfl ?_
      refine g_iconst (q := 76) dX6_rowOf_75 rfl ?_
      refine g_iald (q := 77) dX6_rowOf_76 mA1 (by omega) (by omega) rfl ?_
      refine g_iconst (q := 78) dX6_rowOf_77 rfl ?_
      refine g_isub (q := 79) dX6_rowOf_78 rfl ?_
      refine g_i2l (q := 80) dX6_rowOf_79 (by first | assumption | exact in32_gB | exact in32_gCmp | (unfold in32; omega)) rfl ?_
      refine g_cs (I' := iX6_in) (mc := 0) (ms := 0) (rc := 0) (rs := 0) (q := 83) dX6_rowOf_80 q1514 q1515 gcX6_in (c_inM t2 (by unfold in64; omega) (by unfold in64; omega)) rfl rfl ?_
      refine g_ifneB (t := 89) (q := 86) dX6_rowOf_83 (by decide) rfl (fun c83 => ?_) (fun c83 => ?_)
      · refine g_iconst (q := 90) dX6_rowOf_89 rfl ?_
        refine g_istore (q := 92) dX6_rowOf_90 gs5 rfl ?_
        refine l_rowOf1 hk h0 (by omega) hnm i.toNat 0 (by omega) (by omega) (fun q x => ?_) (fun q => ko (fun q2 => q q2.2.1))
        exact nx ⟨c83, q⟩ x
      · refine g_bipush (q := 88) dX6_rowOf_86 rfl ?_
        exact g_iret dX6_rowOf_88 rfl (ko (fun q => c83 q.1))
def roG (nm : Int → Int) (k : Int) : Int → Int := fun i => nm (60 * k + i)
theorem l_rowOf3 (h2 : 0 ≤ w 2 ∧ w 2 < 12) (hk : 0 ≤ k ∧ k < 4) (hmy : 2 ≤ my k ∧ my k ≤ 12) (hnm : ∀ j, 0 ≤ j → j < my k → in32 (nm (60 * k + j))) : ∀ (f : Nat) (i : Int) (x3 x4 x5 : Option Value), 0 ≤ i → i + f = my k →
    GO E iX6_rowOf (d + 2) 0 0 146 [some (.ref am), some (vI k), some (vI i), x3, x4, x5] [] (mH E G am th w hs si lo bk iW iH iB iL iS tp td fv sz pa fr tk vl fk fp fsh hdt lt kl kn cp cd bp bl (cpyI md (roG nm k) 0 0 i) sw nd mn my wd nm mv) (qR (vI (w 2)) (mH E G am th (mkW w (my k) (cpyI md (roG nm k) 0 0 (my k))) hs si lo bk iW iH iB iL iS tp td fv sz pa fr tk vl fk fp fsh hdt lt kl kn cp cd bp bl (cpyI md (roG nm k) 0 0 (my k)) sw nd mn my wd nm mv)) := by
  intro f
  induction f with
  | zero =>
    intro i x3 x4 x5 h0 h1
    obtain rfl : i = my k := by omega
    refine g_iload_n (q := 147) dX6_rowOf_146 rfl rfl ?_
    refine g_aload_n (q := 148) dX6_rowOf_147 rfl rfl ?_
    refine gm_get (k := 34) (q := 151) dX6_rowOf_148 q1428 (by decide) rfl rfl ?_
    refine g_iload_n (q := 152) dX6_rowOf_151 rfl rfl ?_
    refine g_iald (q := 153) dX6_rowOf_152 mA34 (by omega) (by omega) rfl ?_
    refine g_icmp_ge (t := 180) (q := 156) dX6_rowOf_153 (by decide) rfl (by first | assumption | exact in32_gB | exact in32_gCmp | (unfold in32; omega)) (by first | assumption | exact in32_gB | exact in32_gCmp | (unfold in32; omega)) (fun c153 => ?_) (fun c153 => ?_)
    · refine g_aload_n (q := 181) dX6_rowOf_180 rfl rfl ?_
      refine g_aload_n (q := 182) dX6_rowOf_181 rfl rfl ?_
      refine gm_get (k := 34) (q := 185) dX6_rowOf_182 q1428 (by decide) rfl rfl ?_
      refine g_iload_n (q := 186) dX6_rowOf_185 rfl rfl ?_
      refine g_iald (q := 187) dX6_rowOf_186 mA34 (by omega) (by omega) rfl ?_
      refine g_cv (I' := iX6_makes) (mc := 0) (ms := 0) (rc := 0) (rs := 0) (ci := 7) (q := 190) dX6_rowOf_187 q1821 q1823 rfl qs80 gcX6_makes mO (c_makes (by omega) (by omega) (by omega) (by omega)) rfl rfl ?_
      exact g_iret dX6_rowOf_190 rfl ⟨rfl, rfl⟩
    · exact absurd c153 (by omega)
  | succ f ih =>
    intro i x3 x4 x5 h0 h1
    have t2 := hnm i (by omega) (by omega)
    have e3 := cpyI_s (dst := md) (src := roG nm k) (dO := 0) (sO := 0) h0
    rw [Int.zero_add] at e3
    refine g_iload_n (q := 147) dX6_rowOf_146 rfl rfl ?_
    refine g_aload_n (q := 148) dX6_rowOf_147 rfl rfl ?_
    refine gm_get (k := 34) (q := 151) dX6_rowOf_148 q1428 (by decide) rfl rfl ?_
    refine g_iload_n (q := 152) dX6_rowOf_151 rfl rfl ?_
    refine g_iald (q := 153) dX6_rowOf_152 mA34 (by omega) (by omega) rfl ?_
    refine g_icmp_ge (t := 180) (q := 156) dX6_rowOf_153 (by decide) rfl (by first | assumption | exact in32_gB | exact in32_gCmp | (unfold in32; omega)) (by first | assumption | exact in32_gB | exact in32_gCmp | (unfold in32; omega)) (fun c153 => ?_) (fun c153 => ?_)
    · exact absurd c153 (by omega)
    · refine g_aload_n (q := 157) dX6_rowOf_156 rfl rfl ?_
      refine gm_get (k := 30) (q := 160) dX6_rowOf_157 q1424 (by decide) rfl rfl ?_
      refine g_iload_n (q := 161) dX6_rowOf_160 rfl rfl ?_
      refine g_aload_n (q := 162) dX6_rowOf_161 rfl rfl ?_
      refine gm_get (k := 36) (q := 165) dX6_rowOf_162 q1430 (by decide) rfl rfl ?_
      refine g_bipush (q := 167) dX6_rowOf_165 rfl ?_
      refine g_iload_n (q := 168) dX6_rowOf_167 rfl rfl ?_
      refine g_imul (q := 169) dX6_rowOf_168 rfl ?_
      refine g_iload_n (q := 170) dX6_rowOf_169 rfl rfl ?_
      refine g_iadd (q := 171) dX6_rowOf_170 rfl ?_
      refine g_lald (q := 172) dX6_rowOf_171 mA36 (by omega) (by omega) rfl ?_
      refine g_l2i (q := 173) dX6_rowOf_172 rfl ?_
      refine gm_st30 (q := 174) dX6_rowOf_173 (by omega) (by omega)  rfl ?_
      rw [show nm (60 * k + i) = roG nm k i from rfl, e3]
      refine g_iinc (q := 177) dX6_rowOf_174 rfl gs2 rfl ?_
      refine g_goto (t := 146) dX6_rowOf_177 (by decide) ?_
      exact ih _ _ _ _ (by omega) (by omega)
theorem roW_in {nm : Int → Int} {k t : Int} (ht : t ≤ 24) : ∀ (f : Nat) (i : Int), roW nm k t f i → ∀ j, i ≤ j → j < i + f → in32 (nm (60 * k + j)) := by
  intro f
  induction f with
  | zero => intro i _ j h0 h1; exact absurd h1 (by omega)
  | succ f ih =>
    intro i h j h0 h1
    by_cases c : j = i
    · subst c; have := h.1; unfold in32; omega
    · exact ih (i + 1) h.2.2 j (by omega) (by omega)
theorem c_rowOf (hw : WFw w) (h1 : in32 k) (hmy : ∀ j, 0 ≤ j → j < 4 → in32 (my j)) (hnm : ∀ j, 0 ≤ j → j < 240 → in64 (nm j))
    (k1 : ¬ (0 ≤ k ∧ k ≤ 3) → Q (.returned (some (vI (-2)))) (mH E G am th w hs si lo bk iW iH iB iL iS tp td fv sz pa fr tk vl fk fp fsh hdt lt kl kn cp cd bp bl md sw nd mn my wd nm mv)) (k2 : 0 ≤ k ∧ k ≤ 3 → my k = -1 → Q (.returned (some (vI (-6)))) (mH E G am th w hs si lo bk iW iH iB iL iS tp td fv sz pa fr tk vl fk fp fsh hdt lt kl kn cp cd bp bl md sw nd mn my wd nm mv))
    (k3 : 0 ≤ k ∧ k ≤ 3 → ¬ my k = -1 → ¬ (2 ≤ my k ∧ my k ≤ 12) → Q (.returned (some (vI (-2)))) (mH E G am th w hs si lo bk iW iH iB iL iS tp td fv sz pa fr tk vl fk fp fsh hdt lt kl kn cp cd bp bl md sw nd mn my wd nm mv))
    (k4 : 0 ≤ k ∧ k ≤ 3 → 2 ≤ my k ∧ my k ≤ 12 → ¬ roW nm k (w 1) (my k).toNat 0 → Q (.returned (some (vI (-2)))) (mH E G am th w hs si lo bk iW iH iB iL iS tp td fv sz pa fr tk vl fk fp fsh hdt lt kl kn cp cd bp bl md sw nd mn my wd nm mv))
    (k5 : 0 ≤ k ∧ k ≤ 3 → 2 ≤ my k ∧ my k ≤ 12 → roW nm k (w 1) (my k).toNat 0 → w 2 = 12 → Q (.returned (some (vI (-3)))) (mH E G am th w hs si lo bk iW iH iB iL iS tp td fv sz pa fr tk vl fk fp fsh hdt lt kl kn cp cd bp bl md sw nd mn my wd nm mv))
    (k6 : 0 ≤ k ∧ k ≤ 3 → 2 ≤ my k ∧ my k ≤ 12 → roW nm k (w 1) (my k).toNat 0 → ¬ w 2 = 12 → Q (.returned (some (vI (w 2)))) (mH E G am th (mkW w (my k) (cpyI md (roG nm k) 0 0 (my k))) hs si lo bk iW iH iB iL iS tp td fv sz pa fr tk vl fk fp fsh hdt lt kl kn cp cd bp bl (cpyI md (roG nm k) 0 0 (my k)) sw nd mn my wd nm mv)) :
    CALL E iX6_rowOf (d + 2) 0 0 [.ref am, vI k] (mH E G am th w hs si lo bk iW iH iB iL iS tp td fv sz pa fr tk vl fk fp fsh hdt lt kl kn cp cd bp bl md sw nd mn my wd nm mv) Q := by
  have h12 := hw.2.1
  have h11 := hw.1
  have fin : 0 ≤ k ∧ k ≤ 3 → 2 ≤ my k ∧ my k ≤ 12 → roW nm k (w 1) (my k).toNat 0 → ∀ x2 x3 x4 x5 : Option Value, GO E iX6_rowOf (d + 2) 0 0 130 [some (.ref am), some (vI k), x2, x3, x4, x5] [] (mH E G am th w hs si lo bk iW iH iB iL iS tp td fv sz pa fr tk vl fk fp fsh hdt lt kl kn cp cd bp bl md sw nd mn my wd nm mv) Q := by
    intro q1 q2 q3 x2 x3 x4 x5
    refine g_aload_n (q := 131) dX6_rowOf_130 rfl rfl ?_
    refine gm_get (k := 1) (q := 134) dX6_rowOf_131 q1395 (by decide) rfl rfl ?_
    refine g_iconst (q := 135) dX6_rowOf_134 rfl ?_
    refine g_iald (q := 136) dX6_rowOf_135 mA1 (by omega) (by omega) rfl ?_
    refine g_bipush (q := 138) dX6_rowOf_136 rfl ?_
    refine g_icmp_ne (t := 144) (q := 141) dX6_rowOf_138 (by decide) rfl (by first | assumption | exact in32_gB | exact in32_gCmp | (unfold in32; omega)) (by first | assumption | exact in32_gB | exact in32_gCmp | (unfold in32; omega)) (fun c138 => ?_) (fun c138 => ?_)
    · refine g_iconst (q := 145) dX6_rowOf_144 rfl ?_
      refine g_istore_n (q := 146) dX6_rowOf_145 gs2 rfl ?_
      have g := l_rowOf3 (d := d) (E := E) (G := G) (am := am) (th := th) (hs := hs) (si := si) (lo := lo) (bk := bk) (iW := iW) (iH := iH) (iB := iB) (iL := iL) (iS := iS) (tp := tp) (td := td) (fv := fv) (sz := sz) (pa := pa) (fr := fr) (tk := tk) (vl := vl) (fk := fk) (fp := fp) (fsh := fsh) (hdt := hdt) (lt := lt) (kl := kl) (kn := kn) (cp := cp) (cd := cd) (bp := bp) (bl := bl) (md := md) (sw := sw) (nd := nd) (mn := mn) (wd := wd) (mv := mv) (w := w) (my := my) (nm := nm) (k := k) (by omega) (by omega) q2 (fun j a b => roW_in (by omega) _ _ q3 j a (by omega)) (my k).toNat 0 x3 x4 x5 (by omega) (by omega)
      rw [cpyI_0] at g
      exact GO.mono g fun o h hq => by rw [hq.1, hq.2]; exact k6 q1 q2 q3 c138
    · refine g_bipush (q := 143) dX6_rowOf_141 rfl ?_
      exact g_iret dX6_rowOf_143 rfl (k5 q1 q2 q3 c138)
  by_cases z : 0 ≤ k ∧ k ≤ 3
  · have t1 := hmy k z.1 (by omega)
    have t2 := t1.1
    have t3 := t1.2
    show GO E iX6_rowOf _ _ _ 0 [some (.ref am), some (vI k), none, none, none, none] [] _ _
    refine g_iload_n (q := 1) dX6_rowOf_0 rfl rfl ?_
    refine g_cs (I' := iX6_isSlot) (mc := 0) (ms := 0) (rc := 0) (rs := 0) (q := 4) dX6_rowOf_1 q1833 q1834 gcX6_isSlot (c_isSlotM h1) rfl rfl ?_
    refine g_ifneB (t := 10) (q := 7) dX6_rowOf_4 (by decide) rfl (fun c4 => ?_) (fun c4 => ?_)
    · refine g_aload_n (q := 11) dX6_rowOf_10 rfl rfl ?_
      refine gm_get (k := 34) (q := 14) dX6_rowOf_11 q1428 (by decide) rfl rfl ?_
      refine g_iload_n (q := 15) dX6_rowOf_14 rfl rfl ?_
      refine g_iald (q := 16) dX6_rowOf_15 mA34 (by omega) (by omega) rfl ?_
      refine g_iconst (q := 17) dX6_rowOf_16 rfl ?_
      refine g_icmp_ne (t := 23) (q := 20) dX6_rowOf_17 (by decide) rfl (by first | assumption | exact in32_gB | exact in32_gCmp | (unfold in32; omega)) (by first | assumption | exact in32_gB | exact in32_gCmp | (unfold in32; omega)) (fun c17 => ?_) (fun c17 => ?_)
      · refine g_aload_n (q := 24) dX6_rowOf_23 rfl rfl ?_
        refine gm_get (k := 34) (q := 27) dX6_rowOf_24 q1428 (by decide) rfl rfl ?_
        refine g_iload_n (q := 28) dX6_rowOf_27 rfl rfl ?_
        refine g_iald (q := 29) dX6_rowOf_28 mA34 (by omega) (by omega) rfl ?_
        refine g_i2l (q := 30) dX6_rowOf_29 (by first | assumption | exact in32_gB | exact in32_gCmp | (unfold in32; omega)) rfl ?_
        refine g_ldc2 (a := 2) (q := 33) dX6_rowOf_30 q1513 (by decide) rfl ?_
        refine g_ldc2 (a := 12) (q := 36) dX6_rowOf_33 q1836 (by decide) rfl ?_
        refine g_cs (I' := iX6_in) (mc := 0) (ms := 0) (rc := 0) (rs := 0) (q := 39) dX6_rowOf_36 q1514 q1515 gcX6_in (c_inM (by unfold in64; omega) (by unfold in64; omega) (by unfold in64; omega)) rfl rfl ?_
        refine g_ifneB (t := 45) (q := 42) dX6_rowOf_39 (by decide) rfl (fun c39 => ?_) (fun c39 => ?_)
        · refine g_iconst (q := 46) dX6_rowOf_45 rfl ?_
          refine g_istore_n (q := 47) dX6_rowOf_46 gs2 rfl ?_
          exact l_rowOf2 h11 (by omega) c39 hnm (my k).toNat 0 _ _ _ (by omega) (by omega) (fin z c39) (k4 z c39)
        · refine g_bipush (q := 44) dX6_rowOf_42 rfl ?_
          exact g_iret dX6_rowOf_44 rfl (k3 z c17 c39)
      · refine g_bipush (q := 22) dX6_rowOf_20 rfl ?_
        exact g_iret dX6_rowOf_22 rfl (k2 z c17)
    · exact absurd z c4
  · skip
    show GO E iX6_rowOf _ _ _ 0 [some (.ref am), some (vI k), none, none, none, none] [] _ _
    refine g_iload_n (q := 1) dX6_rowOf_0 rfl rfl ?_
    refine g_cs (I' := iX6_isSlot) (mc := 0) (ms := 0) (rc := 0) (rs := 0) (q := 4) dX6_rowOf_1 q1833 q1834 gcX6_isSlot (c_isSlotM h1) rfl rfl ?_
    refine g_ifneB (t := 10) (q := 7) dX6_rowOf_4 (by decide) rfl (fun c4 => ?_) (fun c4 => ?_)
    · exact absurd c4 z
    · refine g_bipush (q := 9) dX6_rowOf_7 rfl ?_
      exact g_iret dX6_rowOf_9 rfl (k1 z)
end
