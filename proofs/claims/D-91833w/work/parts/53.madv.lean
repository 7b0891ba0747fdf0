/-! THE REFERENCE: tokens -/
set_option maxRecDepth 100000
def skL (tp : Int → Int) (sz : Int) : Nat → Int → Int
  | 0, p => p
  | f + 1, p => if seeV tp sz p = 32 ∨ seeV tp sz p = 10 then skL tp sz f (p + 1) else p
def wdL (tp : Int → Int) (sz : Int) : Nat → Int → Int
  | 0, p => p
  | f + 1, p => if 97 ≤ seeV tp sz p ∧ seeV tp sz p ≤ 122 then wdL tp sz f (p + 1) else p
def nuL (tp : Int → Int) (sz : Int) : Nat → Int → Int → Int × Int
  | 0, p, v => (p, v)
  | f + 1, p, v => if 48 ≤ seeV tp sz p ∧ seeV tp sz p ≤ 57 then nuL tp sz f (p + 1) (min 99999 (10 * v + seeV tp sz p - 48)) else (p, v)
def adv1 (tp : Int → Int) (sz p vl : Int) : Int × Int × Int × Int :=
  if seeV tp sz p = -1 then (p, p, 0, vl) else if 97 ≤ seeV tp sz p ∧ seeV tp sz p ≤ 122 then (wdL tp sz (sz - p).toNat p, p, 1, vl)
  else if 48 ≤ seeV tp sz p ∧ seeV tp sz p ≤ 57 then ((nuL tp sz (sz - p).toNat p 0).1, p, 2, (nuL tp sz (sz - p).toNat p 0).2) else (p + 1, p, (if seeV tp sz p = 59 then 3 else 4), vl)
def adv (tp : Int → Int) (sz pa vl : Int) : Int × Int × Int × Int := adv1 tp sz (skL tp sz (sz - pa).toNat pa) vl
theorem skL_in {tp : Int → Int} {sz : Int} : ∀ (f : Nat) (p : Int), p + f ≤ sz → p ≤ skL tp sz f p ∧ skL tp sz f p ≤ sz := by
  intro f
  induction f with
  | zero => intro p h; exact ⟨Int.le_refl _, by show p ≤ sz; omega⟩
  | succ f ih =>
    intro p h
    unfold skL
    split
    · have := ih (p + 1) (by omega); omega
    · omega
theorem wdL_in {tp : Int → Int} {sz : Int} : ∀ (f : Nat) (p : Int), p + f ≤ sz → p ≤ wdL tp sz f p ∧ wdL tp sz f p ≤ sz := by
  intro f
  induction f with
  | zero => intro p h; exact ⟨Int.le_refl _, by show p ≤ sz; omega⟩
  | succ f ih =>
    intro p h
    unfold wdL
    split
    · have := ih (p + 1) (by omega); omega
    · omega
theorem nuL_in {tp : Int → Int} {sz : Int} : ∀ (f : Nat) (p v : Int), p + f ≤ sz → 0 ≤ v → v ≤ 99999 → (p ≤ (nuL tp sz f p v).1 ∧ (nuL tp sz f p v).1 ≤ sz) ∧ (0 ≤ (nuL tp sz f p v).2 ∧ (nuL tp sz f p v).2 ≤ 99999) := by
  intro f
  induction f with
  | zero => intro p v h h0 h1; exact ⟨⟨Int.le_refl _, by show p ≤ sz; omega⟩, h0, h1⟩
  | succ f ih =>
    intro p v h h0 h1
    unfold nuL
    split
    · rename_i z
      have := ih (p + 1) (min 99999 (10 * v + seeV tp sz p - 48)) (by omega) (by omega) (by omega)
      omega
    · exact ⟨⟨Int.le_refl _, by show p ≤ sz; omega⟩, h0, h1⟩
theorem see_lt {tp : Int → Int} {sz p : Int} (h : seeV tp sz p ≠ -1) : p < sz := by
  unfold seeV at h
  split at h
  · assumption
  · exact absurd rfl h
theorem adv_ok {tp : Int → Int} {sz pa vl : Int} (h1 : pa ≤ sz) (hv : 0 ≤ vl ∧ vl ≤ 99999) : (pa ≤ (adv tp sz pa vl).2.1 ∧ (adv tp sz pa vl).2.1 ≤ (adv tp sz pa vl).1 ∧ (adv tp sz pa vl).1 ≤ sz) ∧ (0 ≤ (adv tp sz pa vl).2.2.1 ∧ (adv tp sz pa vl).2.2.1 ≤ 4) ∧ (0 ≤ (adv tp sz pa vl).2.2.2 ∧ (adv tp sz pa vl).2.2.2 ≤ 99999) ∧ ((adv tp sz pa vl).2.2.1 ≠ 0 → (adv tp sz pa vl).2.1 < (adv tp sz pa vl).1) := by
  have hs := skL_in (tp := tp) (sz := sz) (sz - pa).toNat pa (by omega)
  unfold adv
  generalize skL tp sz (sz - pa).toNat pa = p at hs
  unfold adv1
  by_cases c1 : seeV tp sz p = -1
  · rw [if_pos c1]; exact ⟨⟨hs.1, Int.le_refl _, hs.2⟩, (by decide : (0 : Int) ≤ 0 ∧ (0 : Int) ≤ 4), hv, fun q => absurd rfl q⟩
  · rw [if_neg c1]
    have hp := see_lt c1
    by_cases c2 : 97 ≤ seeV tp sz p ∧ seeV tp sz p ≤ 122
    · rw [if_pos c2]
      have hw : p + 1 ≤ wdL tp sz (sz - p).toNat p ∧ wdL tp sz (sz - p).toNat p ≤ sz := by
        obtain ⟨f, hf⟩ : ∃ f : Nat, (sz - p).toNat = f + 1 := ⟨(sz - p).toNat - 1, by omega⟩
        rw [hf]
        unfold wdL
        rw [if_pos c2]
        exact wdL_in f (p + 1) (by omega)
      exact ⟨⟨hs.1, by show p ≤ wdL tp sz (sz - p).toNat p; omega, hw.2⟩, (by decide : (0 : Int) ≤ 1 ∧ (1 : Int) ≤ 4), hv, fun _ => by show p < wdL tp sz (sz - p).toNat p; omega⟩
    · rw [if_neg c2]
      by_cases c3 : 48 ≤ seeV tp sz p ∧ seeV tp sz p ≤ 57
      · rw [if_pos c3]
        have hw : (p + 1 ≤ (nuL tp sz (sz - p).toNat p 0).1 ∧ (nuL tp sz (sz - p).toNat p 0).1 ≤ sz) ∧ (0 ≤ (nuL tp sz (sz - p).toNat p 0).2 ∧ (nuL tp sz (sz - p).toNat p 0).2 ≤ 99999) := by
          obtain ⟨f, hf⟩ : ∃ f : Nat, (sz - p).toNat = f + 1 := ⟨(sz - p).toNat - 1, by omega⟩
          rw [hf]
          unfold nuL
          rw [if_pos c3]
          exact nuL_in f (p + 1) _ (by omega) (by omega) (by omega)
        exact ⟨⟨hs.1, by show p ≤ (nuL tp sz (sz - p).toNat p 0).1; omega, hw.1.2⟩, (by decide : (0 : Int) ≤ 2 ∧ (2 : Int) ≤ 4), hw.2, fun _ => by show p < (nuL tp sz (sz - p).toNat p 0).1; omega⟩
      · rw [if_neg c3]
        refine ⟨⟨hs.1, by show p ≤ p + 1; omega, by show p + 1 ≤ sz; omega⟩, ?_, hv, fun _ => by show p < p + 1; omega⟩
        show 0 ≤ (if seeV tp sz p = 59 then (3 : Int) else 4) ∧ (if seeV tp sz p = 59 then (3 : Int) else 4) ≤ 4
        split <;> omega
section
variable {E : gE} {d rc rs am : Nat} {G : gH}
variable {th si lo td sz pa fr tk vl fk fp hdt kl kn cd bp bl : Int} {w hs bk iW iH iB iL iS tp fv fsh lt cp md sw nd mn my wd nm mv : Int → Int}
variable {s a b r r2 i k v e B c n l p : Int} {Q : Outcome → gH → Prop}
theorem l_adv1 (hz : sz ≤ 900) (hz0 : 0 ≤ sz) : ∀ (f : Nat) (p : Int), 0 ≤ p → p + f = sz → GO E iX6_advance (d + 1) 0 0 39 [some (.ref am), none] [] (mH E G am th w hs si lo bk iW iH iB iL iS tp td fv sz (skL tp sz f p) fr tk vl fk fp fsh hdt lt kl kn cp cd bp bl md sw nd mn my wd nm mv) Q → GO E iX6_advance (d + 1) 0 0 0 [some (.ref am), none] [] (mH E G am th w hs si lo bk iW iH iB iL iS tp td fv sz p fr tk vl fk fp fsh hdt lt kl kn cp cd bp bl md sw nd mn my wd nm mv) Q := by
  intro f
  induction f with
  | zero =>
    intro p h0 h1 kk
    have e : seeV tp sz p = -1 := if_neg (by omega)
    refine g_aload_n (q := 1) dX6_advance_0 rfl rfl ?_
    refine g_aload_n (q := 2) dX6_advance_1 rfl rfl ?_
    refine gm_get (k := 15) (q := 5) dX6_advance_2 q1409 (by decide) rfl rfl ?_
    refine g_cv (I' := iX6_see) (mc := 0) (ms := 0) (rc := 0) (rs := 0) (ci := 7) (q := 8) dX6_advance_5 q1545 q1547 rfl qs44 gcX6_see mO (c_see h0 (by omega) (by omega)) rfl rfl ?_
    refine g_bipush (q := 10) dX6_advance_8 rfl ?_
    refine g_icmp_eq (t := 26) (q := 13) dX6_advance_10 (by decide) rfl (by first | assumption | exact in32_gB | exact in32_gCmp | (unfold in32; omega)) (by first | assumption | exact in32_gB | exact in32_gCmp | (unfold in32; omega)) (fun c10 => ?_) (fun c10 => ?_)
    · exact absurd c10 (by omega)
    · refine g_aload_n (q := 14) dX6_advance_13 rfl rfl ?_
      refine g_aload_n (q := 15) dX6_advance_14 rfl rfl ?_
      refine gm_get (k := 15) (q := 18) dX6_advance_15 q1409 (by decide) rfl rfl ?_
      refine g_cv (I' := iX6_see) (mc := 0) (ms := 0) (rc := 0) (rs := 0) (ci := 7) (q := 21) dX6_advance_18 q1545 q1547 rfl qs44 gcX6_see mO (c_see h0 (by omega) (by omega)) rfl rfl ?_
      refine g_bipush (q := 23) dX6_advance_21 rfl ?_
      refine g_icmp_ne (t := 39) (q := 26) dX6_advance_23 (by decide) rfl (by first | assumption | exact in32_gB | exact in32_gCmp | (unfold in32; omega)) (by first | assumption | exact in32_gB | exact in32_gCmp | (unfold in32; omega)) (fun c23 => ?_) (fun c23 => ?_)
      · exact kk
      · exact absurd c23 (by omega)
  | succ f ih =>
    intro p h0 h1 kk
    have e := seeV_in (tp := tp) (sz := sz) (k := p)
    unfold skL at kk
    refine g_aload_n (q := 1) dX6_advance_0 rfl rfl ?_
    refine g_aload_n (q := 2) dX6_advance_1 rfl rfl ?_
    refine gm_get (k := 15) (q := 5) dX6_advance_2 q1409 (by decide) rfl rfl ?_
    refine g_cv (I' := iX6_see) (mc := 0) (ms := 0) (rc := 0) (rs := 0) (ci := 7) (q := 8) dX6_advance_5 q1545 q1547 rfl qs44 gcX6_see mO (c_see h0 (by omega) (by omega)) rfl rfl ?_
    refine g_bipush (q := 10) dX6_advance_8 rfl ?_
    refine g_icmp_eq (t := 26) (q := 13) dX6_advance_10 (by decide) rfl (by first | assumption | exact in32_gB | exact in32_gCmp | (unfold in32; omega)) (by first | assumption | exact in32_gB | exact in32_gCmp | (unfold in32; omega)) (fun c10 => ?_) (fun c10 => ?_)
    · refine g_aload_n (q := 27) dX6_advance_26 rfl rfl ?_
      refine g_dup (q := 28) dX6_advance_27 rfl ?_
      refine gm_get (k := 15) (q := 31) dX6_advance_28 q1409 (by decide) rfl rfl ?_
      refine g_iconst (q := 32) dX6_advance_31 rfl ?_
      refine g_iadd (q := 33) dX6_advance_32 rfl ?_
      refine gm_put15 (q := 36) dX6_advance_33 q1409 rfl ?_
      refine g_goto (t := 0) dX6_advance_36 (by decide) ?_
      rw [if_pos (by omega)] at kk; exact ih _ (by omega) (by omega) kk
    · refine g_aload_n (q := 14) dX6_advance_13 rfl rfl ?_
      refine g_aload_n (q := 15) dX6_advance_14 rfl rfl ?_
      refine gm_get (k := 15) (q := 18) dX6_advance_15 q1409 (by decide) rfl rfl ?_
      refine g_cv (I' := iX6_see) (mc := 0) (ms := 0) (rc := 0) (rs := 0) (ci := 7) (q := 21) dX6_advance_18 q1545 q1547 rfl qs44 gcX6_see mO (c_see h0 (by omega) (by omega)) rfl rfl ?_
      refine g_bipush (q := 23) dX6_advance_21 rfl ?_
      refine g_icmp_ne (t := 39) (q := 26) dX6_advance_23 (by decide) rfl (by first | assumption | exact in32_gB | exact in32_gCmp | (unfold in32; omega)) (by first | assumption | exact in32_gB | exact in32_gCmp | (unfold in32; omega)) (fun c23 => ?_) (fun c23 => ?_)
      · rw [if_neg (by omega)] at kk; exact kk
      · refine g_aload_n (q := 27) dX6_advance_26 rfl rfl ?_
        refine g_dup (q := 28) dX6_advance_27 rfl ?_
        refine gm_get (k := 15) (q := 31) dX6_advance_28 q1409 (by decide) rfl rfl ?_
        refine g_iconst (q := 32) dX6_advance_31 rfl ?_
        refine g_iadd (q := 33) dX6_advance_32 rfl ?_
        refine gm_put15 (q := 36) dX6_advance_33 q1409 rfl ?_
        refine g_goto (t := 0) dX6_advance_36 (by decide) ?_
        rw [if_pos (by omega)] at kk; exact ih _ (by omega) (by omega) kk
theorem l_adv2 (hz : sz ≤ 900) (hz0 : 0 ≤ sz) {x : Option Value} : ∀ (f : Nat) (p : Int), 0 ≤ p → p + f = sz → GO E iX6_advance (d + 1) 0 0 117 [some (.ref am), x] [] (mH E G am th w hs si lo bk iW iH iB iL iS tp td fv sz (wdL tp sz f p) fr tk vl fk fp fsh hdt lt kl kn cp cd bp bl md sw nd mn my wd nm mv) Q → GO E iX6_advance (d + 1) 0 0 83 [some (.ref am), x] [] (mH E G am th w hs si lo bk iW iH iB iL iS tp td fv sz p fr tk vl fk fp fsh hdt lt kl kn cp cd bp bl md sw nd mn my wd nm mv) Q := by
  intro f
  induction f with
  | zero =>
    intro p h0 h1 kk
    have e : seeV tp sz p = -1 := if_neg (by omega)
    refine g_aload_n (q := 84) dX6_advance_83 rfl rfl ?_
    refine g_aload_n (q := 85) dX6_advance_84 rfl rfl ?_
    refine gm_get (k := 15) (q := 88) dX6_advance_85 q1409 (by decide) rfl rfl ?_
    refine g_cv (I' := iX6_see) (mc := 0) (ms := 0) (rc := 0) (rs := 0) (ci := 7) (q := 91) dX6_advance_88 q1545 q1547 rfl qs44 gcX6_see mO (c_see h0 (by omega) (by omega)) rfl rfl ?_
    refine g_i2l (q := 92) dX6_advance_91 (by first | assumption | exact in32_gB | exact in32_gCmp | (unfold in32; omega)) rfl ?_
    refine g_ldc2 (a := 97) (q := 95) dX6_advance_92 q1549 (by decide) rfl ?_
    refine g_ldc2 (a := 122) (q := 98) dX6_advance_95 q1550 (by decide) rfl ?_
    refine g_cs (I' := iX6_in) (mc := 0) (ms := 0) (rc := 0) (rs := 0) (q := 101) dX6_advance_98 q1514 q1515 gcX6_in (c_inM (by unfold in64; omega) (by unfold in64; omega) (by unfold in64; omega)) rfl rfl ?_
    refine g_ifeqB (t := 117) (q := 104) dX6_advance_101 (by decide) rfl (fun c101 => ?_) (fun c101 => ?_)
    · exact kk
    · exact absurd c101 (by omega)
  | succ f ih =>
    intro p h0 h1 kk
    have e := seeV_in (tp := tp) (sz := sz) (k := p)
    unfold wdL at kk
    refine g_aload_n (q := 84) dX6_advance_83 rfl rfl ?_
    refine g_aload_n (q := 85) dX6_advance_84 rfl rfl ?_
    refine gm_get (k := 15) (q := 88) dX6_advance_85 q1409 (by decide) rfl rfl ?_
    refine g_cv (I' := iX6_see) (mc := 0) (ms := 0) (rc := 0) (rs := 0) (ci := 7) (q := 91) dX6_advance_88 q1545 q1547 rfl qs44 gcX6_see mO (c_see h0 (by omega) (by omega)) rfl rfl ?_
    refine g_i2l (q := 92) dX6_advance_91 (by first | assumption | exact in32_gB | exact in32_gCmp | (unfold in32; omega)) rfl ?_
    refine g_ldc2 (a := 97) (q := 95) dX6_advance_92 q1549 (by decide) rfl ?_
    refine g_ldc2 (a := 122) (q := 98) dX6_advance_95 q1550 (by decide) rfl ?_
    refine g_cs (I' := iX6_in) (mc := 0) (ms := 0) (rc := 0) (rs := 0) (q := 101) dX6_advance_98 q1514 q1515 gcX6_in (c_inM (by unfold in64; omega) (by unfold in64; omega) (by unfold in64; omega)) rfl rfl ?_
    refine g_ifeqB (t := 117) (q := 104) dX6_advance_101 (by decide) rfl (fun c101 => ?_) (fun c101 => ?_)
    · rw [if_neg c101] at kk; exact kk
    · refine g_aload_n (q := 105) dX6_advance_104 rfl rfl ?_
      refine g_dup (q := 106) dX6_advance_105 rfl ?_
      refine gm_get (k := 15) (q := 109) dX6_advance_106 q1409 (by decide) rfl rfl ?_
      refine g_iconst (q := 110) dX6_advance_109 rfl ?_
      refine g_iadd (q := 111) dX6_advance_110 rfl ?_
      refine gm_put15 (q := 114) dX6_advance_111 q1409 rfl ?_
      refine g_goto (t := 83) dX6_advance_114 (by decide) ?_
      rw [if_pos c101] at kk; exact ih _ (by omega) (by omega) kk
theorem l_adv3 (hz : sz ≤ 900) (hz0 : 0 ≤ sz) {x : Option Value} : ∀ (f : Nat) (p v : Int), 0 ≤ p → p + f = sz → 0 ≤ v → v ≤ 99999 → GO E iX6_advance (d + 1) 0 0 206 [some (.ref am), x] [] (mH E G am th w hs si lo bk iW iH iB iL iS tp td fv sz ((nuL tp sz f p v).1) fr tk ((nuL tp sz f p v).2) fk fp fsh hdt lt kl kn cp cd bp bl md sw nd mn my wd nm mv) Q → GO E iX6_advance (d + 1) 0 0 144 [some (.ref am), x] [] (mH E G am th w hs si lo bk iW iH iB iL iS tp td fv sz p fr tk v fk fp fsh hdt lt kl kn cp cd bp bl md sw nd mn my wd nm mv) Q := by
  intro f
  induction f with
  | zero =>
    intro p v h0 h1 h2 h3 kk
    have e : seeV tp sz p = -1 := if_neg (by omega)
    refine g_aload_n (q := 145) dX6_advance_144 rfl rfl ?_
    refine g_aload_n (q := 146) dX6_advance_145 rfl rfl ?_
    refine gm_get (k := 15) (q := 149) dX6_advance_146 q1409 (by decide) rfl rfl ?_
    refine g_cv (I' := iX6_see) (mc := 0) (ms := 0) (rc := 0) (rs := 0) (ci := 7) (q := 152) dX6_advance_149 q1545 q1547 rfl qs44 gcX6_see mO (c_see h0 (by omega) (by omega)) rfl rfl ?_
    refine g_i2l (q := 153) dX6_advance_152 (by first | assumption | exact in32_gB | exact in32_gCmp | (unfold in32; omega)) rfl ?_
    refine g_ldc2 (a := 48) (q := 156) dX6_advance_153 q1551 (by decide) rfl ?_
    refine g_ldc2 (a := 57) (q := 159) dX6_advance_156 q1552 (by decide) rfl ?_
    refine g_cs (I' := iX6_in) (mc := 0) (ms := 0) (rc := 0) (rs := 0) (q := 162) dX6_advance_159 q1514 q1515 gcX6_in (c_inM (by unfold in64; omega) (by unfold in64; omega) (by unfold in64; omega)) rfl rfl ?_
    refine g_ifeqB (t := 206) (q := 165) dX6_advance_162 (by decide) rfl (fun c162 => ?_) (fun c162 => ?_)
    · exact kk
    · exact absurd c162 (by omega)
  | succ f ih =>
    intro p v h0 h1 h2 h3 kk
    have e := seeV_in (tp := tp) (sz := sz) (k := p)
    unfold nuL at kk
    refine g_aload_n (q := 145) dX6_advance_144 rfl rfl ?_
    refine g_aload_n (q := 146) dX6_advance_145 rfl rfl ?_
    refine gm_get (k := 15) (q := 149) dX6_advance_146 q1409 (by decide) rfl rfl ?_
    refine g_cv (I' := iX6_see) (mc := 0) (ms := 0) (rc := 0) (rs := 0) (ci := 7) (q := 152) dX6_advance_149 q1545 q1547 rfl qs44 gcX6_see mO (c_see h0 (by omega) (by omega)) rfl rfl ?_
    refine g_i2l (q := 153) dX6_advance_152 (by first | assumption | exact in32_gB | exact in32_gCmp | (unfold in32; omega)) rfl ?_
    refine g_ldc2 (a := 48) (q := 156) dX6_advance_153 q1551 (by decide) rfl ?_
    refine g_ldc2 (a := 57) (q := 159) dX6_advance_156 q1552 (by decide) rfl ?_
    refine g_cs (I' := iX6_in) (mc := 0) (ms := 0) (rc := 0) (rs := 0) (q := 162) dX6_advance_159 q1514 q1515 gcX6_in (c_inM (by unfold in64; omega) (by unfold in64; omega) (by unfold in64; omega)) rfl rfl ?_
    refine g_ifeqB (t := 206) (q := 165) dX6_advance_162 (by decide) rfl (fun c162 => ?_) (fun c162 => ?_)
    · rw [if_neg c162] at kk; exact kk
    · refine g_aload_n (q := 166) dX6_advance_165 rfl rfl ?_
      refine g_ldc (a := 99999) (q := 168) dX6_advance_166 q1553 (by decide) rfl ?_
      refine g_bipush (q := 170) dX6_advance_168 rfl ?_
      refine g_aload_n (q := 171) dX6_advance_170 rfl rfl ?_
      refine gm_get (k := 18) (q := 174) dX6_advance_171 q1412 (by decide) rfl rfl ?_
      refine g_imul (q := 175) dX6_advance_174 rfl ?_
      refine g_aload_n (q := 176) dX6_advance_175 rfl rfl ?_
      refine g_aload_n (q := 177) dX6_advance_176 rfl rfl ?_
      refine gm_get (k := 15) (q := 180) dX6_advance_177 q1409 (by decide) rfl rfl ?_
      refine g_cv (I' := iX6_see) (mc := 0) (ms := 0) (rc := 0) (rs := 0) (ci := 7) (q := 183) dX6_advance_180 q1545 q1547 rfl qs44 gcX6_see mO (c_see h0 (by omega) (by omega)) rfl rfl ?_
      refine g_iadd (q := 184) dX6_advance_183 rfl ?_
      refine g_bipush (q := 186) dX6_advance_184 rfl ?_
      refine g_isub (q := 187) dX6_advance_186 rfl ?_
      refine g_cs (I' := iJ3_min) (mc := 0) (ms := 0) (rc := 0) (rs := 0) (q := 190) dX6_advance_187 q1554 q644 gcJ3_min (c_min (by unfold in32; omega) (by unfold in32; omega)) rfl rfl ?_
      refine gm_put18 (q := 193) dX6_advance_190 q1412 rfl ?_
      refine g_aload_n (q := 194) dX6_advance_193 rfl rfl ?_
      refine g_dup (q := 195) dX6_advance_194 rfl ?_
      refine gm_get (k := 15) (q := 198) dX6_advance_195 q1409 (by decide) rfl rfl ?_
      refine g_iconst (q := 199) dX6_advance_198 rfl ?_
      refine g_iadd (q := 200) dX6_advance_199 rfl ?_
      refine gm_put15 (q := 203) dX6_advance_200 q1409 rfl ?_
      refine g_goto (t := 144) dX6_advance_203 (by decide) ?_
      rw [if_pos c162] at kk; exact ih _ _ (by omega) (by omega) (by omega) (by omega) kk
theorem c_advance (hz : sz ≤ 900) (h0 : 0 ≤ pa) (h1 : pa ≤ sz) : CALL E iX6_advance (d + 1) 0 0 [.ref am] (mH E G am th w hs si lo bk iW iH iB iL iS tp td fv sz pa fr tk vl fk fp fsh hdt lt kl kn cp cd bp bl md sw nd mn my wd nm mv) (qV (mH E G am th w hs si lo bk iW iH iB iL iS tp td fv sz ((adv tp sz pa vl).1) ((adv tp sz pa vl).2.1) ((adv tp sz pa vl).2.2.1) ((adv tp sz pa vl).2.2.2) fk fp fsh hdt lt kl kn cp cd bp bl md sw nd mn my wd nm mv)) := by
  show GO E iX6_advance _ _ _ 0 [some (.ref am), none] [] _ _
  refine l_adv1 hz (by omega) (sz - pa).toNat pa h0 (by omega) ?_
  have hs := skL_in (tp := tp) (sz := sz) (sz - pa).toNat pa (by omega)
  unfold adv
  generalize skL tp sz (sz - pa).toNat pa = p at hs
  have e := seeV_in (tp := tp) (sz := sz) (k := p)
  refine g_aload_n (q := 40) dX6_advance_39 rfl rfl ?_
  refine g_aload_n (q := 41) dX6_advance_40 rfl rfl ?_
  refine gm_get (k := 15) (q := 44) dX6_advance_41 q1409 (by decide) rfl rfl ?_
  refine gm_put16 (q := 47) dX6_advance_44 q1410 rfl ?_
  refine g_aload_n (q := 48) dX6_advance_47 rfl rfl ?_
  refine g_aload_n (q := 49) dX6_advance_48 rfl rfl ?_
  refine gm_get (k := 15) (q := 52) dX6_advance_49 q1409 (by decide) rfl rfl ?_
  refine g_cv (I' := iX6_see) (mc := 0) (ms := 0) (rc := 0) (rs := 0) (ci := 7) (q := 55) dX6_advance_52 q1545 q1547 rfl qs44 gcX6_see mO (c_see (by omega) (by omega) (by omega)) rfl rfl ?_
  refine g_istore_n (q := 56) dX6_advance_55 gs1 rfl ?_
  refine g_iload_n (q := 57) dX6_advance_56 rfl rfl ?_
  refine g_iconst (q := 58) dX6_advance_57 rfl ?_
  refine g_icmp_ne (t := 69) (q := 61) dX6_advance_58 (by decide) rfl (by first | assumption | exact in32_gB | exact in32_gCmp | (unfold in32; omega)) (by first | assumption | exact in32_gB | exact in32_gCmp | (unfold in32; omega)) (fun c58 => ?_) (fun c58 => ?_)
  · refine g_iload_n (q := 70) dX6_advance_69 rfl rfl ?_
    refine g_i2l (q := 71) dX6_advance_70 (by first | assumption | exact in32_gB | exact in32_gCmp | (unfold in32; omega)) rfl ?_
    refine g_ldc2 (a := 97) (q := 74) dX6_advance_71 q1549 (by decide) rfl ?_
    refine g_ldc2 (a := 122) (q := 77) dX6_advance_74 q1550 (by decide) rfl ?_
    refine g_cs (I' := iX6_in) (mc := 0) (ms := 0) (rc := 0) (rs := 0) (q := 80) dX6_advance_77 q1514 q1515 gcX6_in (c_inM (by unfold in64; omega) (by unfold in64; omega) (by unfold in64; omega)) rfl rfl ?_
    refine g_ifeqB (t := 125) (q := 83) dX6_advance_80 (by decide) rfl (fun c80 => ?_) (fun c80 => ?_)
    · refine g_iload_n (q := 126) dX6_advance_125 rfl rfl ?_
      refine g_i2l (q := 127) dX6_advance_126 (by first | assumption | exact in32_gB | exact in32_gCmp | (unfold in32; omega)) rfl ?_
      refine g_ldc2 (a := 48) (q := 130) dX6_advance_127 q1551 (by decide) rfl ?_
      refine g_ldc2 (a := 57) (q := 133) dX6_advance_130 q1552 (by decide) rfl ?_
      refine g_cs (I' := iX6_in) (mc := 0) (ms := 0) (rc := 0) (rs := 0) (q := 136) dX6_advance_133 q1514 q1515 gcX6_in (c_inM (by unfold in64; omega) (by unfold in64; omega) (by unfold in64; omega)) rfl rfl ?_
      refine g_ifeqB (t := 214) (q := 139) dX6_advance_136 (by decide) rfl (fun c136 => ?_) (fun c136 => ?_)
      · refine g_aload_n (q := 215) dX6_advance_214 rfl rfl ?_
        refine g_iload_n (q := 216) dX6_advance_215 rfl rfl ?_
        refine g_bipush (q := 218) dX6_advance_216 rfl ?_
        refine g_icmp_ne (t := 225) (q := 221) dX6_advance_218 (by decide) rfl (by first | assumption | exact in32_gB | exact in32_gCmp | (unfold in32; omega)) (by first | assumption | exact in32_gB | exact in32_gCmp | (unfold in32; omega)) (fun c218 => ?_) (fun c218 => ?_)
        · rw [show adv1 tp sz p vl = (p + 1, p, 4, vl) by unfold adv1; rw [if_neg c58, if_neg c80, if_neg c136, if_neg c218]]
          refine g_iconst (q := 226) dX6_advance_225 rfl ?_
          refine gm_put17 (q := 229) dX6_advance_226 q1411 rfl ?_
          refine g_aload_n (q := 230) dX6_advance_229 rfl rfl ?_
          refine g_dup (q := 231) dX6_advance_230 rfl ?_
          refine gm_get (k := 15) (q := 234) dX6_advance_231 q1409 (by decide) rfl rfl ?_
          refine g_iconst (q := 235) dX6_advance_234 rfl ?_
          refine g_iadd (q := 236) dX6_advance_235 rfl ?_
          refine gm_put15 (q := 239) dX6_advance_236 q1409 rfl ?_
          exact g_vret dX6_advance_239 rfl ⟨rfl, rfl⟩
        · rw [show adv1 tp sz p vl = (p + 1, p, 3, vl) by unfold adv1; rw [if_neg c58, if_neg c80, if_neg c136, if_pos c218]]
          refine g_iconst (q := 222) dX6_advance_221 rfl ?_
          refine g_goto (t := 226) dX6_advance_222 (by decide) ?_
          refine gm_put17 (q := 229) dX6_advance_226 q1411 rfl ?_
          refine g_aload_n (q := 230) dX6_advance_229 rfl rfl ?_
          refine g_dup (q := 231) dX6_advance_230 rfl ?_
          refine gm_get (k := 15) (q := 234) dX6_advance_231 q1409 (by decide) rfl rfl ?_
          refine g_iconst (q := 235) dX6_advance_234 rfl ?_
          refine g_iadd (q := 236) dX6_advance_235 rfl ?_
          refine gm_put15 (q := 239) dX6_advance_236 q1409 rfl ?_
          exact g_vret dX6_advance_239 rfl ⟨rfl, rfl⟩
      · refine g_aload_n (q := 140) dX6_advance_139 rfl rfl ?_
        refine g_iconst (q := 141) dX6_advance_140 rfl ?_
        refine gm_put18 (q := 144) dX6_advance_141 q1412 rfl ?_
        rw [show adv1 tp sz p vl = ((nuL tp sz (sz - p).toNat p 0).1, p, 2, (nuL tp sz (sz - p).toNat p 0).2) by unfold adv1; rw [if_neg c58, if_neg c80, if_pos c136]]
        refine l_adv3 hz (by omega) (sz - p).toNat p 0 (by omega) (by omega) (by omega) (by omega) ?_
        refine g_aload_n (q := 207) dX6_advance_206 rfl rfl ?_
        refine g_iconst (q := 208) dX6_advance_207 rfl ?_
        refine gm_put17 (q := 211) dX6_advance_208 q1411 rfl ?_
        refine g_goto (t := 239) dX6_advance_211 (by decide) ?_
        exact g_vret dX6_advance_239 rfl ⟨rfl, rfl⟩
    · rw [show adv1 tp sz p vl = (wdL tp sz (sz - p).toNat p, p, 1, vl) by unfold adv1; rw [if_neg c58, if_pos c80]]
      refine l_adv2 hz (by omega) (sz - p).toNat p (by omega) (by omega) ?_
      refine g_aload_n (q := 118) dX6_advance_117 rfl rfl ?_
      refine g_iconst (q := 119) dX6_advance_118 rfl ?_
      refine gm_put17 (q := 122) dX6_advance_119 q1411 rfl ?_
      refine g_goto (t := 239) dX6_advance_122 (by decide) ?_
      exact g_vret dX6_advance_239 rfl ⟨rfl, rfl⟩
  · rw [show adv1 tp sz p vl = (p, p, 0, vl) by unfold adv1; rw [if_pos c58]]
    refine g_aload_n (q := 62) dX6_advance_61 rfl rfl ?_
    refine g_iconst (q := 63) dX6_advance_62 rfl ?_
    refine gm_put17 (q := 66) dX6_advance_63 q1411 rfl ?_
    refine g_goto (t := 239) dX6_advance_66 (by decide) ?_
    exact g_vret dX6_advance_239 rfl ⟨rfl, rfl⟩
theorem c_good (hf : in32 fk) : CALL E iX6_good d 0 0 [.ref am] (mH E G am th w hs si lo bk iW iH iB iL iS tp td fv sz pa fr tk vl fk fp fsh hdt lt kl kn cp cd bp bl md sw nd mn my wd nm mv) (qR (vI (gB (fk = 0))) (mH E G am th w hs si lo bk iW iH iB iL iS tp td fv sz pa fr tk vl fk fp fsh hdt lt kl kn cp cd bp bl md sw nd mn my wd nm mv)) := by
  show GO E iX6_good _ _ _ 0 [some (.ref am)] [] _ _
  refine g_aload_n (q := 1) dX6_good_0 rfl rfl ?_
  refine gm_get (k := 19) (q := 4) dX6_good_1 q1413 (by decide) rfl rfl ?_
  refine g_if_ne (t := 11) (q := 7) dX6_good_4 (by decide) rfl (by first | assumption | exact in32_gB | exact in32_gCmp | (unfold in32; omega)) (fun c4 => ?_) (fun c4 => ?_)
  · refine g_iconst (q := 12) dX6_good_11 rfl ?_
    exact g_zret0 dX6_good_12 rfl ⟨by rw [gB_f (by first | assumption | omega)], rfl⟩
  · refine g_iconst (q := 8) dX6_good_7 rfl ?_
    refine g_goto (t := 12) dX6_good_8 (by decide) ?_
    exact g_zret1 dX6_good_12 rfl ⟨by rw [gB_t (by first | assumption | omega)], rfl⟩
theorem c_errs (hf : fk = 0) : CALL E iX6_errs (d + 1) 0 0 [.ref am, vI v] (mH E G am th w hs si lo bk iW iH iB iL iS tp td fv sz pa fr tk vl fk fp fsh hdt lt kl kn cp cd bp bl md sw nd mn my wd nm mv) (qV (mH E G am th w hs si lo bk iW iH iB iL iS tp td fv sz pa fr tk vl v fr fsh hdt lt kl kn cp cd bp bl md sw nd mn my wd nm mv)) := by
  show GO E iX6_errs _ _ _ 0 [some (.ref am), some (vI v)] [] _ _
  refine g_aload_n (q := 1) dX6_errs_0 rfl rfl ?_
  refine g_cv (I' := iX6_good) (mc := 0) (ms := 0) (rc := 0) (rs := 0) (ci := 7) (q := 4) dX6_errs_1 q1555 q1557 rfl qs45 gcX6_good mO (c_good (by unfold in32; omega)) rfl rfl ?_
  refine g_ifneB (t := 8) (q := 7) dX6_errs_4 (by decide) rfl (fun c4 => ?_) (fun c4 => ?_)
  · refine g_aload_n (q := 9) dX6_errs_8 rfl rfl ?_
    refine g_iload_n (q := 10) dX6_errs_9 rfl rfl ?_
    refine gm_put19 (q := 13) dX6_errs_10 q1413 rfl ?_
    refine g_aload_n (q := 14) dX6_errs_13 rfl rfl ?_
    refine g_aload_n (q := 15) dX6_errs_14 rfl rfl ?_
    refine gm_get (k := 16) (q := 18) dX6_errs_15 q1410 (by decide) rfl rfl ?_
    refine gm_put20 (q := 21) dX6_errs_18 q1414 rfl ?_
    exact g_vret dX6_errs_21 rfl ⟨rfl, rfl⟩
  · exact absurd hf c4
theorem c_errs_no (hf : in32 fk) (h : fk ≠ 0) : CALL E iX6_errs (d + 1) 0 0 [.ref am, vI v] (mH E G am th w hs si lo bk iW iH iB iL iS tp td fv sz pa fr tk vl fk fp fsh hdt lt kl kn cp cd bp bl md sw nd mn my wd nm mv) (qV (mH E G am th w hs si lo bk iW iH iB iL iS tp td fv sz pa fr tk vl fk fp fsh hdt lt kl kn cp cd bp bl md sw nd mn my wd nm mv)) := by
  show GO E iX6_errs _ _ _ 0 [some (.ref am), some (vI v)] [] _ _
  refine g_aload_n (q := 1) dX6_errs_0 rfl rfl ?_
  refine g_cv (I' := iX6_good) (mc := 0) (ms := 0) (rc := 0) (rs := 0) (ci := 7) (q := 4) dX6_errs_1 q1555 q1557 rfl qs45 gcX6_good mO (c_good hf) rfl rfl ?_
  refine g_ifneB (t := 8) (q := 7) dX6_errs_4 (by decide) rfl (fun c4 => ?_) (fun c4 => ?_)
  · exact absurd c4 h
  · exact g_vret dX6_errs_7 rfl ⟨rfl, rfl⟩
end
