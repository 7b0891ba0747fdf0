/-! THE REFERENCE: shuffled -/
set_option maxRecDepth 100000
def shfI (w : Int → Int) (r q m : Int) : Nat → Int → Int × (Int → Int) → Int × (Int → Int)
  | 0, _, p => p
  | f + 1, i, p => if i < m then shfI w r q m f (i + q) (p.1 + 1, upI p.2 p.1 (w (34 + 14 * r + 1 + i))) else p
def shfO (w : Int → Int) (r q m : Int) : Nat → Int → Int × (Int → Int) → Int × (Int → Int)
  | 0, _, p => p
  | f + 1, i, p => shfO w r q m f (i + 1) (shfI w r q m 13 i p)
/-- how many an inner loop puts -/
theorem shfI_n {w : Int → Int} {r q m : Int} (hq : q = 2 ∨ q = 3 ∨ q = 4) : ∀ (f : Nat) (i : Int) (p : Int × (Int → Int)), m - i ≤ f → (shfI w r q m f i p).1 = if i < m then p.1 + (m - i + (q - 1)) / q else p.1 := by
  intro f
  induction f with
  | zero => intro i p h; unfold shfI; rw [if_neg (by omega)]
  | succ f ih =>
    intro i p h
    unfold shfI
    by_cases c : i < m
    · rw [if_pos c, if_pos c, ih _ _ (by omega)]
      by_cases c2 : i + q < m
      · rw [if_pos c2]; show p.1 + 1 + _ = _; rcases hq with rfl | rfl | rfl <;> omega
      · rw [if_neg c2]; show p.1 + 1 = _; rcases hq with rfl | rfl | rfl <;> omega
    · rw [if_neg c, if_neg c]
def cntS (v m : Int) : Nat → Int
  | 0 => 0
  | F + 1 => cntS v m F + (m - F + v) / (v + 1)
theorem cntS_le {v m : Int} (hk : v = 1 ∨ v = 2 ∨ v = 3) (h0 : 2 ≤ m) (h1 : m ≤ 12) {F : Nat} (hF : F ≤ v + 1) : 0 ≤ cntS v m F ∧ cntS v m F ≤ 12 := by
  have q : F = 0 ∨ F = 1 ∨ F = 2 ∨ F = 3 ∨ F = 4 := by omega
  rcases hk with rfl | rfl | rfl <;> rcases q with rfl | rfl | rfl | rfl | rfl <;> first | (simp only [cntS]; omega) | omega
section
variable {E : gE} {d rc rs am : Nat} {G : gH}
variable {th si lo td sz pa fr tk vl fk fp hdt kl kn cd bp bl : Int} {w hs bk iW iH iB iL iS tp fv fsh lt cp md sw nd mn my wd nm mv : Int → Int}
variable {s a b r r2 i k v e B c n l left days dg : Int} {Q : Outcome → gH → Prop}
theorem l_shuf1 (hr : 0 ≤ r) (hr1 : r < 12) (hm0 : 2 ≤ w (34 + 14 * r)) (hm : w (34 + 14 * r) ≤ 12) (hk : v = 1 ∨ v = 2 ∨ v = 3) :
    ∀ (f : Nat) (i n : Int) (md : Int → Int), 0 ≤ i → 0 ≤ n → w (34 + 14 * r) - i ≤ f → i ≤ 20 → (i < w (34 + 14 * r) → n + (w (34 + 14 * r) - i + v) / (v + 1) ≤ 12) →
    (∀ x : Option Value, GO E iX6_shuffled (d + 1) 0 0 89 [some (.ref am), some (vI r), some (vI v), some (vI (shfI w r (v + 1) (w (34 + 14 * r)) (f + 1) i (n, md)).1), some (vI k), x] [] (mH E G am th w hs si lo bk iW iH iB iL iS tp td fv sz pa fr tk vl fk fp fsh hdt lt kl kn cp cd bp bl ((shfI w r (v + 1) (w (34 + 14 * r)) (f + 1) i (n, md)).2) sw nd mn my wd nm mv) Q) →
    GO E iX6_shuffled (d + 1) 0 0 52 [some (.ref am), some (vI r), some (vI v), some (vI n), some (vI k), some (vI i)] [] (mH E G am th w hs si lo bk iW iH iB iL iS tp td fv sz pa fr tk vl fk fp fsh hdt lt kl kn cp cd bp bl md sw nd mn my wd nm mv) Q := by
  intro f
  induction f with
  | zero =>
    intro i n md h0 h1 h2 h3 h4 kk
    unfold shfI at kk
    rw [if_neg (by omega)] at kk
    refine g_iload (q := 54) dX6_shuffled_52 rfl rfl ?_
    refine g_aload_n (q := 55) dX6_shuffled_54 rfl rfl ?_
    refine g_iload_n (q := 56) dX6_shuffled_55 rfl rfl ?_
    refine g_cv (I' := iX6_manyOf) (mc := 0) (ms := 0) (rc := 0) (rs := 0) (ci := 7) (q := 59) dX6_shuffled_56 q1660 q1662 rfl qs62 gcX6_manyOf mO (c_manyOf hr hr1) rfl rfl ?_
    refine g_icmp_ge (t := 89) (q := 62) dX6_shuffled_59 (by decide) rfl (by first | assumption | exact in32_gB | exact in32_gCmp | (unfold in32; omega)) (by first | assumption | exact in32_gB | exact in32_gCmp | (unfold in32; omega)) (fun c59 => ?_) (fun c59 => ?_)
    · exact kk _
    · exact absurd c59 (by omega)
  | succ f ih =>
    intro i n md h0 h1 h2 h3 h4 kk
    unfold shfI at kk
    by_cases z : i < w (34 + 14 * r)
    · rw [if_pos z] at kk
      have h5 := h4 z
      have hn : n + 1 ≤ 12 := by rcases hk with rfl | rfl | rfl <;> omega
      refine g_iload (q := 54) dX6_shuffled_52 rfl rfl ?_
      refine g_aload_n (q := 55) dX6_shuffled_54 rfl rfl ?_
      refine g_iload_n (q := 56) dX6_shuffled_55 rfl rfl ?_
      refine g_cv (I' := iX6_manyOf) (mc := 0) (ms := 0) (rc := 0) (rs := 0) (ci := 7) (q := 59) dX6_shuffled_56 q1660 q1662 rfl qs62 gcX6_manyOf mO (c_manyOf hr hr1) rfl rfl ?_
      refine g_icmp_ge (t := 89) (q := 62) dX6_shuffled_59 (by decide) rfl (by first | assumption | exact in32_gB | exact in32_gCmp | (unfold in32; omega)) (by first | assumption | exact in32_gB | exact in32_gCmp | (unfold in32; omega)) (fun c59 => ?_) (fun c59 => ?_)
      · exact absurd c59 (by omega)
      · refine g_aload_n (q := 63) dX6_shuffled_62 rfl rfl ?_
        refine gm_get (k := 30) (q := 66) dX6_shuffled_63 q1424 (by decide) rfl rfl ?_
        refine g_iload_n (q := 67) dX6_shuffled_66 rfl rfl ?_
        refine g_aload_n (q := 68) dX6_shuffled_67 rfl rfl ?_
        refine g_iload_n (q := 69) dX6_shuffled_68 rfl rfl ?_
        refine g_iload (q := 71) dX6_shuffled_69 rfl rfl ?_
        refine g_cv (I' := iX6_thingOf) (mc := 0) (ms := 0) (rc := 0) (rs := 0) (ci := 7) (q := 74) dX6_shuffled_71 q1668 q1670 rfl qs64 gcX6_thingOf mO (c_thingOf hr hr1 h0 (by omega)) rfl rfl ?_
        refine gm_st30 (q := 75) dX6_shuffled_74 (by omega) (by omega)  rfl ?_
        refine g_iinc (q := 78) dX6_shuffled_75 rfl gs3 rfl ?_
        refine g_iload (q := 80) dX6_shuffled_78 rfl rfl ?_
        refine g_iload_n (q := 81) dX6_shuffled_80 rfl rfl ?_
        refine g_iconst (q := 82) dX6_shuffled_81 rfl ?_
        refine g_iadd (q := 83) dX6_shuffled_82 rfl ?_
        refine g_iadd (q := 84) dX6_shuffled_83 rfl ?_
        refine g_istore (q := 86) dX6_shuffled_84 gs5 rfl ?_
        refine g_goto (t := 52) dX6_shuffled_86 (by decide) ?_
        exact ih _ _ _ (by omega) (by omega) (by omega) (by omega) (fun q => by rcases hk with rfl | rfl | rfl <;> omega) kk
    · rw [if_neg z] at kk
      refine g_iload (q := 54) dX6_shuffled_52 rfl rfl ?_
      refine g_aload_n (q := 55) dX6_shuffled_54 rfl rfl ?_
      refine g_iload_n (q := 56) dX6_shuffled_55 rfl rfl ?_
      refine g_cv (I' := iX6_manyOf) (mc := 0) (ms := 0) (rc := 0) (rs := 0) (ci := 7) (q := 59) dX6_shuffled_56 q1660 q1662 rfl qs62 gcX6_manyOf mO (c_manyOf hr hr1) rfl rfl ?_
      refine g_icmp_ge (t := 89) (q := 62) dX6_shuffled_59 (by decide) rfl (by first | assumption | exact in32_gB | exact in32_gCmp | (unfold in32; omega)) (by first | assumption | exact in32_gB | exact in32_gCmp | (unfold in32; omega)) (fun c59 => ?_) (fun c59 => ?_)
      · exact kk _
      · exact absurd c59 (by omega)
theorem c_shuffled (hw : WFw w) (h1 : in32 r) (h2 : in32 v) : CALL E iX6_shuffled (d + 2) 0 0 [.ref am, vI r, vI v] (mH E G am th w hs si lo bk iW iH iB iL iS tp td fv sz pa fr tk vl fk fp fsh hdt lt kl kn cp cd bp bl md sw nd mn my wd nm mv) (qR (vI (if ¬ ((0 ≤ r ∧ r ≤ w 2 - 1) ∧ (1 ≤ v ∧ v ≤ 3)) then -2 else if w 2 = 12 then -3 else w 2)) (if ((0 ≤ r ∧ r ≤ w 2 - 1) ∧ (1 ≤ v ∧ v ≤ 3)) ∧ ¬ w 2 = 12 then (mH E G am th (mkW w (shfO w r (v + 1) (w (34 + 14 * r)) (v + 1).toNat 0 (0, md)).1 (shfO w r (v + 1) (w (34 + 14 * r)) (v + 1).toNat 0 (0, md)).2) hs si lo bk iW iH iB iL iS tp td fv sz pa fr tk vl fk fp fsh hdt lt kl kn cp cd bp bl ((shfO w r (v + 1) (w (34 + 14 * r)) (v + 1).toNat 0 (0, md)).2) sw nd mn my wd nm mv) else (mH E G am th w hs si lo bk iW iH iB iL iS tp td fv sz pa fr tk vl fk fp fsh hdt lt kl kn cp cd bp bl md sw nd mn my wd nm mv))) := by
  have h3 := h2.1
  have h4 := h2.2
  have h12 := hw.2.1
  by_cases z : (0 ≤ r ∧ r ≤ w 2 - 1) ∧ (1 ≤ v ∧ v ≤ 3)
  · rw [if_neg (fun c => c z)]
    by_cases z2 : w 2 = 12
    · rw [if_pos z2, if_neg (fun c => c.2 z2)]
      show GO E iX6_shuffled _ _ _ 0 [some (.ref am), some (vI r), some (vI v), none, none, none] [] _ _
      refine g_aload_n (q := 1) dX6_shuffled_0 rfl rfl ?_
      refine g_iload_n (q := 2) dX6_shuffled_1 rfl rfl ?_
      refine g_cv (I' := iX6_isRow) (mc := 0) (ms := 0) (rc := 0) (rs := 0) (ci := 7) (q := 5) dX6_shuffled_2 q1651 q1653 rfl qs60 gcX6_isRow mO (c_isRowM h1 hw.2.1) rfl rfl ?_
      refine g_ifeqB (t := 20) (q := 8) dX6_shuffled_5 (by decide) rfl (fun c5 => ?_) (fun c5 => ?_)
      · exact absurd z.1 c5
      · refine g_iload_n (q := 9) dX6_shuffled_8 rfl rfl ?_
        refine g_i2l (q := 10) dX6_shuffled_9 (by first | assumption | exact in32_gB | exact in32_gCmp | (unfold in32; omega)) rfl ?_
        refine g_lconst1 (q := 11) dX6_shuffled_10 rfl ?_
        refine g_ldc2 (a := 3) (q := 14) dX6_shuffled_11 q1630 (by decide) rfl ?_
        refine g_cs (I' := iX6_in) (mc := 0) (ms := 0) (rc := 0) (rs := 0) (q := 17) dX6_shuffled_14 q1514 q1515 gcX6_in (c_inM (by unfold in64; omega) (by unfold in64; omega) (by unfold in64; omega)) rfl rfl ?_
        refine g_ifneB (t := 23) (q := 20) dX6_shuffled_17 (by decide) rfl (fun c17 => ?_) (fun c17 => ?_)
        · refine g_aload_n (q := 24) dX6_shuffled_23 rfl rfl ?_
          refine gm_get (k := 1) (q := 27) dX6_shuffled_24 q1395 (by decide) rfl rfl ?_
          refine g_iconst (q := 28) dX6_shuffled_27 rfl ?_
          refine g_iald (q := 29) dX6_shuffled_28 mA1 (by omega) (by omega) rfl ?_
          refine g_bipush (q := 31) dX6_shuffled_29 rfl ?_
          refine g_icmp_ne (t := 37) (q := 34) dX6_shuffled_31 (by decide) rfl (by first | assumption | exact in32_gB | exact in32_gCmp | (unfold in32; omega)) (by first | assumption | exact in32_gB | exact in32_gCmp | (unfold in32; omega)) (fun c31 => ?_) (fun c31 => ?_)
          · exact absurd z2 c31
          · refine g_bipush (q := 36) dX6_shuffled_34 rfl ?_
            exact g_iret dX6_shuffled_36 rfl ⟨rfl, rfl⟩
        · exact absurd z.2 c17
    · rw [if_neg z2, if_pos ⟨z, z2⟩]
      have hrow := hw.row z.1.1 (show r < w 2 by omega)
      have hk : v = 1 ∨ v = 2 ∨ v = 3 := by omega
      have loop : ∀ (f F : Nat) (k n : Int) (md : Int → Int) (x5 : Option Value) (P : Int × (Int → Int)), (k = F) → (F : Int) + f = v + 1 → n = cntS v (w (34 + 14 * r)) F → P = shfO w r (v + 1) (w (34 + 14 * r)) f k (n, md) →
          GO E iX6_shuffled (d + 2) 0 0 42 [some (.ref am), some (vI r), some (vI v), some (vI n), some (vI k), x5] [] (mH E G am th w hs si lo bk iW iH iB iL iS tp td fv sz pa fr tk vl fk fp fsh hdt lt kl kn cp cd bp bl md sw nd mn my wd nm mv) (qR (vI (w 2)) (mH E G am th (mkW w P.1 P.2) hs si lo bk iW iH iB iL iS tp td fv sz pa fr tk vl fk fp fsh hdt lt kl kn cp cd bp bl P.2 sw nd mn my wd nm mv)) := by
        intro f
        induction f with
        | zero =>
          intro F k n md x5 P e0 e1 e2 e3
          subst e3
          have hc := cntS_le hk hrow.1 hrow.2 (F := F) (by omega)
          refine g_iload (q := 44) dX6_shuffled_42 rfl rfl ?_
          refine g_iload_n (q := 45) dX6_shuffled_44 rfl rfl ?_
          refine g_icmp_gt (t := 95) (q := 48) dX6_shuffled_45 (by decide) rfl (by first | assumption | exact in32_gB | exact in32_gCmp | (unfold in32; omega)) (by first | assumption | exact in32_gB | exact in32_gCmp | (unfold in32; omega)) (fun c45 => ?_) (fun c45 => ?_)
          · refine g_aload_n (q := 96) dX6_shuffled_95 rfl rfl ?_
            refine g_iload_n (q := 97) dX6_shuffled_96 rfl rfl ?_
            refine g_cv (I' := iX6_makes) (mc := 0) (ms := 0) (rc := 0) (rs := 0) (ci := 7) (q := 100) dX6_shuffled_97 q1821 q1823 rfl qs80 gcX6_makes mO (c_makes (by omega) (by omega) (by omega) (by omega)) rfl rfl ?_
            exact g_iret dX6_shuffled_100 rfl ⟨rfl, rfl⟩
          · exact absurd c45 (by omega)
        | succ f ih =>
          intro F k n md x5 P e0 e1 e2 e3
          have hc := cntS_le hk hrow.1 hrow.2 (F := F) (by omega)
          have hc2 := cntS_le hk hrow.1 hrow.2 (F := F + 1) (by omega)
          have e4 : cntS v (w (34 + 14 * r)) (F + 1) = cntS v (w (34 + 14 * r)) F + (w (34 + 14 * r) - F + v) / (v + 1) := rfl
          have nx : ∀ (p : Int × (Int → Int)) (x : Option Value), p = shfI w r (v + 1) (w (34 + 14 * r)) 13 k (n, md) → p.1 = (if k < w (34 + 14 * r) then n + (w (34 + 14 * r) - k + (v + 1 - 1)) / (v + 1) else n) → GO E iX6_shuffled (d + 2) 0 0 89 [some (.ref am), some (vI r), some (vI v), some (vI p.1), some (vI k), x] [] (mH E G am th w hs si lo bk iW iH iB iL iS tp td fv sz pa fr tk vl fk fp fsh hdt lt kl kn cp cd bp bl p.2 sw nd mn my wd nm mv) (qR (vI (w 2)) (mH E G am th (mkW w P.1 P.2) hs si lo bk iW iH iB iL iS tp td fv sz pa fr tk vl fk fp fsh hdt lt kl kn cp cd bp bl P.2 sw nd mn my wd nm mv)) := by
            intro p x p1 p2
            have p3 : p.1 = cntS v (w (34 + 14 * r)) (F + 1) := by
              rw [p2, e4, e2, e0]
              by_cases c : (F : Int) < w (34 + 14 * r)
              · rw [if_pos c]; congr 2; omega
              · rw [if_neg c]
                rcases hk with rfl | rfl | rfl <;> omega
            refine g_iinc (q := 92) dX6_shuffled_89 rfl gs4 rfl ?_
            refine g_goto (t := 42) dX6_shuffled_92 (by decide) ?_
            exact ih (F + 1) _ _ _ _ _ (by omega) (by omega) p3 (by rw [e3, p1]; rfl)
          refine g_iload (q := 44) dX6_shuffled_42 rfl rfl ?_
          refine g_iload_n (q := 45) dX6_shuffled_44 rfl rfl ?_
          refine g_icmp_gt (t := 95) (q := 48) dX6_shuffled_45 (by decide) rfl (by first | assumption | exact in32_gB | exact in32_gCmp | (unfold in32; omega)) (by first | assumption | exact in32_gB | exact in32_gCmp | (unfold in32; omega)) (fun c45 => ?_) (fun c45 => ?_)
          · exact absurd c45 (by omega)
          · refine g_iload (q := 50) dX6_shuffled_48 rfl rfl ?_
            refine g_istore (q := 52) dX6_shuffled_50 gs5 rfl ?_
            refine l_shuf1 (d := d + 1) z.1.1 (by omega) hrow.1 hrow.2 hk 12 _ _ _ (by omega) (by omega) (by omega) (by omega) (fun q => by rw [e0]; omega) fun x => ?_
            have e5 := shfI_n (w := w) (r := r) (q := v + 1) (m := w (34 + 14 * r)) (by omega) 13 k (n, md) (by omega)
            exact nx _ x rfl e5
      show GO E iX6_shuffled _ _ _ 0 [some (.ref am), some (vI r), some (vI v), none, none, none] [] _ _
      refine g_aload_n (q := 1) dX6_shuffled_0 rfl rfl ?_
      refine g_iload_n (q := 2) dX6_shuffled_1 rfl rfl ?_
      refine g_cv (I' := iX6_isRow) (mc := 0) (ms := 0) (rc := 0) (rs := 0) (ci := 7) (q := 5) dX6_shuffled_2 q1651 q1653 rfl qs60 gcX6_isRow mO (c_isRowM h1 hw.2.1) rfl rfl ?_
      refine g_ifeqB (t := 20) (q := 8) dX6_shuffled_5 (by decide) rfl (fun c5 => ?_) (fun c5 => ?_)
      · exact absurd z.1 c5
      · refine g_iload_n (q := 9) dX6_shuffled_8 rfl rfl ?_
        refine g_i2l (q := 10) dX6_shuffled_9 (by first | assumption | exact in32_gB | exact in32_gCmp | (unfold in32; omega)) rfl ?_
        refine g_lconst1 (q := 11) dX6_shuffled_10 rfl ?_
        refine g_ldc2 (a := 3) (q := 14) dX6_shuffled_11 q1630 (by decide) rfl ?_
        refine g_cs (I' := iX6_in) (mc := 0) (ms := 0) (rc := 0) (rs := 0) (q := 17) dX6_shuffled_14 q1514 q1515 gcX6_in (c_inM (by unfold in64; omega) (by unfold in64; omega) (by unfold in64; omega)) rfl rfl ?_
        refine g_ifneB (t := 23) (q := 20) dX6_shuffled_17 (by decide) rfl (fun c17 => ?_) (fun c17 => ?_)
        · refine g_aload_n (q := 24) dX6_shuffled_23 rfl rfl ?_
          refine gm_get (k := 1) (q := 27) dX6_shuffled_24 q1395 (by decide) rfl rfl ?_
          refine g_iconst (q := 28) dX6_shuffled_27 rfl ?_
          refine g_iald (q := 29) dX6_shuffled_28 mA1 (by omega) (by omega) rfl ?_
          refine g_bipush (q := 31) dX6_shuffled_29 rfl ?_
          refine g_icmp_ne (t := 37) (q := 34) dX6_shuffled_31 (by decide) rfl (by first | assumption | exact in32_gB | exact in32_gCmp | (unfold in32; omega)) (by first | assumption | exact in32_gB | exact in32_gCmp | (unfold in32; omega)) (fun c31 => ?_) (fun c31 => ?_)
          · refine g_iconst (q := 38) dX6_shuffled_37 rfl ?_
            refine g_istore_n (q := 39) dX6_shuffled_38 gs3 rfl ?_
            refine g_iconst (q := 40) dX6_shuffled_39 rfl ?_
            refine g_istore (q := 42) dX6_shuffled_40 gs4 rfl ?_
            exact loop (v + 1).toNat 0 0 0 md _ _ rfl (by omega) rfl rfl
          · exact absurd c31 z2
        · exact absurd z.2 c17
  · rw [if_pos z, if_neg (fun c => z c.1)]
    show GO E iX6_shuffled _ _ _ 0 [some (.ref am), some (vI r), some (vI v), none, none, none] [] _ _
    refine g_aload_n (q := 1) dX6_shuffled_0 rfl rfl ?_
    refine g_iload_n (q := 2) dX6_shuffled_1 rfl rfl ?_
    refine g_cv (I' := iX6_isRow) (mc := 0) (ms := 0) (rc := 0) (rs := 0) (ci := 7) (q := 5) dX6_shuffled_2 q1651 q1653 rfl qs60 gcX6_isRow mO (c_isRowM h1 hw.2.1) rfl rfl ?_
    refine g_ifeqB (t := 20) (q := 8) dX6_shuffled_5 (by decide) rfl (fun c5 => ?_) (fun c5 => ?_)
    · refine g_bipush (q := 22) dX6_shuffled_20 rfl ?_
      exact g_iret dX6_shuffled_22 rfl ⟨rfl, rfl⟩
    · refine g_iload_n (q := 9) dX6_shuffled_8 rfl rfl ?_
      refine g_i2l (q := 10) dX6_shuffled_9 (by first | assumption | exact in32_gB | exact in32_gCmp | (unfold in32; omega)) rfl ?_
      refine g_lconst1 (q := 11) dX6_shuffled_10 rfl ?_
      refine g_ldc2 (a := 3) (q := 14) dX6_shuffled_11 q1630 (by decide) rfl ?_
      refine g_cs (I' := iX6_in) (mc := 0) (ms := 0) (rc := 0) (rs := 0) (q := 17) dX6_shuffled_14 q1514 q1515 gcX6_in (c_inM (by unfold in64; omega) (by unfold in64; omega) (by unfold in64; omega)) rfl rfl ?_
      refine g_ifneB (t := 23) (q := 20) dX6_shuffled_17 (by decide) rfl (fun c17 => ?_) (fun c17 => ?_)
      · exact absurd ⟨c5, c17⟩ z
      · refine g_bipush (q := 22) dX6_shuffled_20 rfl ?_
        exact g_iret dX6_shuffled_22 rfl ⟨rfl, rfl⟩
end
