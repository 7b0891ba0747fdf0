/-! THE REFERENCE: used, sitting, placeIn, near -/
set_option maxRecDepth 100000
def plcL (w : Int → Int) (r t : Int) : Nat → Int → Int
  | 0, _ => -1
  | f + 1, i => if w (34 + 14 * r + 1 + i) = t then i else plcL w r t f (i + 1)
def mPlace (w : Int → Int) (r t : Int) : Int := plcL w r t (w (34 + 14 * r)).toNat 0
theorem plcL_in {w : Int → Int} {r t : Int} : ∀ (f : Nat) (i : Int), 0 ≤ i → -1 ≤ plcL w r t f i ∧ plcL w r t f i < i + f := by
  intro f
  induction f with
  | zero => intro i h; unfold plcL; omega
  | succ f ih =>
    intro i h
    unfold plcL
    have := ih (i + 1) (by omega)
    by_cases c : w (34 + 14 * r + 1 + i) = t
    · rw [if_pos c]; omega
    · rw [if_neg c]; omega
def nearL (w : Int → Int) (r r2 c b : Int) : Nat → Int → Int → Int
  | 0, _, s => s
  | f + 1, i, s => nearL w r r2 c b f (i + 1) (s + if ¬ mPlace w r2 (w (34 + 14 * r + 1 + (i - 1))) = -1 ∧ ¬ mPlace w r2 (w (34 + 14 * r + 1 + i)) = -1 ∧ (if b = 0 then mPlace w r2 (w (34 + 14 * r + 1 + i)) - mPlace w r2 (w (34 + 14 * r + 1 + (i - 1))) else mPlace w r2 (w (34 + 14 * r + 1 + (i - 1))) - mPlace w r2 (w (34 + 14 * r + 1 + i))) = c then 1 else 0)
section
variable {E : gE} {d rc rs am : Nat} {G : gH}
variable {th si lo td sz pa fr tk vl fk fp hdt kl kn cd bp bl : Int} {w hs bk iW iH iB iL iS tp fv fsh lt cp md sw nd mn my wd nm mv : Int → Int}
variable {s a b r r2 i k v e B c n l left days dg : Int} {Q : Outcome → gH → Prop}
theorem c_used (hw : 0 ≤ w 2 ∧ w 2 ≤ 12) (h1 : in32 r) : CALL E iX6_used (d + 2) 0 0 [.ref am, vI r] (mH E G am th w hs si lo bk iW iH iB iL iS tp td fv sz pa fr tk vl fk fp fsh hdt lt kl kn cp cd bp bl md sw nd mn my wd nm mv) (qR (vI (if 0 ≤ r ∧ r ≤ w 2 - 1 then w (34 + 14 * r + 1 + 12) else -2)) (mH E G am th w hs si lo bk iW iH iB iL iS tp td fv sz pa fr tk vl fk fp fsh hdt lt kl kn cp cd bp bl md sw nd mn my wd nm mv)) := by
  show GO E iX6_used _ _ _ 0 [some (.ref am), some (vI r)] [] _ _
  refine g_aload_n (q := 1) dX6_used_0 rfl rfl ?_
  refine g_iload_n (q := 2) dX6_used_1 rfl rfl ?_
  refine g_cv (I' := iX6_isRow) (mc := 0) (ms := 0) (rc := 0) (rs := 0) (ci := 7) (q := 5) dX6_used_2 q1651 q1653 rfl qs60 gcX6_isRow mO (c_isRowM h1 hw) rfl rfl ?_
  refine g_ifeqB (t := 28) (q := 8) dX6_used_5 (by decide) rfl (fun c5 => ?_) (fun c5 => ?_)
  · refine g_bipush (q := 30) dX6_used_28 rfl ?_
    exact g_iret dX6_used_30 rfl ⟨rI (by first | exact (if_pos c5).symm | exact (if_neg c5).symm), rfl⟩
  · refine g_aload_n (q := 9) dX6_used_8 rfl rfl ?_
    refine gm_get (k := 1) (q := 12) dX6_used_9 q1395 (by decide) rfl rfl ?_
    refine g_bipush (q := 14) dX6_used_12 rfl ?_
    refine g_bipush (q := 16) dX6_used_14 rfl ?_
    refine g_iload_n (q := 17) dX6_used_16 rfl rfl ?_
    refine g_imul (q := 18) dX6_used_17 rfl ?_
    refine g_iadd (q := 19) dX6_used_18 rfl ?_
    refine g_iconst (q := 20) dX6_used_19 rfl ?_
    refine g_iadd (q := 21) dX6_used_20 rfl ?_
    refine g_bipush (q := 23) dX6_used_21 rfl ?_
    refine g_iadd (q := 24) dX6_used_23 rfl ?_
    refine g_iald (q := 25) dX6_used_24 mA1 (by omega) (by omega) rfl ?_
    refine g_goto (t := 30) dX6_used_25 (by decide) ?_
    exact g_iret dX6_used_30 rfl ⟨rI (by first | exact (if_pos c5).symm | exact (if_neg c5).symm), rfl⟩
theorem c_sitting (hs0 : 0 ≤ si ∧ si ≤ 60) (h1 : in32 i) (h2 : in32 v) : CALL E iX6_sitting (d + 2) 0 0 [.ref am, vI i, vI v] (mH E G am th w hs si lo bk iW iH iB iL iS tp td fv sz pa fr tk vl fk fp fsh hdt lt kl kn cp cd bp bl md sw nd mn my wd nm mv) (qR (vI (if (0 ≤ i ∧ i ≤ si - 1) ∧ (0 ≤ v ∧ v ≤ 4) then bk (6 * i + v) else -1)) (mH E G am th w hs si lo bk iW iH iB iL iS tp td fv sz pa fr tk vl fk fp fsh hdt lt kl kn cp cd bp bl md sw nd mn my wd nm mv)) := by
  have h3 := h1.1
  have h4 := h1.2
  have h5 := h2.1
  have h6 := h2.2
  show GO E iX6_sitting _ _ _ 0 [some (.ref am), some (vI i), some (vI v)] [] _ _
  refine g_iload_n (q := 1) dX6_sitting_0 rfl rfl ?_
  refine g_i2l (q := 2) dX6_sitting_1 (by first | assumption | exact in32_gB | exact in32_gCmp | (unfold in32; omega)) rfl ?_
  refine g_lconst0 (q := 3) dX6_sitting_2 rfl ?_
  refine g_aload_n (q := 4) dX6_sitting_3 rfl rfl ?_
  refine gm_get (k := 3) (q := 7) dX6_sitting_4 q1397 (by decide) rfl rfl ?_
  refine g_iconst (q := 8) dX6_sitting_7 rfl ?_
  refine g_isub (q := 9) dX6_sitting_8 rfl ?_
  refine g_i2l (q := 10) dX6_sitting_9 (by first | assumption | exact in32_gB | exact in32_gCmp | (unfold in32; omega)) rfl ?_
  refine g_cs (I' := iX6_in) (mc := 0) (ms := 0) (rc := 0) (rs := 0) (q := 13) dX6_sitting_10 q1514 q1515 gcX6_in (c_inM (by unfold in64; omega) (by unfold in64; omega) (by unfold in64; omega)) rfl rfl ?_
  refine g_ifeqB (t := 42) (q := 16) dX6_sitting_13 (by decide) rfl (fun c13 => ?_) (fun c13 => ?_)
  · refine g_iconst (q := 43) dX6_sitting_42 rfl ?_
    exact g_iret dX6_sitting_43 rfl ⟨rI (by first | exact (if_pos (And.intro c13 c25)).symm | exact (if_neg (fun z => c13 z.1)).symm | exact (if_neg (fun z => c25 z.2)).symm), rfl⟩
  · refine g_iload_n (q := 17) dX6_sitting_16 rfl rfl ?_
    refine g_i2l (q := 18) dX6_sitting_17 (by first | assumption | exact in32_gB | exact in32_gCmp | (unfold in32; omega)) rfl ?_
    refine g_lconst0 (q := 19) dX6_sitting_18 rfl ?_
    refine g_ldc2 (a := 4) (q := 22) dX6_sitting_19 q1804 (by decide) rfl ?_
    refine g_cs (I' := iX6_in) (mc := 0) (ms := 0) (rc := 0) (rs := 0) (q := 25) dX6_sitting_22 q1514 q1515 gcX6_in (c_inM (by unfold in64; omega) (by unfold in64; omega) (by unfold in64; omega)) rfl rfl ?_
    refine g_ifeqB (t := 42) (q := 28) dX6_sitting_25 (by decide) rfl (fun c25 => ?_) (fun c25 => ?_)
    · refine g_iconst (q := 43) dX6_sitting_42 rfl ?_
      exact g_iret dX6_sitting_43 rfl ⟨rI (by first | exact (if_pos (And.intro c13 c25)).symm | exact (if_neg (fun z => c13 z.1)).symm | exact (if_neg (fun z => c25 z.2)).symm), rfl⟩
    · refine g_aload_n (q := 29) dX6_sitting_28 rfl rfl ?_
      refine gm_get (k := 5) (q := 32) dX6_sitting_29 q1399 (by decide) rfl rfl ?_
      refine g_bipush (q := 34) dX6_sitting_32 rfl ?_
      refine g_iload_n (q := 35) dX6_sitting_34 rfl rfl ?_
      refine g_imul (q := 36) dX6_sitting_35 rfl ?_
      refine g_iload_n (q := 37) dX6_sitting_36 rfl rfl ?_
      refine g_iadd (q := 38) dX6_sitting_37 rfl ?_
      refine g_iald (q := 39) dX6_sitting_38 mA5 (by omega) (by omega) rfl ?_
      refine g_goto (t := 43) dX6_sitting_39 (by decide) ?_
      exact g_iret dX6_sitting_43 rfl ⟨rI (by first | exact (if_pos (And.intro c13 c25)).symm | exact (if_neg (fun z => c13 z.1)).symm | exact (if_neg (fun z => c25 z.2)).symm), rfl⟩
theorem c_placeIn (hw : WFw w) (hr : 0 ≤ r) (hr1 : r < w 2) (hv : in32 v) : CALL E iX6_placeIn (d + 1) 0 0 [.ref am, vI r, vI v] (mH E G am th w hs si lo bk iW iH iB iL iS tp td fv sz pa fr tk vl fk fp fsh hdt lt kl kn cp cd bp bl md sw nd mn my wd nm mv) (qR (vI (mPlace w r v)) (mH E G am th w hs si lo bk iW iH iB iL iS tp td fv sz pa fr tk vl fk fp fsh hdt lt kl kn cp cd bp bl md sw nd mn my wd nm mv)) := by
  have h12 := hw.2.1
  have hrow := hw.row hr hr1
  have loop : ∀ (f : Nat) (i : Int), 0 ≤ i → i + f = w (34 + 14 * r) → GO E iX6_placeIn (d + 1) 0 0 2 [some (.ref am), some (vI r), some (vI v), some (vI i)] [] (mH E G am th w hs si lo bk iW iH iB iL iS tp td fv sz pa fr tk vl fk fp fsh hdt lt kl kn cp cd bp bl md sw nd mn my wd nm mv) (qR (vI (plcL w r v f i)) (mH E G am th w hs si lo bk iW iH iB iL iS tp td fv sz pa fr tk vl fk fp fsh hdt lt kl kn cp cd bp bl md sw nd mn my wd nm mv)) := by
    intro f
    induction f with
    | zero =>
      intro i h0 h1
      refine g_iload_n (q := 3) dX6_placeIn_2 rfl rfl ?_
      refine g_aload_n (q := 4) dX6_placeIn_3 rfl rfl ?_
      refine g_iload_n (q := 5) dX6_placeIn_4 rfl rfl ?_
      refine g_cv (I' := iX6_manyOf) (mc := 0) (ms := 0) (rc := 0) (rs := 0) (ci := 7) (q := 8) dX6_placeIn_5 q1660 q1662 rfl qs62 gcX6_manyOf mO (c_manyOf hr (by omega)) rfl rfl ?_
      refine g_icmp_ge (t := 29) (q := 11) dX6_placeIn_8 (by decide) rfl (by first | assumption | exact in32_gB | exact in32_gCmp | (unfold in32; omega)) (by first | assumption | exact in32_gB | exact in32_gCmp | (unfold in32; omega)) (fun c8 => ?_) (fun c8 => ?_)
      · refine g_iconst (q := 30) dX6_placeIn_29 rfl ?_
        exact g_iret dX6_placeIn_30 rfl ⟨rfl, rfl⟩
      · exact absurd c8 (by omega)
    | succ f ih =>
      intro i h0 h1
      have hth := hw.thing hr hr1 h0 (by omega)
      have h11 := hw.1
      unfold plcL
      refine g_iload_n (q := 3) dX6_placeIn_2 rfl rfl ?_
      refine g_aload_n (q := 4) dX6_placeIn_3 rfl rfl ?_
      refine g_iload_n (q := 5) dX6_placeIn_4 rfl rfl ?_
      refine g_cv (I' := iX6_manyOf) (mc := 0) (ms := 0) (rc := 0) (rs := 0) (ci := 7) (q := 8) dX6_placeIn_5 q1660 q1662 rfl qs62 gcX6_manyOf mO (c_manyOf hr (by omega)) rfl rfl ?_
      refine g_icmp_ge (t := 29) (q := 11) dX6_placeIn_8 (by decide) rfl (by first | assumption | exact in32_gB | exact in32_gCmp | (unfold in32; omega)) (by first | assumption | exact in32_gB | exact in32_gCmp | (unfold in32; omega)) (fun c8 => ?_) (fun c8 => ?_)
      · exact absurd c8 (by omega)
      · refine g_aload_n (q := 12) dX6_placeIn_11 rfl rfl ?_
        refine g_iload_n (q := 13) dX6_placeIn_12 rfl rfl ?_
        refine g_iload_n (q := 14) dX6_placeIn_13 rfl rfl ?_
        refine g_cv (I' := iX6_thingOf) (mc := 0) (ms := 0) (rc := 0) (rs := 0) (ci := 7) (q := 17) dX6_placeIn_14 q1668 q1670 rfl qs64 gcX6_thingOf mO (c_thingOf hr (by omega) h0 (by omega)) rfl rfl ?_
        refine g_iload_n (q := 18) dX6_placeIn_17 rfl rfl ?_
        refine g_icmp_ne (t := 23) (q := 21) dX6_placeIn_18 (by decide) rfl (by first | assumption | exact in32_gB | exact in32_gCmp | (unfold in32; omega)) (by first | assumption | exact in32_gB | exact in32_gCmp | (unfold in32; omega)) (fun c18 => ?_) (fun c18 => ?_)
        · refine g_iinc (q := 26) dX6_placeIn_23 rfl gs3 rfl ?_
          refine g_goto (t := 2) dX6_placeIn_26 (by decide) ?_
          rw [if_neg c18]
          exact ih _ (by omega) (by omega)
        · refine g_iload_n (q := 22) dX6_placeIn_21 rfl rfl ?_
          exact g_iret dX6_placeIn_22 rfl ⟨rI (if_pos c18).symm, rfl⟩
  show GO E iX6_placeIn _ _ _ 0 [some (.ref am), some (vI r), some (vI v), none] [] _ _
  refine g_iconst (q := 1) dX6_placeIn_0 rfl ?_
  refine g_istore_n (q := 2) dX6_placeIn_1 gs3 rfl ?_
  exact loop _ 0 (by omega) (by omega)
theorem mPlace_in {w : Int → Int} {r t : Int} (hw : WFw w) (hr : 0 ≤ r) (hr1 : r < w 2) : -1 ≤ mPlace w r t ∧ mPlace w r t < 12 := by
  have hrow := hw.row hr hr1
  have := plcL_in (w := w) (r := r) (t := t) (w (34 + 14 * r)).toNat 0 (by omega)
  unfold mPlace
  omega
theorem c_near (hw : WFw w) (h1 : in32 r) (h2 : in32 r2) (h3 : in32 c) (hb : b = 0 ∨ b = 1) : CALL E iX6_near (d + 2) 0 0 [.ref am, vI r, vI r2, vI c, vI b] (mH E G am th w hs si lo bk iW iH iB iL iS tp td fv sz pa fr tk vl fk fp fsh hdt lt kl kn cp cd bp bl md sw nd mn my wd nm mv) (qR (vI (if (0 ≤ r ∧ r ≤ w 2 - 1) ∧ (0 ≤ r2 ∧ r2 ≤ w 2 - 1) ∧ (1 ≤ c ∧ c ≤ 11) then nearL w r r2 c b (w (34 + 14 * r) - 1).toNat 1 0 else -2)) (mH E G am th w hs si lo bk iW iH iB iL iS tp td fv sz pa fr tk vl fk fp fsh hdt lt kl kn cp cd bp bl md sw nd mn my wd nm mv)) := by
  have h4 := h3.1
  have h5 := h3.2
  have h12 := hw.2.1
  have h11 := hw.1
  by_cases z : (0 ≤ r ∧ r ≤ w 2 - 1) ∧ (0 ≤ r2 ∧ r2 ≤ w 2 - 1) ∧ (1 ≤ c ∧ c ≤ 11)
  · rw [if_pos z]
    have hr := z.1.1
    have hr1 : r < w 2 := by omega
    have hq := z.2.1.1
    have hq1 : r2 < w 2 := by omega
    have hrow := hw.row hr hr1
    have loop : ∀ (f : Nat) (i s : Int) (x7 x8 : Option Value), 1 ≤ i → i + f = w (34 + 14 * r) → 0 ≤ s → s < i → GO E iX6_near (d + 2) 0 0 37 [some (.ref am), some (vI r), some (vI r2), some (vI c), some (vI b), some (vI s), some (vI i), x7, x8] [] (mH E G am th w hs si lo bk iW iH iB iL iS tp td fv sz pa fr tk vl fk fp fsh hdt lt kl kn cp cd bp bl md sw nd mn my wd nm mv) (qR (vI (nearL w r r2 c b f i s)) (mH E G am th w hs si lo bk iW iH iB iL iS tp td fv sz pa fr tk vl fk fp fsh hdt lt kl kn cp cd bp bl md sw nd mn my wd nm mv)) := by
      intro f
      induction f with
      | zero =>
        intro i s x7 x8 q0 q1 q2 q3
        refine g_iload (q := 39) dX6_near_37 rfl rfl ?_
        refine g_aload_n (q := 40) dX6_near_39 rfl rfl ?_
        refine g_iload_n (q := 41) dX6_near_40 rfl rfl ?_
        refine g_cv (I' := iX6_manyOf) (mc := 0) (ms := 0) (rc := 0) (rs := 0) (ci := 7) (q := 44) dX6_near_41 q1660 q1662 rfl qs62 gcX6_manyOf mO (c_manyOf hr (by omega)) rfl rfl ?_
        refine g_icmp_ge (t := 127) (q := 47) dX6_near_44 (by decide) rfl (by first | assumption | exact in32_gB | exact in32_gCmp | (unfold in32; omega)) (by first | assumption | exact in32_gB | exact in32_gCmp | (unfold in32; omega)) (fun c44 => ?_) (fun c44 => ?_)
        · refine g_iload (q := 129) dX6_near_127 rfl rfl ?_
          exact g_iret dX6_near_129 rfl ⟨rfl, rfl⟩
        · exact absurd c44 (by omega)
      | succ f ih =>
        intro i s x7 x8 q0 q1 q2 q3
        have t1 := hw.thing hr hr1 (show 0 ≤ i - 1 by omega) (by omega)
        have t2 := hw.thing hr hr1 (show 0 ≤ i by omega) (by omega)
        have p1 := mPlace_in (t := w (34 + 14 * r + 1 + (i - 1))) hw hq hq1
        have p2 := mPlace_in (t := w (34 + 14 * r + 1 + i)) hw hq hq1
        unfold nearL
        have nx : ∀ (u : Int) (x7 x8 : Option Value), u = (if ¬ mPlace w r2 (w (34 + 14 * r + 1 + (i - 1))) = -1 ∧ ¬ mPlace w r2 (w (34 + 14 * r + 1 + i)) = -1 ∧ (if b = 0 then mPlace w r2 (w (34 + 14 * r + 1 + i)) - mPlace w r2 (w (34 + 14 * r + 1 + (i - 1))) else mPlace w r2 (w (34 + 14 * r + 1 + (i - 1))) - mPlace w r2 (w (34 + 14 * r + 1 + i))) = c then 1 else 0) → (u = 0 ∨ u = 1) → GO E iX6_near (d + 2) 0 0 118 [some (.ref am), some (vI r), some (vI r2), some (vI c), some (vI b), some (vI s), some (vI i), x7, x8] [vI u, vI s] (mH E G am th w hs si lo bk iW iH iB iL iS tp td fv sz pa fr tk vl fk fp fsh hdt lt kl kn cp cd bp bl md sw nd mn my wd nm mv) (qR (vI (nearL w r r2 c b f (i + 1) (s + if ¬ mPlace w r2 (w (34 + 14 * r + 1 + (i - 1))) = -1 ∧ ¬ mPlace w r2 (w (34 + 14 * r + 1 + i)) = -1 ∧ (if b = 0 then mPlace w r2 (w (34 + 14 * r + 1 + i)) - mPlace w r2 (w (34 + 14 * r + 1 + (i - 1))) else mPlace w r2 (w (34 + 14 * r + 1 + (i - 1))) - mPlace w r2 (w (34 + 14 * r + 1 + i))) = c then 1 else 0))) (mH E G am th w hs si lo bk iW iH iB iL iS tp td fv sz pa fr tk vl fk fp fsh hdt lt kl kn cp cd bp bl md sw nd mn my wd nm mv)) := by
          intro u x7 x8 hu hu2
          rw [← hu]
          refine g_iadd (q := 119) dX6_near_118 rfl ?_
          refine g_istore (q := 121) dX6_near_119 gs5 rfl ?_
          refine g_iinc (q := 124) dX6_near_121 rfl gs6 rfl ?_
          refine g_goto (t := 37) dX6_near_124 (by decide) ?_
          exact ih _ _ _ _ (by omega) (by omega) (by omega) (by omega)
        refine g_iload (q := 39) dX6_near_37 rfl rfl ?_
        refine g_aload_n (q := 40) dX6_near_39 rfl rfl ?_
        refine g_iload_n (q := 41) dX6_near_40 rfl rfl ?_
        refine g_cv (I' := iX6_manyOf) (mc := 0) (ms := 0) (rc := 0) (rs := 0) (ci := 7) (q := 44) dX6_near_41 q1660 q1662 rfl qs62 gcX6_manyOf mO (c_manyOf hr (by omega)) rfl rfl ?_
        refine g_icmp_ge (t := 127) (q := 47) dX6_near_44 (by decide) rfl (by first | assumption | exact in32_gB | exact in32_gCmp | (unfold in32; omega)) (by first | assumption | exact in32_gB | exact in32_gCmp | (unfold in32; omega)) (fun c44 => ?_) (fun c44 => ?_)
        · exact absurd c44 (by omega)
        · refine g_aload_n (q := 48) dX6_near_47 rfl rfl ?_
          refine g_iload_n (q := 49) dX6_near_48 rfl rfl ?_
          refine g_aload_n (q := 50) dX6_near_49 rfl rfl ?_
          refine g_iload_n (q := 51) dX6_near_50 rfl rfl ?_
          refine g_iload (q := 53) dX6_near_51 rfl rfl ?_
          refine g_iconst (q := 54) dX6_near_53 rfl ?_
          refine g_isub (q := 55) dX6_near_54 rfl ?_
          refine g_cv (I' := iX6_thingOf) (mc := 0) (ms := 0) (rc := 0) (rs := 0) (ci := 7) (q := 58) dX6_near_55 q1668 q1670 rfl qs64 gcX6_thingOf mO (c_thingOf hr (by omega) (by omega) (by omega)) rfl rfl ?_
          refine g_cv (I' := iX6_placeIn) (mc := 0) (ms := 0) (rc := 0) (rs := 0) (ci := 7) (q := 61) dX6_near_58 q1870 q1872 rfl qs81 gcX6_placeIn mO (c_placeIn (d := d) hw hq hq1 (by unfold in32; omega)) rfl rfl ?_
          refine g_istore (q := 63) dX6_near_61 gs7 rfl ?_
          refine g_aload_n (q := 64) dX6_near_63 rfl rfl ?_
          refine g_iload_n (q := 65) dX6_near_64 rfl rfl ?_
          refine g_aload_n (q := 66) dX6_near_65 rfl rfl ?_
          refine g_iload_n (q := 67) dX6_near_66 rfl rfl ?_
          refine g_iload (q := 69) dX6_near_67 rfl rfl ?_
          refine g_cv (I' := iX6_thingOf) (mc := 0) (ms := 0) (rc := 0) (rs := 0) (ci := 7) (q := 72) dX6_near_69 q1668 q1670 rfl qs64 gcX6_thingOf mO (c_thingOf hr (by omega) (by omega) (by omega)) rfl rfl ?_
          refine g_cv (I' := iX6_placeIn) (mc := 0) (ms := 0) (rc := 0) (rs := 0) (ci := 7) (q := 75) dX6_near_72 q1870 q1872 rfl qs81 gcX6_placeIn mO (c_placeIn (d := d) hw hq hq1 (by unfold in32; omega)) rfl rfl ?_
          refine g_istore (q := 77) dX6_near_75 gs8 rfl ?_
          refine g_iload (q := 79) dX6_near_77 rfl rfl ?_
          refine g_iload (q := 81) dX6_near_79 rfl rfl ?_
          refine g_iconst (q := 82) dX6_near_81 rfl ?_
          refine g_icmp_eq (t := 117) (q := 85) dX6_near_82 (by decide) rfl (by first | assumption | exact in32_gB | exact in32_gCmp | (unfold in32; omega)) (by first | assumption | exact in32_gB | exact in32_gCmp | (unfold in32; omega)) (fun c82 => ?_) (fun c82 => ?_)
          · refine g_iconst (q := 118) dX6_near_117 rfl ?_
            refine nx _ _ _ ?_ (by omega)
            first
            | (refine (if_pos ?_).symm; refine And.intro c82 (And.intro c88 ?_); first | (rw [if_pos c93]; omega) | (rw [if_neg c93]; omega))
            | (refine (if_neg ?_).symm; intro q; have q1 := q.1; have q2 := q.2.1; have q3 := q.2.2; clear q; first | (rw [if_pos c93] at q3; omega) | (rw [if_neg c93] at q3; omega) | (clear q3; omega))
          · refine g_iload (q := 87) dX6_near_85 rfl rfl ?_
            refine g_iconst (q := 88) dX6_near_87 rfl ?_
            refine g_icmp_eq (t := 117) (q := 91) dX6_near_88 (by decide) rfl (by first | assumption | exact in32_gB | exact in32_gCmp | (unfold in32; omega)) (by first | assumption | exact in32_gB | exact in32_gCmp | (unfold in32; omega)) (fun c88 => ?_) (fun c88 => ?_)
            · refine g_iconst (q := 118) dX6_near_117 rfl ?_
              refine nx _ _ _ ?_ (by omega)
              first
              | (refine (if_pos ?_).symm; refine And.intro c82 (And.intro c88 ?_); first | (rw [if_pos c93]; omega) | (rw [if_neg c93]; omega))
              | (refine (if_neg ?_).symm; intro q; have q1 := q.1; have q2 := q.2.1; have q3 := q.2.2; clear q; first | (rw [if_pos c93] at q3; omega) | (rw [if_neg c93] at q3; omega) | (clear q3; omega))
            · refine g_iload (q := 93) dX6_near_91 rfl rfl ?_
              refine g_if_eq (t := 104) (q := 96) dX6_near_93 (by decide) rfl (by first | assumption | exact in32_gB | exact in32_gCmp | (unfold in32; omega)) (fun c93 => ?_) (fun c93 => ?_)
              · refine g_iload (q := 106) dX6_near_104 rfl rfl ?_
                refine g_iload (q := 108) dX6_near_106 rfl rfl ?_
                refine g_isub (q := 109) dX6_near_108 rfl ?_
                refine g_iload_n (q := 110) dX6_near_109 rfl rfl ?_
                refine g_icmp_ne (t := 117) (q := 113) dX6_near_110 (by decide) rfl (by first | assumption | exact in32_gB | exact in32_gCmp | (unfold in32; omega)) (by first | assumption | exact in32_gB | exact in32_gCmp | (unfold in32; omega)) (fun c110 => ?_) (fun c110 => ?_)
                · refine g_iconst (q := 118) dX6_near_117 rfl ?_
                  refine nx _ _ _ ?_ (by omega)
                  first
                  | (refine (if_pos ?_).symm; refine And.intro c82 (And.intro c88 ?_); first | (rw [if_pos c93]; omega) | (rw [if_neg c93]; omega))
                  | (refine (if_neg ?_).symm; intro q; have q1 := q.1; have q2 := q.2.1; have q3 := q.2.2; clear q; first | (rw [if_pos c93] at q3; omega) | (rw [if_neg c93] at q3; omega) | (clear q3; omega))
                · refine g_iconst (q := 114) dX6_near_113 rfl ?_
                  refine g_goto (t := 118) dX6_near_114 (by decide) ?_
                  refine nx _ _ _ ?_ (by omega)
                  first
                  | (refine (if_pos ?_).symm; refine And.intro c82 (And.intro c88 ?_); first | (rw [if_pos c93]; omega) | (rw [if_neg c93]; omega))
                  | (refine (if_neg ?_).symm; intro q; have q1 := q.1; have q2 := q.2.1; have q3 := q.2.2; clear q; first | (rw [if_pos c93] at q3; omega) | (rw [if_neg c93] at q3; omega) | (clear q3; omega))
              · refine g_iload (q := 98) dX6_near_96 rfl rfl ?_
                refine g_iload (q := 100) dX6_near_98 rfl rfl ?_
                refine g_isub (q := 101) dX6_near_100 rfl ?_
                refine g_goto (t := 109) dX6_near_101 (by decide) ?_
                refine g_iload_n (q := 110) dX6_near_109 rfl rfl ?_
                refine g_icmp_ne (t := 117) (q := 113) dX6_near_110 (by decide) rfl (by first | assumption | exact in32_gB | exact in32_gCmp | (unfold in32; omega)) (by first | assumption | exact in32_gB | exact in32_gCmp | (unfold in32; omega)) (fun c110 => ?_) (fun c110 => ?_)
                · refine g_iconst (q := 118) dX6_near_117 rfl ?_
                  refine nx _ _ _ ?_ (by omega)
                  first
                  | (refine (if_pos ?_).symm; refine And.intro c82 (And.intro c88 ?_); first | (rw [if_pos c93]; omega) | (rw [if_neg c93]; omega))
                  | (refine (if_neg ?_).symm; intro q; have q1 := q.1; have q2 := q.2.1; have q3 := q.2.2; clear q; first | (rw [if_pos c93] at q3; omega) | (rw [if_neg c93] at q3; omega) | (clear q3; omega))
                · refine g_iconst (q := 114) dX6_near_113 rfl ?_
                  refine g_goto (t := 118) dX6_near_114 (by decide) ?_
                  refine nx _ _ _ ?_ (by omega)
                  first
                  | (refine (if_pos ?_).symm; refine And.intro c82 (And.intro c88 ?_); first | (rw [if_pos c93]; omega) | (rw [if_neg c93]; omega))
                  | (refine (if_neg ?_).symm; intro q; have q1 := q.1; have q2 := q.2.1; have q3 := q.2.2; clear q; first | (rw [if_pos c93] at q3; omega) | (rw [if_neg c93] at q3; omega) | (clear q3; omega))
    show GO E iX6_near _ _ _ 0 [some (.ref am), some (vI r), some (vI r2), some (vI c), some (vI b), none, none, none, none] [] _ _
    refine g_aload_n (q := 1) dX6_near_0 rfl rfl ?_
    refine g_iload_n (q := 2) dX6_near_1 rfl rfl ?_
    refine g_cv (I' := iX6_isRow) (mc := 0) (ms := 0) (rc := 0) (rs := 0) (ci := 7) (q := 5) dX6_near_2 q1651 q1653 rfl qs60 gcX6_isRow mO (c_isRowM h1 hw.2.1) rfl rfl ?_
    refine g_ifeqB (t := 28) (q := 8) dX6_near_5 (by decide) rfl (fun c5 => ?_) (fun c5 => ?_)
    · exact absurd z.1 c5
    · refine g_aload_n (q := 9) dX6_near_8 rfl rfl ?_
      refine g_iload_n (q := 10) dX6_near_9 rfl rfl ?_
      refine g_cv (I' := iX6_isRow) (mc := 0) (ms := 0) (rc := 0) (rs := 0) (ci := 7) (q := 13) dX6_near_10 q1651 q1653 rfl qs60 gcX6_isRow mO (c_isRowM h2 hw.2.1) rfl rfl ?_
      refine g_ifeqB (t := 28) (q := 16) dX6_near_13 (by decide) rfl (fun c13 => ?_) (fun c13 => ?_)
      · exact absurd z.2.1 c13
      · refine g_iload_n (q := 17) dX6_near_16 rfl rfl ?_
        refine g_i2l (q := 18) dX6_near_17 (by first | assumption | exact in32_gB | exact in32_gCmp | (unfold in32; omega)) rfl ?_
        refine g_lconst1 (q := 19) dX6_near_18 rfl ?_
        refine g_ldc2 (a := 11) (q := 22) dX6_near_19 q1721 (by decide) rfl ?_
        refine g_cs (I' := iX6_in) (mc := 0) (ms := 0) (rc := 0) (rs := 0) (q := 25) dX6_near_22 q1514 q1515 gcX6_in (c_inM (by unfold in64; omega) (by unfold in64; omega) (by unfold in64; omega)) rfl rfl ?_
        refine g_ifneB (t := 31) (q := 28) dX6_near_25 (by decide) rfl (fun c25 => ?_) (fun c25 => ?_)
        · refine g_iconst (q := 32) dX6_near_31 rfl ?_
          refine g_istore (q := 34) dX6_near_32 gs5 rfl ?_
          refine g_iconst (q := 35) dX6_near_34 rfl ?_
          refine g_istore (q := 37) dX6_near_35 gs6 rfl ?_
          exact loop _ _ _ _ _ (by omega) (by omega) (by omega) (by omega)
        · exact absurd z.2.2 c25
  · rw [if_neg z]
    show GO E iX6_near _ _ _ 0 [some (.ref am), some (vI r), some (vI r2), some (vI c), some (vI b), none, none, none, none] [] _ _
    refine g_aload_n (q := 1) dX6_near_0 rfl rfl ?_
    refine g_iload_n (q := 2) dX6_near_1 rfl rfl ?_
    refine g_cv (I' := iX6_isRow) (mc := 0) (ms := 0) (rc := 0) (rs := 0) (ci := 7) (q := 5) dX6_near_2 q1651 q1653 rfl qs60 gcX6_isRow mO (c_isRowM h1 hw.2.1) rfl rfl ?_
    refine g_ifeqB (t := 28) (q := 8) dX6_near_5 (by decide) rfl (fun c5 => ?_) (fun c5 => ?_)
    · refine g_bipush (q := 30) dX6_near_28 rfl ?_
      exact g_iret dX6_near_30 rfl ⟨rfl, rfl⟩
    · refine g_aload_n (q := 9) dX6_near_8 rfl rfl ?_
      refine g_iload_n (q := 10) dX6_near_9 rfl rfl ?_
      refine g_cv (I' := iX6_isRow) (mc := 0) (ms := 0) (rc := 0) (rs := 0) (ci := 7) (q := 13) dX6_near_10 q1651 q1653 rfl qs60 gcX6_isRow mO (c_isRowM h2 hw.2.1) rfl rfl ?_
      refine g_ifeqB (t := 28) (q := 16) dX6_near_13 (by decide) rfl (fun c13 => ?_) (fun c13 => ?_)
      · refine g_bipush (q := 30) dX6_near_28 rfl ?_
        exact g_iret dX6_near_30 rfl ⟨rfl, rfl⟩
      · refine g_iload_n (q := 17) dX6_near_16 rfl rfl ?_
        refine g_i2l (q := 18) dX6_near_17 (by first | assumption | exact in32_gB | exact in32_gCmp | (unfold in32; omega)) rfl ?_
        refine g_lconst1 (q := 19) dX6_near_18 rfl ?_
        refine g_ldc2 (a := 11) (q := 22) dX6_near_19 q1721 (by decide) rfl ?_
        refine g_cs (I' := iX6_in) (mc := 0) (ms := 0) (rc := 0) (rs := 0) (q := 25) dX6_near_22 q1514 q1515 gcX6_in (c_inM (by unfold in64; omega) (by unfold in64; omega) (by unfold in64; omega)) rfl rfl ?_
        refine g_ifneB (t := 31) (q := 28) dX6_near_25 (by decide) rfl (fun c25 => ?_) (fun c25 => ?_)
        · exact absurd ⟨c5, c13, c25⟩ z
        · refine g_bipush (q := 30) dX6_near_28 rfl ?_
          exact g_iret dX6_near_30 rfl ⟨rfl, rfl⟩
end
