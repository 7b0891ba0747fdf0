/-! THE REFERENCE: isPlan, spread, left -/
set_option maxRecDepth 100000
theorem plD_ind {w : Int → Int} {kl kn r b c : Int} : ∀ (D : Nat) (left dg : Int) (hs : Int → Int), 0 ≤ left → plD w kl kn r D left dg hs (-1, b) = plD w kl kn r D left dg hs (-1, c) := by
  intro D
  induction D with
  | zero => intro left dg hs _; show plE _ _ _ _ = plE _ _ _ _; unfold plE; rw [if_pos (Or.inl rfl), if_pos (Or.inl rfl)]
  | succ D ih =>
    intro left dg hs h
    obtain ⟨f, hf⟩ : ∃ f : Nat, (left + 1).toNat = f + 1 := ⟨left.toNat, by omega⟩
    show plN _ (left + 1).toNat left _ = plN _ (left + 1).toNat left _
    rw [hf]
    show plN _ f _ (plD w kl kn r D (left - left) (10 * dg + left) (plH w kl kn r left hs) (-1, b)) = plN _ f _ (plD w kl kn r D (left - left) (10 * dg + left) (plH w kl kn r left hs) (-1, c))
    rw [ih (left - left) _ _ (by omega)]
def mSpread (w hs : Int → Int) (kl kn r n days : Int) : Int × Int := plD w kl kn r (days - 1).toNat n 0 hs (-1, 0)
abbrev lfO (n days v i : Int) : Prop := (v = 1 ∧ i = 0) ∨ (¬ v = 1 ∧ i = days - 1)
def lfD (w : Int → Int) (kl kn r n days v : Int) : Nat → Int → (Int → Int) → Int → Int
  | 0, _, hs => hs
  | f + 1, i, hs => lfD w kl kn r n days v f (i + 1) (mHours w kl kn 24 (if lfO n days v i then mRdN w kl kn r n.toNat hs else hs))
def mLeftD (w hs : Int → Int) (kl kn r n days v : Int) : Int := if v = 0 then (mSpread w hs kl kn r n days).2 else mLeft w (lfD w kl kn r n days v days.toNat 0 hs) r
abbrev isPl (w : Int → Int) (r n days : Int) : Prop := (0 ≤ r ∧ r ≤ w 2 - 1) ∧ (1 ≤ n ∧ n ≤ 8) ∧ (1 ≤ days ∧ days ≤ 4)
section
variable {E : gE} {d rc rs am : Nat} {G : gH}
variable {th si lo td sz pa fr tk vl fk fp hdt kl kn cd bp bl : Int} {w hs bk iW iH iB iL iS tp fv fsh lt cp md sw nd mn my wd nm mv : Int → Int}
variable {s a b r r2 i k v e B c n l left days dg : Int} {Q : Outcome → gH → Prop}
theorem c_isPlan (h1 : in32 r) (h2 : in32 n) (h3 : in32 days) (hw : 0 ≤ w 2 ∧ w 2 ≤ 12) : CALL E iX6_isPlan (d + 2) 0 0 [.ref am, vI r, vI n, vI days] (mH E G am th w hs si lo bk iW iH iB iL iS tp td fv sz pa fr tk vl fk fp fsh hdt lt kl kn cp cd bp bl md sw nd mn my wd nm mv) (qR (vI (gB (isPl w r n days))) (mH E G am th w hs si lo bk iW iH iB iL iS tp td fv sz pa fr tk vl fk fp fsh hdt lt kl kn cp cd bp bl md sw nd mn my wd nm mv)) := by
  have h4 := h2.1
  have h5 := h2.2
  have h6 := h3.1
  have h7 := h3.2
  show GO E iX6_isPlan _ _ _ 0 [some (.ref am), some (vI r), some (vI n), some (vI days)] [] _ _
  refine g_aload_n (q := 1) dX6_isPlan_0 rfl rfl ?_
  refine g_iload_n (q := 2) dX6_isPlan_1 rfl rfl ?_
  refine g_cv (I' := iX6_isRow) (mc := 0) (ms := 0) (rc := 0) (rs := 0) (ci := 7) (q := 5) dX6_isPlan_2 q1651 q1653 rfl qs60 gcX6_isRow mO (c_isRowM h1 hw) rfl rfl ?_
  refine g_ifeqB (t := 36) (q := 8) dX6_isPlan_5 (by decide) rfl (fun c5 => ?_) (fun c5 => ?_)
  · refine g_iconst (q := 37) dX6_isPlan_36 rfl ?_
    exact g_zret0 dX6_isPlan_37 rfl ⟨rI (by first | exact (gB_t ⟨c5, c17, c29⟩).symm | exact (gB_f (fun z => c5 z.1)).symm | exact (gB_f (fun z => c17 z.2.1)).symm | exact (gB_f (fun z => c29 z.2.2)).symm), rfl⟩
  · refine g_iload_n (q := 9) dX6_isPlan_8 rfl rfl ?_
    refine g_i2l (q := 10) dX6_isPlan_9 (by first | assumption | exact in32_gB | exact in32_gCmp | (unfold in32; omega)) rfl ?_
    refine g_lconst1 (q := 11) dX6_isPlan_10 rfl ?_
    refine g_ldc2 (a := 8) (q := 14) dX6_isPlan_11 q1803 (by decide) rfl ?_
    refine g_cs (I' := iX6_in) (mc := 0) (ms := 0) (rc := 0) (rs := 0) (q := 17) dX6_isPlan_14 q1514 q1515 gcX6_in (c_inM (by unfold in64; omega) (by unfold in64; omega) (by unfold in64; omega)) rfl rfl ?_
    refine g_ifeqB (t := 36) (q := 20) dX6_isPlan_17 (by decide) rfl (fun c17 => ?_) (fun c17 => ?_)
    · refine g_iconst (q := 37) dX6_isPlan_36 rfl ?_
      exact g_zret0 dX6_isPlan_37 rfl ⟨rI (by first | exact (gB_t ⟨c5, c17, c29⟩).symm | exact (gB_f (fun z => c5 z.1)).symm | exact (gB_f (fun z => c17 z.2.1)).symm | exact (gB_f (fun z => c29 z.2.2)).symm), rfl⟩
    · refine g_iload_n (q := 21) dX6_isPlan_20 rfl rfl ?_
      refine g_i2l (q := 22) dX6_isPlan_21 (by first | assumption | exact in32_gB | exact in32_gCmp | (unfold in32; omega)) rfl ?_
      refine g_lconst1 (q := 23) dX6_isPlan_22 rfl ?_
      refine g_ldc2 (a := 4) (q := 26) dX6_isPlan_23 q1804 (by decide) rfl ?_
      refine g_cs (I' := iX6_in) (mc := 0) (ms := 0) (rc := 0) (rs := 0) (q := 29) dX6_isPlan_26 q1514 q1515 gcX6_in (c_inM (by unfold in64; omega) (by unfold in64; omega) (by unfold in64; omega)) rfl rfl ?_
      refine g_ifeqB (t := 36) (q := 32) dX6_isPlan_29 (by decide) rfl (fun c29 => ?_) (fun c29 => ?_)
      · refine g_iconst (q := 37) dX6_isPlan_36 rfl ?_
        exact g_zret0 dX6_isPlan_37 rfl ⟨rI (by first | exact (gB_t ⟨c5, c17, c29⟩).symm | exact (gB_f (fun z => c5 z.1)).symm | exact (gB_f (fun z => c17 z.2.1)).symm | exact (gB_f (fun z => c29 z.2.2)).symm), rfl⟩
      · refine g_iconst (q := 33) dX6_isPlan_32 rfl ?_
        refine g_goto (t := 37) dX6_isPlan_33 (by decide) ?_
        exact g_zret1 dX6_isPlan_37 rfl ⟨rI (by first | exact (gB_t ⟨c5, c17, c29⟩).symm | exact (gB_f (fun z => c5 z.1)).symm | exact (gB_f (fun z => c17 z.2.1)).symm | exact (gB_f (fun z => c29 z.2.2)).symm), rfl⟩
/-- plans from the start -/
theorem c_plans0 (hw : WFw w) (hh : HSok B hs) (hB0 : 0 ≤ B) (hB : B ≤ 600000000) (hkl : in32 kl) (hkn : in32 kn) (hbl : in32 bl) (hz : isPl w r n days) :
    CALL E iX6_plans (d + 7) 0 0 [.ref am, vI r, vI n, vI days, vI 0] (mH E G am th w hs si lo bk iW iH iB iL iS tp td fv sz pa fr tk vl fk fp fsh hdt lt kl kn cp 0 (-1) bl md sw nd mn my wd nm mv) (qVP fun k => ∃ y, in32 (mSpread w hs kl kn r n days).2 ∧ in32 (mSpread w hs kl kn r n days).1 ∧ k = (mH E G am th w hs si lo bk iW iH iB iL iS tp td fv sz pa fr tk vl fk fp fsh hdt lt kl kn y 0 ((mSpread w hs kl kn r n days).1) ((mSpread w hs kl kn r n days).2) md sw nd mn my wd nm mv)) := by
  have hc := c_plans (d := d + 3 - (days - 1).toNat) (E := E) (G := G) (am := am) (th := th) (si := si) (lo := lo) (bk := bk) (iW := iW) (iH := iH) (iB := iB) (iL := iL) (iS := iS) (tp := tp) (td := td) (fv := fv) (sz := sz) (pa := pa) (fr := fr) (tk := tk) (vl := vl) (fk := fk) (fp := fp) (fsh := fsh) (hdt := hdt) (lt := lt) (md := md) (sw := sw) (nd := nd) (mn := mn) (my := my) (wd := wd) (nm := nm) (mv := mv) hw hkl hkn hz.1.1 (show r < w 2 by omega) (days - 1).toNat n days 0 B 0 (-1) bl hs cp (by omega) hh hB0 (by omega) (by omega) (by omega) (by omega) (by omega) (by omega) ⟨by omega, by
    have q : (days - 1).toNat = 0 ∨ (days - 1).toNat = 1 ∨ (days - 1).toNat = 2 ∨ (days - 1).toNat = 3 := by omega
    rcases q with q | q | q | q <;> rw [q] <;> decide⟩ (by omega) hbl
  have e : d + 3 - (days - 1).toNat + (days - 1).toNat + 4 = d + 7 := by omega
  rw [e] at hc
  have e2 : plD w kl kn r (days - 1).toNat n 0 hs (-1, bl) = mSpread w hs kl kn r n days := plD_ind _ _ _ _ (by omega)
  rw [e2] at hc
  refine GO.mono hc fun o k hq => ⟨hq.1, ?_⟩
  obtain ⟨a1, a2, y, a3, _⟩ := hq.2
  exact ⟨y, a2, ⟨by omega, by omega⟩, a3⟩
theorem c_spread (hw : WFw w) (hh : HSok B hs) (hB0 : 0 ≤ B) (hB : B ≤ 600000000) (hkl : in32 kl) (hkn : in32 kn) (hbp : in32 bp) (hbl : in32 bl) (h1 : in32 r) (h2 : in32 n) (h3 : in32 days) :
    CALL E iX6_spread (d + 8) 0 0 [.ref am, vI r, vI n, vI days] (mH E G am th w hs si lo bk iW iH iB iL iS tp td fv sz pa fr tk vl fk fp fsh hdt lt kl kn cp 0 bp bl md sw nd mn my wd nm mv) (qP fun v k => v = vI (if isPl w r n days then (mSpread w hs kl kn r n days).1 else -1) ∧ ∃ y p q, in32 p ∧ in32 q ∧ k = (mH E G am th w hs si lo bk iW iH iB iL iS tp td fv sz pa fr tk vl fk fp fsh hdt lt kl kn y 0 p q md sw nd mn my wd nm mv)) := by
  by_cases z : isPl w r n days
  · rw [if_pos z]
    show GO E iX6_spread _ _ _ 0 [some (.ref am), some (vI r), some (vI n), some (vI days)] [] _ _
    refine g_aload_n (q := 1) dX6_spread_0 rfl rfl ?_
    refine g_iload_n (q := 2) dX6_spread_1 rfl rfl ?_
    refine g_iload_n (q := 3) dX6_spread_2 rfl rfl ?_
    refine g_iload_n (q := 4) dX6_spread_3 rfl rfl ?_
    refine g_cv (I' := iX6_isPlan) (mc := 0) (ms := 0) (rc := 0) (rs := 0) (ci := 7) (q := 7) dX6_spread_4 q1799 q1801 rfl qs77 gcX6_isPlan mO (c_isPlan h1 h2 h3 hw.2.1) rfl rfl ?_
    refine g_ifneB (t := 12) (q := 10) dX6_spread_7 (by decide) rfl (fun c7 => ?_) (fun c7 => ?_)
    · refine g_aload_n (q := 13) dX6_spread_12 rfl rfl ?_
      refine g_iconst (q := 14) dX6_spread_13 rfl ?_
      refine gm_put28 (q := 17) dX6_spread_14 q1422 rfl ?_
      refine g_aload_n (q := 18) dX6_spread_17 rfl rfl ?_
      refine g_iload_n (q := 19) dX6_spread_18 rfl rfl ?_
      refine g_iload_n (q := 20) dX6_spread_19 rfl rfl ?_
      refine g_iload_n (q := 21) dX6_spread_20 rfl rfl ?_
      refine g_iconst (q := 22) dX6_spread_21 rfl ?_
      refine g_cvVP (I' := iX6_plans) (mc := 0) (ms := 0) (rc := 0) (rs := 0) (ci := 7) (q := 25) dX6_spread_22 q1805 q1807 rfl qs78 gcX6_plans mO (c_plans0 (d := d) hw hh hB0 hB hkl hkn hbl z) rfl rfl (fun k22 z22 => ?_)
      obtain ⟨y, g2, g1, rfl⟩ := z22
      refine g_aload_n (q := 26) dX6_spread_25 rfl rfl ?_
      refine gm_get (k := 28) (q := 29) dX6_spread_26 q1422 (by decide) rfl rfl ?_
      exact g_iret dX6_spread_29 rfl ⟨_, rfl, rfl, _, _, _, g1, g2, rfl⟩
    · exact absurd z c7
  · rw [if_neg z]
    show GO E iX6_spread _ _ _ 0 [some (.ref am), some (vI r), some (vI n), some (vI days)] [] _ _
    refine g_aload_n (q := 1) dX6_spread_0 rfl rfl ?_
    refine g_iload_n (q := 2) dX6_spread_1 rfl rfl ?_
    refine g_iload_n (q := 3) dX6_spread_2 rfl rfl ?_
    refine g_iload_n (q := 4) dX6_spread_3 rfl rfl ?_
    refine g_cv (I' := iX6_isPlan) (mc := 0) (ms := 0) (rc := 0) (rs := 0) (ci := 7) (q := 7) dX6_spread_4 q1799 q1801 rfl qs77 gcX6_isPlan mO (c_isPlan h1 h2 h3 hw.2.1) rfl rfl ?_
    refine g_ifneB (t := 12) (q := 10) dX6_spread_7 (by decide) rfl (fun c7 => ?_) (fun c7 => ?_)
    · exact absurd c7 z
    · refine g_iconst (q := 11) dX6_spread_10 rfl ?_
      exact g_iret dX6_spread_11 rfl ⟨_, rfl, rfl, _, _, _, hbp, hbl, rfl⟩
/-- a reading day's readings, head at 98 -/
theorem l_left1 (hw : WFw w) (hkl : in32 kl) (hkn : in32 kn) (hr : 0 ≤ r) (hr1 : r < w 2) (hn : n ≤ 8) :
    ∀ (f : Nat) (j B : Int) (hs : Int → Int), HSok B hs → B + f ≤ 900000000 → 0 ≤ j → j + f = n →
    (∀ x7 : Option Value, GO E iX6_left (d + 4) 0 0 120 [some (.ref am), some (vI r), some (vI n), some (vI days), some (vI v), some (vI i), some (vI 1), x7] [] (mH E G am th w (mRdN w kl kn r f hs) si lo bk iW iH iB iL iS tp td fv sz pa fr tk vl fk fp fsh hdt lt kl kn cp cd bp bl md sw nd mn my wd nm mv) Q) →
    GO E iX6_left (d + 4) 0 0 98 [some (.ref am), some (vI r), some (vI n), some (vI days), some (vI v), some (vI i), some (vI 1), some (vI j)] [] (mH E G am th w hs si lo bk iW iH iB iL iS tp td fv sz pa fr tk vl fk fp fsh hdt lt kl kn cp cd bp bl md sw nd mn my wd nm mv) Q := by
  intro f
  induction f with
  | zero =>
    intro j B hs h h0 h1 h2 kk
    refine g_iload (q := 100) dX6_left_98 rfl rfl ?_
    refine g_iload_n (q := 101) dX6_left_100 rfl rfl ?_
    refine g_icmp_ge (t := 120) (q := 104) dX6_left_101 (by decide) rfl (by first | assumption | exact in32_gB | exact in32_gCmp | (unfold in32; omega)) (by first | assumption | exact in32_gB | exact in32_gCmp | (unfold in32; omega)) (fun c101 => ?_) (fun c101 => ?_)
    · exact kk _
    · exact absurd c101 (by omega)
  | succ f ih =>
    intro j B hs h h0 h1 h2 kk
    refine g_iload (q := 100) dX6_left_98 rfl rfl ?_
    refine g_iload_n (q := 101) dX6_left_100 rfl rfl ?_
    refine g_icmp_ge (t := 120) (q := 104) dX6_left_101 (by decide) rfl (by first | assumption | exact in32_gB | exact in32_gCmp | (unfold in32; omega)) (by first | assumption | exact in32_gB | exact in32_gCmp | (unfold in32; omega)) (fun c101 => ?_) (fun c101 => ?_)
    · exact absurd c101 (by omega)
    · refine g_iload (q := 106) dX6_left_104 rfl rfl ?_
      refine g_if_eq (t := 120) (q := 109) dX6_left_106 (by decide) rfl (by first | assumption | exact in32_gB | exact in32_gCmp | (unfold in32; omega)) (fun c106 => ?_) (fun c106 => ?_)
      · exact absurd c106 (by decide)
      · refine g_aload_n (q := 110) dX6_left_109 rfl rfl ?_
        refine g_iload_n (q := 111) dX6_left_110 rfl rfl ?_
        refine g_cvV (I' := iX6_reads) (mc := 0) (ms := 0) (rc := 0) (rs := 0) (ci := 7) (q := 114) dX6_left_111 q1678 q1680 rfl qs65 gcX6_reads mO (c_reads (d := d) hw h (by omega) hkl hkn hr hr1) rfl rfl ?_
        refine g_iinc (q := 117) dX6_left_114 rfl gs7 rfl ?_
        refine g_goto (t := 98) dX6_left_117 (by decide) ?_
        exact ih _ (B + 1) _ (h.reads hw hr hr1) (by omega) (by omega) (by omega) kk
theorem lfO_ok (hw : WFw w) (hr : 0 ≤ r) (hr1 : r < w 2) (hB : 0 ≤ B) (h : HSok B hs) (h0 : 0 ≤ n) (h1 : n ≤ 8) : HSok (B + 32) (mHours w kl kn 24 (if lfO n days v i then mRdN w kl kn r n.toNat hs else hs)) := by
  by_cases c : lfO n days v i
  · rw [if_pos c]; exact h.plH hw hr hr1 hB h0 h1
  · rw [if_neg c]; exact (HSok.hours hw 24 _ _ h hB).mono (by omega)
theorem lfD_ok (hw : WFw w) (hr : 0 ≤ r) (hr1 : r < w 2) (h0 : 0 ≤ n) (h1 : n ≤ 8) : ∀ (f : Nat) (i B : Int) (hs : Int → Int), 0 ≤ B → HSok B hs → HSok (B + 32 * f) (lfD w kl kn r n days v f i hs) := by
  intro f
  induction f with
  | zero => intro i B hs _ h; exact h.mono (by omega)
  | succ f ih => intro i B hs hB h; exact (ih (i + 1) (B + 32) _ (by omega) (lfO_ok hw hr hr1 hB h h0 h1)).mono (by omega)
theorem c_left (hw : WFw w) (hh : HSok B hs) (hB0 : 0 ≤ B) (hB : B ≤ 600000000) (hkl : in32 kl) (hkn : in32 kn) (hbp : in32 bp) (hbl : in32 bl) (h1 : in32 r) (h2 : in32 n) (h3 : in32 days) (h4 : in32 v) :
    CALL E iX6_left (d + 8) 0 0 [.ref am, vI r, vI n, vI days, vI v] (mH E G am th w hs si lo bk iW iH iB iL iS tp td fv sz pa fr tk vl fk fp fsh hdt lt kl kn cp 0 bp bl md sw nd mn my wd nm mv) (qP fun o k => o = vI (if isPl w r n days ∧ 0 ≤ v ∧ v ≤ 2 then mLeftD w hs kl kn r n days v else -1) ∧ ∃ y p q, in32 p ∧ in32 q ∧ k = (mH E G am th w hs si lo bk iW iH iB iL iS tp td fv sz pa fr tk vl fk fp fsh hdt lt kl kn y 0 p q md sw nd mn my wd nm mv)) := by
  have h41 := h4.1
  have h42 := h4.2
  by_cases z : isPl w r n days ∧ 0 ≤ v ∧ v ≤ 2
  · rw [if_pos z]
    have z1 := z.1
    have hr1 : r < w 2 := by omega
    unfold mLeftD
    by_cases z0 : v = 0
    · rw [if_pos z0]
      show GO E iX6_left _ _ _ 0 [some (.ref am), some (vI r), some (vI n), some (vI days), some (vI v), none, none, none] [] _ _
      refine g_aload_n (q := 1) dX6_left_0 rfl rfl ?_
      refine g_iload_n (q := 2) dX6_left_1 rfl rfl ?_
      refine g_iload_n (q := 3) dX6_left_2 rfl rfl ?_
      refine g_iload_n (q := 4) dX6_left_3 rfl rfl ?_
      refine g_cv (I' := iX6_isPlan) (mc := 0) (ms := 0) (rc := 0) (rs := 0) (ci := 7) (q := 7) dX6_left_4 q1799 q1801 rfl qs77 gcX6_isPlan mO (c_isPlan h1 h2 h3 hw.2.1) rfl rfl ?_
      refine g_ifeqB (t := 23) (q := 10) dX6_left_7 (by decide) rfl (fun c7 => ?_) (fun c7 => ?_)
      · exact absurd z1 c7
      · refine g_iload (q := 12) dX6_left_10 rfl rfl ?_
        refine g_i2l (q := 13) dX6_left_12 (by first | assumption | exact in32_gB | exact in32_gCmp | (unfold in32; omega)) rfl ?_
        refine g_lconst0 (q := 14) dX6_left_13 rfl ?_
        refine g_ldc2 (a := 2) (q := 17) dX6_left_14 q1513 (by decide) rfl ?_
        refine g_cs (I' := iX6_in) (mc := 0) (ms := 0) (rc := 0) (rs := 0) (q := 20) dX6_left_17 q1514 q1515 gcX6_in (c_inM (by unfold in64; omega) (by unfold in64; omega) (by unfold in64; omega)) rfl rfl ?_
        refine g_ifneB (t := 25) (q := 23) dX6_left_20 (by decide) rfl (fun c20 => ?_) (fun c20 => ?_)
        · refine g_iload (q := 27) dX6_left_25 rfl rfl ?_
          refine g_if_ne (t := 48) (q := 30) dX6_left_27 (by decide) rfl (by first | assumption | exact in32_gB | exact in32_gCmp | (unfold in32; omega)) (fun c27 => ?_) (fun c27 => ?_)
          · exact absurd z0 c27
          · refine g_aload_n (q := 31) dX6_left_30 rfl rfl ?_
            refine g_iconst (q := 32) dX6_left_31 rfl ?_
            refine gm_put28 (q := 35) dX6_left_32 q1422 rfl ?_
            refine g_aload_n (q := 36) dX6_left_35 rfl rfl ?_
            refine g_iload_n (q := 37) dX6_left_36 rfl rfl ?_
            refine g_iload_n (q := 38) dX6_left_37 rfl rfl ?_
            refine g_iload_n (q := 39) dX6_left_38 rfl rfl ?_
            refine g_iconst (q := 40) dX6_left_39 rfl ?_
            refine g_cvVP (I' := iX6_plans) (mc := 0) (ms := 0) (rc := 0) (rs := 0) (ci := 7) (q := 43) dX6_left_40 q1805 q1807 rfl qs78 gcX6_plans mO (c_plans0 (d := d) hw hh hB0 hB hkl hkn hbl z1) rfl rfl (fun k40 z40 => ?_)
            obtain ⟨y, g2, g1, rfl⟩ := z40
            refine g_aload_n (q := 44) dX6_left_43 rfl rfl ?_
            refine gm_get (k := 29) (q := 47) dX6_left_44 q1423 (by decide) rfl rfl ?_
            exact g_iret dX6_left_47 rfl ⟨_, rfl, rfl, _, _, _, g1, g2, rfl⟩
        · exact absurd z.2 c20
    · rw [if_neg z0]
      have hE := lfD_ok (n := n) (kl := kl) (kn := kn) (days := days) (v := v) hw z1.1.1 hr1 (by omega) (by omega) days.toNat 0 B hs hB0 hh
      have hL := mLeft_in hw hE z1.1.1 hr1
      have loop : ∀ (f : Nat) (i B : Int) (hs1 : Int → Int) (x6 x7 : Option Value), HSok B hs1 → 0 ≤ B → B + 32 * f ≤ 900000000 → 0 ≤ i → i + f = days → lfD w kl kn r n days v f i hs1 = lfD w kl kn r n days v days.toNat 0 hs →
          GO E iX6_left (d + 8) 0 0 55 [some (.ref am), some (vI r), some (vI n), some (vI days), some (vI v), some (vI i), x6, x7] [] (mH E G am th w hs1 si lo bk iW iH iB iL iS tp td fv sz pa fr tk vl fk fp fsh hdt lt kl kn (cpyI cp hs (2018 * 0) 0 2018) (0 + 1) bp bl md sw nd mn my wd nm mv) (qP fun o k => o = vI (mLeft w (lfD w kl kn r n days v days.toNat 0 hs) r) ∧ ∃ y p q, in32 p ∧ in32 q ∧ k = (mH E G am th w hs si lo bk iW iH iB iL iS tp td fv sz pa fr tk vl fk fp fsh hdt lt kl kn y 0 p q md sw nd mn my wd nm mv)) := by
        intro f
        induction f with
        | zero =>
          intro i B hs1 x6 x7 q1 q2 q3 q4 q5 q6
          obtain rfl : hs1 = lfD w kl kn r n days v days.toNat 0 hs := q6
          refine g_iload (q := 57) dX6_left_55 rfl rfl ?_
          refine g_iload_n (q := 58) dX6_left_57 rfl rfl ?_
          refine g_icmp_ge (t := 132) (q := 61) dX6_left_58 (by decide) rfl (by first | assumption | exact in32_gB | exact in32_gCmp | (unfold in32; omega)) (by first | assumption | exact in32_gB | exact in32_gCmp | (unfold in32; omega)) (fun c58 => ?_) (fun c58 => ?_)
          · refine g_aload_n (q := 133) dX6_left_132 rfl rfl ?_
            refine g_iload_n (q := 134) dX6_left_133 rfl rfl ?_
            refine g_cv (I' := iX6_leftOf) (mc := 0) (ms := 0) (rc := 0) (rs := 0) (ci := 7) (q := 137) dX6_left_134 q1809 q1811 rfl qs79 gcX6_leftOf mO (c_leftOf (d := d + 5) hw hE z1.1.1 hr1) rfl rfl ?_
            refine g_istore (q := 139) dX6_left_137 gs5 rfl ?_
            refine g_aload_n (q := 140) dX6_left_139 rfl rfl ?_
            refine g_cvV (I' := iX6_takeBack) (mc := 0) (ms := 0) (rc := 0) (rs := 0) (ci := 7) (q := 143) dX6_left_140 q1750 q1752 rfl qs75 gcX6_takeBack mO (c_back (c := 0) (hs0 := hs) (by omega) (by omega) (fun j q2 q3 => by rw [cpyI_in (by omega) (by omega)]; congr 1; omega)) rfl rfl ?_
            refine g_iload (q := 145) dX6_left_143 rfl rfl ?_
            exact g_iret dX6_left_145 rfl ⟨_, rfl, rfl, _, _, _, hbp, hbl, rfl⟩
          · exact absurd c58 (by omega)
        | succ f ih =>
          intro i B hs1 x6 x7 q1 q2 q3 q4 q5 q6
          have hO := lfO_ok (n := n) (kl := kl) (kn := kn) (days := days) (v := v) (i := i) hw z1.1.1 hr1 q2 q1 (show 0 ≤ n by omega) (by omega)
          have go : ∀ (Q : Outcome → gH → Prop) (cp : Int → Int) (cd : Int) (hs2 : Int → Int) (B2 : Int) (x6 x7 : Option Value), HSok B2 hs2 → 0 ≤ B2 → B2 ≤ 900000000 → (∀ x6 x7 : Option Value, GO E iX6_left (d + 8) 0 0 55 [some (.ref am), some (vI r), some (vI n), some (vI days), some (vI v), some (vI (i + 1)), x6, x7] [] (mH E G am th w (mHours w kl kn 24 hs2) si lo bk iW iH iB iL iS tp td fv sz pa fr tk vl fk fp fsh hdt lt kl kn cp cd bp bl md sw nd mn my wd nm mv) Q) →
             GO E iX6_left (d + 8) 0 0 120 [some (.ref am), some (vI r), some (vI n), some (vI days), some (vI v), some (vI i), x6, x7] [] (mH E G am th w hs2 si lo bk iW iH iB iL iS tp td fv sz pa fr tk vl fk fp fsh hdt lt kl kn cp cd bp bl md sw nd mn my wd nm mv) Q := by
            intro Q cp cd hs2 B2 x6 x7 p1 p2 p3 kk
            refine g_aload_n (q := 121) dX6_left_120 rfl rfl ?_
            refine g_bipush (q := 123) dX6_left_121 rfl ?_
            refine g_cvV (I' := iX6_hoursGo) (mc := 0) (ms := 0) (rc := 0) (rs := 0) (ci := 7) (q := 126) dX6_left_123 q1709 q1711 rfl qs70 gcX6_hoursGo mO (c_hoursGo (d := d + 4) (v := 24) hw p2 p3 hkl hkn (by omega) p1) rfl rfl ?_
            refine g_iinc (q := 129) dX6_left_126 rfl gs5 rfl ?_
            refine g_goto (t := 55) dX6_left_129 (by decide) ?_
            exact kk _ _
          have nx : ∀ hs2, hs2 = (if lfO n days v i then mRdN w kl kn r n.toNat hs1 else hs1) → ∀ x6 x7 : Option Value, GO E iX6_left (d + 8) 0 0 120 [some (.ref am), some (vI r), some (vI n), some (vI days), some (vI v), some (vI i), x6, x7] [] (mH E G am th w hs2 si lo bk iW iH iB iL iS tp td fv sz pa fr tk vl fk fp fsh hdt lt kl kn (cpyI cp hs (2018 * 0) 0 2018) (0 + 1) bp bl md sw nd mn my wd nm mv) (qP fun o k => o = vI (mLeft w (lfD w kl kn r n days v days.toNat 0 hs) r) ∧ ∃ y p q, in32 p ∧ in32 q ∧ k = (mH E G am th w hs si lo bk iW iH iB iL iS tp td fv sz pa fr tk vl fk fp fsh hdt lt kl kn y 0 p q md sw nd mn my wd nm mv)) := by
            intro hs2 e2 x6 x7
            have hS2 : HSok (B + 8) hs2 := by
              rw [e2]
              by_cases c : lfO n days v i
              · rw [if_pos c]; exact (HSok.rdN hw z1.1.1 hr1 n.toNat B hs1 q1).mono (by omega)
              · rw [if_neg c]; exact q1.mono (by omega)
            refine go _ _ _ hs2 (B + 8) x6 x7 hS2 (by omega) (by omega) fun x6 x7 => ?_
            rw [e2]
            exact ih (i + 1) (B + 32) _ x6 x7 hO (by omega) (by omega) (by omega) (by omega) q6
          have a1 : lfO n days v i → ∀ x6 x7 : Option Value, GO E iX6_left (d + 8) 0 0 93 [some (.ref am), some (vI r), some (vI n), some (vI days), some (vI v), some (vI i), x6, x7] [vI 1] (mH E G am th w hs1 si lo bk iW iH iB iL iS tp td fv sz pa fr tk vl fk fp fsh hdt lt kl kn (cpyI cp hs (2018 * 0) 0 2018) (0 + 1) bp bl md sw nd mn my wd nm mv) (qP fun o k => o = vI (mLeft w (lfD w kl kn r n days v days.toNat 0 hs) r) ∧ ∃ y p q, in32 p ∧ in32 q ∧ k = (mH E G am th w hs si lo bk iW iH iB iL iS tp td fv sz pa fr tk vl fk fp fsh hdt lt kl kn y 0 p q md sw nd mn my wd nm mv)) := by
            intro c x6 x7
            refine g_istore (q := 95) dX6_left_93 gs6 rfl ?_
            refine g_iconst (q := 96) dX6_left_95 rfl ?_
            refine g_istore (q := 98) dX6_left_96 gs7 rfl ?_
            exact l_left1 (d := d + 4) hw hkl hkn z1.1.1 hr1 (by omega) n.toNat 0 B hs1 q1 (by omega) (by omega) (by omega) fun x7 => nx _ (if_pos c).symm _ x7
          have a0 : ¬ lfO n days v i → ∀ x6 x7 : Option Value, GO E iX6_left (d + 8) 0 0 93 [some (.ref am), some (vI r), some (vI n), some (vI days), some (vI v), some (vI i), x6, x7] [vI 0] (mH E G am th w hs1 si lo bk iW iH iB iL iS tp td fv sz pa fr tk vl fk fp fsh hdt lt kl kn (cpyI cp hs (2018 * 0) 0 2018) (0 + 1) bp bl md sw nd mn my wd nm mv) (qP fun o k => o = vI (mLeft w (lfD w kl kn r n days v days.toNat 0 hs) r) ∧ ∃ y p q, in32 p ∧ in32 q ∧ k = (mH E G am th w hs si lo bk iW iH iB iL iS tp td fv sz pa fr tk vl fk fp fsh hdt lt kl kn y 0 p q md sw nd mn my wd nm mv)) := by
            intro c x6 x7
            refine g_istore (q := 95) dX6_left_93 gs6 rfl ?_
            refine g_iconst (q := 96) dX6_left_95 rfl ?_
            refine g_istore (q := 98) dX6_left_96 gs7 rfl ?_
            refine g_iload (q := 100) dX6_left_98 rfl rfl ?_
            refine g_iload_n (q := 101) dX6_left_100 rfl rfl ?_
            refine g_icmp_ge (t := 120) (q := 104) dX6_left_101 (by decide) rfl (by first | assumption | exact in32_gB | exact in32_gCmp | (unfold in32; omega)) (by first | assumption | exact in32_gB | exact in32_gCmp | (unfold in32; omega)) (fun c101 => ?_) (fun c101 => ?_)
            · exact absurd c101 (by omega)
            · refine g_iload (q := 106) dX6_left_104 rfl rfl ?_
              refine g_if_eq (t := 120) (q := 109) dX6_left_106 (by decide) rfl (by first | assumption | exact in32_gB | exact in32_gCmp | (unfold in32; omega)) (fun c106 => ?_) (fun c106 => ?_)
              · exact nx _ (if_neg c).symm _ _
              · exact absurd rfl c106
          refine g_iload (q := 57) dX6_left_55 rfl rfl ?_
          refine g_iload_n (q := 58) dX6_left_57 rfl rfl ?_
          refine g_icmp_ge (t := 132) (q := 61) dX6_left_58 (by decide) rfl (by first | assumption | exact in32_gB | exact in32_gCmp | (unfold in32; omega)) (by first | assumption | exact in32_gB | exact in32_gCmp | (unfold in32; omega)) (fun c58 => ?_) (fun c58 => ?_)
          · exact absurd c58 (by omega)
          · refine g_iload (q := 63) dX6_left_61 rfl rfl ?_
            refine g_iconst (q := 64) dX6_left_63 rfl ?_
            refine g_icmp_ne (t := 80) (q := 67) dX6_left_64 (by decide) rfl (by first | assumption | exact in32_gB | exact in32_gCmp | (unfold in32; omega)) (by first | assumption | exact in32_gB | exact in32_gCmp | (unfold in32; omega)) (fun c64 => ?_) (fun c64 => ?_)
            · refine g_iload (q := 82) dX6_left_80 rfl rfl ?_
              refine g_iload_n (q := 83) dX6_left_82 rfl rfl ?_
              refine g_iconst (q := 84) dX6_left_83 rfl ?_
              refine g_isub (q := 85) dX6_left_84 rfl ?_
              refine g_icmp_ne (t := 92) (q := 88) dX6_left_85 (by decide) rfl (by first | assumption | exact in32_gB | exact in32_gCmp | (unfold in32; omega)) (by first | assumption | exact in32_gB | exact in32_gCmp | (unfold in32; omega)) (fun c85 => ?_) (fun c85 => ?_)
              · refine g_iconst (q := 93) dX6_left_92 rfl ?_
                first | exact a1 (by unfold lfO; omega) _ _ | exact a0 (by unfold lfO; omega) _ _
              · refine g_iconst (q := 89) dX6_left_88 rfl ?_
                refine g_goto (t := 93) dX6_left_89 (by decide) ?_
                first | exact a1 (by unfold lfO; omega) _ _ | exact a0 (by unfold lfO; omega) _ _
            · refine g_iload (q := 69) dX6_left_67 rfl rfl ?_
              refine g_if_ne (t := 76) (q := 72) dX6_left_69 (by decide) rfl (by first | assumption | exact in32_gB | exact in32_gCmp | (unfold in32; omega)) (fun c69 => ?_) (fun c69 => ?_)
              · refine g_iconst (q := 77) dX6_left_76 rfl ?_
                refine g_goto (t := 93) dX6_left_77 (by decide) ?_
                first | exact a1 (by unfold lfO; omega) _ _ | exact a0 (by unfold lfO; omega) _ _
              · refine g_iconst (q := 73) dX6_left_72 rfl ?_
                refine g_goto (t := 93) dX6_left_73 (by decide) ?_
                first | exact a1 (by unfold lfO; omega) _ _ | exact a0 (by unfold lfO; omega) _ _
      show GO E iX6_left _ _ _ 0 [some (.ref am), some (vI r), some (vI n), some (vI days), some (vI v), none, none, none] [] _ _
      refine g_aload_n (q := 1) dX6_left_0 rfl rfl ?_
      refine g_iload_n (q := 2) dX6_left_1 rfl rfl ?_
      refine g_iload_n (q := 3) dX6_left_2 rfl rfl ?_
      refine g_iload_n (q := 4) dX6_left_3 rfl rfl ?_
      refine g_cv (I' := iX6_isPlan) (mc := 0) (ms := 0) (rc := 0) (rs := 0) (ci := 7) (q := 7) dX6_left_4 q1799 q1801 rfl qs77 gcX6_isPlan mO (c_isPlan h1 h2 h3 hw.2.1) rfl rfl ?_
      refine g_ifeqB (t := 23) (q := 10) dX6_left_7 (by decide) rfl (fun c7 => ?_) (fun c7 => ?_)
      · exact absurd z1 c7
      · refine g_iload (q := 12) dX6_left_10 rfl rfl ?_
        refine g_i2l (q := 13) dX6_left_12 (by first | assumption | exact in32_gB | exact in32_gCmp | (unfold in32; omega)) rfl ?_
        refine g_lconst0 (q := 14) dX6_left_13 rfl ?_
        refine g_ldc2 (a := 2) (q := 17) dX6_left_14 q1513 (by decide) rfl ?_
        refine g_cs (I' := iX6_in) (mc := 0) (ms := 0) (rc := 0) (rs := 0) (q := 20) dX6_left_17 q1514 q1515 gcX6_in (c_inM (by unfold in64; omega) (by unfold in64; omega) (by unfold in64; omega)) rfl rfl ?_
        refine g_ifneB (t := 25) (q := 23) dX6_left_20 (by decide) rfl (fun c20 => ?_) (fun c20 => ?_)
        · refine g_iload (q := 27) dX6_left_25 rfl rfl ?_
          refine g_if_ne (t := 48) (q := 30) dX6_left_27 (by decide) rfl (by first | assumption | exact in32_gB | exact in32_gCmp | (unfold in32; omega)) (fun c27 => ?_) (fun c27 => ?_)
          · refine g_aload_n (q := 49) dX6_left_48 rfl rfl ?_
            refine g_cvV (I' := iX6_copy) (mc := 0) (ms := 0) (rc := 0) (rs := 0) (ci := 7) (q := 52) dX6_left_49 q1746 q1748 rfl qs74 gcX6_copy mO (c_copy (by omega) (by omega)) rfl rfl ?_
            refine g_iconst (q := 53) dX6_left_52 rfl ?_
            refine g_istore (q := 55) dX6_left_53 gs5 rfl ?_
            exact loop days.toNat 0 B hs _ _ hh hB0 (by omega) (by omega) (by omega) rfl
          · exact absurd c27 z0
        · exact absurd z.2 c20
  · rw [if_neg z]
    show GO E iX6_left _ _ _ 0 [some (.ref am), some (vI r), some (vI n), some (vI days), some (vI v), none, none, none] [] _ _
    refine g_aload_n (q := 1) dX6_left_0 rfl rfl ?_
    refine g_iload_n (q := 2) dX6_left_1 rfl rfl ?_
    refine g_iload_n (q := 3) dX6_left_2 rfl rfl ?_
    refine g_iload_n (q := 4) dX6_left_3 rfl rfl ?_
    refine g_cv (I' := iX6_isPlan) (mc := 0) (ms := 0) (rc := 0) (rs := 0) (ci := 7) (q := 7) dX6_left_4 q1799 q1801 rfl qs77 gcX6_isPlan mO (c_isPlan h1 h2 h3 hw.2.1) rfl rfl ?_
    refine g_ifeqB (t := 23) (q := 10) dX6_left_7 (by decide) rfl (fun c7 => ?_) (fun c7 => ?_)
    · refine g_iconst (q := 24) dX6_left_23 rfl ?_
      exact g_iret dX6_left_24 rfl ⟨_, rfl, rfl, _, _, _, hbp, hbl, rfl⟩
    · refine g_iload (q := 12) dX6_left_10 rfl rfl ?_
      refine g_i2l (q := 13) dX6_left_12 (by first | assumption | exact in32_gB | exact in32_gCmp | (unfold in32; omega)) rfl ?_
      refine g_lconst0 (q := 14) dX6_left_13 rfl ?_
      refine g_ldc2 (a := 2) (q := 17) dX6_left_14 q1513 (by decide) rfl ?_
      refine g_cs (I' := iX6_in) (mc := 0) (ms := 0) (rc := 0) (rs := 0) (q := 20) dX6_left_17 q1514 q1515 gcX6_in (c_inM (by unfold in64; omega) (by unfold in64; omega) (by unfold in64; omega)) rfl rfl ?_
      refine g_ifneB (t := 25) (q := 23) dX6_left_20 (by decide) rfl (fun c20 => ?_) (fun c20 => ?_)
      · exact absurd ⟨c7, c20⟩ z
      · refine g_iconst (q := 24) dX6_left_23 rfl ?_
        exact g_iret dX6_left_24 rfl ⟨_, rfl, rfl, _, _, _, hbp, hbl, rfl⟩
end
