/-! THE REFERENCE: plans -/
set_option maxRecDepth 100000
def plN (g : Int → Int × Int → Int × Int) : Nat → Int → Int × Int → Int × Int
  | 0, _, st => st
  | f + 1, n, st => plN g f (n - 1) (g n st)
/-- a day with n readings -/
def plH (w : Int → Int) (kl kn r n : Int) (hs : Int → Int) : Int → Int := mHours w kl kn 24 (mRdN w kl kn r n.toNat hs)
def plE (dg left v : Int) (st : Int × Int) : Int × Int := if st.1 = -1 ∨ st.2 < v then (10 * dg + left, v) else st
def plD (w : Int → Int) (kl kn r : Int) : Nat → Int → Int → (Int → Int) → Int × Int → Int × Int
  | 0, left, dg, hs, st => plE dg left (mLeft w (plH w kl kn r left hs) r) st
  | D + 1, left, dg, hs, st => plN (fun n st => plD w kl kn r D (left - n) (10 * dg + n) (plH w kl kn r n hs) st) (left + 1).toNat left st
theorem HSok.plH {B : Int} {w hs : Int → Int} {kl kn r n : Int} (hw : WFw w) (hr : 0 ≤ r) (hr1 : r < w 2) (hB : 0 ≤ B) (h : HSok B hs) (h0 : 0 ≤ n) (h1 : n ≤ 8) : HSok (B + 32) (plH w kl kn r n hs) :=
  (HSok.hours (kl := kl) (kn := kn) hw 24 _ _ (HSok.rdN (kl := kl) (kn := kn) hw hr hr1 n.toNat B hs h) (by omega)).mono (by omega)
section
variable {E : gE} {d rc rs am : Nat} {G : gH}
variable {th si lo td sz pa fr tk vl fk fp hdt kl kn cd bp bl : Int} {w hs bk iW iH iB iL iS tp fv fsh lt cp md sw nd mn my wd nm mv : Int → Int}
variable {s a b r r2 i k v e B c n l left days dg : Int} {Q : Outcome → gH → Prop}
/-- a day's readings, head at 25 -/
theorem l_plans1 (hw : WFw w) (hkl : in32 kl) (hkn : in32 kn) (hr : 0 ≤ r) (hr1 : r < w 2) (hn : n ≤ 8) :
    ∀ (f : Nat) (j B : Int) (hs : Int → Int), HSok B hs → B + f ≤ 900000000 → 0 ≤ j → j + f = n →
    (∀ x6 : Option Value, GO E iX6_plans (d + 4) 0 0 43 [some (.ref am), some (vI r), some (vI left), some (vI days), some (vI dg), some (vI n), x6] [] (mH E G am th w (mRdN w kl kn r f hs) si lo bk iW iH iB iL iS tp td fv sz pa fr tk vl fk fp fsh hdt lt kl kn cp cd bp bl md sw nd mn my wd nm mv) Q) →
    GO E iX6_plans (d + 4) 0 0 25 [some (.ref am), some (vI r), some (vI left), some (vI days), some (vI dg), some (vI n), some (vI j)] [] (mH E G am th w hs si lo bk iW iH iB iL iS tp td fv sz pa fr tk vl fk fp fsh hdt lt kl kn cp cd bp bl md sw nd mn my wd nm mv) Q := by
  intro f
  induction f with
  | zero =>
    intro j B hs h h0 h1 h2 kk
    refine g_iload (q := 27) dX6_plans_25 rfl rfl ?_
    refine g_iload (q := 29) dX6_plans_27 rfl rfl ?_
    refine g_icmp_ge (t := 43) (q := 32) dX6_plans_29 (by decide) rfl (by first | assumption | exact in32_gB | exact in32_gCmp | (unfold in32; omega)) (by first | assumption | exact in32_gB | exact in32_gCmp | (unfold in32; omega)) (fun c29 => ?_) (fun c29 => ?_)
    · exact kk _
    · exact absurd c29 (by omega)
  | succ f ih =>
    intro j B hs h h0 h1 h2 kk
    refine g_iload (q := 27) dX6_plans_25 rfl rfl ?_
    refine g_iload (q := 29) dX6_plans_27 rfl rfl ?_
    refine g_icmp_ge (t := 43) (q := 32) dX6_plans_29 (by decide) rfl (by first | assumption | exact in32_gB | exact in32_gCmp | (unfold in32; omega)) (by first | assumption | exact in32_gB | exact in32_gCmp | (unfold in32; omega)) (fun c29 => ?_) (fun c29 => ?_)
    · exact absurd c29 (by omega)
    · refine g_aload_n (q := 33) dX6_plans_32 rfl rfl ?_
      refine g_iload_n (q := 34) dX6_plans_33 rfl rfl ?_
      refine g_cvV (I' := iX6_reads) (mc := 0) (ms := 0) (rc := 0) (rs := 0) (ci := 7) (q := 37) dX6_plans_34 q1678 q1680 rfl qs65 gcX6_reads mO (c_reads (d := d) hw h (by omega) hkl hkn hr hr1) rfl rfl ?_
      refine g_iinc (q := 40) dX6_plans_37 rfl gs6 rfl ?_
      refine g_goto (t := 25) dX6_plans_40 (by decide) ?_
      exact ih _ (B + 1) _ (h.reads hw hr hr1) (by omega) (by omega) (by omega) kk
/-- one day, from its copy -/
theorem l_day (hw : WFw w) (hkl : in32 kl) (hkn : in32 kn) (hr : 0 ≤ r) (hr1 : r < w 2) (hh : HSok B hs) (hB0 : 0 ≤ B) (hB : B ≤ 800000000) (h2 : 0 ≤ cd) (h3 : cd + 1 ≤ 8) (hn0 : 0 ≤ n) (hn : n ≤ 8) {x6 : Option Value}
    (kk : ∀ x6 : Option Value, GO E iX6_plans (d + 4) 0 0 49 [some (.ref am), some (vI r), some (vI left), some (vI days), some (vI dg), some (vI n), x6] [] (mH E G am th w (plH w kl kn r n hs) si lo bk iW iH iB iL iS tp td fv sz pa fr tk vl fk fp fsh hdt lt kl kn (cpyI cp hs (2018 * cd) 0 2018) (cd + 1) bp bl md sw nd mn my wd nm mv) Q) :
    GO E iX6_plans (d + 4) 0 0 18 [some (.ref am), some (vI r), some (vI left), some (vI days), some (vI dg), some (vI n), x6] [] (mH E G am th w hs si lo bk iW iH iB iL iS tp td fv sz pa fr tk vl fk fp fsh hdt lt kl kn cp cd bp bl md sw nd mn my wd nm mv) Q := by
  have hrd := HSok.rdN (kl := kl) (kn := kn) hw hr hr1 n.toNat B hs hh
  have mid : ∀ (cp : Int → Int) (cd : Int) (x6 : Option Value), (∀ x6 : Option Value, GO E iX6_plans (d + 4) 0 0 49 [some (.ref am), some (vI r), some (vI left), some (vI days), some (vI dg), some (vI n), x6] [] (mH E G am th w (plH w kl kn r n hs) si lo bk iW iH iB iL iS tp td fv sz pa fr tk vl fk fp fsh hdt lt kl kn cp cd bp bl md sw nd mn my wd nm mv) Q) → GO E iX6_plans (d + 4) 0 0 43 [some (.ref am), some (vI r), some (vI left), some (vI days), some (vI dg), some (vI n), x6] [] (mH E G am th w (mRdN w kl kn r n.toNat hs) si lo bk iW iH iB iL iS tp td fv sz pa fr tk vl fk fp fsh hdt lt kl kn cp cd bp bl md sw nd mn my wd nm mv) Q := by
    intro cp cd x6 kk
    refine g_aload_n (q := 44) dX6_plans_43 rfl rfl ?_
    refine g_bipush (q := 46) dX6_plans_44 rfl ?_
    refine g_cvV (I' := iX6_hoursGo) (mc := 0) (ms := 0) (rc := 0) (rs := 0) (ci := 7) (q := 49) dX6_plans_46 q1709 q1711 rfl qs70 gcX6_hoursGo mO (c_hoursGo (d := d) (v := 24) hw (by omega) (by omega) hkl hkn (by omega) hrd) rfl rfl ?_
    exact kk _
  refine g_aload_n (q := 19) dX6_plans_18 rfl rfl ?_
  refine g_cvV (I' := iX6_copy) (mc := 0) (ms := 0) (rc := 0) (rs := 0) (ci := 7) (q := 22) dX6_plans_19 q1746 q1748 rfl qs74 gcX6_copy mO (c_copy h2 (by omega)) rfl rfl ?_
  refine g_iconst (q := 23) dX6_plans_22 rfl ?_
  refine g_istore (q := 25) dX6_plans_23 gs6 rfl ?_
  exact l_plans1 hw hkl hkn hr hr1 hn n.toNat _ B _ hh (by omega) (by omega) (by omega) (fun x6 => mid _ _ x6 kk)
/-- a day is taken back -/
theorem l_dayback {y hs1 : Int → Int} (h2 : 0 ≤ cd) (h3 : cd + 1 ≤ 8) (hy : ∀ j, j < 2018 * (cd + 1) → y j = cpyI cp hs (2018 * cd) 0 2018 j) (hn0 : 0 ≤ n) (hn : n ≤ 8) {x6 : Option Value}
    (kk : GO E iX6_plans (d + 4) 0 0 3 [some (.ref am), some (vI r), some (vI left), some (vI days), some (vI dg), some (vI (n + -1)), x6] [] (mH E G am th w hs si lo bk iW iH iB iL iS tp td fv sz pa fr tk vl fk fp fsh hdt lt kl kn y cd bp bl md sw nd mn my wd nm mv) Q) :
    GO E iX6_plans (d + 4) 0 0 118 [some (.ref am), some (vI r), some (vI left), some (vI days), some (vI dg), some (vI n), x6] [] (mH E G am th w hs1 si lo bk iW iH iB iL iS tp td fv sz pa fr tk vl fk fp fsh hdt lt kl kn y (cd + 1) bp bl md sw nd mn my wd nm mv) Q := by
  refine g_aload_n (q := 119) dX6_plans_118 rfl rfl ?_
  refine g_cvV (I' := iX6_takeBack) (mc := 0) (ms := 0) (rc := 0) (rs := 0) (ci := 7) (q := 122) dX6_plans_119 q1750 q1752 rfl qs75 gcX6_takeBack mO (c_back (c := cd) (hs0 := hs) (by omega) (by omega) (fun j q2 q3 => by rw [hy _ (by omega), cpyI_in (by omega) (by omega)]; congr 1; omega)) rfl rfl ?_
  refine g_iinc (q := 125) dX6_plans_122 rfl gs5 rfl ?_
  refine g_goto (t := 3) dX6_plans_125 (by decide) ?_
  exact kk
theorem plE_ok {dg left v : Int} {st : Int × Int} (h5 : 0 ≤ dg ∧ dg ≤ 100000) (h0 : 0 ≤ left) (h1 : left ≤ 8) (hv : in32 v) (h6 : -1 ≤ st.1 ∧ st.1 ≤ 100000000) (h7 : in32 st.2) : (-1 ≤ (plE dg left v st).1 ∧ (plE dg left v st).1 ≤ 100000000) ∧ in32 (plE dg left v st).2 := by
  unfold plE
  by_cases c : st.1 = -1 ∨ st.2 < v
  · rw [if_pos c]; exact ⟨by show -1 ≤ 10 * dg + left ∧ 10 * dg + left ≤ 100000000; omega, hv⟩
  · rw [if_neg c]; exact ⟨h6, h7⟩
theorem c_plans (hw : WFw w) (hkl : in32 kl) (hkn : in32 kn) (hr : 0 ≤ r) (hr1 : r < w 2) :
    ∀ (D : Nat) (left days dg B cd bp bl : Int) (hs cp : Int → Int), days = D + 1 → HSok B hs → 0 ≤ B → B + 32 * D ≤ 700000000 → 0 ≤ left → left ≤ 8 → 0 ≤ cd → cd + D + 1 ≤ 8 → D ≤ 3 → (0 ≤ dg ∧ (dg + 1) * 10 ^ D ≤ 10000) → (-1 ≤ bp ∧ bp ≤ 100000000) → in32 bl →
    CALL E iX6_plans (d + D + 4) 0 0 [.ref am, vI r, vI left, vI days, vI dg] (mH E G am th w hs si lo bk iW iH iB iL iS tp td fv sz pa fr tk vl fk fp fsh hdt lt kl kn cp cd bp bl md sw nd mn my wd nm mv) (qVP fun k => (-1 ≤ (plD w kl kn r D left dg hs (bp, bl)).1 ∧ (plD w kl kn r D left dg hs (bp, bl)).1 ≤ 100000000) ∧ in32 (plD w kl kn r D left dg hs (bp, bl)).2 ∧ ∃ y, k = (mH E G am th w hs si lo bk iW iH iB iL iS tp td fv sz pa fr tk vl fk fp fsh hdt lt kl kn y cd ((plD w kl kn r D left dg hs (bp, bl)).1) ((plD w kl kn r D left dg hs (bp, bl)).2) md sw nd mn my wd nm mv) ∧ ∀ j, j < 2018 * cd → y j = cp j) := by
  intro D
  induction D with
  | zero =>
    intro left days dg B cd bp bl hs cp hdays hh hB0 hB h0 h1 h2 h3 h4 h5 h6 h7
    have hP := hh.plH (kl := kl) (kn := kn) hw hr hr1 hB0 h0 h1
    have hL := mLeft_in hw hP hr hr1
    have eq1 : plD w kl kn r 0 left dg hs (bp, bl) = plE dg left (mLeft w (plH w kl kn r left hs) r) (bp, bl) := rfl
    rw [eq1]
    obtain ⟨g1, g2⟩ := plE_ok (v := mLeft w (plH w kl kn r left hs) r) (st := (bp, bl)) (left := left) (dg := dg) (by omega) h0 h1 (by unfold in32; omega) h6 h7
    generalize eu : plE dg left (mLeft w (plH w kl kn r left hs) r) (bp, bl) = u at *
    have fin : ∀ (x6 : Option Value), GO E iX6_plans (d + 4) 0 0 118 [some (.ref am), some (vI r), some (vI left), some (vI days), some (vI dg), some (vI left), x6] [] (mH E G am th w (plH w kl kn r left hs) si lo bk iW iH iB iL iS tp td fv sz pa fr tk vl fk fp fsh hdt lt kl kn (cpyI cp hs (2018 * cd) 0 2018) (cd + 1) u.1 u.2 md sw nd mn my wd nm mv) (qVP fun k => (-1 ≤ u.1 ∧ u.1 ≤ 100000000) ∧ in32 u.2 ∧ ∃ y, k = (mH E G am th w hs si lo bk iW iH iB iL iS tp td fv sz pa fr tk vl fk fp fsh hdt lt kl kn y cd u.1 u.2 md sw nd mn my wd nm mv) ∧ ∀ j, j < 2018 * cd → y j = cp j) := by
      intro x6
      refine l_dayback h2 (by omega) (fun _ _ => rfl) h0 h1 ?_
      have last : ∀ (cp : Int → Int) (x6 : Option Value), GO E iX6_plans (d + 4) 0 0 3 [some (.ref am), some (vI r), some (vI left), some (vI days), some (vI dg), some (vI (left + -1)), x6] [] (mH E G am th w hs si lo bk iW iH iB iL iS tp td fv sz pa fr tk vl fk fp fsh hdt lt kl kn cp cd u.1 u.2 md sw nd mn my wd nm mv) (qV (mH E G am th w hs si lo bk iW iH iB iL iS tp td fv sz pa fr tk vl fk fp fsh hdt lt kl kn cp cd u.1 u.2 md sw nd mn my wd nm mv)) := by
        intro cp x6
        refine g_iload (q := 5) dX6_plans_3 rfl rfl ?_
        refine g_iload_n (q := 6) dX6_plans_5 rfl rfl ?_
        refine g_iconst (q := 7) dX6_plans_6 rfl ?_
        refine g_icmp_ne (t := 14) (q := 10) dX6_plans_7 (by decide) rfl (by first | assumption | exact in32_gB | exact in32_gCmp | (unfold in32; omega)) (by first | assumption | exact in32_gB | exact in32_gCmp | (unfold in32; omega)) (fun c7 => ?_) (fun c7 => ?_)
        · exact absurd hdays c7
        · refine g_iload_n (q := 11) dX6_plans_10 rfl rfl ?_
          refine g_goto (t := 15) dX6_plans_11 (by decide) ?_
          refine g_icmp_lt (t := 128) (q := 18) dX6_plans_15 (by decide) rfl (by first | assumption | exact in32_gB | exact in32_gCmp | (unfold in32; omega)) (by first | assumption | exact in32_gB | exact in32_gCmp | (unfold in32; omega)) (fun c15 => ?_) (fun c15 => ?_)
          · exact g_vret dX6_plans_128 rfl ⟨rfl, rfl⟩
          · exact absurd c15 (by omega)
      exact GO.mono (last _ _) fun o k hq => ⟨hq.1, g1, g2, _, hq.2, fun j hj => cpyI_out (by omega)⟩
    have day : ∀ (x6 : Option Value), GO E iX6_plans (d + 4) 0 0 49 [some (.ref am), some (vI r), some (vI left), some (vI days), some (vI dg), some (vI left), x6] [] (mH E G am th w (plH w kl kn r left hs) si lo bk iW iH iB iL iS tp td fv sz pa fr tk vl fk fp fsh hdt lt kl kn (cpyI cp hs (2018 * cd) 0 2018) (cd + 1) bp bl md sw nd mn my wd nm mv) (qVP fun k => (-1 ≤ u.1 ∧ u.1 ≤ 100000000) ∧ in32 u.2 ∧ ∃ y, k = (mH E G am th w hs si lo bk iW iH iB iL iS tp td fv sz pa fr tk vl fk fp fsh hdt lt kl kn y cd u.1 u.2 md sw nd mn my wd nm mv) ∧ ∀ j, j < 2018 * cd → y j = cp j) := by
      intro x6
      have hset : bp = -1 ∨ bl < mLeft w (plH w kl kn r left hs) r → u = (10 * dg + left, mLeft w (plH w kl kn r left hs) r) := fun c => by rw [← eu]; exact if_pos c
      have hkeep : ¬ (bp = -1 ∨ bl < mLeft w (plH w kl kn r left hs) r) → u = (bp, bl) := fun c => by rw [← eu]; exact if_neg c
      refine g_iload_n (q := 50) dX6_plans_49 rfl rfl ?_
      refine g_iconst (q := 51) dX6_plans_50 rfl ?_
      refine g_icmp_le (t := 77) (q := 54) dX6_plans_51 (by decide) rfl (by first | assumption | exact in32_gB | exact in32_gCmp | (unfold in32; omega)) (by first | assumption | exact in32_gB | exact in32_gCmp | (unfold in32; omega)) (fun c51 => ?_) (fun c51 => ?_)
      · refine g_aload_n (q := 78) dX6_plans_77 rfl rfl ?_
        refine gm_get (k := 28) (q := 81) dX6_plans_78 q1422 (by decide) rfl rfl ?_
        refine g_iconst (q := 82) dX6_plans_81 rfl ?_
        refine g_icmp_eq (t := 97) (q := 85) dX6_plans_82 (by decide) rfl (by first | assumption | exact in32_gB | exact in32_gCmp | (unfold in32; omega)) (by first | assumption | exact in32_gB | exact in32_gCmp | (unfold in32; omega)) (fun c82 => ?_) (fun c82 => ?_)
        · refine g_aload_n (q := 98) dX6_plans_97 rfl rfl ?_
          refine g_bipush (q := 100) dX6_plans_98 rfl ?_
          refine g_iload (q := 102) dX6_plans_100 rfl rfl ?_
          refine g_imul (q := 103) dX6_plans_102 rfl ?_
          refine g_iload (q := 105) dX6_plans_103 rfl rfl ?_
          refine g_iadd (q := 106) dX6_plans_105 rfl ?_
          refine gm_put28 (q := 109) dX6_plans_106 q1422 rfl ?_
          refine g_aload_n (q := 110) dX6_plans_109 rfl rfl ?_
          refine g_aload_n (q := 111) dX6_plans_110 rfl rfl ?_
          refine g_iload_n (q := 112) dX6_plans_111 rfl rfl ?_
          refine g_cv (I' := iX6_leftOf) (mc := 0) (ms := 0) (rc := 0) (rs := 0) (ci := 7) (q := 115) dX6_plans_112 q1809 q1811 rfl qs79 gcX6_leftOf mO (c_leftOf (d := d + 1) hw hP hr hr1) rfl rfl ?_
          refine gm_put29 (q := 118) dX6_plans_115 q1423 rfl ?_
          by_cases q9 : bp = -1 ∨ bl < mLeft w (plH w kl kn r left hs) r
          · obtain rfl := hset q9
            first | exact fin _ | (exfalso; omega)
          · obtain rfl := hkeep q9
            first | exact fin _ | (exfalso; omega)
        · refine g_aload_n (q := 86) dX6_plans_85 rfl rfl ?_
          refine g_iload_n (q := 87) dX6_plans_86 rfl rfl ?_
          refine g_cv (I' := iX6_leftOf) (mc := 0) (ms := 0) (rc := 0) (rs := 0) (ci := 7) (q := 90) dX6_plans_87 q1809 q1811 rfl qs79 gcX6_leftOf mO (c_leftOf (d := d + 1) hw hP hr hr1) rfl rfl ?_
          refine g_aload_n (q := 91) dX6_plans_90 rfl rfl ?_
          refine gm_get (k := 29) (q := 94) dX6_plans_91 q1423 (by decide) rfl rfl ?_
          refine g_icmp_le (t := 118) (q := 97) dX6_plans_94 (by decide) rfl (by first | assumption | exact in32_gB | exact in32_gCmp | (unfold in32; omega)) (by first | assumption | exact in32_gB | exact in32_gCmp | (unfold in32; omega)) (fun c94 => ?_) (fun c94 => ?_)
          · by_cases q9 : bp = -1 ∨ bl < mLeft w (plH w kl kn r left hs) r
            · obtain rfl := hset q9
              first | exact fin _ | (exfalso; omega)
            · obtain rfl := hkeep q9
              first | exact fin _ | (exfalso; omega)
          · refine g_aload_n (q := 98) dX6_plans_97 rfl rfl ?_
            refine g_bipush (q := 100) dX6_plans_98 rfl ?_
            refine g_iload (q := 102) dX6_plans_100 rfl rfl ?_
            refine g_imul (q := 103) dX6_plans_102 rfl ?_
            refine g_iload (q := 105) dX6_plans_103 rfl rfl ?_
            refine g_iadd (q := 106) dX6_plans_105 rfl ?_
            refine gm_put28 (q := 109) dX6_plans_106 q1422 rfl ?_
            refine g_aload_n (q := 110) dX6_plans_109 rfl rfl ?_
            refine g_aload_n (q := 111) dX6_plans_110 rfl rfl ?_
            refine g_iload_n (q := 112) dX6_plans_111 rfl rfl ?_
            refine g_cv (I' := iX6_leftOf) (mc := 0) (ms := 0) (rc := 0) (rs := 0) (ci := 7) (q := 115) dX6_plans_112 q1809 q1811 rfl qs79 gcX6_leftOf mO (c_leftOf (d := d + 1) hw hP hr hr1) rfl rfl ?_
            refine gm_put29 (q := 118) dX6_plans_115 q1423 rfl ?_
            by_cases q9 : bp = -1 ∨ bl < mLeft w (plH w kl kn r left hs) r
            · obtain rfl := hset q9
              first | exact fin _ | (exfalso; omega)
            · obtain rfl := hkeep q9
              first | exact fin _ | (exfalso; omega)
      · exact absurd c51 (by omega)
    show GO E iX6_plans _ _ _ 0 [some (.ref am), some (vI r), some (vI left), some (vI days), some (vI dg), none, none] [] _ _
    refine g_iload_n (q := 1) dX6_plans_0 rfl rfl ?_
    refine g_istore (q := 3) dX6_plans_1 gs5 rfl ?_
    refine g_iload (q := 5) dX6_plans_3 rfl rfl ?_
    refine g_iload_n (q := 6) dX6_plans_5 rfl rfl ?_
    refine g_iconst (q := 7) dX6_plans_6 rfl ?_
    refine g_icmp_ne (t := 14) (q := 10) dX6_plans_7 (by decide) rfl (by first | assumption | exact in32_gB | exact in32_gCmp | (unfold in32; omega)) (by first | assumption | exact in32_gB | exact in32_gCmp | (unfold in32; omega)) (fun c7 => ?_) (fun c7 => ?_)
    · exact absurd hdays c7
    · refine g_iload_n (q := 11) dX6_plans_10 rfl rfl ?_
      refine g_goto (t := 15) dX6_plans_11 (by decide) ?_
      refine g_icmp_lt (t := 128) (q := 18) dX6_plans_15 (by decide) rfl (by first | assumption | exact in32_gB | exact in32_gCmp | (unfold in32; omega)) (by first | assumption | exact in32_gB | exact in32_gCmp | (unfold in32; omega)) (fun c15 => ?_) (fun c15 => ?_)
      · exact absurd c15 (by omega)
      · exact l_day hw hkl hkn hr hr1 hh hB0 (by omega) h2 (by omega) h0 h1 day
  | succ D ihD =>
    intro left days dg B cd bp bl hs cp hdays hh hB0 hB h0 h1 h2 h3 h4 h5 h6 h7
    have hpow : (1 : Int) ≤ 10 ^ D := by
      have q : D = 0 ∨ D = 1 ∨ D = 2 := by omega
      rcases q with rfl | rfl | rfl <;> decide
    have hdg1 : dg ≤ 10000 := by
      have q2 : (dg + 1) * 10 ^ (D + 1) = 10 * ((dg + 1) * 10 ^ D) := by rw [Int.pow_succ]; ac_rfl
      have := Int.mul_le_mul_of_nonneg_left hpow (show 0 ≤ dg + 1 by omega)
      omega
    have loop : ∀ (f : Nat) (n bp bl : Int) (cp : Int → Int) (x6 : Option Value), n + 1 = f → n ≤ left → (-1 ≤ bp ∧ bp ≤ 100000000) → in32 bl →
        GO E iX6_plans (d + D + 1 + 4) 0 0 3 [some (.ref am), some (vI r), some (vI left), some (vI days), some (vI dg), some (vI n), x6] [] (mH E G am th w hs si lo bk iW iH iB iL iS tp td fv sz pa fr tk vl fk fp fsh hdt lt kl kn cp cd bp bl md sw nd mn my wd nm mv) (qVP fun k => ∀ u : Int × Int, u = plN (fun n st => plD w kl kn r D (left - n) (10 * dg + n) (plH w kl kn r n hs) st) f n (bp, bl) → (-1 ≤ u.1 ∧ u.1 ≤ 100000000) ∧ in32 u.2 ∧ ∃ y, k = (mH E G am th w hs si lo bk iW iH iB iL iS tp td fv sz pa fr tk vl fk fp fsh hdt lt kl kn y cd u.1 u.2 md sw nd mn my wd nm mv) ∧ ∀ j, j < 2018 * cd → y j = cp j) := by
      intro f
      induction f with
      | zero =>
        intro n bp bl cp x6 e1 e2 e3 e4
        refine g_iload (q := 5) dX6_plans_3 rfl rfl ?_
        refine g_iload_n (q := 6) dX6_plans_5 rfl rfl ?_
        refine g_iconst (q := 7) dX6_plans_6 rfl ?_
        refine g_icmp_ne (t := 14) (q := 10) dX6_plans_7 (by decide) rfl (by first | assumption | exact in32_gB | exact in32_gCmp | (unfold in32; omega)) (by first | assumption | exact in32_gB | exact in32_gCmp | (unfold in32; omega)) (fun c7 => ?_) (fun c7 => ?_)
        · refine g_iconst (q := 15) dX6_plans_14 rfl ?_
          refine g_icmp_lt (t := 128) (q := 18) dX6_plans_15 (by decide) rfl (by first | assumption | exact in32_gB | exact in32_gCmp | (unfold in32; omega)) (by first | assumption | exact in32_gB | exact in32_gCmp | (unfold in32; omega)) (fun c15 => ?_) (fun c15 => ?_)
          · exact g_vret dX6_plans_128 rfl ⟨rfl, fun u hu => by subst hu; exact ⟨e3, e4, _, rfl, fun _ _ => rfl⟩⟩
          · exact absurd c15 (by omega)
        · exact absurd c7 (by omega)
      | succ f ih =>
        intro n bp bl cp x6 e1 e2 e3 e4
        have hn8 : n ≤ 8 := by omega
        have hn0 : 0 ≤ n := by omega
        have hP := hh.plH (kl := kl) (kn := kn) hw hr hr1 hB0 hn0 hn8
        have hdn : (10 * dg + n + 1) * 10 ^ D ≤ 10000 := by
          have q1 : (10 * dg + n + 1) * 10 ^ D ≤ (10 * (dg + 1)) * 10 ^ D := Int.mul_le_mul_of_nonneg_right (by omega) (by omega)
          have q2 : (10 * (dg + 1)) * 10 ^ D = (dg + 1) * 10 ^ (D + 1) := by rw [Int.pow_succ]; ac_rfl
          omega
        have hc := ihD (left - n) (days - 1) (10 * dg + n) (B + 32) (cd + 1) bp bl (plH w kl kn r n hs) (cpyI cp hs (2018 * cd) 0 2018) (by omega) hP (by omega) (by omega) (by omega) (by omega) (by omega) (by omega) (by omega) ⟨by omega, hdn⟩ e3 e4
        have next : ∀ (u : Int × Int) (y : Int → Int) (x6 : Option Value), u = plD w kl kn r D (left - n) (10 * dg + n) (plH w kl kn r n hs) (bp, bl) → (-1 ≤ u.1 ∧ u.1 ≤ 100000000) → in32 u.2 → (∀ j, j < 2018 * (cd + 1) → y j = cpyI cp hs (2018 * cd) 0 2018 j) →
          GO E iX6_plans (d + D + 1 + 4) 0 0 118 [some (.ref am), some (vI r), some (vI left), some (vI days), some (vI dg), some (vI n), x6] [] (mH E G am th w (plH w kl kn r n hs) si lo bk iW iH iB iL iS tp td fv sz pa fr tk vl fk fp fsh hdt lt kl kn y (cd + 1) u.1 u.2 md sw nd mn my wd nm mv) (qVP fun k => ∀ u : Int × Int, u = plN (fun n st => plD w kl kn r D (left - n) (10 * dg + n) (plH w kl kn r n hs) st) (f + 1) n (bp, bl) → (-1 ≤ u.1 ∧ u.1 ≤ 100000000) ∧ in32 u.2 ∧ ∃ y, k = (mH E G am th w hs si lo bk iW iH iB iL iS tp td fv sz pa fr tk vl fk fp fsh hdt lt kl kn y cd u.1 u.2 md sw nd mn my wd nm mv) ∧ ∀ j, j < 2018 * cd → y j = cp j) := by
          intro u y x6 hu g1 g2 g3
          refine l_dayback h2 (by omega) g3 hn0 hn8 ?_
          refine GO.mono (ih (n + -1) u.1 u.2 y x6 (by omega) (by omega) g1 g2) fun o k hq => ⟨hq.1, fun v hv => ?_⟩
          obtain ⟨a1, a2, z, a3, a4⟩ := hq.2 v (by rw [hv, hu]; rfl)
          exact ⟨a1, a2, z, a3, fun j hj => by rw [a4 j hj, g3 j (by omega)]; exact cpyI_out (by omega)⟩
        have day : ∀ x6 : Option Value, GO E iX6_plans (d + D + 1 + 4) 0 0 49 [some (.ref am), some (vI r), some (vI left), some (vI days), some (vI dg), some (vI n), x6] [] (mH E G am th w (plH w kl kn r n hs) si lo bk iW iH iB iL iS tp td fv sz pa fr tk vl fk fp fsh hdt lt kl kn (cpyI cp hs (2018 * cd) 0 2018) (cd + 1) bp bl md sw nd mn my wd nm mv) (qVP fun k => ∀ u : Int × Int, u = plN (fun n st => plD w kl kn r D (left - n) (10 * dg + n) (plH w kl kn r n hs) st) (f + 1) n (bp, bl) → (-1 ≤ u.1 ∧ u.1 ≤ 100000000) ∧ in32 u.2 ∧ ∃ y, k = (mH E G am th w hs si lo bk iW iH iB iL iS tp td fv sz pa fr tk vl fk fp fsh hdt lt kl kn y cd u.1 u.2 md sw nd mn my wd nm mv) ∧ ∀ j, j < 2018 * cd → y j = cp j) := by
          intro x6
          refine g_iload_n (q := 50) dX6_plans_49 rfl rfl ?_
          refine g_iconst (q := 51) dX6_plans_50 rfl ?_
          refine g_icmp_le (t := 77) (q := 54) dX6_plans_51 (by decide) rfl (by first | assumption | exact in32_gB | exact in32_gCmp | (unfold in32; omega)) (by first | assumption | exact in32_gB | exact in32_gCmp | (unfold in32; omega)) (fun c51 => ?_) (fun c51 => ?_)
          · exact absurd c51 (by omega)
          · refine g_aload_n (q := 55) dX6_plans_54 rfl rfl ?_
            refine g_iload_n (q := 56) dX6_plans_55 rfl rfl ?_
            refine g_iload_n (q := 57) dX6_plans_56 rfl rfl ?_
            refine g_iload (q := 59) dX6_plans_57 rfl rfl ?_
            refine g_isub (q := 60) dX6_plans_59 rfl ?_
            refine g_iload_n (q := 61) dX6_plans_60 rfl rfl ?_
            refine g_iconst (q := 62) dX6_plans_61 rfl ?_
            refine g_isub (q := 63) dX6_plans_62 rfl ?_
            refine g_bipush (q := 65) dX6_plans_63 rfl ?_
            refine g_iload (q := 67) dX6_plans_65 rfl rfl ?_
            refine g_imul (q := 68) dX6_plans_67 rfl ?_
            refine g_iload (q := 70) dX6_plans_68 rfl rfl ?_
            refine g_iadd (q := 71) dX6_plans_70 rfl ?_
            refine g_cvVP (I' := iX6_plans) (mc := 0) (ms := 0) (rc := 0) (rs := 0) (ci := 7) (q := 74) dX6_plans_71 q1805 q1807 rfl qs78 gcX6_plans mO (hc) rfl rfl (fun k71 z71 => ?_)
            obtain ⟨g1, g2, y, rfl, g3⟩ := z71
            refine g_goto (t := 118) dX6_plans_74 (by decide) ?_
            exact next _ y _ rfl g1 g2 g3
        refine g_iload (q := 5) dX6_plans_3 rfl rfl ?_
        refine g_iload_n (q := 6) dX6_plans_5 rfl rfl ?_
        refine g_iconst (q := 7) dX6_plans_6 rfl ?_
        refine g_icmp_ne (t := 14) (q := 10) dX6_plans_7 (by decide) rfl (by first | assumption | exact in32_gB | exact in32_gCmp | (unfold in32; omega)) (by first | assumption | exact in32_gB | exact in32_gCmp | (unfold in32; omega)) (fun c7 => ?_) (fun c7 => ?_)
        · refine g_iconst (q := 15) dX6_plans_14 rfl ?_
          refine g_icmp_lt (t := 128) (q := 18) dX6_plans_15 (by decide) rfl (by first | assumption | exact in32_gB | exact in32_gCmp | (unfold in32; omega)) (by first | assumption | exact in32_gB | exact in32_gCmp | (unfold in32; omega)) (fun c15 => ?_) (fun c15 => ?_)
          · exact absurd c15 (by omega)
          · refine l_day hw hkl hkn hr hr1 hh hB0 (by omega) h2 (by omega) hn0 hn8 fun x6 => ?_
            exact day x6
        · exact absurd c7 (by omega)
    show GO E iX6_plans _ _ _ 0 [some (.ref am), some (vI r), some (vI left), some (vI days), some (vI dg), none, none] [] _ _
    refine g_iload_n (q := 1) dX6_plans_0 rfl rfl ?_
    refine g_istore (q := 3) dX6_plans_1 gs5 rfl ?_
    refine GO.mono (loop (left + 1).toNat left bp bl cp none (by omega) (by omega) h6 h7) fun o k hq => ⟨hq.1, hq.2 _ rfl⟩
end
