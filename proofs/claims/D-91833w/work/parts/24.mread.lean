/-! THE REFERENCE: readings, hours -/
set_option maxRecDepth 100000
section
variable {E : gE} {d rc rs am : Nat} {G : gH}
variable {th si lo td sz pa fr tk vl fk fp hdt kl kn cd bp bl : Int} {w hs bk iW iH iB iL iS tp fv fsh lt cp md sw nd mn my wd nm mv : Int → Int}
variable {s a b r i k v e B c : Int} {Q : Outcome → gH → Prop}
theorem c_grows (hw : WFw w) (hh : HSok B hs) (hB : B ≤ 1000000000) (hkl : in32 kl) (hkn : in32 kn) (h0 : 0 ≤ s) (h1 : s ≤ 3) (ha : 0 ≤ a) (ha1 : a < 24) (hb : 0 ≤ b) (hb1 : b < 24) (hb2 : s = 3 → b < 12) (he0 : 0 ≤ e) (he1 : e < 24) :
    CALL E iX6_grows (d + 2) 0 0 [.ref am, vI s, vI a, vI b, vI e] (mH E G am th w hs si lo bk iW iH iB iL iS tp td fv sz pa fr tk vl fk fp fsh hdt lt kl kn cp cd bp bl md sw nd mn my wd nm mv) (qV (mH E G am th w (mGrow w hs kl kn s a b e) si lo bk iW iH iB iL iS tp td fv sz pa fr tk vl fk fp fsh hdt lt kl kn cp cd bp bl md sw nd mn my wd nm mv)) := by
  have hk := lk_in h0 h1 ha ha1 hb hb1 hb2
  have hx := hh.1 _ hk.1 hk.2
  have hc := comes_in (w := w) (hs := hs) (kl := kl) (law := s) (has := hs (lkA s a b)) (ea := w (10 + e)) hkn
  have hE := hw.easy he0 he1
  show GO E iX6_grows _ _ _ 0 [some (.ref am), some (vI s), some (vI a), some (vI b), some (vI e), none] [] _ _
  refine g_iload_n (q := 1) dX6_grows_0 rfl rfl ?_
  refine g_iload_n (q := 2) dX6_grows_1 rfl rfl ?_
  refine g_iload_n (q := 3) dX6_grows_2 rfl rfl ?_
  refine g_cs (I' := iX6_linkAt) (mc := 0) (ms := 0) (rc := 0) (rs := 0) (q := 6) dX6_grows_3 q1672 q1673 gcX6_linkAt (c_linkAt (by unfold in32; omega)) rfl rfl ?_
  refine g_istore (q := 8) dX6_grows_6 gs5 rfl ?_
  refine g_aload_n (q := 9) dX6_grows_8 rfl rfl ?_
  refine g_iload (q := 11) dX6_grows_9 rfl rfl ?_
  refine g_aload_n (q := 12) dX6_grows_11 rfl rfl ?_
  refine g_iload_n (q := 13) dX6_grows_12 rfl rfl ?_
  refine g_aload_n (q := 14) dX6_grows_13 rfl rfl ?_
  refine gm_get (k := 2) (q := 17) dX6_grows_14 q1396 (by decide) rfl rfl ?_
  refine g_iload (q := 19) dX6_grows_17 rfl rfl ?_
  refine g_iald (q := 20) dX6_grows_19 mA2 (by omega) (by omega) rfl ?_
  refine g_aload_n (q := 21) dX6_grows_20 rfl rfl ?_
  refine gm_get (k := 1) (q := 24) dX6_grows_21 q1395 (by decide) rfl rfl ?_
  refine g_bipush (q := 26) dX6_grows_24 rfl ?_
  refine g_iload (q := 28) dX6_grows_26 rfl rfl ?_
  refine g_iadd (q := 29) dX6_grows_28 rfl ?_
  refine g_iald (q := 30) dX6_grows_29 mA1 (by omega) (by omega) rfl ?_
  refine g_cv (I' := iX6_comesTo) (mc := 0) (ms := 0) (rc := 0) (rs := 0) (ci := 7) (q := 33) dX6_grows_30 q1637 q1639 rfl qs58 gcX6_comesTo mO (c_comesTo (d := d) hw hh hB h0 (by omega) hkl hkn hx hE) rfl rfl ?_
  refine g_cvV (I' := iX6_changes) (mc := 0) (ms := 0) (rc := 0) (rs := 0) (ci := 7) (q := 36) dX6_grows_33 q1686 q1688 rfl qs67 gcX6_changes mO (c_changes (d := d) hk.1 hk.2 hh hc) rfl rfl ?_
  exact g_vret dX6_grows_36 rfl ⟨rfl, rfl⟩
/-- a mix's loop, head at 85 -/
theorem l_reads2 (hw : WFw w) (hB : B ≤ 1000000000) (hkl : in32 kl) (hkn : in32 kn) (ha : 0 ≤ a) (ha1 : a < 24) (hb : 0 ≤ b) (hb1 : b < 24) :
    ∀ (n : Nat) (c : Int) (hs : Int → Int) (x6 : Option Value), HSok B hs → 0 ≤ c → c + n = w 1 →
    (∀ (x5 x6 : Option Value), GO E iX6_reads (d + 2) 0 0 158 [some (.ref am), some (vI r), some (vI i), some (vI b), some (vI a), x5, x6] [] (mH E G am th w (mMixL w kl kn a b n c hs) si lo bk iW iH iB iL iS tp td fv sz pa fr tk vl fk fp fsh hdt lt kl kn cp cd bp bl md sw nd mn my wd nm mv) Q) →
    GO E iX6_reads (d + 2) 0 0 85 [some (.ref am), some (vI r), some (vI i), some (vI b), some (vI a), some (vI c), x6] [] (mH E G am th w hs si lo bk iW iH iB iL iS tp td fv sz pa fr tk vl fk fp fsh hdt lt kl kn cp cd bp bl md sw nd mn my wd nm mv) Q := by
  intro n
  have hn := hw.1
  induction n with
  | zero =>
    intro c hs x6 hh h0 h1 kk
    refine g_iload (q := 87) dX6_reads_85 rfl rfl ?_
    refine g_aload_n (q := 88) dX6_reads_87 rfl rfl ?_
    refine gm_get (k := 1) (q := 91) dX6_reads_88 q1395 (by decide) rfl rfl ?_
    refine g_iconst (q := 92) dX6_reads_91 rfl ?_
    refine g_iald (q := 93) dX6_reads_92 mA1 (by omega) (by omega) rfl ?_
    refine g_icmp_ge (t := 158) (q := 96) dX6_reads_93 (by decide) rfl (by first | assumption | exact in32_gB | exact in32_gCmp | (unfold in32; omega)) (by first | assumption | exact in32_gB | exact in32_gCmp | (unfold in32; omega)) (fun c93 => ?_) (fun c93 => ?_)
    · exact kk _ _
    · exact absurd c93 (by omega)
  | succ n ih =>
    intro c hs x6 hh h0 h1 kk
    have hk := lk_in (s := 0) (a := a) (b := c) (by omega) (by omega) ha ha1 h0 (by omega) (by omega)
    have hx := hh.1 _ hk.1 hk.2
    have hE := hw.easy h0 (show c < 24 by omega)
    have hc := comes_in (w := w) (hs := hs) (kl := kl) (law := 8) (has := hs (lkA 0 a c)) (ea := w (10 + c)) hkn
    have eq1 : mMixL w kl kn a b (n + 1) c hs = mMixL w kl kn a b n (c + 1) (if c ≠ b ∧ 0 < hs (lkA 0 a c) then mChg hs (lkA 0 a c) (-(comes w hs kl kn 8 (hs (lkA 0 a c)) (w (10 + c)))) else hs) := rfl
    rw [eq1] at kk
    refine g_iload (q := 87) dX6_reads_85 rfl rfl ?_
    refine g_aload_n (q := 88) dX6_reads_87 rfl rfl ?_
    refine gm_get (k := 1) (q := 91) dX6_reads_88 q1395 (by decide) rfl rfl ?_
    refine g_iconst (q := 92) dX6_reads_91 rfl ?_
    refine g_iald (q := 93) dX6_reads_92 mA1 (by omega) (by omega) rfl ?_
    refine g_icmp_ge (t := 158) (q := 96) dX6_reads_93 (by decide) rfl (by first | assumption | exact in32_gB | exact in32_gCmp | (unfold in32; omega)) (by first | assumption | exact in32_gB | exact in32_gCmp | (unfold in32; omega)) (fun c93 => ?_) (fun c93 => ?_)
    · exact absurd c93 (by omega)
    · refine g_iconst (q := 97) dX6_reads_96 rfl ?_
      refine g_iload (q := 99) dX6_reads_97 rfl rfl ?_
      refine g_iload (q := 101) dX6_reads_99 rfl rfl ?_
      refine g_cs (I' := iX6_linkAt) (mc := 0) (ms := 0) (rc := 0) (rs := 0) (q := 104) dX6_reads_101 q1672 q1673 gcX6_linkAt (c_linkAt (by unfold in32; omega)) rfl rfl ?_
      refine g_istore (q := 106) dX6_reads_104 gs6 rfl ?_
      refine g_iload (q := 108) dX6_reads_106 rfl rfl ?_
      refine g_iload_n (q := 109) dX6_reads_108 rfl rfl ?_
      refine g_icmp_eq (t := 152) (q := 112) dX6_reads_109 (by decide) rfl (by first | assumption | exact in32_gB | exact in32_gCmp | (unfold in32; omega)) (by first | assumption | exact in32_gB | exact in32_gCmp | (unfold in32; omega)) (fun c109 => ?_) (fun c109 => ?_)
      · first
          | rw [if_neg (show ¬ (c ≠ b ∧ 0 < hs (lkA 0 a c)) by omega)] at kk
          | rw [if_pos (show c ≠ b ∧ 0 < hs (lkA 0 a c) by omega)] at kk
        refine g_iinc (q := 155) dX6_reads_152 rfl gs5 rfl ?_
        refine g_goto (t := 85) dX6_reads_155 (by decide) ?_
        exact ih _ _ _ (by first | exact hh.chg hk.1 hk.2 | exact hh) (by omega) (by omega) kk
      · refine g_aload_n (q := 113) dX6_reads_112 rfl rfl ?_
        refine gm_get (k := 2) (q := 116) dX6_reads_113 q1396 (by decide) rfl rfl ?_
        refine g_iload (q := 118) dX6_reads_116 rfl rfl ?_
        refine g_iald (q := 119) dX6_reads_118 mA2 (by omega) (by omega) rfl ?_
        refine g_if_le (t := 152) (q := 122) dX6_reads_119 (by decide) rfl (by first | assumption | exact in32_gB | exact in32_gCmp | (unfold in32; omega)) (fun c119 => ?_) (fun c119 => ?_)
        · first
            | rw [if_neg (show ¬ (c ≠ b ∧ 0 < hs (lkA 0 a c)) by omega)] at kk
            | rw [if_pos (show c ≠ b ∧ 0 < hs (lkA 0 a c) by omega)] at kk
          refine g_iinc (q := 155) dX6_reads_152 rfl gs5 rfl ?_
          refine g_goto (t := 85) dX6_reads_155 (by decide) ?_
          exact ih _ _ _ (by first | exact hh.chg hk.1 hk.2 | exact hh) (by omega) (by omega) kk
        · refine g_aload_n (q := 123) dX6_reads_122 rfl rfl ?_
          refine g_iload (q := 125) dX6_reads_123 rfl rfl ?_
          refine g_aload_n (q := 126) dX6_reads_125 rfl rfl ?_
          refine g_bipush (q := 128) dX6_reads_126 rfl ?_
          refine g_aload_n (q := 129) dX6_reads_128 rfl rfl ?_
          refine gm_get (k := 2) (q := 132) dX6_reads_129 q1396 (by decide) rfl rfl ?_
          refine g_iload (q := 134) dX6_reads_132 rfl rfl ?_
          refine g_iald (q := 135) dX6_reads_134 mA2 (by omega) (by omega) rfl ?_
          refine g_aload_n (q := 136) dX6_reads_135 rfl rfl ?_
          refine gm_get (k := 1) (q := 139) dX6_reads_136 q1395 (by decide) rfl rfl ?_
          refine g_bipush (q := 141) dX6_reads_139 rfl ?_
          refine g_iload (q := 143) dX6_reads_141 rfl rfl ?_
          refine g_iadd (q := 144) dX6_reads_143 rfl ?_
          refine g_iald (q := 145) dX6_reads_144 mA1 (by omega) (by omega) rfl ?_
          refine g_cv (I' := iX6_comesTo) (mc := 0) (ms := 0) (rc := 0) (rs := 0) (ci := 7) (q := 148) dX6_reads_145 q1637 q1639 rfl qs58 gcX6_comesTo mO (c_comesTo (d := d) hw hh hB (by omega) (by omega) hkl hkn hx hE) rfl rfl ?_
          refine g_lneg (q := 149) dX6_reads_148 rfl ?_
          refine g_cvV (I' := iX6_changes) (mc := 0) (ms := 0) (rc := 0) (rs := 0) (ci := 7) (q := 152) dX6_reads_149 q1686 q1688 rfl qs67 gcX6_changes mO (c_changes (d := d) hk.1 hk.2 hh (by omega)) rfl rfl ?_
          first
            | rw [if_neg (show ¬ (c ≠ b ∧ 0 < hs (lkA 0 a c)) by omega)] at kk
            | rw [if_pos (show c ≠ b ∧ 0 < hs (lkA 0 a c) by omega)] at kk
          refine g_iinc (q := 155) dX6_reads_152 rfl gs5 rfl ?_
          refine g_goto (t := 85) dX6_reads_155 (by decide) ?_
          exact ih _ _ _ (by first | exact hh.chg hk.1 hk.2 | exact hh) (by omega) (by omega) kk
/-- the readings' loop, head at 2 -/
theorem l_reads1 (hw : WFw w) (hB : B ≤ 1000000000) (hkl : in32 kl) (hkn : in32 kn) (hr : 0 ≤ r) (hr1 : r < w 2) :
    ∀ (n : Nat) (i : Int) (hs : Int → Int) (x3 x4 x5 x6 : Option Value), HSok B hs → 0 ≤ i → i + n = w (34 + 14 * r) →
    (∀ (x2 x3 x4 x5 x6 : Option Value), GO E iX6_reads (d + 3) 0 0 164 [some (.ref am), some (vI r), x2, x3, x4, x5, x6] [] (mH E G am th w (mRdL w kl kn r n i hs) si lo bk iW iH iB iL iS tp td fv sz pa fr tk vl fk fp fsh hdt lt kl kn cp cd bp bl md sw nd mn my wd nm mv) Q) →
    GO E iX6_reads (d + 3) 0 0 2 [some (.ref am), some (vI r), some (vI i), x3, x4, x5, x6] [] (mH E G am th w hs si lo bk iW iH iB iL iS tp td fv sz pa fr tk vl fk fp fsh hdt lt kl kn cp cd bp bl md sw nd mn my wd nm mv) Q := by
  intro n
  have hn := hw.1
  have hn2 := hw.2.1
  have hrow := hw.row hr hr1
  induction n with
  | zero =>
    intro i hs x3 x4 x5 x6 hh h0 h1 kk
    refine g_iload_n (q := 3) dX6_reads_2 rfl rfl ?_
    refine g_aload_n (q := 4) dX6_reads_3 rfl rfl ?_
    refine g_iload_n (q := 5) dX6_reads_4 rfl rfl ?_
    refine g_cv (I' := iX6_manyOf) (mc := 0) (ms := 0) (rc := 0) (rs := 0) (ci := 7) (q := 8) dX6_reads_5 q1660 q1662 rfl qs62 gcX6_manyOf mO (c_manyOf hr (by omega)) rfl rfl ?_
    refine g_icmp_ge (t := 164) (q := 11) dX6_reads_8 (by decide) rfl (by first | assumption | exact in32_gB | exact in32_gCmp | (unfold in32; omega)) (by first | assumption | exact in32_gB | exact in32_gCmp | (unfold in32; omega)) (fun c8 => ?_) (fun c8 => ?_)
    · exact kk _ _ _ _ _
    · exact absurd c8 (by omega)
  | succ n ih =>
    intro i hs x3 x4 x5 x6 hh h0 h1 kk
    have tb := hw.thing hr hr1 h0 (show i < w (34 + 14 * r) by omega)
    have g0 := hh.rdI (kl := kl) (kn := kn) hw hr hr1 h0 (by omega)
    have hG := hh.grow (w := w) (kl := kl) (kn := kn) (s := 3) (a := w (34 + 14 * r + 1 + i)) (b := i) (e := w (34 + 14 * r + 1 + i)) (by omega) (by omega) tb.1 (by omega) h0 (by omega) (by omega)
    have eq1 : mRdL w kl kn r (n + 1) i hs = mRdL w kl kn r n (i + 1) (mRdI w kl kn r i hs) := rfl
    rw [eq1] at kk
    have step : ∀ (hs' : Int → Int) (x3 x4 x5 x6 : Option Value), hs' = mRdI w kl kn r i hs → GO E iX6_reads (d + 3) 0 0 158 [some (.ref am), some (vI r), some (vI i), x3, x4, x5, x6] [] (mH E G am th w hs' si lo bk iW iH iB iL iS tp td fv sz pa fr tk vl fk fp fsh hdt lt kl kn cp cd bp bl md sw nd mn my wd nm mv) Q := by
      intro hs' x3 x4 x5 x6 e
      subst e
      refine g_iinc (q := 161) dX6_reads_158 rfl gs2 rfl ?_
      refine g_goto (t := 2) dX6_reads_161 (by decide) ?_
      exact ih _ _ _ _ _ _ g0 (by omega) (by omega) kk
    by_cases hi : i = 0
    · refine g_iload_n (q := 3) dX6_reads_2 rfl rfl ?_
      refine g_aload_n (q := 4) dX6_reads_3 rfl rfl ?_
      refine g_iload_n (q := 5) dX6_reads_4 rfl rfl ?_
      refine g_cv (I' := iX6_manyOf) (mc := 0) (ms := 0) (rc := 0) (rs := 0) (ci := 7) (q := 8) dX6_reads_5 q1660 q1662 rfl qs62 gcX6_manyOf mO (c_manyOf hr (by omega)) rfl rfl ?_
      refine g_icmp_ge (t := 164) (q := 11) dX6_reads_8 (by decide) rfl (by first | assumption | exact in32_gB | exact in32_gCmp | (unfold in32; omega)) (by first | assumption | exact in32_gB | exact in32_gCmp | (unfold in32; omega)) (fun c8 => ?_) (fun c8 => ?_)
      · exact absurd c8 (by omega)
      · refine g_aload_n (q := 12) dX6_reads_11 rfl rfl ?_
        refine g_iload_n (q := 13) dX6_reads_12 rfl rfl ?_
        refine g_iload_n (q := 14) dX6_reads_13 rfl rfl ?_
        refine g_cv (I' := iX6_thingOf) (mc := 0) (ms := 0) (rc := 0) (rs := 0) (ci := 7) (q := 17) dX6_reads_14 q1668 q1670 rfl qs64 gcX6_thingOf mO (c_thingOf hr (by omega) h0 (by omega)) rfl rfl ?_
        refine g_istore_n (q := 18) dX6_reads_17 gs3 rfl ?_
        refine g_aload_n (q := 19) dX6_reads_18 rfl rfl ?_
        refine g_iconst (q := 20) dX6_reads_19 rfl ?_
        refine g_iload_n (q := 21) dX6_reads_20 rfl rfl ?_
        refine g_iload_n (q := 22) dX6_reads_21 rfl rfl ?_
        refine g_iload_n (q := 23) dX6_reads_22 rfl rfl ?_
        refine g_cvV (I' := iX6_grows) (mc := 0) (ms := 0) (rc := 0) (rs := 0) (ci := 7) (q := 26) dX6_reads_23 q1682 q1684 rfl qs66 gcX6_grows mO (c_grows (d := d) hw hh hB hkl hkn (by omega) (by omega) tb.1 (by omega) h0 (by omega) (by omega) tb.1 (by omega)) rfl rfl ?_
        refine g_iload_n (q := 27) dX6_reads_26 rfl rfl ?_
        refine g_if_ne (t := 33) (q := 30) dX6_reads_27 (by decide) rfl (by first | assumption | exact in32_gB | exact in32_gCmp | (unfold in32; omega)) (fun c27 => ?_) (fun c27 => ?_)
        · exact absurd hi c27
        · refine g_goto (t := 158) dX6_reads_30 (by decide) ?_
          exact step _ _ _ _ _ (by unfold mRdI mRdG; rw [if_pos hi, if_pos hi]; rfl)
    · have ta := hw.thing hr hr1 (i := i - 1) (by omega) (by omega)
      have hG2 := hG.grow (w := w) (kl := kl) (kn := kn) (s := 0) (a := w (34 + 14 * r + 1 + (i - 1))) (b := w (34 + 14 * r + 1 + i)) (e := w (34 + 14 * r + 1 + i)) (by omega) (by omega) ta.1 (by omega) tb.1 (by omega) (by omega)
      have hG3 := hG2.grow (w := w) (kl := kl) (kn := kn) (s := 1) (a := w (34 + 14 * r + 1 + i)) (b := w (34 + 14 * r + 1 + (i - 1))) (e := w (34 + 14 * r + 1 + (i - 1))) (by omega) (by omega) tb.1 (by omega) ta.1 (by omega) (by omega)
      have hGG := hh.rdG (kl := kl) (kn := kn) hw hr hr1 h0 (show i < w (34 + 14 * r) by omega)
      have step2 : ∀ (hs' : Int → Int) (x5 x6 : Option Value), hs' = mRdG w kl kn r i hs → GO E iX6_reads (d + 3) 0 0 82 [some (.ref am), some (vI r), some (vI i), some (vI (w (34 + 14 * r + 1 + i))), some (vI (w (34 + 14 * r + 1 + (i - 1)))), x5, x6] [] (mH E G am th w hs' si lo bk iW iH iB iL iS tp td fv sz pa fr tk vl fk fp fsh hdt lt kl kn cp cd bp bl md sw nd mn my wd nm mv) Q := by
        intro hs' x5 x6 e
        subst e
        refine g_iconst (q := 83) dX6_reads_82 rfl ?_
        refine g_istore (q := 85) dX6_reads_83 gs5 rfl ?_
        exact l_reads2 (d := d + 1) hw hB hkl hkn ta.1 (by omega) tb.1 (by omega) (w 1).toNat 0 _ _ hGG (by omega) (by omega) (fun _ _ => step _ _ _ _ _ (by unfold mRdI; rw [if_neg hi]; rfl))
      refine g_iload_n (q := 3) dX6_reads_2 rfl rfl ?_
      refine g_aload_n (q := 4) dX6_reads_3 rfl rfl ?_
      refine g_iload_n (q := 5) dX6_reads_4 rfl rfl ?_
      refine g_cv (I' := iX6_manyOf) (mc := 0) (ms := 0) (rc := 0) (rs := 0) (ci := 7) (q := 8) dX6_reads_5 q1660 q1662 rfl qs62 gcX6_manyOf mO (c_manyOf hr (by omega)) rfl rfl ?_
      refine g_icmp_ge (t := 164) (q := 11) dX6_reads_8 (by decide) rfl (by first | assumption | exact in32_gB | exact in32_gCmp | (unfold in32; omega)) (by first | assumption | exact in32_gB | exact in32_gCmp | (unfold in32; omega)) (fun c8 => ?_) (fun c8 => ?_)
      · exact absurd c8 (by omega)
      · refine g_aload_n (q := 12) dX6_reads_11 rfl rfl ?_
        refine g_iload_n (q := 13) dX6_reads_12 rfl rfl ?_
        refine g_iload_n (q := 14) dX6_reads_13 rfl rfl ?_
        refine g_cv (I' := iX6_thingOf) (mc := 0) (ms := 0) (rc := 0) (rs := 0) (ci := 7) (q := 17) dX6_reads_14 q1668 q1670 rfl qs64 gcX6_thingOf mO (c_thingOf hr (by omega) h0 (by omega)) rfl rfl ?_
        refine g_istore_n (q := 18) dX6_reads_17 gs3 rfl ?_
        refine g_aload_n (q := 19) dX6_reads_18 rfl rfl ?_
        refine g_iconst (q := 20) dX6_reads_19 rfl ?_
        refine g_iload_n (q := 21) dX6_reads_20 rfl rfl ?_
        refine g_iload_n (q := 22) dX6_reads_21 rfl rfl ?_
        refine g_iload_n (q := 23) dX6_reads_22 rfl rfl ?_
        refine g_cvV (I' := iX6_grows) (mc := 0) (ms := 0) (rc := 0) (rs := 0) (ci := 7) (q := 26) dX6_reads_23 q1682 q1684 rfl qs66 gcX6_grows mO (c_grows (d := d) hw hh hB hkl hkn (by omega) (by omega) tb.1 (by omega) h0 (by omega) (by omega) tb.1 (by omega)) rfl rfl ?_
        refine g_iload_n (q := 27) dX6_reads_26 rfl rfl ?_
        refine g_if_ne (t := 33) (q := 30) dX6_reads_27 (by decide) rfl (by first | assumption | exact in32_gB | exact in32_gCmp | (unfold in32; omega)) (fun c27 => ?_) (fun c27 => ?_)
        · refine g_aload_n (q := 34) dX6_reads_33 rfl rfl ?_
          refine g_iload_n (q := 35) dX6_reads_34 rfl rfl ?_
          refine g_iload_n (q := 36) dX6_reads_35 rfl rfl ?_
          refine g_iconst (q := 37) dX6_reads_36 rfl ?_
          refine g_isub (q := 38) dX6_reads_37 rfl ?_
          refine g_cv (I' := iX6_thingOf) (mc := 0) (ms := 0) (rc := 0) (rs := 0) (ci := 7) (q := 41) dX6_reads_38 q1668 q1670 rfl qs64 gcX6_thingOf mO (c_thingOf hr (by omega) (by omega) (by omega)) rfl rfl ?_
          refine g_istore (q := 43) dX6_reads_41 gs4 rfl ?_
          refine g_aload_n (q := 44) dX6_reads_43 rfl rfl ?_
          refine g_iconst (q := 45) dX6_reads_44 rfl ?_
          refine g_iload (q := 47) dX6_reads_45 rfl rfl ?_
          refine g_iload_n (q := 48) dX6_reads_47 rfl rfl ?_
          refine g_iload_n (q := 49) dX6_reads_48 rfl rfl ?_
          refine g_cvV (I' := iX6_grows) (mc := 0) (ms := 0) (rc := 0) (rs := 0) (ci := 7) (q := 52) dX6_reads_49 q1682 q1684 rfl qs66 gcX6_grows mO (c_grows (d := d) hw hG hB hkl hkn (by omega) (by omega) ta.1 (by omega) tb.1 (by omega) (by omega) tb.1 (by omega)) rfl rfl ?_
          refine g_aload_n (q := 53) dX6_reads_52 rfl rfl ?_
          refine g_iconst (q := 54) dX6_reads_53 rfl ?_
          refine g_iload_n (q := 55) dX6_reads_54 rfl rfl ?_
          refine g_iload (q := 57) dX6_reads_55 rfl rfl ?_
          refine g_iload (q := 59) dX6_reads_57 rfl rfl ?_
          refine g_cvV (I' := iX6_grows) (mc := 0) (ms := 0) (rc := 0) (rs := 0) (ci := 7) (q := 62) dX6_reads_59 q1682 q1684 rfl qs66 gcX6_grows mO (c_grows (d := d) hw hG2 hB hkl hkn (by omega) (by omega) tb.1 (by omega) ta.1 (by omega) (by omega) ta.1 (by omega)) rfl rfl ?_
          refine g_iload_n (q := 63) dX6_reads_62 rfl rfl ?_
          refine g_iconst (q := 64) dX6_reads_63 rfl ?_
          refine g_icmp_le (t := 82) (q := 67) dX6_reads_64 (by decide) rfl (by first | assumption | exact in32_gB | exact in32_gCmp | (unfold in32; omega)) (by first | assumption | exact in32_gB | exact in32_gCmp | (unfold in32; omega)) (fun c64 => ?_) (fun c64 => ?_)
          · exact step2 _ _ _ (by unfold mRdG; rw [if_neg hi]; first | (rw [if_pos (by omega)]; rfl) | (rw [if_neg (by omega)]; rfl))
          · refine g_aload_n (q := 68) dX6_reads_67 rfl rfl ?_
            refine g_iconst (q := 69) dX6_reads_68 rfl ?_
            refine g_aload_n (q := 70) dX6_reads_69 rfl rfl ?_
            refine g_iload_n (q := 71) dX6_reads_70 rfl rfl ?_
            refine g_iload_n (q := 72) dX6_reads_71 rfl rfl ?_
            refine g_iconst (q := 73) dX6_reads_72 rfl ?_
            refine g_isub (q := 74) dX6_reads_73 rfl ?_
            refine g_cv (I' := iX6_thingOf) (mc := 0) (ms := 0) (rc := 0) (rs := 0) (ci := 7) (q := 77) dX6_reads_74 q1668 q1670 rfl qs64 gcX6_thingOf mO (c_thingOf hr (by omega) (by omega) (by omega)) rfl rfl ?_
            refine g_iload_n (q := 78) dX6_reads_77 rfl rfl ?_
            refine g_iload_n (q := 79) dX6_reads_78 rfl rfl ?_
            refine g_cvV (I' := iX6_grows) (mc := 0) (ms := 0) (rc := 0) (rs := 0) (ci := 7) (q := 82) dX6_reads_79 q1682 q1684 rfl qs66 gcX6_grows mO (c_grows (d := d) hw hG3 hB hkl hkn (by omega) (by omega) (hw.thing hr hr1 (i := i - 2) (by omega) (by omega)).1 (by have := hw.thing hr hr1 (i := i - 2) (by omega) (by omega); omega) tb.1 (by omega) (by omega) tb.1 (by omega)) rfl rfl ?_
            exact step2 _ _ _ (by unfold mRdG; rw [if_neg hi]; first | (rw [if_pos (by omega)]; rfl) | (rw [if_neg (by omega)]; rfl))
        · exact absurd c27 hi
theorem c_reads (hw : WFw w) (hh : HSok B hs) (hB : B ≤ 1000000000) (hkl : in32 kl) (hkn : in32 kn) (hr : 0 ≤ r) (hr1 : r < w 2) : CALL E iX6_reads (d + 3) 0 0 [.ref am, vI r] (mH E G am th w hs si lo bk iW iH iB iL iS tp td fv sz pa fr tk vl fk fp fsh hdt lt kl kn cp cd bp bl md sw nd mn my wd nm mv) (qV (mH E G am th w (mReads w hs kl kn r) si lo bk iW iH iB iL iS tp td fv sz pa fr tk vl fk fp fsh hdt lt kl kn cp cd bp bl md sw nd mn my wd nm mv)) := by
  have hrow := hw.row hr hr1
  have key : ∀ (x2 x3 x4 x5 x6 : Option Value), GO E iX6_reads (d + 3) 0 0 164 [some (.ref am), some (vI r), x2, x3, x4, x5, x6] [] (mH E G am th w (mRdL w kl kn r (w (34 + 14 * r)).toNat 0 hs) si lo bk iW iH iB iL iS tp td fv sz pa fr tk vl fk fp fsh hdt lt kl kn cp cd bp bl md sw nd mn my wd nm mv) (qV (mH E G am th w (mReads w hs kl kn r) si lo bk iW iH iB iL iS tp td fv sz pa fr tk vl fk fp fsh hdt lt kl kn cp cd bp bl md sw nd mn my wd nm mv)) := by
    intro x2 x3 x4 x5 x6
    refine g_aload_n (q := 165) dX6_reads_164 rfl rfl ?_
    refine gm_get (k := 2) (q := 168) dX6_reads_165 q1396 (by decide) rfl rfl ?_
    refine g_sipush (q := 171) dX6_reads_168 rfl ?_
    refine g_dup2 (q := 172) dX6_reads_171 rfl ?_
    refine g_iald (q := 173) dX6_reads_172 mA2 (by omega) (by omega) rfl ?_
    refine g_iconst (q := 174) dX6_reads_173 rfl ?_
    refine g_iadd (q := 175) dX6_reads_174 rfl ?_
    refine gm_st2 (q := 176) dX6_reads_175 (by omega) (by omega)  rfl ?_
    exact g_vret dX6_reads_176 rfl ⟨rfl, rfl⟩
  show GO E iX6_reads _ _ _ 0 [some (.ref am), some (vI r), none, none, none, none, none] [] _ _
  refine g_iconst (q := 1) dX6_reads_0 rfl ?_
  refine g_istore_n (q := 2) dX6_reads_1 gs2 rfl ?_
  exact l_reads1 hw hB hkl hkn hr hr1 (w (34 + 14 * r)).toNat 0 hs _ _ _ _ hh (by omega) (by omega) key
end
