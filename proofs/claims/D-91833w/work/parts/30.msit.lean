/-! THE REFERENCE: sittings -/
set_option maxRecDepth 100000
/-- a book without its first sitting, so far -/
def shI (bk : Int → Int) (n : Int) : Int → Int := fun j => if 0 ≤ j ∧ j < n then bk (j + 6) else bk j
theorem shI_0 {bk : Int → Int} : shI bk 0 = bk := funext fun j => if_neg (by omega)
theorem shI_s {bk : Int → Int} {n : Int} (h : 0 ≤ n) : upI (shI bk n) n (shI bk n (n + 6)) = shI bk (n + 1) := by
  funext j
  have e2 : shI bk n (n + 6) = bk (n + 6) := if_neg (by omega)
  by_cases e : j = n
  · subst e; rw [upI_at, e2]; unfold shI; rw [if_pos (by omega)]
  · rw [upI_ne e]; unfold shI
    by_cases z : 0 ≤ j ∧ j < n
    · rw [if_pos z, if_pos (by omega)]
    · rw [if_neg z, if_neg (by omega)]
def sitB (bk : Int → Int) (si r n ho ah be how : Int) : Int → Int := upI (upI (upI (upI (upI (upI bk (6 * si) r) (6 * si + 1) n) (6 * si + 2) ho) (6 * si + 3) ah) (6 * si + 4) be) (6 * si + 5) how
/-- the book's room: full, it loses its first -/
def siN (si : Int) : Int := if si = 60 then si - 1 else si
def bkN (bk : Int → Int) (si : Int) : Int → Int := if si = 60 then shI bk 354 else bk
def loN (lo si : Int) : Int := if si = 60 then lo + 1 else lo
def usedI (w : Int → Int) (r n : Int) : Int → Int := upI w (34 + 14 * r + 1 + 12) (w (34 + 14 * r + 1 + 12) + n)
def mRdN (w : Int → Int) (kl kn r : Int) : Nat → (Int → Int) → Int → Int
  | 0, hs => hs
  | n + 1, hs => mRdN w kl kn r n (mReads w hs kl kn r)
theorem HSok.rdN {w : Int → Int} {kl kn r : Int} (hw : WFw w) (hr : 0 ≤ r) (hr1 : r < w 2) : ∀ (n : Nat) (B : Int) (hs : Int → Int), HSok B hs → HSok (B + n) (mRdN w kl kn r n hs) := by
  intro n
  induction n with
  | zero => intro B hs h; exact h.mono (by omega)
  | succ n ih => intro B hs h; exact (ih (B + 1) _ (h.reads hw hr hr1)).mono (by omega)
section
variable {E : gE} {d rc rs am : Nat} {G : gH}
variable {th si lo td sz pa fr tk vl fk fp hdt kl kn cd bp bl : Int} {w hs bk iW iH iB iL iS tp fv fsh lt cp md sw nd mn my wd nm mv : Int → Int}
variable {s a b r i k v e B c n how ah : Int} {Q : Outcome → gH → Prop}
theorem l_sits (hw : WFw w) (hh : HSok B hs) (hr : 0 ≤ r) (hr1 : r < w 2) (h0 : 0 ≤ si) (h1 : si < 60) {x5 : Option Value} (hq : Q (.returned none) (mH E G am th (usedI w r n) hs (si + 1) lo (sitB bk si r n (hs 2016) ah (mOnes (mSlips w hs r)) how) iW iH iB iL iS tp td fv sz pa fr tk vl fk fp fsh hdt lt kl kn cp cd bp bl md sw nd mn my wd nm mv)) :
    GO E iX6_sits (d + 3) 0 0 64 [some (.ref am), some (vI r), some (vI n), some (vI how), some (vI ah), x5] [] (mH E G am th w hs si lo bk iW iH iB iL iS tp td fv sz pa fr tk vl fk fp fsh hdt lt kl kn cp cd bp bl md sw nd mn my wd nm mv) Q := by
  have h12 := hw.2.1
  refine g_bipush (q := 66) dX6_sits_64 rfl ?_
  refine g_aload_n (q := 67) dX6_sits_66 rfl rfl ?_
  refine gm_get (k := 3) (q := 70) dX6_sits_67 q1397 (by decide) rfl rfl ?_
  refine g_imul (q := 71) dX6_sits_70 rfl ?_
  refine g_istore (q := 73) dX6_sits_71 gs5 rfl ?_
  refine g_aload_n (q := 74) dX6_sits_73 rfl rfl ?_
  refine gm_get (k := 5) (q := 77) dX6_sits_74 q1399 (by decide) rfl rfl ?_
  refine g_iload (q := 79) dX6_sits_77 rfl rfl ?_
  refine g_iload_n (q := 80) dX6_sits_79 rfl rfl ?_
  refine gm_st5 (q := 81) dX6_sits_80 (by omega) (by omega)  rfl ?_
  refine g_aload_n (q := 82) dX6_sits_81 rfl rfl ?_
  refine gm_get (k := 5) (q := 85) dX6_sits_82 q1399 (by decide) rfl rfl ?_
  refine g_iload (q := 87) dX6_sits_85 rfl rfl ?_
  refine g_iconst (q := 88) dX6_sits_87 rfl ?_
  refine g_iadd (q := 89) dX6_sits_88 rfl ?_
  refine g_iload_n (q := 90) dX6_sits_89 rfl rfl ?_
  refine gm_st5 (q := 91) dX6_sits_90 (by omega) (by omega)  rfl ?_
  refine g_aload_n (q := 92) dX6_sits_91 rfl rfl ?_
  refine gm_get (k := 5) (q := 95) dX6_sits_92 q1399 (by decide) rfl rfl ?_
  refine g_iload (q := 97) dX6_sits_95 rfl rfl ?_
  refine g_iconst (q := 98) dX6_sits_97 rfl ?_
  refine g_iadd (q := 99) dX6_sits_98 rfl ?_
  refine g_aload_n (q := 100) dX6_sits_99 rfl rfl ?_
  refine gm_get (k := 2) (q := 103) dX6_sits_100 q1396 (by decide) rfl rfl ?_
  refine g_sipush (q := 106) dX6_sits_103 rfl ?_
  refine g_iald (q := 107) dX6_sits_106 mA2 (by omega) (by omega) rfl ?_
  refine gm_st5 (q := 108) dX6_sits_107 (by omega) (by omega)  rfl ?_
  refine g_aload_n (q := 109) dX6_sits_108 rfl rfl ?_
  refine gm_get (k := 5) (q := 112) dX6_sits_109 q1399 (by decide) rfl rfl ?_
  refine g_iload (q := 114) dX6_sits_112 rfl rfl ?_
  refine g_iconst (q := 115) dX6_sits_114 rfl ?_
  refine g_iadd (q := 116) dX6_sits_115 rfl ?_
  refine g_iload (q := 118) dX6_sits_116 rfl rfl ?_
  refine gm_st5 (q := 119) dX6_sits_118 (by omega) (by omega)  rfl ?_
  refine g_aload_n (q := 120) dX6_sits_119 rfl rfl ?_
  refine gm_get (k := 5) (q := 123) dX6_sits_120 q1399 (by decide) rfl rfl ?_
  refine g_iload (q := 125) dX6_sits_123 rfl rfl ?_
  refine g_iconst (q := 126) dX6_sits_125 rfl ?_
  refine g_iadd (q := 127) dX6_sits_126 rfl ?_
  refine g_aload_n (q := 128) dX6_sits_127 rfl rfl ?_
  refine g_iload_n (q := 129) dX6_sits_128 rfl rfl ?_
  refine g_cv (I' := iX6_slipsOf) (mc := 0) (ms := 0) (rc := 0) (rs := 0) (ci := 7) (q := 132) dX6_sits_129 q1656 q1658 rfl qs61 gcX6_slipsOf mO (c_slipsOf (d := d) hw hh hr hr1) rfl rfl ?_
  refine g_cs (I' := iX6_ones) (mc := 0) (ms := 0) (rc := 0) (rs := 0) (q := 135) dX6_sits_132 q1675 q1676 gcX6_ones (c_ones) rfl rfl ?_
  refine gm_st5 (q := 136) dX6_sits_135 (by omega) (by omega)  rfl ?_
  refine g_aload_n (q := 137) dX6_sits_136 rfl rfl ?_
  refine gm_get (k := 5) (q := 140) dX6_sits_137 q1399 (by decide) rfl rfl ?_
  refine g_iload (q := 142) dX6_sits_140 rfl rfl ?_
  refine g_iconst (q := 143) dX6_sits_142 rfl ?_
  refine g_iadd (q := 144) dX6_sits_143 rfl ?_
  refine g_iload_n (q := 145) dX6_sits_144 rfl rfl ?_
  refine gm_st5 (q := 146) dX6_sits_145 (by omega) (by omega)  rfl ?_
  refine g_aload_n (q := 147) dX6_sits_146 rfl rfl ?_
  refine g_dup (q := 148) dX6_sits_147 rfl ?_
  refine gm_get (k := 3) (q := 151) dX6_sits_148 q1397 (by decide) rfl rfl ?_
  refine g_iconst (q := 152) dX6_sits_151 rfl ?_
  refine g_iadd (q := 153) dX6_sits_152 rfl ?_
  refine gm_put3 (q := 156) dX6_sits_153 q1397 rfl ?_
  refine g_aload_n (q := 157) dX6_sits_156 rfl rfl ?_
  refine gm_get (k := 1) (q := 160) dX6_sits_157 q1395 (by decide) rfl rfl ?_
  refine g_bipush (q := 162) dX6_sits_160 rfl ?_
  refine g_bipush (q := 164) dX6_sits_162 rfl ?_
  refine g_iload_n (q := 165) dX6_sits_164 rfl rfl ?_
  refine g_imul (q := 166) dX6_sits_165 rfl ?_
  refine g_iadd (q := 167) dX6_sits_166 rfl ?_
  refine g_iconst (q := 168) dX6_sits_167 rfl ?_
  refine g_iadd (q := 169) dX6_sits_168 rfl ?_
  refine g_bipush (q := 171) dX6_sits_169 rfl ?_
  refine g_iadd (q := 172) dX6_sits_171 rfl ?_
  refine g_dup2 (q := 173) dX6_sits_172 rfl ?_
  refine g_iald (q := 174) dX6_sits_173 mA1 (by omega) (by omega) rfl ?_
  refine g_iload_n (q := 175) dX6_sits_174 rfl rfl ?_
  refine g_iadd (q := 176) dX6_sits_175 rfl ?_
  refine gm_st1 (q := 177) dX6_sits_176 (by omega) (by omega)  rfl ?_
  exact g_vret dX6_sits_177 rfl hq
theorem c_sits (hw : WFw w) (hh : HSok B hs) (hr : 0 ≤ r) (hr1 : r < w 2) (h0 : 0 ≤ si) (h1 : si ≤ 60) : CALL E iX6_sits (d + 3) 0 0 [.ref am, vI r, vI n, vI how, vI ah] (mH E G am th w hs si lo bk iW iH iB iL iS tp td fv sz pa fr tk vl fk fp fsh hdt lt kl kn cp cd bp bl md sw nd mn my wd nm mv) (qV (mH E G am th (usedI w r n) hs (siN si + 1) (loN lo si) (sitB (bkN bk si) (siN si) r n (hs 2016) ah (mOnes (mSlips w hs r)) how) iW iH iB iL iS tp td fv sz pa fr tk vl fk fp fsh hdt lt kl kn cp cd bp bl md sw nd mn my wd nm mv)) := by
  show GO E iX6_sits _ _ _ 0 [some (.ref am), some (vI r), some (vI n), some (vI how), some (vI ah), none] [] _ _
  unfold bkN siN loN
  by_cases z : si = 60
  · rw [if_pos z, if_pos z, if_pos z]
    have loop : ∀ (f : Nat) (k : Int), 6 ≤ k → k + f = 360 → GO E iX6_sits (d + 3) 0 0 13 [some (.ref am), some (vI r), some (vI n), some (vI how), some (vI ah), some (vI k)] [] (mH E G am th w hs si lo (shI bk (k - 6)) iW iH iB iL iS tp td fv sz pa fr tk vl fk fp fsh hdt lt kl kn cp cd bp bl md sw nd mn my wd nm mv) (qV (mH E G am th (usedI w r n) hs (si - 1 + 1) (lo + 1) (sitB (shI bk 354) (si - 1) r n (hs 2016) ah (mOnes (mSlips w hs r)) how) iW iH iB iL iS tp td fv sz pa fr tk vl fk fp fsh hdt lt kl kn cp cd bp bl md sw nd mn my wd nm mv)) := by
      intro f
      induction f with
      | zero =>
        intro k h2 h3
        obtain rfl : k = 360 := by omega
        refine g_iload (q := 15) dX6_sits_13 rfl rfl ?_
        refine g_sipush (q := 18) dX6_sits_15 rfl ?_
        refine g_icmp_ge (t := 44) (q := 21) dX6_sits_18 (by decide) rfl (by first | assumption | exact in32_gB | exact in32_gCmp | (unfold in32; omega)) (by first | assumption | exact in32_gB | exact in32_gCmp | (unfold in32; omega)) (fun c18 => ?_) (fun c18 => ?_)
        · refine g_aload_n (q := 45) dX6_sits_44 rfl rfl ?_
          refine g_dup (q := 46) dX6_sits_45 rfl ?_
          refine gm_get (k := 3) (q := 49) dX6_sits_46 q1397 (by decide) rfl rfl ?_
          refine g_iconst (q := 50) dX6_sits_49 rfl ?_
          refine g_isub (q := 51) dX6_sits_50 rfl ?_
          refine gm_put3 (q := 54) dX6_sits_51 q1397 rfl ?_
          refine g_aload_n (q := 55) dX6_sits_54 rfl rfl ?_
          refine g_dup (q := 56) dX6_sits_55 rfl ?_
          refine gm_get (k := 4) (q := 59) dX6_sits_56 q1398 (by decide) rfl rfl ?_
          refine g_iconst (q := 60) dX6_sits_59 rfl ?_
          refine g_iadd (q := 61) dX6_sits_60 rfl ?_
          refine gm_put4 (q := 64) dX6_sits_61 q1398 rfl ?_
          exact l_sits (si := si - 1) hw hh hr hr1 (by omega) (by omega) ⟨rfl, rfl⟩
        · exact absurd c18 (by decide)
      | succ f ih =>
        intro k h2 h3
        refine g_iload (q := 15) dX6_sits_13 rfl rfl ?_
        refine g_sipush (q := 18) dX6_sits_15 rfl ?_
        refine g_icmp_ge (t := 44) (q := 21) dX6_sits_18 (by decide) rfl (by first | assumption | exact in32_gB | exact in32_gCmp | (unfold in32; omega)) (by first | assumption | exact in32_gB | exact in32_gCmp | (unfold in32; omega)) (fun c18 => ?_) (fun c18 => ?_)
        · exact absurd c18 (by omega)
        · refine g_aload_n (q := 22) dX6_sits_21 rfl rfl ?_
          refine gm_get (k := 5) (q := 25) dX6_sits_22 q1399 (by decide) rfl rfl ?_
          refine g_iload (q := 27) dX6_sits_25 rfl rfl ?_
          refine g_bipush (q := 29) dX6_sits_27 rfl ?_
          refine g_isub (q := 30) dX6_sits_29 rfl ?_
          refine g_aload_n (q := 31) dX6_sits_30 rfl rfl ?_
          refine gm_get (k := 5) (q := 34) dX6_sits_31 q1399 (by decide) rfl rfl ?_
          refine g_iload (q := 36) dX6_sits_34 rfl rfl ?_
          refine g_iald (q := 37) dX6_sits_36 mA5 (by omega) (by omega) rfl ?_
          refine gm_st5 (q := 38) dX6_sits_37 (by omega) (by omega)  rfl ?_
          have e9 := shI_s (bk := bk) (n := k - 6) (by omega)
          rw [show k - 6 + 6 = k by omega] at e9
          rw [e9, show k - 6 + 1 = k + 1 - 6 by omega]
          refine g_iinc (q := 41) dX6_sits_38 rfl gs5 rfl ?_
          refine g_goto (t := 13) dX6_sits_41 (by decide) ?_
          exact ih _ (by omega) (by omega)
    refine g_aload_n (q := 1) dX6_sits_0 rfl rfl ?_
    refine gm_get (k := 3) (q := 4) dX6_sits_1 q1397 (by decide) rfl rfl ?_
    refine g_bipush (q := 6) dX6_sits_4 rfl ?_
    refine g_icmp_ne (t := 64) (q := 9) dX6_sits_6 (by decide) rfl (by first | assumption | exact in32_gB | exact in32_gCmp | (unfold in32; omega)) (by first | assumption | exact in32_gB | exact in32_gCmp | (unfold in32; omega)) (fun c6 => ?_) (fun c6 => ?_)
    · exact absurd z c6
    · refine g_bipush (q := 11) dX6_sits_9 rfl ?_
      refine g_istore (q := 13) dX6_sits_11 gs5 rfl ?_
      have := loop 354 6 (by omega) (by omega)
      rw [show (6 : Int) - 6 = 0 by decide, shI_0] at this
      exact this
  · rw [if_neg z, if_neg z, if_neg z]
    refine g_aload_n (q := 1) dX6_sits_0 rfl rfl ?_
    refine gm_get (k := 3) (q := 4) dX6_sits_1 q1397 (by decide) rfl rfl ?_
    refine g_bipush (q := 6) dX6_sits_4 rfl ?_
    refine g_icmp_ne (t := 64) (q := 9) dX6_sits_6 (by decide) rfl (by first | assumption | exact in32_gB | exact in32_gCmp | (unfold in32; omega)) (by first | assumption | exact in32_gB | exact in32_gCmp | (unfold in32; omega)) (fun c6 => ?_) (fun c6 => ?_)
    · exact l_sits hw hh hr hr1 (by omega) (by omega) ⟨rfl, rfl⟩
    · exact absurd c6 z
theorem c_read (hw : WFw w) (hh : HSok B hs) (hB : B ≤ 800000000) (hkl : in32 kl) (hkn : in32 kn) (hr : 0 ≤ r) (hr1 : r ≤ w 2 - 1) (hn : 1 ≤ n) (hn1 : n ≤ 50) (h0 : 0 ≤ si) (h1 : si ≤ 60) :
    CALL E iX6_read (d + 4) 0 0 [.ref am, vI r, vI n] (mH E G am th w hs si lo bk iW iH iB iL iS tp td fv sz pa fr tk vl fk fp fsh hdt lt kl kn cp cd bp bl md sw nd mn my wd nm mv) (qR (vI (siN si + 1)) (mH E G am th (usedI w r n) (mRdN w kl kn r n.toNat hs) (siN si + 1) (loN lo si) (sitB (bkN bk si) (siN si) r n (mRdN w kl kn r n.toNat hs 2016) (mOnes (mSlips w hs r)) (mOnes (mSlips w (mRdN w kl kn r n.toNat hs) r)) 0) iW iH iB iL iS tp td fv sz pa fr tk vl fk fp fsh hdt lt kl kn cp cd bp bl md sw nd mn my wd nm mv)) := by
  have h12 := hw.2.1
  have loop : ∀ (f : Nat) (i B : Int) (hs1 : Int → Int), HSok B hs1 → B + f ≤ 900000000 → 0 ≤ i → i + f = n → mRdN w kl kn r f hs1 = mRdN w kl kn r n.toNat hs → GO E iX6_read (d + 4) 0 0 35 [some (.ref am), some (vI r), some (vI n), some (vI (mOnes (mSlips w hs r))), some (vI i)] [] (mH E G am th w hs1 si lo bk iW iH iB iL iS tp td fv sz pa fr tk vl fk fp fsh hdt lt kl kn cp cd bp bl md sw nd mn my wd nm mv) (qR (vI (siN si + 1)) (mH E G am th (usedI w r n) (mRdN w kl kn r n.toNat hs) (siN si + 1) (loN lo si) (sitB (bkN bk si) (siN si) r n (mRdN w kl kn r n.toNat hs 2016) (mOnes (mSlips w hs r)) (mOnes (mSlips w (mRdN w kl kn r n.toNat hs) r)) 0) iW iH iB iL iS tp td fv sz pa fr tk vl fk fp fsh hdt lt kl kn cp cd bp bl md sw nd mn my wd nm mv)) := by
    intro f
    induction f with
    | zero =>
      intro i B hs1 g h2 h3 h4 h5
      have h5 : hs1 = mRdN w kl kn r n.toNat hs := h5
      subst h5
      refine g_iload (q := 37) dX6_read_35 rfl rfl ?_
      refine g_iload_n (q := 38) dX6_read_37 rfl rfl ?_
      refine g_icmp_ge (t := 52) (q := 41) dX6_read_38 (by decide) rfl (by first | assumption | exact in32_gB | exact in32_gCmp | (unfold in32; omega)) (by first | assumption | exact in32_gB | exact in32_gCmp | (unfold in32; omega)) (fun c38 => ?_) (fun c38 => ?_)
      · refine g_aload_n (q := 53) dX6_read_52 rfl rfl ?_
        refine g_iload_n (q := 54) dX6_read_53 rfl rfl ?_
        refine g_iload_n (q := 55) dX6_read_54 rfl rfl ?_
        refine g_iconst (q := 56) dX6_read_55 rfl ?_
        refine g_iload_n (q := 57) dX6_read_56 rfl rfl ?_
        refine g_cvV (I' := iX6_sits) (mc := 0) (ms := 0) (rc := 0) (rs := 0) (ci := 7) (q := 60) dX6_read_57 q1692 q1694 rfl qs68 gcX6_sits mO (c_sits (d := d) hw g hr (by omega) h0 h1) rfl rfl ?_
        refine g_aload_n (q := 61) dX6_read_60 rfl rfl ?_
        refine gm_get (k := 3) (q := 64) dX6_read_61 q1397 (by decide) rfl rfl ?_
        exact g_iret dX6_read_64 rfl ⟨rfl, rfl⟩
      · exact absurd c38 (by omega)
    | succ f ih =>
      intro i B hs1 g h2 h3 h4 h5
      refine g_iload (q := 37) dX6_read_35 rfl rfl ?_
      refine g_iload_n (q := 38) dX6_read_37 rfl rfl ?_
      refine g_icmp_ge (t := 52) (q := 41) dX6_read_38 (by decide) rfl (by first | assumption | exact in32_gB | exact in32_gCmp | (unfold in32; omega)) (by first | assumption | exact in32_gB | exact in32_gCmp | (unfold in32; omega)) (fun c38 => ?_) (fun c38 => ?_)
      · exact absurd c38 (by omega)
      · refine g_aload_n (q := 42) dX6_read_41 rfl rfl ?_
        refine g_iload_n (q := 43) dX6_read_42 rfl rfl ?_
        refine g_cvV (I' := iX6_reads) (mc := 0) (ms := 0) (rc := 0) (rs := 0) (ci := 7) (q := 46) dX6_read_43 q1678 q1680 rfl qs65 gcX6_reads mO (c_reads (d := d) hw g (by omega) hkl hkn hr (by omega)) rfl rfl ?_
        refine g_iinc (q := 49) dX6_read_46 rfl gs4 rfl ?_
        refine g_goto (t := 35) dX6_read_49 (by decide) ?_
        exact ih _ (B + 1) _ (g.reads hw hr (by omega)) (by omega) (by omega) (by omega) h5
  show GO E iX6_read _ _ _ 0 [some (.ref am), some (vI r), some (vI n), none, none] [] _ _
  refine g_aload_n (q := 1) dX6_read_0 rfl rfl ?_
  refine g_iload_n (q := 2) dX6_read_1 rfl rfl ?_
  refine g_cv (I' := iX6_isRow) (mc := 0) (ms := 0) (rc := 0) (rs := 0) (ci := 7) (q := 5) dX6_read_2 q1651 q1653 rfl qs60 gcX6_isRow mO (c_isRowM (by unfold in32; omega) hw.2.1) rfl rfl ?_
  refine g_ifeqB (t := 20) (q := 8) dX6_read_5 (by decide) rfl (fun c5 => ?_) (fun c5 => ?_)
  · exact absurd ⟨hr, hr1⟩ c5
  · refine g_iload_n (q := 9) dX6_read_8 rfl rfl ?_
    refine g_i2l (q := 10) dX6_read_9 (by first | assumption | exact in32_gB | exact in32_gCmp | (unfold in32; omega)) rfl ?_
    refine g_lconst1 (q := 11) dX6_read_10 rfl ?_
    refine g_ldc2 (a := 50) (q := 14) dX6_read_11 q1655 (by decide) rfl ?_
    refine g_cs (I' := iX6_in) (mc := 0) (ms := 0) (rc := 0) (rs := 0) (q := 17) dX6_read_14 q1514 q1515 gcX6_in (c_inM (by unfold in64; omega) (by unfold in64; omega) (by unfold in64; omega)) rfl rfl ?_
    refine g_ifneB (t := 23) (q := 20) dX6_read_17 (by decide) rfl (fun c17 => ?_) (fun c17 => ?_)
    · refine g_aload_n (q := 24) dX6_read_23 rfl rfl ?_
      refine g_iload_n (q := 25) dX6_read_24 rfl rfl ?_
      refine g_cv (I' := iX6_slipsOf) (mc := 0) (ms := 0) (rc := 0) (rs := 0) (ci := 7) (q := 28) dX6_read_25 q1656 q1658 rfl qs61 gcX6_slipsOf mO (c_slipsOf (d := d + 1) hw hh hr (by omega)) rfl rfl ?_
      refine g_cs (I' := iX6_ones) (mc := 0) (ms := 0) (rc := 0) (rs := 0) (q := 31) dX6_read_28 q1675 q1676 gcX6_ones (c_ones) rfl rfl ?_
      refine g_istore_n (q := 32) dX6_read_31 gs3 rfl ?_
      refine g_iconst (q := 33) dX6_read_32 rfl ?_
      refine g_istore (q := 35) dX6_read_33 gs4 rfl ?_
      exact loop n.toNat 0 B hs hh (by omega) (by omega) (by omega) rfl
    · exact absurd ⟨hn, hn1⟩ c17
theorem c_read_bad (hw : 0 ≤ w 2 ∧ w 2 ≤ 12) (hr : in32 r) (hn : in32 n) (hx : ¬ ((0 ≤ r ∧ r ≤ w 2 - 1) ∧ (1 ≤ n ∧ n ≤ 50))) : CALL E iX6_read (d + 2) 0 0 [.ref am, vI r, vI n] (mH E G am th w hs si lo bk iW iH iB iL iS tp td fv sz pa fr tk vl fk fp fsh hdt lt kl kn cp cd bp bl md sw nd mn my wd nm mv) (qR (vI (-2)) (mH E G am th w hs si lo bk iW iH iB iL iS tp td fv sz pa fr tk vl fk fp fsh hdt lt kl kn cp cd bp bl md sw nd mn my wd nm mv)) := by
  have h5 := hn.1
  have h6 := hn.2
  show GO E iX6_read _ _ _ 0 [some (.ref am), some (vI r), some (vI n), none, none] [] _ _
  refine g_aload_n (q := 1) dX6_read_0 rfl rfl ?_
  refine g_iload_n (q := 2) dX6_read_1 rfl rfl ?_
  refine g_cv (I' := iX6_isRow) (mc := 0) (ms := 0) (rc := 0) (rs := 0) (ci := 7) (q := 5) dX6_read_2 q1651 q1653 rfl qs60 gcX6_isRow mO (c_isRowM hr hw) rfl rfl ?_
  refine g_ifeqB (t := 20) (q := 8) dX6_read_5 (by decide) rfl (fun c5 => ?_) (fun c5 => ?_)
  · refine g_bipush (q := 22) dX6_read_20 rfl ?_
    exact g_iret dX6_read_22 rfl ⟨rfl, rfl⟩
  · refine g_iload_n (q := 9) dX6_read_8 rfl rfl ?_
    refine g_i2l (q := 10) dX6_read_9 (by first | assumption | exact in32_gB | exact in32_gCmp | (unfold in32; omega)) rfl ?_
    refine g_lconst1 (q := 11) dX6_read_10 rfl ?_
    refine g_ldc2 (a := 50) (q := 14) dX6_read_11 q1655 (by decide) rfl ?_
    refine g_cs (I' := iX6_in) (mc := 0) (ms := 0) (rc := 0) (rs := 0) (q := 17) dX6_read_14 q1514 q1515 gcX6_in (c_inM (by unfold in64; omega) (by unfold in64; omega) (by unfold in64; omega)) rfl rfl ?_
    refine g_ifneB (t := 23) (q := 20) dX6_read_17 (by decide) rfl (fun c17 => ?_) (fun c17 => ?_)
    · exact absurd ⟨c5, c17⟩ hx
    · refine g_bipush (q := 22) dX6_read_20 rfl ?_
      exact g_iret dX6_read_22 rfl ⟨rfl, rfl⟩
theorem c_learn (hw : WFw w) (hh : HSok B hs) (hB : B ≤ 800000000) (hkl : in32 kl) (hkn : in32 kn) (hr : 0 ≤ r) (hr1 : r ≤ w 2 - 1) (h0 : 0 ≤ si) (h1 : si ≤ 60) :
    CALL E iX6_learn (d + 5) 0 0 [.ref am, vI r] (mH E G am th w hs si lo bk iW iH iB iL iS tp td fv sz pa fr tk vl fk fp fsh hdt lt kl kn cp cd bp bl md sw nd mn my wd nm mv) (qR (vI (mLearns w hs kl kn r).1) (mH E G am th (usedI w r (if (mLearns w hs kl kn r).1 = -1 then 40 else (mLearns w hs kl kn r).1)) ((mLearns w hs kl kn r).2) (siN si + 1) (loN lo si) (sitB (bkN bk si) (siN si) r (if (mLearns w hs kl kn r).1 = -1 then 40 else (mLearns w hs kl kn r).1) ((mLearns w hs kl kn r).2 2016) (mOnes (mSlips w hs r)) (mOnes (mSlips w (mLearns w hs kl kn r).2 r)) (if (mLearns w hs kl kn r).1 = -1 then 2 else 1)) iW iH iB iL iS tp td fv sz pa fr tk vl fk fp fsh hdt lt kl kn cp cd bp bl md sw nd mn my wd nm mv)) := by
  have h12 := hw.2.1
  have ok := mLearns_ok (kl := kl) (kn := kn) hw hr (show r < w 2 by omega) hh
  show GO E iX6_learn _ _ _ 0 [some (.ref am), some (vI r), none, none] [] _ _
  by_cases z : (mLearns w hs kl kn r).1 = -1
  · rw [if_pos z, if_pos z]
    refine g_aload_n (q := 1) dX6_learn_0 rfl rfl ?_
    refine g_iload_n (q := 2) dX6_learn_1 rfl rfl ?_
    refine g_cv (I' := iX6_isRow) (mc := 0) (ms := 0) (rc := 0) (rs := 0) (ci := 7) (q := 5) dX6_learn_2 q1651 q1653 rfl qs60 gcX6_isRow mO (c_isRowM (by unfold in32; omega) hw.2.1) rfl rfl ?_
    refine g_ifneB (t := 11) (q := 8) dX6_learn_5 (by decide) rfl (fun c5 => ?_) (fun c5 => ?_)
    · refine g_aload_n (q := 12) dX6_learn_11 rfl rfl ?_
      refine g_iload_n (q := 13) dX6_learn_12 rfl rfl ?_
      refine g_cv (I' := iX6_slipsOf) (mc := 0) (ms := 0) (rc := 0) (rs := 0) (ci := 7) (q := 16) dX6_learn_13 q1656 q1658 rfl qs61 gcX6_slipsOf mO (c_slipsOf (d := d + 2) hw hh hr (by omega)) rfl rfl ?_
      refine g_cs (I' := iX6_ones) (mc := 0) (ms := 0) (rc := 0) (rs := 0) (q := 19) dX6_learn_16 q1675 q1676 gcX6_ones (c_ones) rfl rfl ?_
      refine g_istore_n (q := 20) dX6_learn_19 gs2 rfl ?_
      refine g_aload_n (q := 21) dX6_learn_20 rfl rfl ?_
      refine g_iload_n (q := 22) dX6_learn_21 rfl rfl ?_
      refine g_cv (I' := iX6_learns) (mc := 0) (ms := 0) (rc := 0) (rs := 0) (ci := 7) (q := 25) dX6_learn_22 q1700 q1702 rfl qs69 gcX6_learns mO (c_learns (d := d) hw hh (by omega) hkl hkn hr (by omega)) rfl rfl ?_
      refine g_istore_n (q := 26) dX6_learn_25 gs3 rfl ?_
      refine g_aload_n (q := 27) dX6_learn_26 rfl rfl ?_
      refine g_iload_n (q := 28) dX6_learn_27 rfl rfl ?_
      refine g_iload_n (q := 29) dX6_learn_28 rfl rfl ?_
      refine g_iconst (q := 30) dX6_learn_29 rfl ?_
      refine g_icmp_ne (t := 38) (q := 33) dX6_learn_30 (by decide) rfl (by first | assumption | exact in32_gB | exact in32_gCmp | (unfold in32; omega)) (by first | assumption | exact in32_gB | exact in32_gCmp | (unfold in32; omega)) (fun c30 => ?_) (fun c30 => ?_)
      · exact absurd z c30
      · refine g_bipush (q := 35) dX6_learn_33 rfl ?_
        refine g_goto (t := 39) dX6_learn_35 (by decide) ?_
        refine g_iload_n (q := 40) dX6_learn_39 rfl rfl ?_
        refine g_iconst (q := 41) dX6_learn_40 rfl ?_
        refine g_icmp_ne (t := 48) (q := 44) dX6_learn_41 (by decide) rfl (by first | assumption | exact in32_gB | exact in32_gCmp | (unfold in32; omega)) (by first | assumption | exact in32_gB | exact in32_gCmp | (unfold in32; omega)) (fun c41 => ?_) (fun c41 => ?_)
        · exact absurd z c41
        · refine g_iconst (q := 45) dX6_learn_44 rfl ?_
          refine g_goto (t := 49) dX6_learn_45 (by decide) ?_
          refine g_iload_n (q := 50) dX6_learn_49 rfl rfl ?_
          refine g_cvV (I' := iX6_sits) (mc := 0) (ms := 0) (rc := 0) (rs := 0) (ci := 7) (q := 53) dX6_learn_50 q1692 q1694 rfl qs68 gcX6_sits mO (c_sits (d := d + 1) hw ok.1 hr (by omega) h0 h1) rfl rfl ?_
          refine g_iload_n (q := 54) dX6_learn_53 rfl rfl ?_
          exact g_iret dX6_learn_54 rfl ⟨rfl, rfl⟩
    · exact absurd ⟨hr, hr1⟩ c5
  · rw [if_neg z, if_neg z]
    refine g_aload_n (q := 1) dX6_learn_0 rfl rfl ?_
    refine g_iload_n (q := 2) dX6_learn_1 rfl rfl ?_
    refine g_cv (I' := iX6_isRow) (mc := 0) (ms := 0) (rc := 0) (rs := 0) (ci := 7) (q := 5) dX6_learn_2 q1651 q1653 rfl qs60 gcX6_isRow mO (c_isRowM (by unfold in32; omega) hw.2.1) rfl rfl ?_
    refine g_ifneB (t := 11) (q := 8) dX6_learn_5 (by decide) rfl (fun c5 => ?_) (fun c5 => ?_)
    · refine g_aload_n (q := 12) dX6_learn_11 rfl rfl ?_
      refine g_iload_n (q := 13) dX6_learn_12 rfl rfl ?_
      refine g_cv (I' := iX6_slipsOf) (mc := 0) (ms := 0) (rc := 0) (rs := 0) (ci := 7) (q := 16) dX6_learn_13 q1656 q1658 rfl qs61 gcX6_slipsOf mO (c_slipsOf (d := d + 2) hw hh hr (by omega)) rfl rfl ?_
      refine g_cs (I' := iX6_ones) (mc := 0) (ms := 0) (rc := 0) (rs := 0) (q := 19) dX6_learn_16 q1675 q1676 gcX6_ones (c_ones) rfl rfl ?_
      refine g_istore_n (q := 20) dX6_learn_19 gs2 rfl ?_
      refine g_aload_n (q := 21) dX6_learn_20 rfl rfl ?_
      refine g_iload_n (q := 22) dX6_learn_21 rfl rfl ?_
      refine g_cv (I' := iX6_learns) (mc := 0) (ms := 0) (rc := 0) (rs := 0) (ci := 7) (q := 25) dX6_learn_22 q1700 q1702 rfl qs69 gcX6_learns mO (c_learns (d := d) hw hh (by omega) hkl hkn hr (by omega)) rfl rfl ?_
      refine g_istore_n (q := 26) dX6_learn_25 gs3 rfl ?_
      refine g_aload_n (q := 27) dX6_learn_26 rfl rfl ?_
      refine g_iload_n (q := 28) dX6_learn_27 rfl rfl ?_
      refine g_iload_n (q := 29) dX6_learn_28 rfl rfl ?_
      refine g_iconst (q := 30) dX6_learn_29 rfl ?_
      refine g_icmp_ne (t := 38) (q := 33) dX6_learn_30 (by decide) rfl (by first | assumption | exact in32_gB | exact in32_gCmp | (unfold in32; omega)) (by first | assumption | exact in32_gB | exact in32_gCmp | (unfold in32; omega)) (fun c30 => ?_) (fun c30 => ?_)
      · refine g_iload_n (q := 39) dX6_learn_38 rfl rfl ?_
        refine g_iload_n (q := 40) dX6_learn_39 rfl rfl ?_
        refine g_iconst (q := 41) dX6_learn_40 rfl ?_
        refine g_icmp_ne (t := 48) (q := 44) dX6_learn_41 (by decide) rfl (by first | assumption | exact in32_gB | exact in32_gCmp | (unfold in32; omega)) (by first | assumption | exact in32_gB | exact in32_gCmp | (unfold in32; omega)) (fun c41 => ?_) (fun c41 => ?_)
        · refine g_iconst (q := 49) dX6_learn_48 rfl ?_
          refine g_iload_n (q := 50) dX6_learn_49 rfl rfl ?_
          refine g_cvV (I' := iX6_sits) (mc := 0) (ms := 0) (rc := 0) (rs := 0) (ci := 7) (q := 53) dX6_learn_50 q1692 q1694 rfl qs68 gcX6_sits mO (c_sits (d := d + 1) hw ok.1 hr (by omega) h0 h1) rfl rfl ?_
          refine g_iload_n (q := 54) dX6_learn_53 rfl rfl ?_
          exact g_iret dX6_learn_54 rfl ⟨rfl, rfl⟩
        · exact absurd c41 z
      · exact absurd c30 z
    · exact absurd ⟨hr, hr1⟩ c5
theorem c_learn_bad (hw : 0 ≤ w 2 ∧ w 2 ≤ 12) (hr : in32 r) (hx : ¬ (0 ≤ r ∧ r ≤ w 2 - 1)) : CALL E iX6_learn (d + 2) 0 0 [.ref am, vI r] (mH E G am th w hs si lo bk iW iH iB iL iS tp td fv sz pa fr tk vl fk fp fsh hdt lt kl kn cp cd bp bl md sw nd mn my wd nm mv) (qR (vI (-2)) (mH E G am th w hs si lo bk iW iH iB iL iS tp td fv sz pa fr tk vl fk fp fsh hdt lt kl kn cp cd bp bl md sw nd mn my wd nm mv)) := by
  show GO E iX6_learn _ _ _ 0 [some (.ref am), some (vI r), none, none] [] _ _
  refine g_aload_n (q := 1) dX6_learn_0 rfl rfl ?_
  refine g_iload_n (q := 2) dX6_learn_1 rfl rfl ?_
  refine g_cv (I' := iX6_isRow) (mc := 0) (ms := 0) (rc := 0) (rs := 0) (ci := 7) (q := 5) dX6_learn_2 q1651 q1653 rfl qs60 gcX6_isRow mO (c_isRowM hr hw) rfl rfl ?_
  refine g_ifneB (t := 11) (q := 8) dX6_learn_5 (by decide) rfl (fun c5 => ?_) (fun c5 => ?_)
  · exact absurd c5 hx
  · refine g_bipush (q := 10) dX6_learn_8 rfl ?_
    exact g_iret dX6_learn_10 rfl ⟨rfl, rfl⟩
theorem c_waits (hw : WFw w) (hB0 : 0 ≤ B) (hB : B ≤ 800000000) (hkl : in32 kl) (hkn : in32 kn) (hh : HSok B hs) (hv : 0 ≤ v ∧ v ≤ 200) : CALL E iX6_waits (d + 4) 0 0 [.ref am, vI v] (mH E G am th w hs si lo bk iW iH iB iL iS tp td fv sz pa fr tk vl fk fp fsh hdt lt kl kn cp cd bp bl md sw nd mn my wd nm mv) (qR (vI (mHours w kl kn v.toNat hs 2016)) (mH E G am th w (mHours w kl kn v.toNat hs) si lo bk iW iH iB iL iS tp td fv sz pa fr tk vl fk fp fsh hdt lt kl kn cp cd bp bl md sw nd mn my wd nm mv)) := by
  show GO E iX6_waits _ _ _ 0 [some (.ref am), some (vI v)] [] _ _
  refine g_iload_n (q := 1) dX6_waits_0 rfl rfl ?_
  refine g_i2l (q := 2) dX6_waits_1 (by first | assumption | exact in32_gB | exact in32_gCmp | (unfold in32; omega)) rfl ?_
  refine g_lconst0 (q := 3) dX6_waits_2 rfl ?_
  refine g_ldc2 (a := 200) (q := 6) dX6_waits_3 q1708 (by decide) rfl ?_
  refine g_cs (I' := iX6_in) (mc := 0) (ms := 0) (rc := 0) (rs := 0) (q := 9) dX6_waits_6 q1514 q1515 gcX6_in (c_inM (by unfold in64; omega) (by unfold in64; omega) (by unfold in64; omega)) rfl rfl ?_
  refine g_ifneB (t := 15) (q := 12) dX6_waits_9 (by decide) rfl (fun c9 => ?_) (fun c9 => ?_)
  · refine g_aload_n (q := 16) dX6_waits_15 rfl rfl ?_
    refine g_iload_n (q := 17) dX6_waits_16 rfl rfl ?_
    refine g_cvV (I' := iX6_hoursGo) (mc := 0) (ms := 0) (rc := 0) (rs := 0) (ci := 7) (q := 20) dX6_waits_17 q1709 q1711 rfl qs70 gcX6_hoursGo mO (c_hoursGo (d := d) hw hB0 (by omega) hkl hkn (by omega) hh) rfl rfl ?_
    refine g_aload_n (q := 21) dX6_waits_20 rfl rfl ?_
    refine gm_get (k := 2) (q := 24) dX6_waits_21 q1396 (by decide) rfl rfl ?_
    refine g_sipush (q := 27) dX6_waits_24 rfl ?_
    refine g_iald (q := 28) dX6_waits_27 mA2 (by omega) (by omega) rfl ?_
    exact g_iret dX6_waits_28 rfl ⟨rfl, rfl⟩
  · exact absurd hv c9
theorem c_waits_bad (hr : in32 v) (hx : ¬ (0 ≤ v ∧ v ≤ 200)) : CALL E iX6_waits (d + 1) 0 0 [.ref am, vI v] (mH E G am th w hs si lo bk iW iH iB iL iS tp td fv sz pa fr tk vl fk fp fsh hdt lt kl kn cp cd bp bl md sw nd mn my wd nm mv) (qR (vI (-2)) (mH E G am th w hs si lo bk iW iH iB iL iS tp td fv sz pa fr tk vl fk fp fsh hdt lt kl kn cp cd bp bl md sw nd mn my wd nm mv)) := by
  have h5 := hr.1
  have h6 := hr.2
  show GO E iX6_waits _ _ _ 0 [some (.ref am), some (vI v)] [] _ _
  refine g_iload_n (q := 1) dX6_waits_0 rfl rfl ?_
  refine g_i2l (q := 2) dX6_waits_1 (by first | assumption | exact in32_gB | exact in32_gCmp | (unfold in32; omega)) rfl ?_
  refine g_lconst0 (q := 3) dX6_waits_2 rfl ?_
  refine g_ldc2 (a := 200) (q := 6) dX6_waits_3 q1708 (by decide) rfl ?_
  refine g_cs (I' := iX6_in) (mc := 0) (ms := 0) (rc := 0) (rs := 0) (q := 9) dX6_waits_6 q1514 q1515 gcX6_in (c_inM (by unfold in64; omega) (by unfold in64; omega) (by unfold in64; omega)) rfl rfl ?_
  refine g_ifneB (t := 15) (q := 12) dX6_waits_9 (by decide) rfl (fun c9 => ?_) (fun c9 => ?_)
  · exact absurd c9 hx
  · refine g_bipush (q := 14) dX6_waits_12 rfl ?_
    exact g_iret dX6_waits_14 rfl ⟨rfl, rfl⟩
end
