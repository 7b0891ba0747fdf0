/-! THE REFERENCE: fit -/
set_option maxRecDepth 100000
def ftL (w bk : Int → Int) (kl si : Int) : Nat → Int → Int × Int × Int → Int × Int × Int
  | 0, _, p => p
  | f + 1, k, p => ftL w bk kl si f (k + 1) (if mFits w bk kl k si = 0 then p else (p.1 + 1, if p.2.1 = -1 then k else p.2.1, k))
abbrev fitA (l s low high v : Int) : Prop := (0 ≤ l ∧ l ≤ 1) ∧ (0 ≤ s ∧ s ≤ 3) ∧ (0 ≤ low ∧ low ≤ high) ∧ (0 ≤ high ∧ high ≤ 1000) ∧ high - low ≤ 30 ∧ (0 ≤ v ∧ v ≤ 2)
abbrev fitB (w hs : Int → Int) (lo : Int) : Prop := hs 2016 ≤ 400 ∧ lo ≤ 0 ∧ w 2 = w 9
def pick3 (v : Int) (p : Int × Int × Int) : Int := if v = 0 then p.1 else if v = 1 then p.2.1 else p.2.2
def mFit (w bk : Int → Int) (si l s low high v : Int) : Int := pick3 v (ftL w bk (4 * l + s) si (high - low + 1).toNat low (0, -1, -1))
section
variable {E : gE} {d rc rs am : Nat} {G : gH}
variable {th si lo td sz pa fr tk vl fk fp hdt kl kn cd bp bl : Int} {w hs bk iW iH iB iL iS tp fv fsh lt cp md sw nd mn my wd nm mv : Int → Int}
variable {s a b r r2 i k v e B c n l low high : Int} {Q : Outcome → gH → Prop}
theorem c_fit (hw : WFw w) (hh : HSok B hs) (hkn : in32 kn) (hs0 : 0 ≤ si ∧ si ≤ 60) (hlo : in32 lo) (hw9 : in32 (w 9)) (hh6 : in32 (hs 2016)) (hbk : BKok w bk si) (h1 : in32 l) (h2 : in32 s) (h3 : in32 low) (h4 : in32 high) (h5 : in32 v) :
    CALL E iX6_fit (d + 6) 0 0 [.ref am, vI l, vI s, vI low, vI high, vI v] (mH E G am th w hs si lo bk iW iH iB iL iS tp td fv sz pa fr tk vl fk fp fsh hdt lt (-1) kn cp 0 bp bl md sw nd mn my wd nm mv) (qP fun o k => o = vI (if fitA l s low high v then if fitB w hs lo then mFit w bk si l s low high v else -5 else -2) ∧ ∃ y z, in32 z ∧ k = (mH E G am th w hs si lo bk iW iH iB iL iS tp td fv sz pa fr tk vl fk fp fsh hdt lt (-1) z y 0 bp bl md sw nd mn my wd nm mv)) := by
  have h11 := h1.1
  have h12 := h1.2
  have h21 := h2.1
  have h22 := h2.2
  have h31 := h3.1
  have h32 := h3.2
  have h41 := h4.1
  have h42 := h4.2
  have h51 := h5.1
  have h52 := h5.2
  have hw2 := hw.2.1
  by_cases z : fitA l s low high v
  · rw [if_pos z]
    by_cases y : fitB w hs lo
    · rw [if_pos y]
      unfold mFit
      generalize eP : ftL w bk (4 * l + s) si (high - low + 1).toNat low (0, -1, -1) = P
      have loop : ∀ (f : Nat) (c n a b : Int) (y1 : Int → Int), 0 ≤ c → c + f = high + 1 → 0 ≤ n → n + f ≤ 1000 → (-1 ≤ a ∧ a ≤ 1000) → (-1 ≤ b ∧ b ≤ 1000) → ftL w bk (4 * l + s) si f c (n, a, b) = P →
          GO E iX6_fit (d + 6) 0 0 135 [some (.ref am), some (vI l), some (vI s), some (vI low), some (vI high), some (vI v), some (vI n), some (vI a), some (vI b)] [] (mH E G am th w hs si lo bk iW iH iB iL iS tp td fv sz pa fr tk vl fk fp fsh hdt lt (4 * l + s) c y1 0 bp bl md sw nd mn my wd nm mv) (qP fun o k => o = vI (pick3 v P) ∧ ∃ y z, in32 z ∧ k = (mH E G am th w hs si lo bk iW iH iB iL iS tp td fv sz pa fr tk vl fk fp fsh hdt lt (-1) z y 0 bp bl md sw nd mn my wd nm mv)) := by
        intro f
        induction f with
        | zero =>
          intro c n a b y1 q1 q2 q3 q4 q5 q6 q7
          have e : P = (n, a, b) := q7.symm
          subst e
          show GO _ _ _ _ _ _ _ _ _ (qP fun o k => o = vI (if v = 0 then n else if v = 1 then a else b) ∧ _)
          refine g_aload_n (q := 136) dX6_fit_135 rfl rfl ?_
          refine gm_get (k := 25) (q := 139) dX6_fit_136 q1419 (by decide) rfl rfl ?_
          refine g_iload (q := 141) dX6_fit_139 rfl rfl ?_
          refine g_icmp_gt (t := 193) (q := 144) dX6_fit_141 (by decide) rfl (by first | assumption | exact in32_gB | exact in32_gCmp | (unfold in32; omega)) (by first | assumption | exact in32_gB | exact in32_gCmp | (unfold in32; omega)) (fun c141 => ?_) (fun c141 => ?_)
          · refine g_aload_n (q := 194) dX6_fit_193 rfl rfl ?_
            refine g_iconst (q := 195) dX6_fit_194 rfl ?_
            refine gm_put24 (q := 198) dX6_fit_195 q1418 rfl ?_
            refine g_iload (q := 200) dX6_fit_198 rfl rfl ?_
            refine g_if_ne (t := 208) (q := 203) dX6_fit_200 (by decide) rfl (by first | assumption | exact in32_gB | exact in32_gCmp | (unfold in32; omega)) (fun c200 => ?_) (fun c200 => ?_)
            · refine g_iload (q := 210) dX6_fit_208 rfl rfl ?_
              refine g_iconst (q := 211) dX6_fit_210 rfl ?_
              refine g_icmp_ne (t := 219) (q := 214) dX6_fit_211 (by decide) rfl (by first | assumption | exact in32_gB | exact in32_gCmp | (unfold in32; omega)) (by first | assumption | exact in32_gB | exact in32_gCmp | (unfold in32; omega)) (fun c211 => ?_) (fun c211 => ?_)
              · refine g_iload (q := 221) dX6_fit_219 rfl rfl ?_
                exact g_iret dX6_fit_221 rfl (by first | exact ⟨_, rfl, by rw [if_pos c200], _, _, (by unfold in32; omega), rfl⟩ | exact ⟨_, rfl, by rw [if_neg c200, if_pos c211], _, _, (by unfold in32; omega), rfl⟩ | exact ⟨_, rfl, by rw [if_neg c200, if_neg c211], _, _, (by unfold in32; omega), rfl⟩)
              · refine g_iload (q := 216) dX6_fit_214 rfl rfl ?_
                refine g_goto (t := 221) dX6_fit_216 (by decide) ?_
                exact g_iret dX6_fit_221 rfl (by first | exact ⟨_, rfl, by rw [if_pos c200], _, _, (by unfold in32; omega), rfl⟩ | exact ⟨_, rfl, by rw [if_neg c200, if_pos c211], _, _, (by unfold in32; omega), rfl⟩ | exact ⟨_, rfl, by rw [if_neg c200, if_neg c211], _, _, (by unfold in32; omega), rfl⟩)
            · refine g_iload (q := 205) dX6_fit_203 rfl rfl ?_
              refine g_goto (t := 221) dX6_fit_205 (by decide) ?_
              exact g_iret dX6_fit_221 rfl (by first | exact ⟨_, rfl, by rw [if_pos c200], _, _, (by unfold in32; omega), rfl⟩ | exact ⟨_, rfl, by rw [if_neg c200, if_pos c211], _, _, (by unfold in32; omega), rfl⟩ | exact ⟨_, rfl, by rw [if_neg c200, if_neg c211], _, _, (by unfold in32; omega), rfl⟩)
          · exact absurd c141 (by omega)
        | succ f ih =>
          intro c n a b y1 q1 q2 q3 q4 q5 q6 q7
          replace q7 : ftL w bk (4 * l + s) si f (c + 1) (if mFits w bk (4 * l + s) c si = 0 then (n, a, b) else (n + 1, if a = -1 then c else a, c)) = P := q7
          refine g_aload_n (q := 136) dX6_fit_135 rfl rfl ?_
          refine gm_get (k := 25) (q := 139) dX6_fit_136 q1419 (by decide) rfl rfl ?_
          refine g_iload (q := 141) dX6_fit_139 rfl rfl ?_
          refine g_icmp_gt (t := 193) (q := 144) dX6_fit_141 (by decide) rfl (by first | assumption | exact in32_gB | exact in32_gCmp | (unfold in32; omega)) (by first | assumption | exact in32_gB | exact in32_gCmp | (unfold in32; omega)) (fun c141 => ?_) (fun c141 => ?_)
          · exact absurd c141 (by omega)
          · refine g_aload_n (q := 145) dX6_fit_144 rfl rfl ?_
            refine g_cvP (I' := iX6_fitsBook) (mc := 0) (ms := 0) (rc := 0) (rs := 0) (ci := 7) (q := 148) dX6_fit_145 q1878 q1880 rfl qs82 gcX6_fitsBook mO (c_fitsBook (d := d) hw hh (by unfold in32; omega) (by unfold in32; omega) hs0 hbk) rfl rfl (fun v145 k145 z145 => ?_)
            obtain ⟨rfl, m01, y2, rfl⟩ := z145
            refine g_if_ne (t := 154) (q := 151) dX6_fit_148 (by decide) rfl (by first | assumption | exact in32_gB | exact in32_gCmp | (unfold in32; omega)) (fun c148 => ?_) (fun c148 => ?_)
            · refine g_iinc (q := 157) dX6_fit_154 rfl gs6 rfl ?_
              refine g_iload (q := 159) dX6_fit_157 rfl rfl ?_
              refine g_iconst (q := 160) dX6_fit_159 rfl ?_
              refine g_icmp_ne (t := 170) (q := 163) dX6_fit_160 (by decide) rfl (by first | assumption | exact in32_gB | exact in32_gCmp | (unfold in32; omega)) (by first | assumption | exact in32_gB | exact in32_gCmp | (unfold in32; omega)) (fun c160 => ?_) (fun c160 => ?_)
              · refine g_iload (q := 172) dX6_fit_170 rfl rfl ?_
                refine g_istore (q := 174) dX6_fit_172 gs7 rfl ?_
                refine g_aload_n (q := 175) dX6_fit_174 rfl rfl ?_
                refine gm_get (k := 25) (q := 178) dX6_fit_175 q1419 (by decide) rfl rfl ?_
                refine g_istore (q := 180) dX6_fit_178 gs8 rfl ?_
                refine g_aload_n (q := 181) dX6_fit_180 rfl rfl ?_
                refine g_dup (q := 182) dX6_fit_181 rfl ?_
                refine gm_get (k := 25) (q := 185) dX6_fit_182 q1419 (by decide) rfl rfl ?_
                refine g_iconst (q := 186) dX6_fit_185 rfl ?_
                refine g_iadd (q := 187) dX6_fit_186 rfl ?_
                refine gm_put25 (q := 190) dX6_fit_187 q1419 rfl ?_
                refine g_goto (t := 135) dX6_fit_190 (by decide) ?_
                first
                | (rw [if_pos c148] at q7; exact ih _ _ _ _ _ (by omega) (by omega) (by omega) (by omega) (by omega) (by omega) q7)
                | (rw [if_neg c148, if_pos c160] at q7; exact ih _ _ _ _ _ (by omega) (by omega) (by omega) (by omega) (by omega) (by omega) q7)
                | (rw [if_neg c148, if_neg c160] at q7; exact ih _ _ _ _ _ (by omega) (by omega) (by omega) (by omega) (by omega) (by omega) q7)
              · refine g_aload_n (q := 164) dX6_fit_163 rfl rfl ?_
                refine gm_get (k := 25) (q := 167) dX6_fit_164 q1419 (by decide) rfl rfl ?_
                refine g_goto (t := 172) dX6_fit_167 (by decide) ?_
                refine g_istore (q := 174) dX6_fit_172 gs7 rfl ?_
                refine g_aload_n (q := 175) dX6_fit_174 rfl rfl ?_
                refine gm_get (k := 25) (q := 178) dX6_fit_175 q1419 (by decide) rfl rfl ?_
                refine g_istore (q := 180) dX6_fit_178 gs8 rfl ?_
                refine g_aload_n (q := 181) dX6_fit_180 rfl rfl ?_
                refine g_dup (q := 182) dX6_fit_181 rfl ?_
                refine gm_get (k := 25) (q := 185) dX6_fit_182 q1419 (by decide) rfl rfl ?_
                refine g_iconst (q := 186) dX6_fit_185 rfl ?_
                refine g_iadd (q := 187) dX6_fit_186 rfl ?_
                refine gm_put25 (q := 190) dX6_fit_187 q1419 rfl ?_
                refine g_goto (t := 135) dX6_fit_190 (by decide) ?_
                first
                | (rw [if_pos c148] at q7; exact ih _ _ _ _ _ (by omega) (by omega) (by omega) (by omega) (by omega) (by omega) q7)
                | (rw [if_neg c148, if_pos c160] at q7; exact ih _ _ _ _ _ (by omega) (by omega) (by omega) (by omega) (by omega) (by omega) q7)
                | (rw [if_neg c148, if_neg c160] at q7; exact ih _ _ _ _ _ (by omega) (by omega) (by omega) (by omega) (by omega) (by omega) q7)
            · refine g_goto (t := 180) dX6_fit_151 (by decide) ?_
              refine g_aload_n (q := 181) dX6_fit_180 rfl rfl ?_
              refine g_dup (q := 182) dX6_fit_181 rfl ?_
              refine gm_get (k := 25) (q := 185) dX6_fit_182 q1419 (by decide) rfl rfl ?_
              refine g_iconst (q := 186) dX6_fit_185 rfl ?_
              refine g_iadd (q := 187) dX6_fit_186 rfl ?_
              refine gm_put25 (q := 190) dX6_fit_187 q1419 rfl ?_
              refine g_goto (t := 135) dX6_fit_190 (by decide) ?_
              first
              | (rw [if_pos c148] at q7; exact ih _ _ _ _ _ (by omega) (by omega) (by omega) (by omega) (by omega) (by omega) q7)
              | (rw [if_neg c148, if_pos c160] at q7; exact ih _ _ _ _ _ (by omega) (by omega) (by omega) (by omega) (by omega) (by omega) q7)
              | (rw [if_neg c148, if_neg c160] at q7; exact ih _ _ _ _ _ (by omega) (by omega) (by omega) (by omega) (by omega) (by omega) q7)
      show GO E iX6_fit _ _ _ 0 [some (.ref am), some (vI l), some (vI s), some (vI low), some (vI high), some (vI v), none, none, none] [] _ _
      refine g_iload_n (q := 1) dX6_fit_0 rfl rfl ?_
      refine g_i2l (q := 2) dX6_fit_1 (by first | assumption | exact in32_gB | exact in32_gCmp | (unfold in32; omega)) rfl ?_
      refine g_lconst0 (q := 3) dX6_fit_2 rfl ?_
      refine g_lconst1 (q := 4) dX6_fit_3 rfl ?_
      refine g_cs (I' := iX6_in) (mc := 0) (ms := 0) (rc := 0) (rs := 0) (q := 7) dX6_fit_4 q1514 q1515 gcX6_in (c_inM (by unfold in64; omega) (by unfold in64; omega) (by unfold in64; omega)) rfl rfl ?_
      refine g_ifeqB (t := 69) (q := 10) dX6_fit_7 (by decide) rfl (fun c7 => ?_) (fun c7 => ?_)
      · exact absurd z.1 c7
      · refine g_iload_n (q := 11) dX6_fit_10 rfl rfl ?_
        refine g_i2l (q := 12) dX6_fit_11 (by first | assumption | exact in32_gB | exact in32_gCmp | (unfold in32; omega)) rfl ?_
        refine g_lconst0 (q := 13) dX6_fit_12 rfl ?_
        refine g_ldc2 (a := 3) (q := 16) dX6_fit_13 q1630 (by decide) rfl ?_
        refine g_cs (I' := iX6_in) (mc := 0) (ms := 0) (rc := 0) (rs := 0) (q := 19) dX6_fit_16 q1514 q1515 gcX6_in (c_inM (by unfold in64; omega) (by unfold in64; omega) (by unfold in64; omega)) rfl rfl ?_
        refine g_ifeqB (t := 69) (q := 22) dX6_fit_19 (by decide) rfl (fun c19 => ?_) (fun c19 => ?_)
        · exact absurd z.2.1 c19
        · refine g_iload_n (q := 23) dX6_fit_22 rfl rfl ?_
          refine g_i2l (q := 24) dX6_fit_23 (by first | assumption | exact in32_gB | exact in32_gCmp | (unfold in32; omega)) rfl ?_
          refine g_lconst0 (q := 25) dX6_fit_24 rfl ?_
          refine g_iload (q := 27) dX6_fit_25 rfl rfl ?_
          refine g_i2l (q := 28) dX6_fit_27 (by first | assumption | exact in32_gB | exact in32_gCmp | (unfold in32; omega)) rfl ?_
          refine g_cs (I' := iX6_in) (mc := 0) (ms := 0) (rc := 0) (rs := 0) (q := 31) dX6_fit_28 q1514 q1515 gcX6_in (c_inM (by unfold in64; omega) (by unfold in64; omega) (by unfold in64; omega)) rfl rfl ?_
          refine g_ifeqB (t := 69) (q := 34) dX6_fit_31 (by decide) rfl (fun c31 => ?_) (fun c31 => ?_)
          · exact absurd z.2.2.1 c31
          · refine g_iload (q := 36) dX6_fit_34 rfl rfl ?_
            refine g_i2l (q := 37) dX6_fit_36 (by first | assumption | exact in32_gB | exact in32_gCmp | (unfold in32; omega)) rfl ?_
            refine g_lconst0 (q := 38) dX6_fit_37 rfl ?_
            refine g_ldc2 (a := 1000) (q := 41) dX6_fit_38 q1631 (by decide) rfl ?_
            refine g_cs (I' := iX6_in) (mc := 0) (ms := 0) (rc := 0) (rs := 0) (q := 44) dX6_fit_41 q1514 q1515 gcX6_in (c_inM (by unfold in64; omega) (by unfold in64; omega) (by unfold in64; omega)) rfl rfl ?_
            refine g_ifeqB (t := 69) (q := 47) dX6_fit_44 (by decide) rfl (fun c44 => ?_) (fun c44 => ?_)
            · exact absurd z.2.2.2.1 c44
            · refine g_iload (q := 49) dX6_fit_47 rfl rfl ?_
              refine g_iload_n (q := 50) dX6_fit_49 rfl rfl ?_
              refine g_isub (q := 51) dX6_fit_50 rfl ?_
              refine g_bipush (q := 53) dX6_fit_51 rfl ?_
              refine g_icmp_gt (t := 69) (q := 56) dX6_fit_53 (by decide) rfl (by first | assumption | exact in32_gB | exact in32_gCmp | (unfold in32; omega)) (by first | assumption | exact in32_gB | exact in32_gCmp | (unfold in32; omega)) (fun c53 => ?_) (fun c53 => ?_)
              · exact absurd z.2.2.2.2.1 (by omega)
              · refine g_iload (q := 58) dX6_fit_56 rfl rfl ?_
                refine g_i2l (q := 59) dX6_fit_58 (by first | assumption | exact in32_gB | exact in32_gCmp | (unfold in32; omega)) rfl ?_
                refine g_lconst0 (q := 60) dX6_fit_59 rfl ?_
                refine g_ldc2 (a := 2) (q := 63) dX6_fit_60 q1513 (by decide) rfl ?_
                refine g_cs (I' := iX6_in) (mc := 0) (ms := 0) (rc := 0) (rs := 0) (q := 66) dX6_fit_63 q1514 q1515 gcX6_in (c_inM (by unfold in64; omega) (by unfold in64; omega) (by unfold in64; omega)) rfl rfl ?_
                refine g_ifneB (t := 72) (q := 69) dX6_fit_66 (by decide) rfl (fun c66 => ?_) (fun c66 => ?_)
                · refine g_aload_n (q := 73) dX6_fit_72 rfl rfl ?_
                  refine gm_get (k := 2) (q := 76) dX6_fit_73 q1396 (by decide) rfl rfl ?_
                  refine g_sipush (q := 79) dX6_fit_76 rfl ?_
                  refine g_iald (q := 80) dX6_fit_79 mA2 (by omega) (by omega) rfl ?_
                  refine g_sipush (q := 83) dX6_fit_80 rfl ?_
                  refine g_icmp_gt (t := 109) (q := 86) dX6_fit_83 (by decide) rfl (by first | assumption | exact in32_gB | exact in32_gCmp | (unfold in32; omega)) (by first | assumption | exact in32_gB | exact in32_gCmp | (unfold in32; omega)) (fun c83 => ?_) (fun c83 => ?_)
                  · exact absurd y.1 (by omega)
                  · refine g_aload_n (q := 87) dX6_fit_86 rfl rfl ?_
                    refine gm_get (k := 4) (q := 90) dX6_fit_87 q1398 (by decide) rfl rfl ?_
                    refine g_if_gt (t := 109) (q := 93) dX6_fit_90 (by decide) rfl (by first | assumption | exact in32_gB | exact in32_gCmp | (unfold in32; omega)) (fun c90 => ?_) (fun c90 => ?_)
                    · exact absurd y.2.1 (by omega)
                    · refine g_aload_n (q := 94) dX6_fit_93 rfl rfl ?_
                      refine gm_get (k := 1) (q := 97) dX6_fit_94 q1395 (by decide) rfl rfl ?_
                      refine g_iconst (q := 98) dX6_fit_97 rfl ?_
                      refine g_iald (q := 99) dX6_fit_98 mA1 (by omega) (by omega) rfl ?_
                      refine g_aload_n (q := 100) dX6_fit_99 rfl rfl ?_
                      refine gm_get (k := 1) (q := 103) dX6_fit_100 q1395 (by decide) rfl rfl ?_
                      refine g_bipush (q := 105) dX6_fit_103 rfl ?_
                      refine g_iald (q := 106) dX6_fit_105 mA1 (by omega) (by omega) rfl ?_
                      refine g_icmp_eq (t := 112) (q := 109) dX6_fit_106 (by decide) rfl (by first | assumption | exact in32_gB | exact in32_gCmp | (unfold in32; omega)) (by first | assumption | exact in32_gB | exact in32_gCmp | (unfold in32; omega)) (fun c106 => ?_) (fun c106 => ?_)
                      · refine g_iconst (q := 113) dX6_fit_112 rfl ?_
                        refine g_istore (q := 115) dX6_fit_113 gs6 rfl ?_
                        refine g_iconst (q := 116) dX6_fit_115 rfl ?_
                        refine g_istore (q := 118) dX6_fit_116 gs7 rfl ?_
                        refine g_iconst (q := 119) dX6_fit_118 rfl ?_
                        refine g_istore (q := 121) dX6_fit_119 gs8 rfl ?_
                        refine g_aload_n (q := 122) dX6_fit_121 rfl rfl ?_
                        refine g_iconst (q := 123) dX6_fit_122 rfl ?_
                        refine g_iload_n (q := 124) dX6_fit_123 rfl rfl ?_
                        refine g_imul (q := 125) dX6_fit_124 rfl ?_
                        refine g_iload_n (q := 126) dX6_fit_125 rfl rfl ?_
                        refine g_iadd (q := 127) dX6_fit_126 rfl ?_
                        refine gm_put24 (q := 130) dX6_fit_127 q1418 rfl ?_
                        refine g_aload_n (q := 131) dX6_fit_130 rfl rfl ?_
                        refine g_iload_n (q := 132) dX6_fit_131 rfl rfl ?_
                        refine gm_put25 (q := 135) dX6_fit_132 q1419 rfl ?_
                        exact loop (high - low + 1).toNat low 0 (-1) (-1) cp (by omega) (by omega) (by omega) (by omega) (by omega) (by omega) eP
                      · exact absurd y.2.2 c106
                · exact absurd z.2.2.2.2.2 c66
    · rw [if_neg y]
      show GO E iX6_fit _ _ _ 0 [some (.ref am), some (vI l), some (vI s), some (vI low), some (vI high), some (vI v), none, none, none] [] _ _
      refine g_iload_n (q := 1) dX6_fit_0 rfl rfl ?_
      refine g_i2l (q := 2) dX6_fit_1 (by first | assumption | exact in32_gB | exact in32_gCmp | (unfold in32; omega)) rfl ?_
      refine g_lconst0 (q := 3) dX6_fit_2 rfl ?_
      refine g_lconst1 (q := 4) dX6_fit_3 rfl ?_
      refine g_cs (I' := iX6_in) (mc := 0) (ms := 0) (rc := 0) (rs := 0) (q := 7) dX6_fit_4 q1514 q1515 gcX6_in (c_inM (by unfold in64; omega) (by unfold in64; omega) (by unfold in64; omega)) rfl rfl ?_
      refine g_ifeqB (t := 69) (q := 10) dX6_fit_7 (by decide) rfl (fun c7 => ?_) (fun c7 => ?_)
      · exact absurd z.1 c7
      · refine g_iload_n (q := 11) dX6_fit_10 rfl rfl ?_
        refine g_i2l (q := 12) dX6_fit_11 (by first | assumption | exact in32_gB | exact in32_gCmp | (unfold in32; omega)) rfl ?_
        refine g_lconst0 (q := 13) dX6_fit_12 rfl ?_
        refine g_ldc2 (a := 3) (q := 16) dX6_fit_13 q1630 (by decide) rfl ?_
        refine g_cs (I' := iX6_in) (mc := 0) (ms := 0) (rc := 0) (rs := 0) (q := 19) dX6_fit_16 q1514 q1515 gcX6_in (c_inM (by unfold in64; omega) (by unfold in64; omega) (by unfold in64; omega)) rfl rfl ?_
        refine g_ifeqB (t := 69) (q := 22) dX6_fit_19 (by decide) rfl (fun c19 => ?_) (fun c19 => ?_)
        · exact absurd z.2.1 c19
        · refine g_iload_n (q := 23) dX6_fit_22 rfl rfl ?_
          refine g_i2l (q := 24) dX6_fit_23 (by first | assumption | exact in32_gB | exact in32_gCmp | (unfold in32; omega)) rfl ?_
          refine g_lconst0 (q := 25) dX6_fit_24 rfl ?_
          refine g_iload (q := 27) dX6_fit_25 rfl rfl ?_
          refine g_i2l (q := 28) dX6_fit_27 (by first | assumption | exact in32_gB | exact in32_gCmp | (unfold in32; omega)) rfl ?_
          refine g_cs (I' := iX6_in) (mc := 0) (ms := 0) (rc := 0) (rs := 0) (q := 31) dX6_fit_28 q1514 q1515 gcX6_in (c_inM (by unfold in64; omega) (by unfold in64; omega) (by unfold in64; omega)) rfl rfl ?_
          refine g_ifeqB (t := 69) (q := 34) dX6_fit_31 (by decide) rfl (fun c31 => ?_) (fun c31 => ?_)
          · exact absurd z.2.2.1 c31
          · refine g_iload (q := 36) dX6_fit_34 rfl rfl ?_
            refine g_i2l (q := 37) dX6_fit_36 (by first | assumption | exact in32_gB | exact in32_gCmp | (unfold in32; omega)) rfl ?_
            refine g_lconst0 (q := 38) dX6_fit_37 rfl ?_
            refine g_ldc2 (a := 1000) (q := 41) dX6_fit_38 q1631 (by decide) rfl ?_
            refine g_cs (I' := iX6_in) (mc := 0) (ms := 0) (rc := 0) (rs := 0) (q := 44) dX6_fit_41 q1514 q1515 gcX6_in (c_inM (by unfold in64; omega) (by unfold in64; omega) (by unfold in64; omega)) rfl rfl ?_
            refine g_ifeqB (t := 69) (q := 47) dX6_fit_44 (by decide) rfl (fun c44 => ?_) (fun c44 => ?_)
            · exact absurd z.2.2.2.1 c44
            · refine g_iload (q := 49) dX6_fit_47 rfl rfl ?_
              refine g_iload_n (q := 50) dX6_fit_49 rfl rfl ?_
              refine g_isub (q := 51) dX6_fit_50 rfl ?_
              refine g_bipush (q := 53) dX6_fit_51 rfl ?_
              refine g_icmp_gt (t := 69) (q := 56) dX6_fit_53 (by decide) rfl (by first | assumption | exact in32_gB | exact in32_gCmp | (unfold in32; omega)) (by first | assumption | exact in32_gB | exact in32_gCmp | (unfold in32; omega)) (fun c53 => ?_) (fun c53 => ?_)
              · exact absurd z.2.2.2.2.1 (by omega)
              · refine g_iload (q := 58) dX6_fit_56 rfl rfl ?_
                refine g_i2l (q := 59) dX6_fit_58 (by first | assumption | exact in32_gB | exact in32_gCmp | (unfold in32; omega)) rfl ?_
                refine g_lconst0 (q := 60) dX6_fit_59 rfl ?_
                refine g_ldc2 (a := 2) (q := 63) dX6_fit_60 q1513 (by decide) rfl ?_
                refine g_cs (I' := iX6_in) (mc := 0) (ms := 0) (rc := 0) (rs := 0) (q := 66) dX6_fit_63 q1514 q1515 gcX6_in (c_inM (by unfold in64; omega) (by unfold in64; omega) (by unfold in64; omega)) rfl rfl ?_
                refine g_ifneB (t := 72) (q := 69) dX6_fit_66 (by decide) rfl (fun c66 => ?_) (fun c66 => ?_)
                · refine g_aload_n (q := 73) dX6_fit_72 rfl rfl ?_
                  refine gm_get (k := 2) (q := 76) dX6_fit_73 q1396 (by decide) rfl rfl ?_
                  refine g_sipush (q := 79) dX6_fit_76 rfl ?_
                  refine g_iald (q := 80) dX6_fit_79 mA2 (by omega) (by omega) rfl ?_
                  refine g_sipush (q := 83) dX6_fit_80 rfl ?_
                  refine g_icmp_gt (t := 109) (q := 86) dX6_fit_83 (by decide) rfl (by first | assumption | exact in32_gB | exact in32_gCmp | (unfold in32; omega)) (by first | assumption | exact in32_gB | exact in32_gCmp | (unfold in32; omega)) (fun c83 => ?_) (fun c83 => ?_)
                  · refine g_bipush (q := 111) dX6_fit_109 rfl ?_
                    exact g_iret dX6_fit_111 rfl ⟨_, rfl, rfl, _, _, hkn, rfl⟩
                  · refine g_aload_n (q := 87) dX6_fit_86 rfl rfl ?_
                    refine gm_get (k := 4) (q := 90) dX6_fit_87 q1398 (by decide) rfl rfl ?_
                    refine g_if_gt (t := 109) (q := 93) dX6_fit_90 (by decide) rfl (by first | assumption | exact in32_gB | exact in32_gCmp | (unfold in32; omega)) (fun c90 => ?_) (fun c90 => ?_)
                    · refine g_bipush (q := 111) dX6_fit_109 rfl ?_
                      exact g_iret dX6_fit_111 rfl ⟨_, rfl, rfl, _, _, hkn, rfl⟩
                    · refine g_aload_n (q := 94) dX6_fit_93 rfl rfl ?_
                      refine gm_get (k := 1) (q := 97) dX6_fit_94 q1395 (by decide) rfl rfl ?_
                      refine g_iconst (q := 98) dX6_fit_97 rfl ?_
                      refine g_iald (q := 99) dX6_fit_98 mA1 (by omega) (by omega) rfl ?_
                      refine g_aload_n (q := 100) dX6_fit_99 rfl rfl ?_
                      refine gm_get (k := 1) (q := 103) dX6_fit_100 q1395 (by decide) rfl rfl ?_
                      refine g_bipush (q := 105) dX6_fit_103 rfl ?_
                      refine g_iald (q := 106) dX6_fit_105 mA1 (by omega) (by omega) rfl ?_
                      refine g_icmp_eq (t := 112) (q := 109) dX6_fit_106 (by decide) rfl (by first | assumption | exact in32_gB | exact in32_gCmp | (unfold in32; omega)) (by first | assumption | exact in32_gB | exact in32_gCmp | (unfold in32; omega)) (fun c106 => ?_) (fun c106 => ?_)
                      · exact absurd ⟨c83, c90, c106⟩ y
                      · refine g_bipush (q := 111) dX6_fit_109 rfl ?_
                        exact g_iret dX6_fit_111 rfl ⟨_, rfl, rfl, _, _, hkn, rfl⟩
                · exact absurd z.2.2.2.2.2 c66
  · rw [if_neg z]
    show GO E iX6_fit _ _ _ 0 [some (.ref am), some (vI l), some (vI s), some (vI low), some (vI high), some (vI v), none, none, none] [] _ _
    refine g_iload_n (q := 1) dX6_fit_0 rfl rfl ?_
    refine g_i2l (q := 2) dX6_fit_1 (by first | assumption | exact in32_gB | exact in32_gCmp | (unfold in32; omega)) rfl ?_
    refine g_lconst0 (q := 3) dX6_fit_2 rfl ?_
    refine g_lconst1 (q := 4) dX6_fit_3 rfl ?_
    refine g_cs (I' := iX6_in) (mc := 0) (ms := 0) (rc := 0) (rs := 0) (q := 7) dX6_fit_4 q1514 q1515 gcX6_in (c_inM (by unfold in64; omega) (by unfold in64; omega) (by unfold in64; omega)) rfl rfl ?_
    refine g_ifeqB (t := 69) (q := 10) dX6_fit_7 (by decide) rfl (fun c7 => ?_) (fun c7 => ?_)
    · refine g_bipush (q := 71) dX6_fit_69 rfl ?_
      exact g_iret dX6_fit_71 rfl ⟨_, rfl, rfl, _, _, hkn, rfl⟩
    · refine g_iload_n (q := 11) dX6_fit_10 rfl rfl ?_
      refine g_i2l (q := 12) dX6_fit_11 (by first | assumption | exact in32_gB | exact in32_gCmp | (unfold in32; omega)) rfl ?_
      refine g_lconst0 (q := 13) dX6_fit_12 rfl ?_
      refine g_ldc2 (a := 3) (q := 16) dX6_fit_13 q1630 (by decide) rfl ?_
      refine g_cs (I' := iX6_in) (mc := 0) (ms := 0) (rc := 0) (rs := 0) (q := 19) dX6_fit_16 q1514 q1515 gcX6_in (c_inM (by unfold in64; omega) (by unfold in64; omega) (by unfold in64; omega)) rfl rfl ?_
      refine g_ifeqB (t := 69) (q := 22) dX6_fit_19 (by decide) rfl (fun c19 => ?_) (fun c19 => ?_)
      · refine g_bipush (q := 71) dX6_fit_69 rfl ?_
        exact g_iret dX6_fit_71 rfl ⟨_, rfl, rfl, _, _, hkn, rfl⟩
      · refine g_iload_n (q := 23) dX6_fit_22 rfl rfl ?_
        refine g_i2l (q := 24) dX6_fit_23 (by first | assumption | exact in32_gB | exact in32_gCmp | (unfold in32; omega)) rfl ?_
        refine g_lconst0 (q := 25) dX6_fit_24 rfl ?_
        refine g_iload (q := 27) dX6_fit_25 rfl rfl ?_
        refine g_i2l (q := 28) dX6_fit_27 (by first | assumption | exact in32_gB | exact in32_gCmp | (unfold in32; omega)) rfl ?_
        refine g_cs (I' := iX6_in) (mc := 0) (ms := 0) (rc := 0) (rs := 0) (q := 31) dX6_fit_28 q1514 q1515 gcX6_in (c_inM (by unfold in64; omega) (by unfold in64; omega) (by unfold in64; omega)) rfl rfl ?_
        refine g_ifeqB (t := 69) (q := 34) dX6_fit_31 (by decide) rfl (fun c31 => ?_) (fun c31 => ?_)
        · refine g_bipush (q := 71) dX6_fit_69 rfl ?_
          exact g_iret dX6_fit_71 rfl ⟨_, rfl, rfl, _, _, hkn, rfl⟩
        · refine g_iload (q := 36) dX6_fit_34 rfl rfl ?_
          refine g_i2l (q := 37) dX6_fit_36 (by first | assumption | exact in32_gB | exact in32_gCmp | (unfold in32; omega)) rfl ?_
          refine g_lconst0 (q := 38) dX6_fit_37 rfl ?_
          refine g_ldc2 (a := 1000) (q := 41) dX6_fit_38 q1631 (by decide) rfl ?_
          refine g_cs (I' := iX6_in) (mc := 0) (ms := 0) (rc := 0) (rs := 0) (q := 44) dX6_fit_41 q1514 q1515 gcX6_in (c_inM (by unfold in64; omega) (by unfold in64; omega) (by unfold in64; omega)) rfl rfl ?_
          refine g_ifeqB (t := 69) (q := 47) dX6_fit_44 (by decide) rfl (fun c44 => ?_) (fun c44 => ?_)
          · refine g_bipush (q := 71) dX6_fit_69 rfl ?_
            exact g_iret dX6_fit_71 rfl ⟨_, rfl, rfl, _, _, hkn, rfl⟩
          · refine g_iload (q := 49) dX6_fit_47 rfl rfl ?_
            refine g_iload_n (q := 50) dX6_fit_49 rfl rfl ?_
            refine g_isub (q := 51) dX6_fit_50 rfl ?_
            refine g_bipush (q := 53) dX6_fit_51 rfl ?_
            refine g_icmp_gt (t := 69) (q := 56) dX6_fit_53 (by decide) rfl (by first | assumption | exact in32_gB | exact in32_gCmp | (unfold in32; omega)) (by first | assumption | exact in32_gB | exact in32_gCmp | (unfold in32; omega)) (fun c53 => ?_) (fun c53 => ?_)
            · refine g_bipush (q := 71) dX6_fit_69 rfl ?_
              exact g_iret dX6_fit_71 rfl ⟨_, rfl, rfl, _, _, hkn, rfl⟩
            · refine g_iload (q := 58) dX6_fit_56 rfl rfl ?_
              refine g_i2l (q := 59) dX6_fit_58 (by first | assumption | exact in32_gB | exact in32_gCmp | (unfold in32; omega)) rfl ?_
              refine g_lconst0 (q := 60) dX6_fit_59 rfl ?_
              refine g_ldc2 (a := 2) (q := 63) dX6_fit_60 q1513 (by decide) rfl ?_
              refine g_cs (I' := iX6_in) (mc := 0) (ms := 0) (rc := 0) (rs := 0) (q := 66) dX6_fit_63 q1514 q1515 gcX6_in (c_inM (by unfold in64; omega) (by unfold in64; omega) (by unfold in64; omega)) rfl rfl ?_
              refine g_ifneB (t := 72) (q := 69) dX6_fit_66 (by decide) rfl (fun c66 => ?_) (fun c66 => ?_)
              · exact absurd ⟨c7, c19, c31, c44, c53, c66⟩ z
              · refine g_bipush (q := 71) dX6_fit_69 rfl ?_
                exact g_iret dX6_fit_71 rfl ⟨_, rfl, rfl, _, _, hkn, rfl⟩
end
