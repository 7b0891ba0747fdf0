/-! THE REFERENCE: comesTo -/
set_option maxRecDepth 100000
section
variable {E : gE} {d rc rs am : Nat} {G : gH}
variable {th si lo td sz pa fr tk vl fk fp hdt kl kn cd bp bl : Int} {w hs bk iW iH iB iL iS tp fv fsh lt cp md sw nd mn my wd nm mv : Int → Int}
variable {s a b r i k v has ea law B e t mi : Int} {Q : Outcome → gH → Prop}
/-- the inner loop (a term), head at 94 -/
theorem l_comesTo1 (hw : WFw w) (hh : HSok B hs) (hB : B ≤ 1000000000) (ha : 0 ≤ has ∧ has ≤ 1000) (he : 0 ≤ ea ∧ ea ≤ 9) (hmi : mi = 0 ∨ mi = 1) (he3 : e ≤ 300) :
    ∀ (n : Nat) (k t : Int) (x11 x12 x13 : Option Value), 0 ≤ k → k ≤ e → (e - k).toNat ≤ n → (-1000000000 ≤ t ∧ t ≤ 1000000000) →
    (∀ k' t' (x11 x12 x13 : Option Value), tmL w hs e has ea n k t = some (k', t') → k ≤ k' → k' ≤ e → (-1000000000 ≤ t' ∧ t' ≤ 1000000000) → GO E iX6_comesTo (d + 1) 0 0 208 [some (.ref am), some (vI law), some (vI has), some (vI ea), some (vI k'), some (vI e), some (vL s), none, some (vI mi), some (vL t'), none, x11, x12, x13] [] (mH E G am th w hs si lo bk iW iH iB iL iS tp td fv sz pa fr tk vl fk fp fsh hdt lt kl kn cp cd bp bl md sw nd mn my wd nm mv) Q) →
    (tmL w hs e has ea n k t = none → Q (.returned (some (vL 0))) (mH E G am th w hs si lo bk iW iH iB iL iS tp td fv sz pa fr tk vl fk fp fsh hdt lt kl kn cp cd bp bl md sw nd mn my wd nm mv)) →
    GO E iX6_comesTo (d + 1) 0 0 94 [some (.ref am), some (vI law), some (vI has), some (vI ea), some (vI k), some (vI e), some (vL s), none, some (vI mi), some (vL t), none, x11, x12, x13] [] (mH E G am th w hs si lo bk iW iH iB iL iS tp td fv sz pa fr tk vl fk fp fsh hdt lt kl kn cp cd bp bl md sw nd mn my wd nm mv) Q := by
  intro n
  induction n with
  | zero =>
    intro k t x11 x12 x13 h0 h9 hn ht kk kn
    refine g_iload (q := 96) dX6_comesTo_94 rfl rfl ?_
    refine g_iload (q := 98) dX6_comesTo_96 rfl rfl ?_
    refine g_icmp_ge (t := 208) (q := 101) dX6_comesTo_98 (by decide) rfl (by unfold in32; omega) (by unfold in32; omega) (fun c98 => ?_) (fun c98 => ?_)
    · exact kk k t _ _ _ (tmL_stop (by omega) 0) (Int.le_refl _) h9 ht
    · exact absurd c98 (by omega)
  | succ n ih =>
    intro k t x11 x12 x13 h0 h9 hn ht kk kn
    by_cases hk : k < e ∧ 3 ≤ w (220 + 3 * k)
    · have hp := hw.parts h0 (show k < 300 by omega)
      have hpv := partV_in (k := k) hw hh hB h0 (by omega) ha he
      have hmul := mul_in ht (show -1000000000 ≤ partV w hs k has ea ∧ partV w hs k has ea ≤ 1000000000 by omega)
      have hdiv := tdiv_in (b := partV w hs k has ea) ht
      have eq1 : tmL w hs e has ea (n + 1) k t = if w (220 + 3 * k) ≠ 3 ∧ partV w hs k has ea = 0 then none
        else if -1000000000 ≤ (if w (220 + 3 * k) = 3 then t * partV w hs k has ea else t.tdiv (partV w hs k has ea)) ∧ (if w (220 + 3 * k) = 3 then t * partV w hs k has ea else t.tdiv (partV w hs k has ea)) ≤ 1000000000
          then tmL w hs e has ea n (k + 1) (if w (220 + 3 * k) = 3 then t * partV w hs k has ea else t.tdiv (partV w hs k has ea))
          else none := if_pos hk
      refine g_iload (q := 96) dX6_comesTo_94 rfl rfl ?_
      refine g_iload (q := 98) dX6_comesTo_96 rfl rfl ?_
      refine g_icmp_ge (t := 208) (q := 101) dX6_comesTo_98 (by decide) rfl (by unfold in32; omega) (by unfold in32; omega) (fun c98 => ?_) (fun c98 => ?_)
      · exact absurd c98 (by omega)
      · refine g_aload_n (q := 102) dX6_comesTo_101 rfl rfl ?_
        refine gm_get (k := 1) (q := 105) dX6_comesTo_102 q1395 (by decide) rfl rfl ?_
        refine g_sipush (q := 108) dX6_comesTo_105 rfl ?_
        refine g_iconst (q := 109) dX6_comesTo_108 rfl ?_
        refine g_iload (q := 111) dX6_comesTo_109 rfl rfl ?_
        refine g_imul (q := 112) dX6_comesTo_111 rfl ?_
        refine g_iadd (q := 113) dX6_comesTo_112 rfl ?_
        refine g_iald (q := 114) dX6_comesTo_113 mA1 (by omega) (by omega) rfl ?_
        refine g_iconst (q := 115) dX6_comesTo_114 rfl ?_
        refine g_icmp_lt (t := 208) (q := 118) dX6_comesTo_115 (by decide) rfl (by first | assumption | exact in32_gB | exact in32_gCmp | (unfold in32; omega)) (by first | assumption | exact in32_gB | exact in32_gCmp | (unfold in32; omega)) (fun c115 => ?_) (fun c115 => ?_)
        · exact absurd c115 (by omega)
        · refine g_aload_n (q := 119) dX6_comesTo_118 rfl rfl ?_
          refine g_iload (q := 121) dX6_comesTo_119 rfl rfl ?_
          refine g_iload_n (q := 122) dX6_comesTo_121 rfl rfl ?_
          refine g_iload_n (q := 123) dX6_comesTo_122 rfl rfl ?_
          refine g_cv (I' := iX6_partOf) (mc := 0) (ms := 0) (rc := 0) (rs := 0) (ci := 7) (q := 126) dX6_comesTo_123 q1641 q1643 rfl qs59 gcX6_partOf mO (c_partOf hw hh hB h0 (by omega) ha he) rfl rfl ?_
          refine g_lstore (q := 128) dX6_comesTo_126 gt11 rfl ?_
          refine g_aload_n (q := 129) dX6_comesTo_128 rfl rfl ?_
          refine gm_get (k := 1) (q := 132) dX6_comesTo_129 q1395 (by decide) rfl rfl ?_
          refine g_sipush (q := 135) dX6_comesTo_132 rfl ?_
          refine g_iconst (q := 136) dX6_comesTo_135 rfl ?_
          refine g_iload (q := 138) dX6_comesTo_136 rfl rfl ?_
          refine g_imul (q := 139) dX6_comesTo_138 rfl ?_
          refine g_iadd (q := 140) dX6_comesTo_139 rfl ?_
          refine g_iald (q := 141) dX6_comesTo_140 mA1 (by omega) (by omega) rfl ?_
          refine g_iconst (q := 142) dX6_comesTo_141 rfl ?_
          refine g_icmp_ne (t := 149) (q := 145) dX6_comesTo_142 (by decide) rfl (by first | assumption | exact in32_gB | exact in32_gCmp | (unfold in32; omega)) (by first | assumption | exact in32_gB | exact in32_gCmp | (unfold in32; omega)) (fun c142 => ?_) (fun c142 => ?_)
          · refine g_iconst (q := 150) dX6_comesTo_149 rfl ?_
            refine g_istore (q := 152) dX6_comesTo_150 gs13 rfl ?_
            refine g_iload (q := 154) dX6_comesTo_152 rfl rfl ?_
            refine g_if_ne (t := 166) (q := 157) dX6_comesTo_154 (by decide) rfl (by first | assumption | exact in32_gB | exact in32_gCmp | (unfold in32; omega)) (fun c154 => absurd c154 (by decide)) (fun c154 => ?_)
            refine g_lload (q := 159) dX6_comesTo_157 rfl rfl ?_
            refine g_lconst0 (q := 160) dX6_comesTo_159 rfl ?_
            refine g_lcmp (q := 161) dX6_comesTo_160 (by unfold in64; omega) (by unfold in64; omega) rfl ?_
            refine g_cif_ne (t := 166) (q := 164) dX6_comesTo_161 (by decide) rfl (fun c161 => ?_) (fun c161 => ?_)
            · refine g_iload (q := 168) dX6_comesTo_166 rfl rfl ?_
              refine g_if_eq (t := 179) (q := 171) dX6_comesTo_168 (by decide) rfl (by first | assumption | exact in32_gB | exact in32_gCmp | (unfold in32; omega)) (fun c168 => ?_) (fun c168 => absurd c168 (by decide))
              refine g_lload (q := 181) dX6_comesTo_179 rfl rfl ?_
              refine g_lload (q := 183) dX6_comesTo_181 rfl rfl ?_
              refine g_ldiv (q := 184) dX6_comesTo_183 (by unfold in64; omega) (by unfold in64; omega) (by omega) rfl ?_
              refine g_lstore (q := 186) dX6_comesTo_184 gt9 rfl ?_
              refine g_lload (q := 188) dX6_comesTo_186 rfl rfl ?_
              refine g_ldc2 (a := -1000000000) (q := 191) dX6_comesTo_188 q1645 (by decide) rfl ?_
              refine g_ldc2 (a := 1000000000) (q := 194) dX6_comesTo_191 q1646 (by decide) rfl ?_
              refine g_cs (I' := iX6_in) (mc := 0) (ms := 0) (rc := 0) (rs := 0) (q := 197) dX6_comesTo_194 q1514 q1515 gcX6_in (c_inM (by unfold in64; omega) (by unfold in64; omega) (by unfold in64; omega)) rfl rfl ?_
              refine g_ifneB (t := 202) (q := 200) dX6_comesTo_197 (by decide) rfl (fun c197 => ?_) (fun c197 => ?_)
              · refine g_iinc (q := 205) dX6_comesTo_202 rfl gs4 rfl ?_
                refine g_goto (t := 94) dX6_comesTo_205 (by decide) ?_
                refine ih _ _ _ _ _ (by omega) (by omega) (by omega) (by omega) (fun k' t' y1 y2 y3 z1 z2 z4 z3 => kk k' t' y1 y2 y3 ?_ (by omega) z4 z3) (fun z => kn ?_)
                all_goals rw [eq1]
                all_goals first
                  | (rw [if_neg (by omega), if_pos c142, if_pos c197]; exact z1)
                  | (rw [if_neg (by omega), if_neg c142, if_pos c197]; exact z1)
                  | (rw [if_neg (by omega), if_pos c142, if_pos c197]; exact z)
                  | (rw [if_neg (by omega), if_neg c142, if_pos c197]; exact z)
              · refine g_lconst0 (q := 201) dX6_comesTo_200 rfl ?_
                exact g_lret dX6_comesTo_201 rfl (kn (by rw [eq1, if_neg (by omega)]; first | rw [if_pos c142, if_neg c197] | rw [if_neg c142, if_neg c197]))
            · refine g_lconst0 (q := 165) dX6_comesTo_164 rfl ?_
              exact g_lret dX6_comesTo_165 rfl (kn (by rw [eq1, if_pos ⟨by assumption, by assumption⟩]))
          · refine g_iconst (q := 146) dX6_comesTo_145 rfl ?_
            refine g_goto (t := 150) dX6_comesTo_146 (by decide) ?_
            refine g_istore (q := 152) dX6_comesTo_150 gs13 rfl ?_
            refine g_iload (q := 154) dX6_comesTo_152 rfl rfl ?_
            refine g_if_ne (t := 166) (q := 157) dX6_comesTo_154 (by decide) rfl (by first | assumption | exact in32_gB | exact in32_gCmp | (unfold in32; omega)) (fun c154 => ?_) (fun c154 => absurd c154 (by decide))
            refine g_iload (q := 168) dX6_comesTo_166 rfl rfl ?_
            refine g_if_eq (t := 179) (q := 171) dX6_comesTo_168 (by decide) rfl (by first | assumption | exact in32_gB | exact in32_gCmp | (unfold in32; omega)) (fun c168 => absurd c168 (by decide)) (fun c168 => ?_)
            refine g_lload (q := 173) dX6_comesTo_171 rfl rfl ?_
            refine g_lload (q := 175) dX6_comesTo_173 rfl rfl ?_
            refine g_lmul (q := 176) dX6_comesTo_175 rfl ?_
            refine g_goto (t := 184) dX6_comesTo_176 (by decide) ?_
            refine g_lstore (q := 186) dX6_comesTo_184 gt9 rfl ?_
            refine g_lload (q := 188) dX6_comesTo_186 rfl rfl ?_
            refine g_ldc2 (a := -1000000000) (q := 191) dX6_comesTo_188 q1645 (by decide) rfl ?_
            refine g_ldc2 (a := 1000000000) (q := 194) dX6_comesTo_191 q1646 (by decide) rfl ?_
            refine g_cs (I' := iX6_in) (mc := 0) (ms := 0) (rc := 0) (rs := 0) (q := 197) dX6_comesTo_194 q1514 q1515 gcX6_in (c_inM (by unfold in64; omega) (by unfold in64; omega) (by unfold in64; omega)) rfl rfl ?_
            refine g_ifneB (t := 202) (q := 200) dX6_comesTo_197 (by decide) rfl (fun c197 => ?_) (fun c197 => ?_)
            · refine g_iinc (q := 205) dX6_comesTo_202 rfl gs4 rfl ?_
              refine g_goto (t := 94) dX6_comesTo_205 (by decide) ?_
              refine ih _ _ _ _ _ (by omega) (by omega) (by omega) (by omega) (fun k' t' y1 y2 y3 z1 z2 z4 z3 => kk k' t' y1 y2 y3 ?_ (by omega) z4 z3) (fun z => kn ?_)
              all_goals rw [eq1]
              all_goals first
                | (rw [if_neg (by omega), if_pos c142, if_pos c197]; exact z1)
                | (rw [if_neg (by omega), if_neg c142, if_pos c197]; exact z1)
                | (rw [if_neg (by omega), if_pos c142, if_pos c197]; exact z)
                | (rw [if_neg (by omega), if_neg c142, if_pos c197]; exact z)
            · refine g_lconst0 (q := 201) dX6_comesTo_200 rfl ?_
              exact g_lret dX6_comesTo_201 rfl (kn (by rw [eq1, if_neg (by omega)]; first | rw [if_pos c142, if_neg c197] | rw [if_neg c142, if_neg c197]))
    · have eq1 : tmL w hs e has ea (n + 1) k t = some (k, t) := if_neg hk
      refine g_iload (q := 96) dX6_comesTo_94 rfl rfl ?_
      refine g_iload (q := 98) dX6_comesTo_96 rfl rfl ?_
      refine g_icmp_ge (t := 208) (q := 101) dX6_comesTo_98 (by decide) rfl (by unfold in32; omega) (by unfold in32; omega) (fun c98 => ?_) (fun c98 => ?_)
      · exact kk k t _ _ _ eq1 (Int.le_refl _) h9 ht
      · refine g_aload_n (q := 102) dX6_comesTo_101 rfl rfl ?_
        refine gm_get (k := 1) (q := 105) dX6_comesTo_102 q1395 (by decide) rfl rfl ?_
        refine g_sipush (q := 108) dX6_comesTo_105 rfl ?_
        refine g_iconst (q := 109) dX6_comesTo_108 rfl ?_
        refine g_iload (q := 111) dX6_comesTo_109 rfl rfl ?_
        refine g_imul (q := 112) dX6_comesTo_111 rfl ?_
        refine g_iadd (q := 113) dX6_comesTo_112 rfl ?_
        refine g_iald (q := 114) dX6_comesTo_113 mA1 (by omega) (by omega) rfl ?_
        refine g_iconst (q := 115) dX6_comesTo_114 rfl ?_
        refine g_icmp_lt (t := 208) (q := 118) dX6_comesTo_115 (by decide) rfl (by have hp := hw.parts h0 (show k < 300 by omega); unfold in32; omega) (by unfold in32; omega) (fun c115 => ?_) (fun c115 => ?_)
        · exact kk k t _ _ _ eq1 (Int.le_refl _) h9 ht
        · exact absurd ⟨c98, c115⟩ hk
/-- behind a term -/
theorem l_comesTo3 {x11 x12 x13 : Option Value} {k' : Int} (hmi : (mi = 1 ∧ w (220 + 3 * k) = 2) ∨ (mi = 0 ∧ ¬ w (220 + 3 * k) = 2)) (hs9 : -1000000000 ≤ s ∧ s ≤ 1000000000) (ht : -1000000000 ≤ t ∧ t ≤ 1000000000)
    (loop : ∀ (x8 x9 x10 x11 x12 x13 : Option Value), (-1000000000 ≤ (if w (220 + 3 * k) = 2 then s - t else s + t) ∧ (if w (220 + 3 * k) = 2 then s - t else s + t) ≤ 1000000000) → GO E iX6_comesTo (d + 1) 0 0 50 [some (.ref am), some (vI law), some (vI has), some (vI ea), some (vI k'), some (vI e), some (vL (if w (220 + 3 * k) = 2 then s - t else s + t)), none, x8, x9, x10, x11, x12, x13] [] (mH E G am th w hs si lo bk iW iH iB iL iS tp td fv sz pa fr tk vl fk fp fsh hdt lt kl kn cp cd bp bl md sw nd mn my wd nm mv) Q)
    (hq0 : ¬ (-1000000000 ≤ (if w (220 + 3 * k) = 2 then s - t else s + t) ∧ (if w (220 + 3 * k) = 2 then s - t else s + t) ≤ 1000000000) → Q (.returned (some (vL 0))) (mH E G am th w hs si lo bk iW iH iB iL iS tp td fv sz pa fr tk vl fk fp fsh hdt lt kl kn cp cd bp bl md sw nd mn my wd nm mv)) :
    GO E iX6_comesTo (d + 1) 0 0 208 [some (.ref am), some (vI law), some (vI has), some (vI ea), some (vI k'), some (vI e), some (vL s), none, some (vI mi), some (vL t), none, x11, x12, x13] [] (mH E G am th w hs si lo bk iW iH iB iL iS tp td fv sz pa fr tk vl fk fp fsh hdt lt kl kn cp cd bp bl md sw nd mn my wd nm mv) Q := by
  rcases hmi with ⟨rfl, hm⟩ | ⟨rfl, hm⟩
  · rw [if_pos hm] at loop hq0
    refine g_iload (q := 210) dX6_comesTo_208 rfl rfl ?_
    refine g_if_eq (t := 221) (q := 213) dX6_comesTo_210 (by decide) rfl (by first | assumption | exact in32_gB | exact in32_gCmp | (unfold in32; omega)) (fun c210 => ?_) (fun c210 => ?_)
    · exact absurd c210 (by decide)
    · refine g_lload (q := 215) dX6_comesTo_213 rfl rfl ?_
      refine g_lload (q := 217) dX6_comesTo_215 rfl rfl ?_
      refine g_lsub (q := 218) dX6_comesTo_217 rfl ?_
      refine g_goto (t := 226) dX6_comesTo_218 (by decide) ?_
      refine g_lstore (q := 228) dX6_comesTo_226 gt6 rfl ?_
      refine g_lload (q := 230) dX6_comesTo_228 rfl rfl ?_
      refine g_ldc2 (a := -1000000000) (q := 233) dX6_comesTo_230 q1645 (by decide) rfl ?_
      refine g_ldc2 (a := 1000000000) (q := 236) dX6_comesTo_233 q1646 (by decide) rfl ?_
      refine g_cs (I' := iX6_in) (mc := 0) (ms := 0) (rc := 0) (rs := 0) (q := 239) dX6_comesTo_236 q1514 q1515 gcX6_in (c_inM (by unfold in64; omega) (by unfold in64; omega) (by unfold in64; omega)) rfl rfl ?_
      refine g_ifneB (t := 244) (q := 242) dX6_comesTo_239 (by decide) rfl (fun c239 => ?_) (fun c239 => ?_)
      · refine g_goto (t := 50) dX6_comesTo_244 (by decide) ?_
        exact loop _ _ _ _ _ _ c239
      · refine g_lconst0 (q := 243) dX6_comesTo_242 rfl ?_
        exact g_lret dX6_comesTo_243 rfl (hq0 c239)
  · rw [if_neg hm] at loop hq0
    refine g_iload (q := 210) dX6_comesTo_208 rfl rfl ?_
    refine g_if_eq (t := 221) (q := 213) dX6_comesTo_210 (by decide) rfl (by first | assumption | exact in32_gB | exact in32_gCmp | (unfold in32; omega)) (fun c210 => ?_) (fun c210 => ?_)
    · refine g_lload (q := 223) dX6_comesTo_221 rfl rfl ?_
      refine g_lload (q := 225) dX6_comesTo_223 rfl rfl ?_
      refine g_ladd (q := 226) dX6_comesTo_225 rfl ?_
      refine g_lstore (q := 228) dX6_comesTo_226 gt6 rfl ?_
      refine g_lload (q := 230) dX6_comesTo_228 rfl rfl ?_
      refine g_ldc2 (a := -1000000000) (q := 233) dX6_comesTo_230 q1645 (by decide) rfl ?_
      refine g_ldc2 (a := 1000000000) (q := 236) dX6_comesTo_233 q1646 (by decide) rfl ?_
      refine g_cs (I' := iX6_in) (mc := 0) (ms := 0) (rc := 0) (rs := 0) (q := 239) dX6_comesTo_236 q1514 q1515 gcX6_in (c_inM (by unfold in64; omega) (by unfold in64; omega) (by unfold in64; omega)) rfl rfl ?_
      refine g_ifneB (t := 244) (q := 242) dX6_comesTo_239 (by decide) rfl (fun c239 => ?_) (fun c239 => ?_)
      · refine g_goto (t := 50) dX6_comesTo_244 (by decide) ?_
        exact loop _ _ _ _ _ _ c239
      · refine g_lconst0 (q := 243) dX6_comesTo_242 rfl ?_
        exact g_lret dX6_comesTo_243 rfl (hq0 c239)
    · exact absurd rfl c210
/-- the outer loop (a sum), head at 50 -/
theorem l_comesTo2 (hw : WFw w) (hh : HSok B hs) (hB : B ≤ 1000000000) (ha : 0 ≤ has ∧ has ≤ 1000) (he : 0 ≤ ea ∧ ea ≤ 9) (he3 : e ≤ 300) :
    ∀ (n : Nat) (k s : Int) (x8 x9 x10 x11 x12 x13 : Option Value), 0 ≤ k → k ≤ e → (e - k).toNat ≤ n → (-1000000000 ≤ s ∧ s ≤ 1000000000) →
    GO E iX6_comesTo (d + 1) 0 0 50 [some (.ref am), some (vI law), some (vI has), some (vI ea), some (vI k), some (vI e), some (vL s), none, x8, x9, x10, x11, x12, x13] [] (mH E G am th w hs si lo bk iW iH iB iL iS tp td fv sz pa fr tk vl fk fp fsh hdt lt kl kn cp cd bp bl md sw nd mn my wd nm mv) (qR (vL (smL w hs e has ea n k s)) (mH E G am th w hs si lo bk iW iH iB iL iS tp td fv sz pa fr tk vl fk fp fsh hdt lt kl kn cp cd bp bl md sw nd mn my wd nm mv)) := by
  intro n
  induction n with
  | zero =>
    intro k s x8 x9 x10 x11 x12 x13 h0 h9 hn hs9
    refine g_iload (q := 52) dX6_comesTo_50 rfl rfl ?_
    refine g_iload (q := 54) dX6_comesTo_52 rfl rfl ?_
    refine g_icmp_ge (t := 247) (q := 57) dX6_comesTo_54 (by decide) rfl (by unfold in32; omega) (by unfold in32; omega) (fun c54 => ?_) (fun c54 => ?_)
    · refine g_lload (q := 249) dX6_comesTo_247 rfl rfl ?_
      exact g_lret dX6_comesTo_249 rfl ⟨rfl, rfl⟩
    · exact absurd c54 (by omega)
  | succ n ih =>
    intro k s x8 x9 x10 x11 x12 x13 h0 h9 hn hs9
    by_cases hk : k < e
    · have hp := hw.parts h0 (show k < 300 by omega)
      have hpv := partV_in (k := k) hw hh hB h0 (by omega) ha he
      have eq1 : smL w hs e has ea (n + 1) k s = match tmL w hs e has ea (e - (k + 1)).toNat (k + 1) (partV w hs k has ea) with
        | none => 0
        | some (k', t) =>
          if -1000000000 ≤ (if w (220 + 3 * k) = 2 then s - t else s + t) ∧ (if w (220 + 3 * k) = 2 then s - t else s + t) ≤ 1000000000
            then smL w hs e has ea n k' (if w (220 + 3 * k) = 2 then s - t else s + t)
            else 0 := if_pos hk
      refine g_iload (q := 52) dX6_comesTo_50 rfl rfl ?_
      refine g_iload (q := 54) dX6_comesTo_52 rfl rfl ?_
      refine g_icmp_ge (t := 247) (q := 57) dX6_comesTo_54 (by decide) rfl (by unfold in32; omega) (by unfold in32; omega) (fun c54 => ?_) (fun c54 => ?_)
      · exact absurd c54 (by omega)
      · refine g_aload_n (q := 58) dX6_comesTo_57 rfl rfl ?_
        refine gm_get (k := 1) (q := 61) dX6_comesTo_58 q1395 (by decide) rfl rfl ?_
        refine g_sipush (q := 64) dX6_comesTo_61 rfl ?_
        refine g_iconst (q := 65) dX6_comesTo_64 rfl ?_
        refine g_iload (q := 67) dX6_comesTo_65 rfl rfl ?_
        refine g_imul (q := 68) dX6_comesTo_67 rfl ?_
        refine g_iadd (q := 69) dX6_comesTo_68 rfl ?_
        refine g_iald (q := 70) dX6_comesTo_69 mA1 (by omega) (by omega) rfl ?_
        refine g_iconst (q := 71) dX6_comesTo_70 rfl ?_
        refine g_icmp_ne (t := 78) (q := 74) dX6_comesTo_71 (by decide) rfl (by first | assumption | exact in32_gB | exact in32_gCmp | (unfold in32; omega)) (by first | assumption | exact in32_gB | exact in32_gCmp | (unfold in32; omega)) (fun c71 => ?_) (fun c71 => ?_)
        · refine g_iconst (q := 79) dX6_comesTo_78 rfl ?_
          refine g_istore (q := 81) dX6_comesTo_79 gs8 rfl ?_
          refine g_aload_n (q := 82) dX6_comesTo_81 rfl rfl ?_
          refine g_iload (q := 84) dX6_comesTo_82 rfl rfl ?_
          refine g_iload_n (q := 85) dX6_comesTo_84 rfl rfl ?_
          refine g_iload_n (q := 86) dX6_comesTo_85 rfl rfl ?_
          refine g_cv (I' := iX6_partOf) (mc := 0) (ms := 0) (rc := 0) (rs := 0) (ci := 7) (q := 89) dX6_comesTo_86 q1641 q1643 rfl qs59 gcX6_partOf mO (c_partOf hw hh hB h0 (by omega) ha he) rfl rfl ?_
          refine g_lstore (q := 91) dX6_comesTo_89 gt9 rfl ?_
          refine g_iinc (q := 94) dX6_comesTo_91 rfl gs4 rfl ?_
          refine l_comesTo1 (B := B) hw hh hB ha he (by omega) he3 (e - (k + 1)).toNat _ _ _ _ _ (by omega) (by omega) (Nat.le_refl _) (by omega) (fun k' t' y1 y2 y3 z1 z2 z4 z3 => ?_) (fun z => ⟨by rw [eq1, z], rfl⟩)
          rw [eq1, z1]
          dsimp only
          refine l_comesTo3 (by first | exact Or.inl ⟨rfl, c71⟩ | exact Or.inr ⟨rfl, c71⟩) hs9 z3 (fun _ _ _ _ _ _ zz => ?_) (fun zz => ?_)
          rotate_left
          · exact ⟨rL (if_neg zz).symm, rfl⟩
          rw [if_pos zz]
          exact ih _ _ _ _ _ _ _ _ (by omega) z4 (by omega) zz
        · refine g_iconst (q := 75) dX6_comesTo_74 rfl ?_
          refine g_goto (t := 79) dX6_comesTo_75 (by decide) ?_
          refine g_istore (q := 81) dX6_comesTo_79 gs8 rfl ?_
          refine g_aload_n (q := 82) dX6_comesTo_81 rfl rfl ?_
          refine g_iload (q := 84) dX6_comesTo_82 rfl rfl ?_
          refine g_iload_n (q := 85) dX6_comesTo_84 rfl rfl ?_
          refine g_iload_n (q := 86) dX6_comesTo_85 rfl rfl ?_
          refine g_cv (I' := iX6_partOf) (mc := 0) (ms := 0) (rc := 0) (rs := 0) (ci := 7) (q := 89) dX6_comesTo_86 q1641 q1643 rfl qs59 gcX6_partOf mO (c_partOf hw hh hB h0 (by omega) ha he) rfl rfl ?_
          refine g_lstore (q := 91) dX6_comesTo_89 gt9 rfl ?_
          refine g_iinc (q := 94) dX6_comesTo_91 rfl gs4 rfl ?_
          refine l_comesTo1 (B := B) hw hh hB ha he (by omega) he3 (e - (k + 1)).toNat _ _ _ _ _ (by omega) (by omega) (Nat.le_refl _) (by omega) (fun k' t' y1 y2 y3 z1 z2 z4 z3 => ?_) (fun z => ⟨by rw [eq1, z], rfl⟩)
          rw [eq1, z1]
          dsimp only
          refine l_comesTo3 (by first | exact Or.inl ⟨rfl, c71⟩ | exact Or.inr ⟨rfl, c71⟩) hs9 z3 (fun _ _ _ _ _ _ zz => ?_) (fun zz => ?_)
          rotate_left
          · exact ⟨rL (if_neg zz).symm, rfl⟩
          rw [if_pos zz]
          exact ih _ _ _ _ _ _ _ _ (by omega) z4 (by omega) zz
    · have eq1 : smL w hs e has ea (n + 1) k s = s := if_neg hk
      refine g_iload (q := 52) dX6_comesTo_50 rfl rfl ?_
      refine g_iload (q := 54) dX6_comesTo_52 rfl rfl ?_
      refine g_icmp_ge (t := 247) (q := 57) dX6_comesTo_54 (by decide) rfl (by unfold in32; omega) (by unfold in32; omega) (fun c54 => ?_) (fun c54 => ?_)
      · refine g_lload (q := 249) dX6_comesTo_247 rfl rfl ?_
        exact g_lret dX6_comesTo_249 rfl ⟨rL eq1.symm, rfl⟩
      · exact absurd c54 (by omega)
theorem c_comesTo (hw : WFw w) (hh : HSok B hs) (hB : B ≤ 1000000000) (hl0 : 0 ≤ law) (hl1 : law < 9) (hkl : in32 kl) (hkn : in32 kn) (ha : 0 ≤ has ∧ has ≤ 1000) (he : 0 ≤ ea ∧ ea ≤ 9) : CALL E iX6_comesTo (d + 1) 0 0 [.ref am, vI law, vI has, vI ea] (mH E G am th w hs si lo bk iW iH iB iL iS tp td fv sz pa fr tk vl fk fp fsh hdt lt kl kn cp cd bp bl md sw nd mn my wd nm mv) (qR (vL (comes w hs kl kn law has ea)) (mH E G am th w hs si lo bk iW iH iB iL iS tp td fv sz pa fr tk vl fk fp fsh hdt lt kl kn cp cd bp bl md sw nd mn my wd nm mv)) := by
  have hL := hw.law hl0 hl1
  show GO E iX6_comesTo _ _ _ 0 [some (.ref am), some (vI law), some (vI has), some (vI ea), none, none, none, none, none, none, none, none, none, none] [] _ _
  refine g_iload_n (q := 1) dX6_comesTo_0 rfl rfl ?_
  refine g_aload_n (q := 2) dX6_comesTo_1 rfl rfl ?_
  refine gm_get (k := 24) (q := 5) dX6_comesTo_2 q1418 (by decide) rfl rfl ?_
  refine g_icmp_ne (t := 14) (q := 8) dX6_comesTo_5 (by decide) rfl (by first | assumption | exact in32_gB | exact in32_gCmp | (unfold in32; omega)) (by first | assumption | exact in32_gB | exact in32_gCmp | (unfold in32; omega)) (fun c5 => ?_) (fun c5 => ?_)
  · refine g_aload_n (q := 15) dX6_comesTo_14 rfl rfl ?_
    refine gm_get (k := 1) (q := 18) dX6_comesTo_15 q1395 (by decide) rfl rfl ?_
    refine g_sipush (q := 21) dX6_comesTo_18 rfl ?_
    refine g_iconst (q := 22) dX6_comesTo_21 rfl ?_
    refine g_iload_n (q := 23) dX6_comesTo_22 rfl rfl ?_
    refine g_imul (q := 24) dX6_comesTo_23 rfl ?_
    refine g_iadd (q := 25) dX6_comesTo_24 rfl ?_
    refine g_iald (q := 26) dX6_comesTo_25 mA1 (by omega) (by omega) rfl ?_
    refine g_istore (q := 28) dX6_comesTo_26 gs4 rfl ?_
    refine g_iload (q := 30) dX6_comesTo_28 rfl rfl ?_
    refine g_aload_n (q := 31) dX6_comesTo_30 rfl rfl ?_
    refine gm_get (k := 1) (q := 34) dX6_comesTo_31 q1395 (by decide) rfl rfl ?_
    refine g_sipush (q := 37) dX6_comesTo_34 rfl ?_
    refine g_iconst (q := 38) dX6_comesTo_37 rfl ?_
    refine g_iload_n (q := 39) dX6_comesTo_38 rfl rfl ?_
    refine g_imul (q := 40) dX6_comesTo_39 rfl ?_
    refine g_iadd (q := 41) dX6_comesTo_40 rfl ?_
    refine g_iconst (q := 42) dX6_comesTo_41 rfl ?_
    refine g_iadd (q := 43) dX6_comesTo_42 rfl ?_
    refine g_iald (q := 44) dX6_comesTo_43 mA1 (by omega) (by omega) rfl ?_
    refine g_iadd (q := 45) dX6_comesTo_44 rfl ?_
    refine g_istore (q := 47) dX6_comesTo_45 gs5 rfl ?_
    refine g_lconst0 (q := 48) dX6_comesTo_47 rfl ?_
    refine g_lstore (q := 50) dX6_comesTo_48 gt6 rfl ?_
    rw [show comes w hs kl kn law has ea = smL w hs (w (202 + 2 * law) + w (202 + 2 * law + 1)) has ea (w (202 + 2 * law + 1)).toNat (w (202 + 2 * law)) 0 from if_neg c5]
    exact l_comesTo2 hw hh hB ha he hL.2.2 _ _ _ _ _ _ _ _ _ (by omega) (by omega) (by omega) (by omega)
  · refine g_aload_n (q := 9) dX6_comesTo_8 rfl rfl ?_
    refine gm_get (k := 25) (q := 12) dX6_comesTo_9 q1419 (by decide) rfl rfl ?_
    refine g_i2l (q := 13) dX6_comesTo_12 (by first | assumption | exact in32_gB | exact in32_gCmp | (unfold in32; omega)) rfl ?_
    exact g_lret dX6_comesTo_13 rfl ⟨rL (by unfold comes; rw [if_pos c5]), rfl⟩
end
