/-! THE COMPONENT: days -/
set_option maxRecDepth 100000
section
variable {E : gE} {d a b n : Nat} {h : gH} {f : Int → Int} {j c : Int}
theorem c_manyW (hb : h.1 b = some (oB 6 [.ref a])) (ha : h.1 a = some (arrW E c n f)) (hc : 0 ≤ c ∧ c ≤ 3) : CALL E iX5_many d 0 0 [.ref b] h (qR (vI n) h) := by
  have e : c = 0 ∨ c = 1 ∨ c = 2 ∨ c = 3 := by omega
  rcases e with rfl | rfl | rfl | rfl
  · rw [arrW_0] at ha; exact c_manyB hb ha
  · rw [arrW_1] at ha; exact c_manyS hb ha
  · rw [arrW_2] at ha; exact c_manyI hb ha
  · rw [arrW_3] at ha; exact c_manyJ hb ha
theorem c_numberW (hb : h.1 b = some (oB 6 [.ref a])) (ha : h.1 a = some (arrW E c n f)) (hc : 0 ≤ c ∧ c ≤ 3) (hj : 0 ≤ j ∧ j < n) (hn : n < 1000) (hg : inW c (f j)) : CALL E iX5_number d 0 0 [.ref b, vI j] h (qR (vL (f j)) h) := by
  have e : c = 0 ∨ c = 1 ∨ c = 2 ∨ c = 3 := by omega
  rcases e with rfl | rfl | rfl | rfl
  · rw [arrW_0] at ha; rw [inW_0] at hg; exact c_numberB hb ha hj hn (by unfold in32; omega)
  · rw [arrW_1] at ha; rw [inW_1] at hg; exact c_numberS hb ha hj hn (by unfold in32; omega)
  · rw [arrW_2] at ha; rw [inW_2] at hg; exact c_numberI hb ha hj hn hg
  · rw [arrW_3] at ha; exact c_numberJ hb ha hj hn
end
theorem HZ.used {w hs : Int → Int} {r n : Int} (h : HZ w hs) (h0 : 0 ≤ r) : HZ (usedI w r n) hs := by
  unfold HZ at h ⊢
  rw [show usedI w r n 1 = w 1 from upI_ne (by omega)]
  exact h
section
variable {E : gE} {d rc rs x : Nat} {mf : Nat → va_E} {ow : OW} {h : gH} {w hs bk tp iL iS my wd : Int → Int} {uW uH uB uN : Int → Int → Int} {si lo td fk fp : Int}
variable {s r v n B kn i j : Int} {ow' : OW} {Q : Outcome → gH → Prop}
theorem c_manyX (hX : (XR E x mf ow h w hs si lo bk uW uH uB iL iS tp td fk fp my wd uN)) (h1 : 0 ≤ s ∧ s < 4) (hm : 0 ≤ my s) : CALL E iX5_many d 0 0 [.ref (x + 226 + s.toNat)] h (qR (vI (my s)) h) := by
  obtain ⟨ho, ⟨e, c1⟩ | ⟨a0, f, oa, ne, rm, rc, c1, c2, r⟩⟩ := hX.2.2.2.2.2.2 s h1.1 h1.2
  · omega
  · have z := c_manyW (d := d) c1 c2 rc
    rw [Int.toNat_of_nonneg hm] at z
    exact z
theorem c_numX (hX : (XR E x mf ow h w hs si lo bk uW uH uB iL iS tp td fk fp my wd uN)) (h1 : 0 ≤ s ∧ s < 4) (hj : 0 ≤ j ∧ j < my s) (hN : NMok my wd uN) : CALL E iX5_number d 0 0 [.ref (x + 226 + s.toNat), vI j] h (qR (vL (uN s j)) h) := by
  obtain ⟨ho, ⟨e, c1⟩ | ⟨a0, f, oa, ne, rm, rc, c1, c2, r⟩⟩ := hX.2.2.2.2.2.2 s h1.1 h1.2
  · omega
  · have e2 := r j hj.1 hj.2
    have z := c_numberW (d := d) (j := j) c1 c2 rc (by omega) (by omega) (by rw [e2]; exact hN s j (by unfold isSl; omega) hj.1 hj.2)
    rw [e2] at z
    exact z
theorem XR.held (hX : (XR E x mf ow h w hs si lo bk uW uH uB iL iS tp td fk fp my wd uN)) (h1 : 0 ≤ s ∧ s < 4) (hm : 0 ≤ my s) : ∃ a, h.1 (x + 226 + s.toNat) = some (oB 6 [.ref a]) := by
  obtain ⟨ho, ⟨e, c1⟩ | ⟨a0, f, oa, ne, rm, rc, c1, c2, r⟩⟩ := hX.2.2.2.2.2.2 s h1.1 h1.2
  · omega
  · exact ⟨a0, c1⟩
theorem XR.held0 (hX : (XR E x mf ow h w hs si lo bk uW uH uB iL iS tp td fk fp my wd uN)) (h1 : 0 ≤ s ∧ s < 4) (hm : my s = -1) : h.1 (x + 226 + s.toNat) = some (oB 6 [.null]) := by
  obtain ⟨ho, ⟨e, c1⟩ | ⟨a0, f, oa, ne, rm, rc, c1, c2, r⟩⟩ := hX.2.2.2.2.2.2 s h1.1 h1.2
  · exact c1
  · omega
theorem c_daysX (hX : (XR E x mf ow h w hs si lo bk uW uH uB iL iS tp td fk fp my wd uN)) (hw : WFw w) (hh : HSok B hs) (hZ : HZ w hs) (hB0 : 0 ≤ B) (hB : B ≤ 600000000) (hkn : in32 kn) (hs0 : 0 ≤ si ∧ si ≤ 60) (hlo : 0 ≤ lo) (h1 : 0 ≤ s ∧ s < 4) (hm : 0 ≤ my s ∧ my s ≤ 60) (hN : NMok my wd uN) (hwd : ∀ s, isSl s → 0 ≤ wd s ∧ wd s ≤ 3) :
    CALL E iX0_days (d + 1305) 40 4140 [.ref x, vI s] h (qP fun o k => ∃ P : Int × DS, P = dyL (fl 60 uN) (-1) kn (my s / 3).toNat (60 * s) 0 (hs, bk, si, lo, w) ∧ o = vI P.1 ∧ HZ P.2.2.2.2.2 P.2.1 ∧ ∃ ow', (XR E x mf ow' k P.2.2.2.2.2 P.2.1 P.2.2.2.1 P.2.2.2.2.1 P.2.2.1 uW uH uB iL iS tp td fk fp my wd uN)) := by
  generalize eP : dyL (fl 60 uN) (-1) kn (my s / 3).toNat (60 * s) 0 (hs, bk, si, lo, w) = P
  have hsl : isSl s := by unfold isSl; omega
  have loop : ∀ (f : Nat) (i B n : Int) (k : gH) (ow : OW) (hs bk : Int → Int) (si lo : Int) (w : Int → Int), (XR E x mf ow k w hs si lo bk uW uH uB iL iS tp td fk fp my wd uN) → WFw w → HSok B hs → HZ w hs → 0 ≤ B → B + 250 * f ≤ 700000000 → (0 ≤ si ∧ si ≤ 60) → 0 ≤ lo → 0 ≤ i → i + 3 * f ≤ my s → my s < i + 3 * f + 3 → 0 ≤ n → n + f ≤ 100 → dyL (fl 60 uN) (-1) kn f (60 * s + i) n (hs, bk, si, lo, w) = P →
      GO E iX0_days (d + 1305) (2 * f) (207 * f) 32 [some (.ref x), some (vI s), some (.ref (x + 226 + s.toNat)), some (vI n), some (vI i)] [] k (qP fun o k => ∃ P2 : Int × DS, P2 = P ∧ o = vI P2.1 ∧ HZ P2.2.2.2.2.2 P2.2.1 ∧ ∃ ow', (XR E x mf ow' k P2.2.2.2.2.2 P2.2.1 P2.2.2.2.1 P2.2.2.2.2.1 P2.2.2.1 uW uH uB iL iS tp td fk fp my wd uN)) := by
    intro f
    induction f with
    | zero =>
      intro i B n k ow hs bk si lo w hX q1 q2 qz q3 q4 q5 ql q6 q7 q8 q9 qa qb
      obtain ⟨a0, hb⟩ := hX.held h1 hm.1
      refine g_iload (q := 34) dX0_days_32 rfl rfl ?_
      refine g_iconst (q := 35) dX0_days_34 rfl ?_
      refine g_iadd (q := 36) dX0_days_35 rfl ?_
      refine g_aload_n (q := 37) dX0_days_36 rfl rfl ?_
      refine g_cv (I' := iX5_many) (mc := 0) (ms := 0) (rc := 0) (rs := 0) (ci := 6) (q := 40) dX0_days_37 q1289 q1290 rfl q1291 gcX5_many hb (GO.deep (c_manyX (d := 0) hX h1 hm.1) (by omega)) rfl rfl ?_
      refine g_icmp_ge (t := 184) (q := 43) dX0_days_40 (by decide) rfl (by first | assumption | exact in32_gB | exact in32_gCmp | (unfold in32; omega)) (by first | assumption | exact in32_gB | exact in32_gCmp | (unfold in32; omega)) (fun c40 => ?_) (fun c40 => ?_)
      · refine g_iload_n (q := 185) dX0_days_184 rfl rfl ?_
        exact g_iret dX0_days_185 rfl ⟨_, rfl, _, qb, rfl, qz, _, hX⟩
      · exact absurd c40 (by omega)
    | succ f ih =>
      intro i B n k ow hs bk si lo w hX q1 q2 qz q3 q4 q5 ql q6 q7 q8 q9 qa qb
      obtain ⟨a0, hb⟩ := hX.held h1 hm.1
      obtain ⟨x1, x2, ⟨w3, bl, tq, pl, bp, hC, hRr, -⟩, ⟨t, s1, s2, ⟨rr, hL, hR⟩, s4, s5⟩, x5, x6, x7⟩ := id hX
      obtain ⟨ar, cap, mo, g, -, hl, -⟩ := id hL
      have hw2 := q1.2.1
      have e0 : fl 60 uN (60 * s + i) = uN s i := fl_at (by omega) (by omega)
      have e1 : fl 60 uN (60 * s + i + 1) = uN s (i + 1) := (congrArg (fl 60 uN) (by omega)).trans (fl_at (by omega) (by omega))
      have e2 : fl 60 uN (60 * s + i + 2) = uN s (i + 2) := (congrArg (fl 60 uN) (by omega)).trans (fl_at (by omega) (by omega))
      have m1 := inW_64 (hwd s hsl) (hN s i hsl (by omega) (by omega))
      have m2 := inW_64 (hwd s hsl) (hN s (i + 1) hsl (by omega) (by omega))
      have m3 := inW_64 (hwd s hsl) (hN s (i + 2) hsl (by omega) (by omega))
      replace qb : (if dyC (fl 60 uN) w (60 * s + i) then dyL (fl 60 uN) (-1) kn f (60 * s + i + 3) (n + 1) (dyS (-1) kn (fl 60 uN (60 * s + i)) (fl 60 uN (60 * s + i + 1)) (fl 60 uN (60 * s + i + 2)) hs bk si lo w) else dyL (fl 60 uN) (-1) kn f (60 * s + i + 3) n (hs, bk, si, lo, w)) = P := qb
      have e3 : 60 * s + i + 3 = 60 * s + (i + 3) := by omega
      unfold dyC at qb
      rw [e3, e0, e1, e2] at qb
      have er : 2 * (f + 1) = 2 * f + 2 := by omega
      have es : 207 * (f + 1) = 207 * f + 207 := by omega
      rw [er, es]
      by_cases z : (0 ≤ uN s i ∧ uN s i ≤ 200) ∧ (0 ≤ uN s (i + 1) ∧ uN s (i + 1) ≤ w 2 - 1) ∧ (0 ≤ uN s (i + 2) ∧ uN s (i + 2) ≤ 50)
      · have hr1 : uN s (i + 1) < w 2 := by omega
        have hH : HSok (B + 200) (mHours w (-1) kn (uN s i).toNat hs) := (HSok.hours q1 (uN s i).toNat B hs q2 q3).mono (by omega)
        have hLn := mLearns_ok (kl := -1) (kn := kn) q1 z.2.1.1 hr1 hH
        have hRd := HSok.rdN (kl := -1) (kn := kn) q1 z.2.1.1 hr1 (uN s (i + 2)).toNat _ _ hH
        rw [if_pos z] at qb
        have yes : ∀ (k : gH) (ow : OW) (hs2 bk2 : Int → Int) (si2 lo2 : Int) (w2 : Int → Int), (XR E x mf ow k w2 hs2 si2 lo2 bk2 uW uH uB iL iS tp td fk fp my wd uN) → WFw w2 → HSok (B + 250) hs2 → HZ w2 hs2 → (0 ≤ si2 ∧ si2 ≤ 60) → 0 ≤ lo2 → (hs2, bk2, si2, lo2, w2) = dyS (-1) kn (uN s i) (uN s (i + 1)) (uN s (i + 2)) hs bk si lo w → GO E iX0_days (d + 1305) (2 * f) (207 * f) 175 [some (.ref x), some (vI s), some (.ref (x + 226 + s.toNat)), some (vI n), some (vI i)] [] k (qP fun o k => ∃ P2 : Int × DS, P2 = P ∧ o = vI P2.1 ∧ HZ P2.2.2.2.2.2 P2.2.1 ∧ ∃ ow', (XR E x mf ow' k P2.2.2.2.2.2 P2.2.1 P2.2.2.2.1 P2.2.2.2.2.1 P2.2.2.1 uW uH uB iL iS tp td fk fp my wd uN)) := by
          intro k ow hs2 bk2 si2 lo2 w2 p0 p1 p2 pz p3 pl2 e
          rw [← e] at qb
          refine g_iinc (q := 178) dX0_days_175 rfl gs3 rfl ?_
          refine g_iinc (q := 181) dX0_days_178 rfl gs4 rfl ?_
          refine g_goto (t := 32) dX0_days_181 (by decide) ?_
          exact ih (i + 3) (B + 250) (n + 1) _ _ _ _ _ _ _ p0 p1 p2 pz (by omega) (by omega) p3 pl2 (by omega) (by omega) (by omega) (by omega) (by omega) qb
        have mid : ∀ k : gH, HZ w (mHours w (-1) kn (uN s i).toNat hs) → (XR E x mf ow k w (mHours w (-1) kn (uN s i).toNat hs) si lo bk uW uH uB iL iS tp td fk fp my wd uN) → GO E iX0_days (d + 1305) (2 * f + 2) (207 * f + 207) 122 [some (.ref x), some (vI s), some (.ref (x + 226 + s.toNat)), some (vI n), some (vI i)] [] k (qP fun o k => ∃ P2 : Int × DS, P2 = P ∧ o = vI P2.1 ∧ HZ P2.2.2.2.2.2 P2.2.1 ∧ ∃ ow', (XR E x mf ow' k P2.2.2.2.2.2 P2.2.1 P2.2.2.2.1 P2.2.2.2.2.1 P2.2.2.1 uW uH uB iL iS tp td fk fp my wd uN)) := by
          intro k hZ2 hX2
          obtain ⟨a0, hb⟩ := hX2.held h1 hm.1
          obtain ⟨-, -, ⟨-, bl2, -, -, -, hC2, -⟩, -⟩ := id hX2
          refine g_aload_n (q := 123) dX0_days_122 rfl rfl ?_
          refine g_iload (q := 125) dX0_days_123 rfl rfl ?_
          refine g_iconst (q := 126) dX0_days_125 rfl ?_
          refine g_iadd (q := 127) dX0_days_126 rfl ?_
          refine g_cv (I' := iX5_number) (mc := 0) (ms := 0) (rc := (2*f+2)) (rs := (207*f+207)) (ci := 6) (q := 130) dX0_days_127 q1293 q1294 rfl q1295 gcX5_number hb (GO.deep (c_numX (d := 0) hX2 h1 (by omega) hN) (by omega)) rfl rfl ?_
          refine g_lconst0 (q := 131) dX0_days_130 rfl ?_
          refine g_lcmp (q := 132) dX0_days_131 (by first | assumption | (unfold in64; omega)) (by first | assumption | (unfold in64; omega)) rfl ?_
          refine g_cif_ne (t := 152) (q := 135) dX0_days_132 (by decide) rfl (fun c132 => ?_) (fun c132 => ?_)
          · refine g_aload_n (q := 153) dX0_days_152 rfl rfl ?_
            refine g_aload_n (q := 154) dX0_days_153 rfl rfl ?_
            refine g_iload (q := 156) dX0_days_154 rfl rfl ?_
            refine g_iconst (q := 157) dX0_days_156 rfl ?_
            refine g_iadd (q := 158) dX0_days_157 rfl ?_
            refine g_cv (I' := iX5_number) (mc := 0) (ms := 0) (rc := (2*f+2)) (rs := (207*f+207)) (ci := 6) (q := 161) dX0_days_158 q1293 q1294 rfl q1295 gcX5_number hb (GO.deep (c_numX (d := 0) hX2 h1 (by omega) hN) (by omega)) rfl rfl ?_
            refine g_l2i (q := 162) dX0_days_161 rfl ?_
            refine g_aload_n (q := 163) dX0_days_162 rfl rfl ?_
            refine g_iload (q := 165) dX0_days_163 rfl rfl ?_
            refine g_iconst (q := 166) dX0_days_165 rfl ?_
            refine g_iadd (q := 167) dX0_days_166 rfl ?_
            refine g_cv (I' := iX5_number) (mc := 0) (ms := 0) (rc := (2*f+2)) (rs := (207*f+207)) (ci := 6) (q := 170) dX0_days_167 q1293 q1294 rfl q1295 gcX5_number hb (GO.deep (c_numX (d := 0) hX2 h1 (by omega) hN) (by omega)) rfl rfl ?_
            refine g_l2i (q := 171) dX0_days_170 rfl ?_
            refine g_cvP (I' := iX0_read) (mc := 2) (ms := 207) (rc := (2*f)) (rs := (207*f)) (ci := 0) (q := 174) dX0_days_171 q1299 q980 rfl q981 gcX0_read hC2 (GO.deep (c_readX (d := d) hX2 q1 hH hZ2 (by omega) (by omega) hkn z.2.1.1 z.2.1.2 (by omega) z.2.2.2 q5 ql) (by omega)) rfl rfl (fun v171 k171 z171 => ?_)
            obtain ⟨rfl, hZ5, ow5, hX5⟩ := z171
            refine g_pop (q := 175) dX0_days_174 rfl ?_
            first
            | (refine yes _ _ _ _ _ _ _ hX5 (q1.used z.2.1.1 hr1) (hLn.1.mono (by omega)) (HZ.used hZ5 z.2.1.1) (siN_ok q5) (by unfold loN; split <;> omega) ?_; unfold dyS; rw [if_pos c132]; rfl)
            | (refine yes _ _ _ _ _ _ _ hX5 (q1.used z.2.1.1 hr1) (hRd.mono (by omega)) (HZ.used hZ5 z.2.1.1) (siN_ok q5) (by unfold loN; split <;> omega) ?_; unfold dyS; rw [if_neg c132]; rfl)
          · refine g_aload_n (q := 136) dX0_days_135 rfl rfl ?_
            refine g_aload_n (q := 137) dX0_days_136 rfl rfl ?_
            refine g_iload (q := 139) dX0_days_137 rfl rfl ?_
            refine g_iconst (q := 140) dX0_days_139 rfl ?_
            refine g_iadd (q := 141) dX0_days_140 rfl ?_
            refine g_cv (I' := iX5_number) (mc := 0) (ms := 0) (rc := (2*f+2)) (rs := (207*f+207)) (ci := 6) (q := 144) dX0_days_141 q1293 q1294 rfl q1295 gcX5_number hb (GO.deep (c_numX (d := 0) hX2 h1 (by omega) hN) (by omega)) rfl rfl ?_
            refine g_l2i (q := 145) dX0_days_144 rfl ?_
            refine g_cvP (I' := iX0_learn) (mc := 2) (ms := 207) (rc := (2*f)) (rs := (207*f)) (ci := 0) (q := 148) dX0_days_145 q1298 q1133 rfl q1134 gcX0_learn hC2 (c_learnX (d := d) hX2 q1 hH hZ2 (by omega) (by omega) hkn z.2.1.1 z.2.1.2 q5 ql) rfl rfl (fun v145 k145 z145 => ?_)
            obtain ⟨rfl, hZ5, ow5, hX5⟩ := z145
            refine g_pop (q := 149) dX0_days_148 rfl ?_
            refine g_goto (t := 175) dX0_days_149 (by decide) ?_
            first
            | (refine yes _ _ _ _ _ _ _ hX5 (q1.used z.2.1.1 hr1) (hLn.1.mono (by omega)) (HZ.used hZ5 z.2.1.1) (siN_ok q5) (by unfold loN; split <;> omega) ?_; unfold dyS; rw [if_pos c132]; rfl)
            | (refine yes _ _ _ _ _ _ _ hX5 (q1.used z.2.1.1 hr1) (hRd.mono (by omega)) (HZ.used hZ5 z.2.1.1) (siN_ok q5) (by unfold loN; split <;> omega) ?_; unfold dyS; rw [if_neg c132]; rfl)
        refine g_iload (q := 34) dX0_days_32 rfl rfl ?_
        refine g_iconst (q := 35) dX0_days_34 rfl ?_
        refine g_iadd (q := 36) dX0_days_35 rfl ?_
        refine g_aload_n (q := 37) dX0_days_36 rfl rfl ?_
        refine g_cv (I' := iX5_many) (mc := 0) (ms := 0) (rc := (2*f+2)) (rs := (207*f+207)) (ci := 6) (q := 40) dX0_days_37 q1289 q1290 rfl q1291 gcX5_many hb (GO.deep (c_manyX (d := 0) hX h1 hm.1) (by omega)) rfl rfl ?_
        refine g_icmp_ge (t := 184) (q := 43) dX0_days_40 (by decide) rfl (by first | assumption | exact in32_gB | exact in32_gCmp | (unfold in32; omega)) (by first | assumption | exact in32_gB | exact in32_gCmp | (unfold in32; omega)) (fun c40 => ?_) (fun c40 => ?_)
        · exact absurd c40 (by omega)
        · refine g_aload_n (q := 44) dX0_days_43 rfl rfl ?_
          refine g_iload (q := 46) dX0_days_44 rfl rfl ?_
          refine g_cv (I' := iX5_number) (mc := 0) (ms := 0) (rc := (2*f+2)) (rs := (207*f+207)) (ci := 6) (q := 49) dX0_days_46 q1293 q1294 rfl q1295 gcX5_number hb (GO.deep (c_numX (d := 0) hX h1 (by omega) hN) (by omega)) rfl rfl ?_
          refine g_lconst0 (q := 50) dX0_days_49 rfl ?_
          refine g_ldc2 (a := 200) (q := 53) dX0_days_50 q1149 (by decide) rfl ?_
          refine g_cs (I' := iX0_in) (mc := 0) (ms := 0) (rc := (2*f+2)) (rs := (207*f+207)) (q := 56) dX0_days_53 q130 q131 gcX0_in (GO.deep (c_inX (d := 0) m1 (by unfold in64; omega) (by unfold in64; omega)) (by omega)) rfl rfl ?_
          refine g_ifeqB (t := 178) (q := 59) dX0_days_56 (by decide) rfl (fun c56 => ?_) (fun c56 => ?_)
          · exact absurd z.1 c56
          · refine g_aload_n (q := 60) dX0_days_59 rfl rfl ?_
            refine g_iload (q := 62) dX0_days_60 rfl rfl ?_
            refine g_iconst (q := 63) dX0_days_62 rfl ?_
            refine g_iadd (q := 64) dX0_days_63 rfl ?_
            refine g_cv (I' := iX5_number) (mc := 0) (ms := 0) (rc := (2*f+2)) (rs := (207*f+207)) (ci := 6) (q := 67) dX0_days_64 q1293 q1294 rfl q1295 gcX5_number hb (GO.deep (c_numX (d := 0) hX h1 (by omega) hN) (by omega)) rfl rfl ?_
            refine g_lconst0 (q := 68) dX0_days_67 rfl ?_
            refine g_aload_n (q := 69) dX0_days_68 rfl rfl ?_
            refine g_get (C := RX0) (T := TX0) (ci := 0) (k := 1) (q := 72) dX0_days_69 q519 rfl in_X0 (by decide) hC rfl rfl ?_
            refine g_getN (C := RX1) (T := TX1) (ci := 1) (k := 1) (q := 75) dX0_days_72 q480 rfl in_X1 (by decide) s1.2.1 rfl rfl ?_
            refine g_cf (I' := iJ2_size) (mc := 0) (ms := 0) (rc := (2*f+2)) (rs := (207*f+207)) (ci := 3) (q := 80) dX0_days_75 q974 q711 q710 q716 q714 q712 (by decide) gcJ2_size.2.1 q715 rfl q713 gcJ2_size hl (c_lsize hl) rfl rfl ?_
            refine g_iconst (q := 81) dX0_days_80 rfl ?_
            refine g_isub (q := 82) dX0_days_81 rfl ?_
            refine g_i2l (q := 83) dX0_days_82 (by first | assumption | exact in32_gB | exact in32_gCmp | (unfold in32; omega)) rfl ?_
            refine g_cs (I' := iX0_in) (mc := 0) (ms := 0) (rc := (2*f+2)) (rs := (207*f+207)) (q := 86) dX0_days_83 q130 q131 gcX0_in (GO.deep (c_inX (d := 0) m2 (by unfold in64; omega) (by unfold in64; omega)) (by omega)) rfl rfl ?_
            refine g_ifeqB (t := 178) (q := 89) dX0_days_86 (by decide) rfl (fun c86 => ?_) (fun c86 => ?_)
            · exact absurd z.2.1 c86
            · refine g_aload_n (q := 90) dX0_days_89 rfl rfl ?_
              refine g_iload (q := 92) dX0_days_90 rfl rfl ?_
              refine g_iconst (q := 93) dX0_days_92 rfl ?_
              refine g_iadd (q := 94) dX0_days_93 rfl ?_
              refine g_cv (I' := iX5_number) (mc := 0) (ms := 0) (rc := (2*f+2)) (rs := (207*f+207)) (ci := 6) (q := 97) dX0_days_94 q1293 q1294 rfl q1295 gcX5_number hb (GO.deep (c_numX (d := 0) hX h1 (by omega) hN) (by omega)) rfl rfl ?_
              refine g_lconst0 (q := 98) dX0_days_97 rfl ?_
              refine g_ldc2 (a := 50) (q := 101) dX0_days_98 q987 (by decide) rfl ?_
              refine g_cs (I' := iX0_in) (mc := 0) (ms := 0) (rc := (2*f+2)) (rs := (207*f+207)) (q := 104) dX0_days_101 q130 q131 gcX0_in (GO.deep (c_inX (d := 0) m3 (by unfold in64; omega) (by unfold in64; omega)) (by omega)) rfl rfl ?_
              refine g_ifneB (t := 110) (q := 107) dX0_days_104 (by decide) rfl (fun c104 => ?_) (fun c104 => ?_)
              · refine g_aload_n (q := 111) dX0_days_110 rfl rfl ?_
                refine g_aload_n (q := 112) dX0_days_111 rfl rfl ?_
                refine g_iload (q := 114) dX0_days_112 rfl rfl ?_
                refine g_cv (I' := iX5_number) (mc := 0) (ms := 0) (rc := (2*f+2)) (rs := (207*f+207)) (ci := 6) (q := 117) dX0_days_114 q1293 q1294 rfl q1295 gcX5_number hb (GO.deep (c_numX (d := 0) hX h1 (by omega) hN) (by omega)) rfl rfl ?_
                refine g_l2i (q := 118) dX0_days_117 rfl ?_
                refine g_cvP (I' := iX0_waits) (mc := 0) (ms := 0) (rc := (2*f+2)) (rs := (207*f+207)) (ci := 0) (q := 121) dX0_days_118 q1297 q1143 rfl q1144 gcX0_waits hC (GO.deep (c_waitsPX (d := d) hX q1 q2 qz q3 (by omega) hkn z.1) (by omega)) rfl rfl (fun v118 k118 z118 => ?_)
                obtain ⟨rfl, hZ8, hX8⟩ := z118
                refine g_pop (q := 122) dX0_days_121 rfl ?_
                exact mid _ hZ8 hX8
              · exact absurd z.2.2 c104
      · rw [if_neg z] at qb
        have no : GO E iX0_days (d + 1305) (2 * f + 2) (207 * f + 207) 178 [some (.ref x), some (vI s), some (.ref (x + 226 + s.toNat)), some (vI n), some (vI i)] [] k (qP fun o k => ∃ P2 : Int × DS, P2 = P ∧ o = vI P2.1 ∧ HZ P2.2.2.2.2.2 P2.2.1 ∧ ∃ ow', (XR E x mf ow' k P2.2.2.2.2.2 P2.2.1 P2.2.2.2.1 P2.2.2.2.2.1 P2.2.2.1 uW uH uB iL iS tp td fk fp my wd uN)) := by
          refine g_iinc (q := 181) dX0_days_178 rfl gs4 rfl ?_
          refine g_goto (t := 32) dX0_days_181 (by decide) ?_
          exact GO.room (ih (i + 3) B n _ _ _ _ _ _ _ hX q1 q2 qz q3 (by omega) q5 ql (by omega) (by omega) (by omega) q9 (by omega) qb) (by omega) (by omega)
        refine g_iload (q := 34) dX0_days_32 rfl rfl ?_
        refine g_iconst (q := 35) dX0_days_34 rfl ?_
        refine g_iadd (q := 36) dX0_days_35 rfl ?_
        refine g_aload_n (q := 37) dX0_days_36 rfl rfl ?_
        refine g_cv (I' := iX5_many) (mc := 0) (ms := 0) (rc := (2*f+2)) (rs := (207*f+207)) (ci := 6) (q := 40) dX0_days_37 q1289 q1290 rfl q1291 gcX5_many hb (GO.deep (c_manyX (d := 0) hX h1 hm.1) (by omega)) rfl rfl ?_
        refine g_icmp_ge (t := 184) (q := 43) dX0_days_40 (by decide) rfl (by first | assumption | exact in32_gB | exact in32_gCmp | (unfold in32; omega)) (by first | assumption | exact in32_gB | exact in32_gCmp | (unfold in32; omega)) (fun c40 => ?_) (fun c40 => ?_)
        · exact absurd c40 (by omega)
        · refine g_aload_n (q := 44) dX0_days_43 rfl rfl ?_
          refine g_iload (q := 46) dX0_days_44 rfl rfl ?_
          refine g_cv (I' := iX5_number) (mc := 0) (ms := 0) (rc := (2*f+2)) (rs := (207*f+207)) (ci := 6) (q := 49) dX0_days_46 q1293 q1294 rfl q1295 gcX5_number hb (GO.deep (c_numX (d := 0) hX h1 (by omega) hN) (by omega)) rfl rfl ?_
          refine g_lconst0 (q := 50) dX0_days_49 rfl ?_
          refine g_ldc2 (a := 200) (q := 53) dX0_days_50 q1149 (by decide) rfl ?_
          refine g_cs (I' := iX0_in) (mc := 0) (ms := 0) (rc := (2*f+2)) (rs := (207*f+207)) (q := 56) dX0_days_53 q130 q131 gcX0_in (GO.deep (c_inX (d := 0) m1 (by unfold in64; omega) (by unfold in64; omega)) (by omega)) rfl rfl ?_
          refine g_ifeqB (t := 178) (q := 59) dX0_days_56 (by decide) rfl (fun c56 => ?_) (fun c56 => ?_)
          · exact no
          · refine g_aload_n (q := 60) dX0_days_59 rfl rfl ?_
            refine g_iload (q := 62) dX0_days_60 rfl rfl ?_
            refine g_iconst (q := 63) dX0_days_62 rfl ?_
            refine g_iadd (q := 64) dX0_days_63 rfl ?_
            refine g_cv (I' := iX5_number) (mc := 0) (ms := 0) (rc := (2*f+2)) (rs := (207*f+207)) (ci := 6) (q := 67) dX0_days_64 q1293 q1294 rfl q1295 gcX5_number hb (GO.deep (c_numX (d := 0) hX h1 (by omega) hN) (by omega)) rfl rfl ?_
            refine g_lconst0 (q := 68) dX0_days_67 rfl ?_
            refine g_aload_n (q := 69) dX0_days_68 rfl rfl ?_
            refine g_get (C := RX0) (T := TX0) (ci := 0) (k := 1) (q := 72) dX0_days_69 q519 rfl in_X0 (by decide) hC rfl rfl ?_
            refine g_getN (C := RX1) (T := TX1) (ci := 1) (k := 1) (q := 75) dX0_days_72 q480 rfl in_X1 (by decide) s1.2.1 rfl rfl ?_
            refine g_cf (I' := iJ2_size) (mc := 0) (ms := 0) (rc := (2*f+2)) (rs := (207*f+207)) (ci := 3) (q := 80) dX0_days_75 q974 q711 q710 q716 q714 q712 (by decide) gcJ2_size.2.1 q715 rfl q713 gcJ2_size hl (c_lsize hl) rfl rfl ?_
            refine g_iconst (q := 81) dX0_days_80 rfl ?_
            refine g_isub (q := 82) dX0_days_81 rfl ?_
            refine g_i2l (q := 83) dX0_days_82 (by first | assumption | exact in32_gB | exact in32_gCmp | (unfold in32; omega)) rfl ?_
            refine g_cs (I' := iX0_in) (mc := 0) (ms := 0) (rc := (2*f+2)) (rs := (207*f+207)) (q := 86) dX0_days_83 q130 q131 gcX0_in (GO.deep (c_inX (d := 0) m2 (by unfold in64; omega) (by unfold in64; omega)) (by omega)) rfl rfl ?_
            refine g_ifeqB (t := 178) (q := 89) dX0_days_86 (by decide) rfl (fun c86 => ?_) (fun c86 => ?_)
            · exact no
            · refine g_aload_n (q := 90) dX0_days_89 rfl rfl ?_
              refine g_iload (q := 92) dX0_days_90 rfl rfl ?_
              refine g_iconst (q := 93) dX0_days_92 rfl ?_
              refine g_iadd (q := 94) dX0_days_93 rfl ?_
              refine g_cv (I' := iX5_number) (mc := 0) (ms := 0) (rc := (2*f+2)) (rs := (207*f+207)) (ci := 6) (q := 97) dX0_days_94 q1293 q1294 rfl q1295 gcX5_number hb (GO.deep (c_numX (d := 0) hX h1 (by omega) hN) (by omega)) rfl rfl ?_
              refine g_lconst0 (q := 98) dX0_days_97 rfl ?_
              refine g_ldc2 (a := 50) (q := 101) dX0_days_98 q987 (by decide) rfl ?_
              refine g_cs (I' := iX0_in) (mc := 0) (ms := 0) (rc := (2*f+2)) (rs := (207*f+207)) (q := 104) dX0_days_101 q130 q131 gcX0_in (GO.deep (c_inX (d := 0) m3 (by unfold in64; omega) (by unfold in64; omega)) (by omega)) rfl rfl ?_
              refine g_ifneB (t := 110) (q := 107) dX0_days_104 (by decide) rfl (fun c104 => ?_) (fun c104 => ?_)
              · exact absurd ⟨c56, c86, c104⟩ z
              · refine g_goto (t := 178) dX0_days_107 (by decide) ?_
                exact no
  obtain ⟨a0, hb⟩ := hX.held h1 hm.1
  obtain ⟨x1, x2, ⟨w3, bl, tq, pl, bp, hC, hRr, -⟩, -⟩ := id hX
  obtain ⟨F, eF⟩ : ∃ F : Nat, F = (my s / 3).toNat := ⟨_, rfl⟩
  rw [← eF] at eP
  refine GO.room (rc := 2 * F) (rs := 207 * F) ?_ (by omega) (by omega)
  show GO E iX0_days _ _ _ 0 [some (.ref x), some (vI s), none, none, none] [] _ _
  refine g_iload_n (q := 1) dX0_days_0 rfl rfl ?_
  refine g_cs (I' := iX0_isSlot) (mc := 0) (ms := 0) (rc := (2*F)) (rs := (207*F)) (q := 4) dX0_days_1 q126 q127 gcX0_isSlot (GO.deep (c_isSlotX (d := 0) (s := s) (by unfold in32; omega)) (by omega)) rfl rfl ?_
  refine g_ifneB (t := 10) (q := 7) dX0_days_4 (by decide) rfl (fun c4 => ?_) (fun c4 => ?_)
  · refine g_aload_n (q := 11) dX0_days_10 rfl rfl ?_
    refine g_get (C := RX0) (T := TX0) (ci := 0) (k := 0) (q := 14) dX0_days_11 q518 rfl in_X0 (by decide) hC rfl rfl ?_
    refine g_iload_n (q := 15) dX0_days_14 rfl rfl ?_
    refine g_aald (t0 := 7) (q := 16) dX0_days_15 hRr rfl rfl (by omega) (by omega) rfl ?_
    refine g_astore_n (q := 17) dX0_days_16 gs2 rfl ?_
    refine g_aload_n (q := 18) dX0_days_17 rfl rfl ?_
    refine g_getN (C := RX5) (T := TX5) (ci := 6) (k := 0) (q := 21) dX0_days_18 q514 rfl in_X5 (by decide) hb rfl rfl ?_
    refine g_ifnonnullR (t := 27) dX0_days_21 (by decide) ?_
    refine g_iconst (q := 28) dX0_days_27 rfl ?_
    refine g_istore_n (q := 29) dX0_days_28 gs3 rfl ?_
    refine g_iconst (q := 30) dX0_days_29 rfl ?_
    refine g_istore (q := 32) dX0_days_30 gs4 rfl ?_
    exact loop F 0 B 0 h ow hs bk si lo w hX hw hh hZ hB0 (by omega) hs0 hlo (by omega) (by omega) (by omega) (by omega) (by omega) (by rw [Int.add_zero]; exact eP)
  · exact absurd h1 (by omega)
theorem c_daysBad (hX : (XR E x mf ow h w hs si lo bk uW uH uB iL iS tp td fk fp my wd uN)) (hr : in32 s) (h1 : ¬ (0 ≤ s ∧ s ≤ 3)) : CALL E iX0_days (d + 2) 0 0 [.ref x, vI s] h (qP fun o k => o = vI (-2) ∧ (XR E x mf ow k w hs si lo bk uW uH uB iL iS tp td fk fp my wd uN)) := by
  show GO E iX0_days _ _ _ 0 [some (.ref x), some (vI s), none, none, none] [] _ _
  refine g_iload_n (q := 1) dX0_days_0 rfl rfl ?_
  refine g_cs (I' := iX0_isSlot) (mc := 0) (ms := 0) (rc := 0) (rs := 0) (q := 4) dX0_days_1 q126 q127 gcX0_isSlot (c_isSlotX hr) rfl rfl ?_
  refine g_ifneB (t := 10) (q := 7) dX0_days_4 (by decide) rfl (fun c4 => ?_) (fun c4 => ?_)
  · exact absurd c4 h1
  · refine g_bipush (q := 9) dX0_days_7 rfl ?_
    exact g_iret dX0_days_9 rfl ⟨_, rfl, rfl, hX⟩
theorem c_daysNone (hX : (XR E x mf ow h w hs si lo bk uW uH uB iL iS tp td fk fp my wd uN)) (h1 : 0 ≤ s ∧ s < 4) (hm : my s = -1) : CALL E iX0_days (d + 2) 0 0 [.ref x, vI s] h (qP fun o k => o = vI (-6) ∧ (XR E x mf ow k w hs si lo bk uW uH uB iL iS tp td fk fp my wd uN)) := by
  have hb := hX.held0 h1 hm
  obtain ⟨x1, x2, ⟨w3, bl, tq, pl, bp, hC, hRr, -⟩, -⟩ := id hX
  show GO E iX0_days _ _ _ 0 [some (.ref x), some (vI s), none, none, none] [] _ _
  refine g_iload_n (q := 1) dX0_days_0 rfl rfl ?_
  refine g_cs (I' := iX0_isSlot) (mc := 0) (ms := 0) (rc := 0) (rs := 0) (q := 4) dX0_days_1 q126 q127 gcX0_isSlot (c_isSlotX (s := s) (by unfold in32; omega)) rfl rfl ?_
  refine g_ifneB (t := 10) (q := 7) dX0_days_4 (by decide) rfl (fun c4 => ?_) (fun c4 => ?_)
  · refine g_aload_n (q := 11) dX0_days_10 rfl rfl ?_
    refine g_get (C := RX0) (T := TX0) (ci := 0) (k := 0) (q := 14) dX0_days_11 q518 rfl in_X0 (by decide) hC rfl rfl ?_
    refine g_iload_n (q := 15) dX0_days_14 rfl rfl ?_
    refine g_aald (t0 := 7) (q := 16) dX0_days_15 hRr rfl rfl (by omega) (by omega) rfl ?_
    refine g_astore_n (q := 17) dX0_days_16 gs2 rfl ?_
    refine g_aload_n (q := 18) dX0_days_17 rfl rfl ?_
    refine g_getN (C := RX5) (T := TX5) (ci := 6) (k := 0) (q := 21) dX0_days_18 q514 rfl in_X5 (by decide) hb rfl rfl ?_
    refine g_ifnonnullN (q := 24) dX0_days_21 rfl ?_
    refine g_bipush (q := 26) dX0_days_24 rfl ?_
    exact g_iret dX0_days_26 rfl ⟨_, rfl, rfl, hX⟩
  · exact absurd h1 (by omega)
end
