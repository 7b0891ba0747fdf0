/-! THE REFERENCE: readLaw -/
set_option maxRecDepth 100000
def rwL (tp : Int → Int) (sz : Int) : Nat → PS → PS
  | 0, P => P
  | f + 1, P => if isW tp wPlus P then rwL tp sz f (rpP tp sz 1 (PSadv tp sz P)) else if isW tp wMinus P then rwL tp sz f (rpP tp sz 2 (PSadv tp sz P)) else if isW tp wTimes P then rwL tp sz f (rpP tp sz 3 (PSadv tp sz P)) else if isW tp wOver P then rwL tp sz f (rpP tp sz 4 (PSadv tp sz P)) else P
def lawN (v s : Int) : Int := if v = 2 then 8 else 4 * v + s
def rlQ (l b : Int) (P : PS) : PS := if P.2.2.2.2.1 = 0 then PSf (upI (upI P.2.2.2.2.2.2.1 (202 + 2 * l) b) (202 + 2 * l + 1) (upI P.2.2.2.2.2.2.1 (202 + 2 * l) b 3 - b)) P else P
def rlP (tp : Int → Int) (sz v : Int) (P : PS) : PS :=
  if srP tp P = -1 ∨ (v = 2 ∧ srP tp P ≠ 0) then PSerr 1 P else if 0 < P.2.2.2.2.2.2.1 (202 + 2 * lawN v (srP tp P) + 1) then PSerr 2 P
  else rlQ (lawN v (srP tp P)) (P.2.2.2.2.2.2.1 3) (rwL tp sz 1000 (rpP tp sz 0 (nwP tp sz wBy (PSadv tp sz P))))
theorem isW_word {tp : Int → Int} {bs : List Int} {P : PS} (h : isW tp bs P) : P.1 = P.2.1 + bs.length := by have := h.2.2.1; omega
/-- at a joining word of at least four signs -/
theorem rw_step {tp : Int → Int} {sz j : Int} {bs : List Int} {P : PS} (h : PSok sz P) (hz : sz ≤ 900) (hb : 4 ≤ bs.length) (hi : isW tp bs P) (hj : 0 ≤ j ∧ j ≤ 4) : PSok sz (PSadv tp sz P) ∧ 3 * (PSadv tp sz P).2.2.2.2.2.2.1 3 + 3 ≤ (PSadv tp sz P).2.1 ∧ PSok sz (rpP tp sz j (PSadv tp sz P)) ∧ (rpP tp sz j (PSadv tp sz P)).2.2.2.2.2.2.2 = P.2.2.2.2.2.2.2 ∧ ((rpP tp sz j (PSadv tp sz P)).2.2.2.2.1 = 0 → P.1 + 1 ≤ (rpP tp sz j (PSadv tp sz P)).1) := by
  have h1 := h.adv (tp := tp)
  obtain ⟨a1, a2, a3⟩ := h.1.adv (tp := tp)
  have e := isW_word hi
  have h3 := h.2.2.1
  have hp : 3 * (PSadv tp sz P).2.2.2.2.2.2.1 3 + 3 ≤ (PSadv tp sz P).2.1 := by
    show 3 * P.2.2.2.2.2.2.1 3 + 3 ≤ (PSadv tp sz P).2.1
    omega
  obtain ⟨b1, b2, b3⟩ := rpP_ok (tp := tp) (j := j) h1 hz (fun _ => hp) hj
  refine ⟨h1, hp, b1, b2, fun q => ?_⟩
  obtain ⟨c1, c2, c3, c4⟩ := b3 q
  have := b1.1.1
  omega
theorem rwL_bad {tp : Int → Int} {sz : Int} {P : PS} (h : P.2.2.2.2.1 ≠ 0) : ∀ f : Nat, rwL tp sz f P = P := by
  intro f
  cases f with
  | zero => rfl
  | succ f =>
    unfold rwL
    rw [if_neg (fun q => h q.1), if_neg (fun q => h q.1), if_neg (fun q => h q.1), if_neg (fun q => h q.1)]
theorem rwL_ok {tp : Int → Int} {sz : Int} (hz : sz ≤ 900) : ∀ (f : Nat) (P : PS), PSok sz P → PSok sz (rwL tp sz f P) ∧ (rwL tp sz f P).2.2.2.2.2.2.2 = P.2.2.2.2.2.2.2 ∧ ((rwL tp sz f P).2.2.2.2.1 = 0 → P.2.2.2.2.1 = 0 ∧ P.1 ≤ (rwL tp sz f P).1) := by
  intro f
  induction f with
  | zero => intro P h; exact ⟨h, rfl, fun q => ⟨q, Int.le_refl _⟩⟩
  | succ f ih =>
    intro P h
    have st : ∀ (bs : List Int) (j : Int), 4 ≤ bs.length → isW tp bs P → 0 ≤ j ∧ j ≤ 4 → PSok sz (rwL tp sz f (rpP tp sz j (PSadv tp sz P))) ∧ (rwL tp sz f (rpP tp sz j (PSadv tp sz P))).2.2.2.2.2.2.2 = P.2.2.2.2.2.2.2 ∧ ((rwL tp sz f (rpP tp sz j (PSadv tp sz P))).2.2.2.2.1 = 0 → P.2.2.2.2.1 = 0 ∧ P.1 ≤ (rwL tp sz f (rpP tp sz j (PSadv tp sz P))).1) := by
      intro bs j hb hi hj
      obtain ⟨a1, a2, a3, a4, a5⟩ := rw_step (tp := tp) h hz hb hi hj
      obtain ⟨b1, b2, b3⟩ := ih _ a3
      refine ⟨b1, b2.trans a4, fun q => ⟨hi.1, ?_⟩⟩
      obtain ⟨c1, c2⟩ := b3 q
      have := a5 c1
      omega
    unfold rwL
    by_cases z1 : isW tp wPlus P
    · rw [if_pos z1]; exact st _ _ (by decide) z1 (by decide)
    · rw [if_neg z1]
      by_cases z2 : isW tp wMinus P
      · rw [if_pos z2]; exact st _ _ (by decide) z2 (by decide)
      · rw [if_neg z2]
        by_cases z3 : isW tp wTimes P
        · rw [if_pos z3]; exact st _ _ (by decide) z3 (by decide)
        · rw [if_neg z3]
          by_cases z4 : isW tp wOver P
          · rw [if_pos z4]; exact st _ _ (by decide) z4 (by decide)
          · rw [if_neg z4]
            exact ⟨h, rfl, fun q => ⟨q, Int.le_refl _⟩⟩
section
variable {E : gE} {d rc rs am : Nat} {G : gH}
variable {th si lo td sz pa fr tk vl fk fp hdt kl kn cd bp bl : Int} {w hs bk iW iH iB iL iS tp fv fsh lt cp md sw nd mn my wd nm mv : Int → Int}
variable {s a b r r2 i k v e B c n l p j low high : Int} {Q : Outcome → gH → Prop} {x : Nat} {bs : List Int}
theorem l_rlaw (htp : ∀ j, 0 ≤ j → j < 900 → -128 ≤ tp j ∧ tp j < 128) (hz : sz ≤ 900) : ∀ (f : Nat) (pa fr tk vl fk fp : Int) (fsh : Int → Int) (hdt : Int) (lt : Int → Int) (x5 : Option Value) (X : PS), PSok sz (pa, fr, tk, vl, fk, fp, fsh, hdt, lt) → (fk = 0 → sz - pa < f) → rwL tp sz f (pa, fr, tk, vl, fk, fp, fsh, hdt, lt) = X →
    (∀ (pa fr tk vl fk fp : Int) (fsh : Int → Int) (hdt : Int) (lt : Int → Int) (x5 : Option Value), (pa, fr, tk, vl, fk, fp, fsh, hdt, lt) = X → GO E iX6_readLaw (d + 7) 0 0 191 [some (.ref am), some (vI v), some (vI s), some (vI l), some (vI b), x5] [] (mH E G am th w hs si lo bk iW iH iB iL iS tp td fv sz pa fr tk vl fk fp fsh hdt lt kl kn cp cd bp bl md sw nd mn my wd nm mv) Q) →
    GO E iX6_readLaw (d + 7) 0 0 100 [some (.ref am), some (vI v), some (vI s), some (vI l), some (vI b), x5] [] (mH E G am th w hs si lo bk iW iH iB iL iS tp td fv sz pa fr tk vl fk fp fsh hdt lt kl kn cp cd bp bl md sw nd mn my wd nm mv) Q := by
  intro f
  induction f with
  | zero =>
    intro pa fr tk vl fk fp fsh hdt lt x5 X hO hf hX kk
    have p1 : 0 ≤ fr ∧ fr ≤ pa ∧ pa ≤ sz := hO.1.1
    have z : fk ≠ 0 := fun q => by have := hf q; omega
    refine GO.ok fun ok => ?_
    refine g_aload_n (q := 101) dX6_readLaw_100 rfl rfl ?_
    refine g_ldcS (q := 103) dX6_readLaw_101 rfl q1618 (litM_plus ok) rfl ?_
    refine g_cv (I' := iX6_is) (mc := 0) (ms := 0) (rc := 0) (rs := 0) (ci := 7) (q := 106) dX6_readLaw_103 q1564 q1566 rfl qs47 gcX6_is mO (c_is (d := d + 2) (litM_plus ok).2 htp hO.1 hz) rfl rfl ?_
    refine g_ifneB (t := 136) (q := 109) dX6_readLaw_106 (by decide) rfl (fun c106 => ?_) (fun c106 => ?_)
    · exact absurd c106.1 z
    · refine g_aload_n (q := 110) dX6_readLaw_109 rfl rfl ?_
      refine g_ldcS (q := 112) dX6_readLaw_110 rfl q1619 (litM_minus ok) rfl ?_
      refine g_cv (I' := iX6_is) (mc := 0) (ms := 0) (rc := 0) (rs := 0) (ci := 7) (q := 115) dX6_readLaw_112 q1564 q1566 rfl qs47 gcX6_is mO (c_is (d := d + 2) (litM_minus ok).2 htp hO.1 hz) rfl rfl ?_
      refine g_ifneB (t := 136) (q := 118) dX6_readLaw_115 (by decide) rfl (fun c115 => ?_) (fun c115 => ?_)
      · exact absurd c115.1 z
      · refine g_aload_n (q := 119) dX6_readLaw_118 rfl rfl ?_
        refine g_ldcS (q := 121) dX6_readLaw_119 rfl q1620 (litM_times ok) rfl ?_
        refine g_cv (I' := iX6_is) (mc := 0) (ms := 0) (rc := 0) (rs := 0) (ci := 7) (q := 124) dX6_readLaw_121 q1564 q1566 rfl qs47 gcX6_is mO (c_is (d := d + 2) (litM_times ok).2 htp hO.1 hz) rfl rfl ?_
        refine g_ifneB (t := 136) (q := 127) dX6_readLaw_124 (by decide) rfl (fun c124 => ?_) (fun c124 => ?_)
        · exact absurd c124.1 z
        · refine g_aload_n (q := 128) dX6_readLaw_127 rfl rfl ?_
          refine g_ldcS (q := 130) dX6_readLaw_128 rfl q1621 (litM_over ok) rfl ?_
          refine g_cv (I' := iX6_is) (mc := 0) (ms := 0) (rc := 0) (rs := 0) (ci := 7) (q := 133) dX6_readLaw_130 q1564 q1566 rfl qs47 gcX6_is mO (c_is (d := d + 2) (litM_over ok).2 htp hO.1 hz) rfl rfl ?_
          refine g_ifeqB (t := 191) (q := 136) dX6_readLaw_133 (by decide) rfl (fun c133 => ?_) (fun c133 => ?_)
          · exact kk _ _ _ _ _ _ _ _ _ _ hX
          · exact absurd c133.1 z
  | succ f ih =>
    intro pa fr tk vl fk fp fsh hdt lt x5 X hO hf hX kk
    have p1 : 0 ≤ fr ∧ fr ≤ pa ∧ pa ≤ sz := hO.1.1
    refine GO.ok fun ok => ?_
    have nx : ∀ (bs : List Int) (j : Int), 4 ≤ bs.length → isW tp bs (pa, fr, tk, vl, fk, fp, fsh, hdt, lt) → 0 ≤ j ∧ j ≤ 4 → rwL tp sz f (rpP tp sz j (PSadv tp sz (pa, fr, tk, vl, fk, fp, fsh, hdt, lt))) = X → GO E iX6_readLaw (d + 7) 0 0 176 [some (.ref am), some (vI v), some (vI s), some (vI l), some (vI b), x5] [vI j] (mH E G am th w hs si lo bk iW iH iB iL iS tp td fv sz pa fr tk vl fk fp fsh hdt lt kl kn cp cd bp bl md sw nd mn my wd nm mv) Q := by
      intro bs j hb hi hj hX
      obtain ⟨a1, a2, a3, a4, a5⟩ := rw_step (tp := tp) hO hz hb hi hj
      refine g_istore (q := 178) dX6_readLaw_176 gs5 rfl ?_
      refine g_aload_n (q := 179) dX6_readLaw_178 rfl rfl ?_
      refine g_cvV (I' := iX6_advance) (mc := 0) (ms := 0) (rc := 0) (rs := 0) (ci := 7) (q := 182) dX6_readLaw_179 q1541 q1543 rfl qs43 gcX6_advance mO (c_advance hz (by omega) p1.2.2) rfl rfl ?_
      refine g_aload_n (q := 183) dX6_readLaw_182 rfl rfl ?_
      refine g_iload (q := 185) dX6_readLaw_183 rfl rfl ?_
      refine g_cvVP (I' := iX6_readPart) (mc := 0) (ms := 0) (rc := 0) (rs := 0) (ci := 7) (q := 188) dX6_readLaw_185 q1610 q1612 rfl qs55 gcX6_readPart mO (c_readPart (d := d + 1) htp hz (show PSok sz ((adv tp sz pa vl).1, (adv tp sz pa vl).2.1, (adv tp sz pa vl).2.2.1, (adv tp sz pa vl).2.2.2, fk, fp, fsh, hdt, lt) from a1) (fun _ => a2)) rfl rfl (fun k185 z185 => ?_)
      obtain ⟨pa1, fr1, tk1, vl1, fk1, fp1, fsh1, hdt1, lt1, e1, rfl⟩ := z185
      replace e1 : (pa1, fr1, tk1, vl1, fk1, fp1, fsh1, hdt1, lt1) = rpP tp sz j (PSadv tp sz (pa, fr, tk, vl, fk, fp, fsh, hdt, lt)) := e1
      rw [← e1] at a3 a5 hX
      replace a5 : fk1 = 0 → pa + 1 ≤ pa1 := a5
      refine g_goto (t := 100) dX6_readLaw_188 (by decide) ?_
      exact ih _ _ _ _ _ _ _ _ _ _ X a3 (fun q => by have := a5 q; have := hf hi.1; omega) hX kk
    unfold rwL at hX
    by_cases z1 : isW tp wPlus (pa, fr, tk, vl, fk, fp, fsh, hdt, lt)
    · rw [if_pos z1] at hX
      refine g_aload_n (q := 101) dX6_readLaw_100 rfl rfl ?_
      refine g_ldcS (q := 103) dX6_readLaw_101 rfl q1618 (litM_plus ok) rfl ?_
      refine g_cv (I' := iX6_is) (mc := 0) (ms := 0) (rc := 0) (rs := 0) (ci := 7) (q := 106) dX6_readLaw_103 q1564 q1566 rfl qs47 gcX6_is mO (c_is (d := d + 2) (litM_plus ok).2 htp hO.1 hz) rfl rfl ?_
      refine g_ifneB (t := 136) (q := 109) dX6_readLaw_106 (by decide) rfl (fun c106 => ?_) (fun c106 => ?_)
      · refine g_aload_n (q := 137) dX6_readLaw_136 rfl rfl ?_
        refine g_ldcS (q := 139) dX6_readLaw_137 rfl q1618 (litM_plus ok) rfl ?_
        refine g_cv (I' := iX6_is) (mc := 0) (ms := 0) (rc := 0) (rs := 0) (ci := 7) (q := 142) dX6_readLaw_139 q1564 q1566 rfl qs47 gcX6_is mO (c_is (d := d + 2) (litM_plus ok).2 htp hO.1 hz) rfl rfl ?_
        refine g_ifeqB (t := 149) (q := 145) dX6_readLaw_142 (by decide) rfl (fun c142 => ?_) (fun c142 => ?_)
        · exact absurd z1 c142
        · refine g_iconst (q := 146) dX6_readLaw_145 rfl ?_
          refine g_goto (t := 176) dX6_readLaw_146 (by decide) ?_
          exact nx _ _ (by decide) z1 (by decide) hX
      · exact absurd z1 c106
    · rw [if_neg z1] at hX
      by_cases z2 : isW tp wMinus (pa, fr, tk, vl, fk, fp, fsh, hdt, lt)
      · rw [if_pos z2] at hX
        refine g_aload_n (q := 101) dX6_readLaw_100 rfl rfl ?_
        refine g_ldcS (q := 103) dX6_readLaw_101 rfl q1618 (litM_plus ok) rfl ?_
        refine g_cv (I' := iX6_is) (mc := 0) (ms := 0) (rc := 0) (rs := 0) (ci := 7) (q := 106) dX6_readLaw_103 q1564 q1566 rfl qs47 gcX6_is mO (c_is (d := d + 2) (litM_plus ok).2 htp hO.1 hz) rfl rfl ?_
        refine g_ifneB (t := 136) (q := 109) dX6_readLaw_106 (by decide) rfl (fun c106 => ?_) (fun c106 => ?_)
        · exact absurd c106 z1
        · refine g_aload_n (q := 110) dX6_readLaw_109 rfl rfl ?_
          refine g_ldcS (q := 112) dX6_readLaw_110 rfl q1619 (litM_minus ok) rfl ?_
          refine g_cv (I' := iX6_is) (mc := 0) (ms := 0) (rc := 0) (rs := 0) (ci := 7) (q := 115) dX6_readLaw_112 q1564 q1566 rfl qs47 gcX6_is mO (c_is (d := d + 2) (litM_minus ok).2 htp hO.1 hz) rfl rfl ?_
          refine g_ifneB (t := 136) (q := 118) dX6_readLaw_115 (by decide) rfl (fun c115 => ?_) (fun c115 => ?_)
          · refine g_aload_n (q := 137) dX6_readLaw_136 rfl rfl ?_
            refine g_ldcS (q := 139) dX6_readLaw_137 rfl q1618 (litM_plus ok) rfl ?_
            refine g_cv (I' := iX6_is) (mc := 0) (ms := 0) (rc := 0) (rs := 0) (ci := 7) (q := 142) dX6_readLaw_139 q1564 q1566 rfl qs47 gcX6_is mO (c_is (d := d + 2) (litM_plus ok).2 htp hO.1 hz) rfl rfl ?_
            refine g_ifeqB (t := 149) (q := 145) dX6_readLaw_142 (by decide) rfl (fun c142 => ?_) (fun c142 => ?_)
            · refine g_aload_n (q := 150) dX6_readLaw_149 rfl rfl ?_
              refine g_ldcS (q := 152) dX6_readLaw_150 rfl q1619 (litM_minus ok) rfl ?_
              refine g_cv (I' := iX6_is) (mc := 0) (ms := 0) (rc := 0) (rs := 0) (ci := 7) (q := 155) dX6_readLaw_152 q1564 q1566 rfl qs47 gcX6_is mO (c_is (d := d + 2) (litM_minus ok).2 htp hO.1 hz) rfl rfl ?_
              refine g_ifeqB (t := 162) (q := 158) dX6_readLaw_155 (by decide) rfl (fun c155 => ?_) (fun c155 => ?_)
              · exact absurd z2 c155
              · refine g_iconst (q := 159) dX6_readLaw_158 rfl ?_
                refine g_goto (t := 176) dX6_readLaw_159 (by decide) ?_
                exact nx _ _ (by decide) z2 (by decide) hX
            · exact absurd c142 z1
          · exact absurd z2 c115
      · rw [if_neg z2] at hX
        by_cases z3 : isW tp wTimes (pa, fr, tk, vl, fk, fp, fsh, hdt, lt)
        · rw [if_pos z3] at hX
          refine g_aload_n (q := 101) dX6_readLaw_100 rfl rfl ?_
          refine g_ldcS (q := 103) dX6_readLaw_101 rfl q1618 (litM_plus ok) rfl ?_
          refine g_cv (I' := iX6_is) (mc := 0) (ms := 0) (rc := 0) (rs := 0) (ci := 7) (q := 106) dX6_readLaw_103 q1564 q1566 rfl qs47 gcX6_is mO (c_is (d := d + 2) (litM_plus ok).2 htp hO.1 hz) rfl rfl ?_
          refine g_ifneB (t := 136) (q := 109) dX6_readLaw_106 (by decide) rfl (fun c106 => ?_) (fun c106 => ?_)
          · exact absurd c106 z1
          · refine g_aload_n (q := 110) dX6_readLaw_109 rfl rfl ?_
            refine g_ldcS (q := 112) dX6_readLaw_110 rfl q1619 (litM_minus ok) rfl ?_
            refine g_cv (I' := iX6_is) (mc := 0) (ms := 0) (rc := 0) (rs := 0) (ci := 7) (q := 115) dX6_readLaw_112 q1564 q1566 rfl qs47 gcX6_is mO (c_is (d := d + 2) (litM_minus ok).2 htp hO.1 hz) rfl rfl ?_
            refine g_ifneB (t := 136) (q := 118) dX6_readLaw_115 (by decide) rfl (fun c115 => ?_) (fun c115 => ?_)
            · exact absurd c115 z2
            · refine g_aload_n (q := 119) dX6_readLaw_118 rfl rfl ?_
              refine g_ldcS (q := 121) dX6_readLaw_119 rfl q1620 (litM_times ok) rfl ?_
              refine g_cv (I' := iX6_is) (mc := 0) (ms := 0) (rc := 0) (rs := 0) (ci := 7) (q := 124) dX6_readLaw_121 q1564 q1566 rfl qs47 gcX6_is mO (c_is (d := d + 2) (litM_times ok).2 htp hO.1 hz) rfl rfl ?_
              refine g_ifneB (t := 136) (q := 127) dX6_readLaw_124 (by decide) rfl (fun c124 => ?_) (fun c124 => ?_)
              · refine g_aload_n (q := 137) dX6_readLaw_136 rfl rfl ?_
                refine g_ldcS (q := 139) dX6_readLaw_137 rfl q1618 (litM_plus ok) rfl ?_
                refine g_cv (I' := iX6_is) (mc := 0) (ms := 0) (rc := 0) (rs := 0) (ci := 7) (q := 142) dX6_readLaw_139 q1564 q1566 rfl qs47 gcX6_is mO (c_is (d := d + 2) (litM_plus ok).2 htp hO.1 hz) rfl rfl ?_
                refine g_ifeqB (t := 149) (q := 145) dX6_readLaw_142 (by decide) rfl (fun c142 => ?_) (fun c142 => ?_)
                · refine g_aload_n (q := 150) dX6_readLaw_149 rfl rfl ?_
                  refine g_ldcS (q := 152) dX6_readLaw_150 rfl q1619 (litM_minus ok) rfl ?_
                  refine g_cv (I' := iX6_is) (mc := 0) (ms := 0) (rc := 0) (rs := 0) (ci := 7) (q := 155) dX6_readLaw_152 q1564 q1566 rfl qs47 gcX6_is mO (c_is (d := d + 2) (litM_minus ok).2 htp hO.1 hz) rfl rfl ?_
                  refine g_ifeqB (t := 162) (q := 158) dX6_readLaw_155 (by decide) rfl (fun c155 => ?_) (fun c155 => ?_)
                  · refine g_aload_n (q := 163) dX6_readLaw_162 rfl rfl ?_
                    refine g_ldcS (q := 165) dX6_readLaw_163 rfl q1620 (litM_times ok) rfl ?_
                    refine g_cv (I' := iX6_is) (mc := 0) (ms := 0) (rc := 0) (rs := 0) (ci := 7) (q := 168) dX6_readLaw_165 q1564 q1566 rfl qs47 gcX6_is mO (c_is (d := d + 2) (litM_times ok).2 htp hO.1 hz) rfl rfl ?_
                    refine g_ifeqB (t := 175) (q := 171) dX6_readLaw_168 (by decide) rfl (fun c168 => ?_) (fun c168 => ?_)
                    · exact absurd z3 c168
                    · refine g_iconst (q := 172) dX6_readLaw_171 rfl ?_
                      refine g_goto (t := 176) dX6_readLaw_172 (by decide) ?_
                      exact nx _ _ (by decide) z3 (by decide) hX
                  · exact absurd c155 z2
                · exact absurd c142 z1
              · exact absurd z3 c124
        · rw [if_neg z3] at hX
          by_cases z4 : isW tp wOver (pa, fr, tk, vl, fk, fp, fsh, hdt, lt)
          · rw [if_pos z4] at hX
            refine g_aload_n (q := 101) dX6_readLaw_100 rfl rfl ?_
            refine g_ldcS (q := 103) dX6_readLaw_101 rfl q1618 (litM_plus ok) rfl ?_
            refine g_cv (I' := iX6_is) (mc := 0) (ms := 0) (rc := 0) (rs := 0) (ci := 7) (q := 106) dX6_readLaw_103 q1564 q1566 rfl qs47 gcX6_is mO (c_is (d := d + 2) (litM_plus ok).2 htp hO.1 hz) rfl rfl ?_
            refine g_ifneB (t := 136) (q := 109) dX6_readLaw_106 (by decide) rfl (fun c106 => ?_) (fun c106 => ?_)
            · exact absurd c106 z1
            · refine g_aload_n (q := 110) dX6_readLaw_109 rfl rfl ?_
              refine g_ldcS (q := 112) dX6_readLaw_110 rfl q1619 (litM_minus ok) rfl ?_
              refine g_cv (I' := iX6_is) (mc := 0) (ms := 0) (rc := 0) (rs := 0) (ci := 7) (q := 115) dX6_readLaw_112 q1564 q1566 rfl qs47 gcX6_is mO (c_is (d := d + 2) (litM_minus ok).2 htp hO.1 hz) rfl rfl ?_
              refine g_ifneB (t := 136) (q := 118) dX6_readLaw_115 (by decide) rfl (fun c115 => ?_) (fun c115 => ?_)
              · exact absurd c115 z2
              · refine g_aload_n (q := 119) dX6_readLaw_118 rfl rfl ?_
                refine g_ldcS (q := 121) dX6_readLaw_119 rfl q1620 (litM_times ok) rfl ?_
                refine g_cv (I' := iX6_is) (mc := 0) (ms := 0) (rc := 0) (rs := 0) (ci := 7) (q := 124) dX6_readLaw_121 q1564 q1566 rfl qs47 gcX6_is mO (c_is (d := d + 2) (litM_times ok).2 htp hO.1 hz) rfl rfl ?_
                refine g_ifneB (t := 136) (q := 127) dX6_readLaw_124 (by decide) rfl (fun c124 => ?_) (fun c124 => ?_)
                · exact absurd c124 z3
                · refine g_aload_n (q := 128) dX6_readLaw_127 rfl rfl ?_
                  refine g_ldcS (q := 130) dX6_readLaw_128 rfl q1621 (litM_over ok) rfl ?_
                  refine g_cv (I' := iX6_is) (mc := 0) (ms := 0) (rc := 0) (rs := 0) (ci := 7) (q := 133) dX6_readLaw_130 q1564 q1566 rfl qs47 gcX6_is mO (c_is (d := d + 2) (litM_over ok).2 htp hO.1 hz) rfl rfl ?_
                  refine g_ifeqB (t := 191) (q := 136) dX6_readLaw_133 (by decide) rfl (fun c133 => ?_) (fun c133 => ?_)
                  · exact absurd z4 c133
                  · refine g_aload_n (q := 137) dX6_readLaw_136 rfl rfl ?_
                    refine g_ldcS (q := 139) dX6_readLaw_137 rfl q1618 (litM_plus ok) rfl ?_
                    refine g_cv (I' := iX6_is) (mc := 0) (ms := 0) (rc := 0) (rs := 0) (ci := 7) (q := 142) dX6_readLaw_139 q1564 q1566 rfl qs47 gcX6_is mO (c_is (d := d + 2) (litM_plus ok).2 htp hO.1 hz) rfl rfl ?_
                    refine g_ifeqB (t := 149) (q := 145) dX6_readLaw_142 (by decide) rfl (fun c142 => ?_) (fun c142 => ?_)
                    · refine g_aload_n (q := 150) dX6_readLaw_149 rfl rfl ?_
                      refine g_ldcS (q := 152) dX6_readLaw_150 rfl q1619 (litM_minus ok) rfl ?_
                      refine g_cv (I' := iX6_is) (mc := 0) (ms := 0) (rc := 0) (rs := 0) (ci := 7) (q := 155) dX6_readLaw_152 q1564 q1566 rfl qs47 gcX6_is mO (c_is (d := d + 2) (litM_minus ok).2 htp hO.1 hz) rfl rfl ?_
                      refine g_ifeqB (t := 162) (q := 158) dX6_readLaw_155 (by decide) rfl (fun c155 => ?_) (fun c155 => ?_)
                      · refine g_aload_n (q := 163) dX6_readLaw_162 rfl rfl ?_
                        refine g_ldcS (q := 165) dX6_readLaw_163 rfl q1620 (litM_times ok) rfl ?_
                        refine g_cv (I' := iX6_is) (mc := 0) (ms := 0) (rc := 0) (rs := 0) (ci := 7) (q := 168) dX6_readLaw_165 q1564 q1566 rfl qs47 gcX6_is mO (c_is (d := d + 2) (litM_times ok).2 htp hO.1 hz) rfl rfl ?_
                        refine g_ifeqB (t := 175) (q := 171) dX6_readLaw_168 (by decide) rfl (fun c168 => ?_) (fun c168 => ?_)
                        · refine g_iconst (q := 176) dX6_readLaw_175 rfl ?_
                          exact nx _ _ (by decide) z4 (by decide) hX
                        · exact absurd c168 z3
                      · exact absurd c155 z2
                    · exact absurd c142 z1
          · rw [if_neg z4] at hX
            refine g_aload_n (q := 101) dX6_readLaw_100 rfl rfl ?_
            refine g_ldcS (q := 103) dX6_readLaw_101 rfl q1618 (litM_plus ok) rfl ?_
            refine g_cv (I' := iX6_is) (mc := 0) (ms := 0) (rc := 0) (rs := 0) (ci := 7) (q := 106) dX6_readLaw_103 q1564 q1566 rfl qs47 gcX6_is mO (c_is (d := d + 2) (litM_plus ok).2 htp hO.1 hz) rfl rfl ?_
            refine g_ifneB (t := 136) (q := 109) dX6_readLaw_106 (by decide) rfl (fun c106 => ?_) (fun c106 => ?_)
            · exact absurd c106 z1
            · refine g_aload_n (q := 110) dX6_readLaw_109 rfl rfl ?_
              refine g_ldcS (q := 112) dX6_readLaw_110 rfl q1619 (litM_minus ok) rfl ?_
              refine g_cv (I' := iX6_is) (mc := 0) (ms := 0) (rc := 0) (rs := 0) (ci := 7) (q := 115) dX6_readLaw_112 q1564 q1566 rfl qs47 gcX6_is mO (c_is (d := d + 2) (litM_minus ok).2 htp hO.1 hz) rfl rfl ?_
              refine g_ifneB (t := 136) (q := 118) dX6_readLaw_115 (by decide) rfl (fun c115 => ?_) (fun c115 => ?_)
              · exact absurd c115 z2
              · refine g_aload_n (q := 119) dX6_readLaw_118 rfl rfl ?_
                refine g_ldcS (q := 121) dX6_readLaw_119 rfl q1620 (litM_times ok) rfl ?_
                refine g_cv (I' := iX6_is) (mc := 0) (ms := 0) (rc := 0) (rs := 0) (ci := 7) (q := 124) dX6_readLaw_121 q1564 q1566 rfl qs47 gcX6_is mO (c_is (d := d + 2) (litM_times ok).2 htp hO.1 hz) rfl rfl ?_
                refine g_ifneB (t := 136) (q := 127) dX6_readLaw_124 (by decide) rfl (fun c124 => ?_) (fun c124 => ?_)
                · exact absurd c124 z3
                · refine g_aload_n (q := 128) dX6_readLaw_127 rfl rfl ?_
                  refine g_ldcS (q := 130) dX6_readLaw_128 rfl q1621 (litM_over ok) rfl ?_
                  refine g_cv (I' := iX6_is) (mc := 0) (ms := 0) (rc := 0) (rs := 0) (ci := 7) (q := 133) dX6_readLaw_130 q1564 q1566 rfl qs47 gcX6_is mO (c_is (d := d + 2) (litM_over ok).2 htp hO.1 hz) rfl rfl ?_
                  refine g_ifeqB (t := 191) (q := 136) dX6_readLaw_133 (by decide) rfl (fun c133 => ?_) (fun c133 => ?_)
                  · exact kk _ _ _ _ _ _ _ _ _ _ hX
                  · exact absurd c133 z4
theorem srP_ge {tp : Int → Int} {P : PS} (h : srP tp P ≠ -1) : P.1 = P.2.1 + 3 ∨ P.1 = P.2.1 + 4 ∨ P.1 = P.2.1 + 5 := by
  unfold srP at h
  split at h
  · rename_i z; have := isW_word z; exact Or.inr (Or.inl this)
  · split at h
    · rename_i z; have := isW_word z; exact Or.inr (Or.inl this)
    · split at h
      · rename_i z; have := isW_word z; exact Or.inl this
      · split at h
        · rename_i z; have := isW_word z; exact Or.inr (Or.inr this)
        · exact absurd rfl h
theorem c_readLaw (htp : ∀ j, 0 ≤ j → j < 900 → -128 ≤ tp j ∧ tp j < 128) (hz : sz ≤ 900) (hO : PSok sz (pa, fr, tk, vl, fk, fp, fsh, hdt, lt)) (hf : fk = 0) (hv : 0 ≤ v ∧ v ≤ 2) : CALL E iX6_readLaw (d + 7) 0 0 [.ref am, vI v] (mH E G am th w hs si lo bk iW iH iB iL iS tp td fv sz pa fr tk vl fk fp fsh hdt lt kl kn cp cd bp bl md sw nd mn my wd nm mv) ((qVP fun kP => ∃ pa_ fr_ tk_ vl_ fk_ fp_ fsh_ hdt_ lt_, (pa_, fr_, tk_, vl_, fk_, fp_, fsh_, hdt_, lt_) = rlP tp sz v (pa, fr, tk, vl, fk, fp, fsh, hdt, lt) ∧ kP = (mH E G am th w hs si lo bk iW iH iB iL iS tp td fv sz pa_ fr_ tk_ vl_ fk_ fp_ fsh_ hdt_ lt_ kl kn cp cd bp bl md sw nd mn my wd nm mv))) := by
  refine GO.ok fun ok => ?_
  have hP := hO.1
  have p1 : 0 ≤ fr ∧ fr ≤ pa ∧ pa ≤ sz := hP.1
  have hsr := srP_in (tp := tp) (P := (pa, fr, tk, vl, fk, fp, fsh, hdt, lt))
  have h3 : 3 * fsh 3 ≤ fr := hO.2.2.1
  have w3 : 0 ≤ fsh 3 ∧ fsh 3 ≤ 300 := hO.2.1.1.2.2.1
  have hl : srP tp (pa, fr, tk, vl, fk, fp, fsh, hdt, lt) ≠ -1 → 0 ≤ lawN v (srP tp (pa, fr, tk, vl, fk, fp, fsh, hdt, lt)) ∧ lawN v (srP tp (pa, fr, tk, vl, fk, fp, fsh, hdt, lt)) ≤ 8 := by
    intro q; unfold lawN; split <;> omega
  unfold rlP
  by_cases z : srP tp (pa, fr, tk, vl, fk, fp, fsh, hdt, lt) = -1 ∨ (v = 2 ∧ srP tp (pa, fr, tk, vl, fk, fp, fsh, hdt, lt) ≠ 0)
  · rw [if_pos z]
    have k24 : GO E iX6_readLaw (d + 7) 0 0 24 [some (.ref am), some (vI v), some (vI (srP tp (pa, fr, tk, vl, fk, fp, fsh, hdt, lt))), none, none, none] [] (mH E G am th w hs si lo bk iW iH iB iL iS tp td fv sz pa fr tk vl 1 fr fsh hdt lt kl kn cp cd bp bl md sw nd mn my wd nm mv) ((qVP fun kP => ∃ pa_ fr_ tk_ vl_ fk_ fp_ fsh_ hdt_ lt_, (pa_, fr_, tk_, vl_, fk_, fp_, fsh_, hdt_, lt_) = PSerr 1 (pa, fr, tk, vl, fk, fp, fsh, hdt, lt) ∧ kP = (mH E G am th w hs si lo bk iW iH iB iL iS tp td fv sz pa_ fr_ tk_ vl_ fk_ fp_ fsh_ hdt_ lt_ kl kn cp cd bp bl md sw nd mn my wd nm mv))) := by
      refine g_iload_n (q := 25) dX6_readLaw_24 rfl rfl ?_
      refine g_iconst (q := 26) dX6_readLaw_25 rfl ?_
      refine g_icmp_ne (t := 34) (q := 29) dX6_readLaw_26 (by decide) rfl (by first | assumption | exact in32_gB | exact in32_gCmp | (unfold in32; omega)) (by first | assumption | exact in32_gB | exact in32_gCmp | (unfold in32; omega)) (fun c26 => ?_) (fun c26 => ?_)
      · refine g_iconst (q := 35) dX6_readLaw_34 rfl ?_
        refine g_iload_n (q := 36) dX6_readLaw_35 rfl rfl ?_
        refine g_imul (q := 37) dX6_readLaw_36 rfl ?_
        refine g_iload_n (q := 38) dX6_readLaw_37 rfl rfl ?_
        refine g_iadd (q := 39) dX6_readLaw_38 rfl ?_
        refine g_istore_n (q := 40) dX6_readLaw_39 gs3 rfl ?_
        refine g_aload_n (q := 41) dX6_readLaw_40 rfl rfl ?_
        refine g_cv (I' := iX6_good) (mc := 0) (ms := 0) (rc := 0) (rs := 0) (ci := 7) (q := 44) dX6_readLaw_41 q1555 q1557 rfl qs45 gcX6_good mO (c_good (by unfold in32; omega)) rfl rfl ?_
        refine g_ifeqB (t := 69) (q := 47) dX6_readLaw_44 (by decide) rfl (fun c44 => ?_) (fun c44 => ?_)
        · refine g_aload_n (q := 70) dX6_readLaw_69 rfl rfl ?_
          refine g_cv (I' := iX6_good) (mc := 0) (ms := 0) (rc := 0) (rs := 0) (ci := 7) (q := 73) dX6_readLaw_70 q1555 q1557 rfl qs45 gcX6_good mO (c_good (by unfold in32; omega)) rfl rfl ?_
          refine g_ifneB (t := 77) (q := 76) dX6_readLaw_73 (by decide) rfl (fun c73 => ?_) (fun c73 => ?_)
          · exact absurd c73 (by decide)
          · exact g_vret dX6_readLaw_76 rfl ⟨rfl, _, _, _, _, _, _, _, _, _, rfl, rfl⟩
        · exact absurd c44 (by decide)
      · refine g_bipush (q := 31) dX6_readLaw_29 rfl ?_
        refine g_goto (t := 39) dX6_readLaw_31 (by decide) ?_
        refine g_istore_n (q := 40) dX6_readLaw_39 gs3 rfl ?_
        refine g_aload_n (q := 41) dX6_readLaw_40 rfl rfl ?_
        refine g_cv (I' := iX6_good) (mc := 0) (ms := 0) (rc := 0) (rs := 0) (ci := 7) (q := 44) dX6_readLaw_41 q1555 q1557 rfl qs45 gcX6_good mO (c_good (by unfold in32; omega)) rfl rfl ?_
        refine g_ifeqB (t := 69) (q := 47) dX6_readLaw_44 (by decide) rfl (fun c44 => ?_) (fun c44 => ?_)
        · refine g_aload_n (q := 70) dX6_readLaw_69 rfl rfl ?_
          refine g_cv (I' := iX6_good) (mc := 0) (ms := 0) (rc := 0) (rs := 0) (ci := 7) (q := 73) dX6_readLaw_70 q1555 q1557 rfl qs45 gcX6_good mO (c_good (by unfold in32; omega)) rfl rfl ?_
          refine g_ifneB (t := 77) (q := 76) dX6_readLaw_73 (by decide) rfl (fun c73 => ?_) (fun c73 => ?_)
          · exact absurd c73 (by decide)
          · exact g_vret dX6_readLaw_76 rfl ⟨rfl, _, _, _, _, _, _, _, _, _, rfl, rfl⟩
        · exact absurd c44 (by decide)
    show GO E iX6_readLaw _ _ _ 0 [some (.ref am), some (vI v), none, none, none, none] [] _ _
    refine g_aload_n (q := 1) dX6_readLaw_0 rfl rfl ?_
    refine g_cv (I' := iX6_sortHere) (mc := 0) (ms := 0) (rc := 0) (rs := 0) (ci := 7) (q := 4) dX6_readLaw_1 q1597 q1599 rfl qs53 gcX6_sortHere mO (c_sortHere (d := d + 1) htp hP hz) rfl rfl ?_
    refine g_istore_n (q := 5) dX6_readLaw_4 gs2 rfl ?_
    refine g_iload_n (q := 6) dX6_readLaw_5 rfl rfl ?_
    refine g_iconst (q := 7) dX6_readLaw_6 rfl ?_
    refine g_icmp_eq (t := 19) (q := 10) dX6_readLaw_7 (by decide) rfl (by first | assumption | exact in32_gB | exact in32_gCmp | (unfold in32; omega)) (by first | assumption | exact in32_gB | exact in32_gCmp | (unfold in32; omega)) (fun c7 => ?_) (fun c7 => ?_)
    · refine g_aload_n (q := 20) dX6_readLaw_19 rfl rfl ?_
      refine g_iconst (q := 21) dX6_readLaw_20 rfl ?_
      refine g_cvV (I' := iX6_errs) (mc := 0) (ms := 0) (rc := 0) (rs := 0) (ci := 7) (q := 24) dX6_readLaw_21 q1576 q1578 rfl qs48 gcX6_errs mO (c_errs hf) rfl rfl ?_
      first | exact k24 | exact absurd z (by omega)
    · refine g_iload_n (q := 11) dX6_readLaw_10 rfl rfl ?_
      refine g_iconst (q := 12) dX6_readLaw_11 rfl ?_
      refine g_icmp_ne (t := 24) (q := 15) dX6_readLaw_12 (by decide) rfl (by first | assumption | exact in32_gB | exact in32_gCmp | (unfold in32; omega)) (by first | assumption | exact in32_gB | exact in32_gCmp | (unfold in32; omega)) (fun c12 => ?_) (fun c12 => ?_)
      · first | exact k24 | exact absurd z (by omega)
      · refine g_iload_n (q := 16) dX6_readLaw_15 rfl rfl ?_
        refine g_if_eq (t := 24) (q := 19) dX6_readLaw_16 (by decide) rfl (by first | assumption | exact in32_gB | exact in32_gCmp | (unfold in32; omega)) (fun c16 => ?_) (fun c16 => ?_)
        · first | exact k24 | exact absurd z (by omega)
        · refine g_aload_n (q := 20) dX6_readLaw_19 rfl rfl ?_
          refine g_iconst (q := 21) dX6_readLaw_20 rfl ?_
          refine g_cvV (I' := iX6_errs) (mc := 0) (ms := 0) (rc := 0) (rs := 0) (ci := 7) (q := 24) dX6_readLaw_21 q1576 q1578 rfl qs48 gcX6_errs mO (c_errs hf) rfl rfl ?_
          first | exact k24 | exact absurd z (by omega)
  · rw [if_neg z]
    have hl2 := hl (by omega)
    have k39 : ∀ l : Int, l = lawN v (srP tp (pa, fr, tk, vl, fk, fp, fsh, hdt, lt)) → GO E iX6_readLaw (d + 7) 0 0 39 [some (.ref am), some (vI v), some (vI (srP tp (pa, fr, tk, vl, fk, fp, fsh, hdt, lt))), none, none, none] [vI l] (mH E G am th w hs si lo bk iW iH iB iL iS tp td fv sz pa fr tk vl fk fp fsh hdt lt kl kn cp cd bp bl md sw nd mn my wd nm mv) ((qVP fun kP => ∃ pa_ fr_ tk_ vl_ fk_ fp_ fsh_ hdt_ lt_, (pa_, fr_, tk_, vl_, fk_, fp_, fsh_, hdt_, lt_) = (if 0 < fsh (202 + 2 * lawN v (srP tp (pa, fr, tk, vl, fk, fp, fsh, hdt, lt)) + 1) then PSerr 2 (pa, fr, tk, vl, fk, fp, fsh, hdt, lt) else rlQ (lawN v (srP tp (pa, fr, tk, vl, fk, fp, fsh, hdt, lt))) (fsh 3) (rwL tp sz 1000 (rpP tp sz 0 (nwP tp sz wBy (PSadv tp sz (pa, fr, tk, vl, fk, fp, fsh, hdt, lt)))))) ∧ kP = (mH E G am th w hs si lo bk iW iH iB iL iS tp td fv sz pa_ fr_ tk_ vl_ fk_ fp_ fsh_ hdt_ lt_ kl kn cp cd bp bl md sw nd mn my wd nm mv))) := by
      intro l el
      rw [← el] at hl2 ⊢
      have hlw : 0 ≤ fsh (202 + 2 * l + 1) ∧ fsh (202 + 2 * l + 1) ≤ 300 := by
        have := hO.2.1.1.2.2.2.2.2.2.2.1 l hl2.1 (by omega)
        replace this : 0 ≤ fsh (202 + 2 * l) ∧ 0 ≤ fsh (202 + 2 * l + 1) ∧ fsh (202 + 2 * l) + fsh (202 + 2 * l + 1) ≤ 300 := this
        omega
      by_cases y : 0 < fsh (202 + 2 * l + 1)
      · rw [if_pos y]
        refine g_istore_n (q := 40) dX6_readLaw_39 gs3 rfl ?_
        refine g_aload_n (q := 41) dX6_readLaw_40 rfl rfl ?_
        refine g_cv (I' := iX6_good) (mc := 0) (ms := 0) (rc := 0) (rs := 0) (ci := 7) (q := 44) dX6_readLaw_41 q1555 q1557 rfl qs45 gcX6_good mO (c_good (by unfold in32; omega)) rfl rfl ?_
        refine g_ifeqB (t := 69) (q := 47) dX6_readLaw_44 (by decide) rfl (fun c44 => ?_) (fun c44 => ?_)
        · exact absurd hf c44
        · refine g_aload_n (q := 48) dX6_readLaw_47 rfl rfl ?_
          refine gm_get (k := 21) (q := 51) dX6_readLaw_48 q1415 (by decide) rfl rfl ?_
          refine g_sipush (q := 54) dX6_readLaw_51 rfl ?_
          refine g_iconst (q := 55) dX6_readLaw_54 rfl ?_
          refine g_iload_n (q := 56) dX6_readLaw_55 rfl rfl ?_
          refine g_imul (q := 57) dX6_readLaw_56 rfl ?_
          refine g_iadd (q := 58) dX6_readLaw_57 rfl ?_
          refine g_iconst (q := 59) dX6_readLaw_58 rfl ?_
          refine g_iadd (q := 60) dX6_readLaw_59 rfl ?_
          refine g_iald (q := 61) dX6_readLaw_60 mA21 (by omega) (by omega) rfl ?_
          refine g_if_le (t := 69) (q := 64) dX6_readLaw_61 (by decide) rfl (by first | assumption | exact in32_gB | exact in32_gCmp | (unfold in32; omega)) (fun c61 => ?_) (fun c61 => ?_)
          · exact absurd c61 (by omega)
          · refine g_aload_n (q := 65) dX6_readLaw_64 rfl rfl ?_
            refine g_iconst (q := 66) dX6_readLaw_65 rfl ?_
            refine g_cvV (I' := iX6_errs) (mc := 0) (ms := 0) (rc := 0) (rs := 0) (ci := 7) (q := 69) dX6_readLaw_66 q1576 q1578 rfl qs48 gcX6_errs mO (c_errs hf) rfl rfl ?_
            refine g_aload_n (q := 70) dX6_readLaw_69 rfl rfl ?_
            refine g_cv (I' := iX6_good) (mc := 0) (ms := 0) (rc := 0) (rs := 0) (ci := 7) (q := 73) dX6_readLaw_70 q1555 q1557 rfl qs45 gcX6_good mO (c_good (by unfold in32; omega)) rfl rfl ?_
            refine g_ifneB (t := 77) (q := 76) dX6_readLaw_73 (by decide) rfl (fun c73 => ?_) (fun c73 => ?_)
            · exact absurd c73 (by decide)
            · exact g_vret dX6_readLaw_76 rfl ⟨rfl, _, _, _, _, _, _, _, _, _, rfl, rfl⟩
      · rw [if_neg y]
        have hA := hO.adv (tp := tp)
        have hA2 := (hP.adv (tp := tp)).2.1
        have hA3 := (hP.adv (tp := tp)).1.1
        have hge := srP_ge (tp := tp) (P := (pa, fr, tk, vl, fk, fp, fsh, hdt, lt)) (by omega)
        replace hge : pa = fr + 3 ∨ pa = fr + 4 ∨ pa = fr + 5 := hge
        refine g_istore_n (q := 40) dX6_readLaw_39 gs3 rfl ?_
        refine g_aload_n (q := 41) dX6_readLaw_40 rfl rfl ?_
        refine g_cv (I' := iX6_good) (mc := 0) (ms := 0) (rc := 0) (rs := 0) (ci := 7) (q := 44) dX6_readLaw_41 q1555 q1557 rfl qs45 gcX6_good mO (c_good (by unfold in32; omega)) rfl rfl ?_
        refine g_ifeqB (t := 69) (q := 47) dX6_readLaw_44 (by decide) rfl (fun c44 => ?_) (fun c44 => ?_)
        · exact absurd hf c44
        · refine g_aload_n (q := 48) dX6_readLaw_47 rfl rfl ?_
          refine gm_get (k := 21) (q := 51) dX6_readLaw_48 q1415 (by decide) rfl rfl ?_
          refine g_sipush (q := 54) dX6_readLaw_51 rfl ?_
          refine g_iconst (q := 55) dX6_readLaw_54 rfl ?_
          refine g_iload_n (q := 56) dX6_readLaw_55 rfl rfl ?_
          refine g_imul (q := 57) dX6_readLaw_56 rfl ?_
          refine g_iadd (q := 58) dX6_readLaw_57 rfl ?_
          refine g_iconst (q := 59) dX6_readLaw_58 rfl ?_
          refine g_iadd (q := 60) dX6_readLaw_59 rfl ?_
          refine g_iald (q := 61) dX6_readLaw_60 mA21 (by omega) (by omega) rfl ?_
          refine g_if_le (t := 69) (q := 64) dX6_readLaw_61 (by decide) rfl (by first | assumption | exact in32_gB | exact in32_gCmp | (unfold in32; omega)) (fun c61 => ?_) (fun c61 => ?_)
          · refine g_aload_n (q := 70) dX6_readLaw_69 rfl rfl ?_
            refine g_cv (I' := iX6_good) (mc := 0) (ms := 0) (rc := 0) (rs := 0) (ci := 7) (q := 73) dX6_readLaw_70 q1555 q1557 rfl qs45 gcX6_good mO (c_good (by unfold in32; omega)) rfl rfl ?_
            refine g_ifneB (t := 77) (q := 76) dX6_readLaw_73 (by decide) rfl (fun c73 => ?_) (fun c73 => ?_)
            · refine g_aload_n (q := 78) dX6_readLaw_77 rfl rfl ?_
              refine g_cvV (I' := iX6_advance) (mc := 0) (ms := 0) (rc := 0) (rs := 0) (ci := 7) (q := 81) dX6_readLaw_78 q1541 q1543 rfl qs43 gcX6_advance mO (c_advance hz (by omega) p1.2.2) rfl rfl ?_
              refine g_aload_n (q := 82) dX6_readLaw_81 rfl rfl ?_
              refine g_ldcS (q := 84) dX6_readLaw_82 rfl q1609 (litM_by ok) rfl ?_
              refine g_cvVP (I' := iX6_needsWord) (mc := 0) (ms := 0) (rc := 0) (rs := 0) (ci := 7) (q := 87) dX6_readLaw_84 q1585 q1587 rfl qs50 gcX6_needsWord mO (c_needsWord (d := d) (litM_by ok).2 htp (show PSt sz ((adv tp sz pa vl).1, (adv tp sz pa vl).2.1, (adv tp sz pa vl).2.2.1, (adv tp sz pa vl).2.2.2, fk, fp, fsh, hdt, lt) from hA.1) hz) rfl rfl (fun k84 z84 => ?_)
              obtain ⟨pa2, fr2, tk2, vl2, fk2, fp2, fsh2, hdt2, lt2, e2, rfl⟩ := z84
              replace e2 : (pa2, fr2, tk2, vl2, fk2, fp2, fsh2, hdt2, lt2) = nwP tp sz wBy (PSadv tp sz (pa, fr, tk, vl, fk, fp, fsh, hdt, lt)) := e2
              have nw := hA.1.nw (tp := tp) (bs := wBy)
              have nwo := hA.nw (tp := tp) (bs := wBy)
              rw [← e2] at nw nwo ⊢
              obtain ⟨u1, u2, u3, u4, u5⟩ := nw
              have u6 : fsh2 = fsh := (Prod.mk.inj u2).1
              subst u6
              have q3 : fk2 = 0 → 3 * fsh2 3 + 3 ≤ fr2 := fun q => by
                have u7 : (PSadv tp sz (pa, fr, tk, vl, fk, fp, fsh2, hdt, lt)).1 ≤ fr2 := (u4 q).2
                omega
              refine g_aload_n (q := 88) dX6_readLaw_87 rfl rfl ?_
              refine gm_get (k := 21) (q := 91) dX6_readLaw_88 q1415 (by decide) rfl rfl ?_
              refine g_iconst (q := 92) dX6_readLaw_91 rfl ?_
              refine g_iald (q := 93) dX6_readLaw_92 mA21 (by omega) (by omega) rfl ?_
              refine g_istore (q := 95) dX6_readLaw_93 gs4 rfl ?_
              refine g_aload_n (q := 96) dX6_readLaw_95 rfl rfl ?_
              refine g_iconst (q := 97) dX6_readLaw_96 rfl ?_
              refine g_cvVP (I' := iX6_readPart) (mc := 0) (ms := 0) (rc := 0) (rs := 0) (ci := 7) (q := 100) dX6_readLaw_97 q1610 q1612 rfl qs55 gcX6_readPart mO (c_readPart (d := d + 1) htp hz nwo q3) rfl rfl (fun k97 z97 => ?_)
              obtain ⟨pa3, fr3, tk3, vl3, fk3, fp3, fsh3, hdt3, lt3, e3, rfl⟩ := z97
              have rp := (rpP_ok (tp := tp) (j := 0) nwo hz q3 (by omega)).1
              rw [← e3] at rp ⊢
              refine l_rlaw (d := d) htp hz 1000 _ _ _ _ _ _ _ _ _ _ _ rp (fun _ => by have := rp.1.1; omega) rfl (fun pa4 fr4 tk4 vl4 fk4 fp4 fsh4 hdt4 lt4 x5 e4 => ?_)
              have ro := (rwL_ok (tp := tp) hz 1000 _ rp).1
              rw [← e4] at ro ⊢
              have u8 : 0 ≤ fk4 ∧ fk4 ≤ 3 := ro.1.2.2.2.1
              refine g_aload_n (q := 192) dX6_readLaw_191 rfl rfl ?_
              refine g_cv (I' := iX6_good) (mc := 0) (ms := 0) (rc := 0) (rs := 0) (ci := 7) (q := 195) dX6_readLaw_192 q1555 q1557 rfl qs45 gcX6_good mO (c_good (by unfold in32; omega)) rfl rfl ?_
              refine g_ifneB (t := 199) (q := 198) dX6_readLaw_195 (by decide) rfl (fun c195 => ?_) (fun c195 => ?_)
              · refine g_aload_n (q := 200) dX6_readLaw_199 rfl rfl ?_
                refine gm_get (k := 21) (q := 203) dX6_readLaw_200 q1415 (by decide) rfl rfl ?_
                refine g_sipush (q := 206) dX6_readLaw_203 rfl ?_
                refine g_iconst (q := 207) dX6_readLaw_206 rfl ?_
                refine g_iload_n (q := 208) dX6_readLaw_207 rfl rfl ?_
                refine g_imul (q := 209) dX6_readLaw_208 rfl ?_
                refine g_iadd (q := 210) dX6_readLaw_209 rfl ?_
                refine g_iload (q := 212) dX6_readLaw_210 rfl rfl ?_
                refine gm_st21 (q := 213) dX6_readLaw_212 (by omega) (by omega)  rfl ?_
                refine g_aload_n (q := 214) dX6_readLaw_213 rfl rfl ?_
                refine gm_get (k := 21) (q := 217) dX6_readLaw_214 q1415 (by decide) rfl rfl ?_
                refine g_sipush (q := 220) dX6_readLaw_217 rfl ?_
                refine g_iconst (q := 221) dX6_readLaw_220 rfl ?_
                refine g_iload_n (q := 222) dX6_readLaw_221 rfl rfl ?_
                refine g_imul (q := 223) dX6_readLaw_222 rfl ?_
                refine g_iadd (q := 224) dX6_readLaw_223 rfl ?_
                refine g_iconst (q := 225) dX6_readLaw_224 rfl ?_
                refine g_iadd (q := 226) dX6_readLaw_225 rfl ?_
                refine g_aload_n (q := 227) dX6_readLaw_226 rfl rfl ?_
                refine gm_get (k := 21) (q := 230) dX6_readLaw_227 q1415 (by decide) rfl rfl ?_
                refine g_iconst (q := 231) dX6_readLaw_230 rfl ?_
                refine g_iald (q := 232) dX6_readLaw_231 mA21 (by omega) (by omega) rfl ?_
                refine g_iload (q := 234) dX6_readLaw_232 rfl rfl ?_
                refine g_isub (q := 235) dX6_readLaw_234 rfl ?_
                refine gm_st21 (q := 236) dX6_readLaw_235 (by omega) (by omega)  rfl ?_
                exact g_vret dX6_readLaw_236 rfl ⟨rfl, _, _, _, _, _, _, _, _, _, (by unfold rlQ; rw [if_pos c195]; rfl), rfl⟩
              · exact g_vret dX6_readLaw_198 rfl ⟨rfl, _, _, _, _, _, _, _, _, _, (by unfold rlQ; rw [if_neg c195]), rfl⟩
            · exact absurd hf c73
          · exact absurd c61 (by omega)
    show GO E iX6_readLaw _ _ _ 0 [some (.ref am), some (vI v), none, none, none, none] [] _ _
    refine g_aload_n (q := 1) dX6_readLaw_0 rfl rfl ?_
    refine g_cv (I' := iX6_sortHere) (mc := 0) (ms := 0) (rc := 0) (rs := 0) (ci := 7) (q := 4) dX6_readLaw_1 q1597 q1599 rfl qs53 gcX6_sortHere mO (c_sortHere (d := d + 1) htp hP hz) rfl rfl ?_
    refine g_istore_n (q := 5) dX6_readLaw_4 gs2 rfl ?_
    refine g_iload_n (q := 6) dX6_readLaw_5 rfl rfl ?_
    refine g_iconst (q := 7) dX6_readLaw_6 rfl ?_
    refine g_icmp_eq (t := 19) (q := 10) dX6_readLaw_7 (by decide) rfl (by first | assumption | exact in32_gB | exact in32_gCmp | (unfold in32; omega)) (by first | assumption | exact in32_gB | exact in32_gCmp | (unfold in32; omega)) (fun c7 => ?_) (fun c7 => ?_)
    · exact absurd z (by omega)
    · refine g_iload_n (q := 11) dX6_readLaw_10 rfl rfl ?_
      refine g_iconst (q := 12) dX6_readLaw_11 rfl ?_
      refine g_icmp_ne (t := 24) (q := 15) dX6_readLaw_12 (by decide) rfl (by first | assumption | exact in32_gB | exact in32_gCmp | (unfold in32; omega)) (by first | assumption | exact in32_gB | exact in32_gCmp | (unfold in32; omega)) (fun c12 => ?_) (fun c12 => ?_)
      · refine g_iload_n (q := 25) dX6_readLaw_24 rfl rfl ?_
        refine g_iconst (q := 26) dX6_readLaw_25 rfl ?_
        refine g_icmp_ne (t := 34) (q := 29) dX6_readLaw_26 (by decide) rfl (by first | assumption | exact in32_gB | exact in32_gCmp | (unfold in32; omega)) (by first | assumption | exact in32_gB | exact in32_gCmp | (unfold in32; omega)) (fun c26 => ?_) (fun c26 => ?_)
        · refine g_iconst (q := 35) dX6_readLaw_34 rfl ?_
          refine g_iload_n (q := 36) dX6_readLaw_35 rfl rfl ?_
          refine g_imul (q := 37) dX6_readLaw_36 rfl ?_
          refine g_iload_n (q := 38) dX6_readLaw_37 rfl rfl ?_
          refine g_iadd (q := 39) dX6_readLaw_38 rfl ?_
          exact k39 _ (by unfold lawN; first | rw [if_pos c26] | rw [if_neg c26])
        · refine g_bipush (q := 31) dX6_readLaw_29 rfl ?_
          refine g_goto (t := 39) dX6_readLaw_31 (by decide) ?_
          exact k39 _ (by unfold lawN; first | rw [if_pos c26] | rw [if_neg c26])
      · refine g_iload_n (q := 16) dX6_readLaw_15 rfl rfl ?_
        refine g_if_eq (t := 24) (q := 19) dX6_readLaw_16 (by decide) rfl (by first | assumption | exact in32_gB | exact in32_gCmp | (unfold in32; omega)) (fun c16 => ?_) (fun c16 => ?_)
        · refine g_iload_n (q := 25) dX6_readLaw_24 rfl rfl ?_
          refine g_iconst (q := 26) dX6_readLaw_25 rfl ?_
          refine g_icmp_ne (t := 34) (q := 29) dX6_readLaw_26 (by decide) rfl (by first | assumption | exact in32_gB | exact in32_gCmp | (unfold in32; omega)) (by first | assumption | exact in32_gB | exact in32_gCmp | (unfold in32; omega)) (fun c26 => ?_) (fun c26 => ?_)
          · refine g_iconst (q := 35) dX6_readLaw_34 rfl ?_
            refine g_iload_n (q := 36) dX6_readLaw_35 rfl rfl ?_
            refine g_imul (q := 37) dX6_readLaw_36 rfl ?_
            refine g_iload_n (q := 38) dX6_readLaw_37 rfl rfl ?_
            refine g_iadd (q := 39) dX6_readLaw_38 rfl ?_
            exact k39 _ (by unfold lawN; first | rw [if_pos c26] | rw [if_neg c26])
          · refine g_bipush (q := 31) dX6_readLaw_29 rfl ?_
            refine g_goto (t := 39) dX6_readLaw_31 (by decide) ?_
            exact k39 _ (by unfold lawN; first | rw [if_pos c26] | rw [if_neg c26])
        · exact absurd z (by omega)
theorem FW.law {g : Int → Int} {l b : Int} (h : FW g) (hl : 0 ≤ l ∧ l ≤ 8) (hb : 0 ≤ b ∧ b ≤ g 3) : FW (upI (upI g (202 + 2 * l) b) (202 + 2 * l + 1) (upI g (202 + 2 * l) b 3 - b)) := by
  obtain ⟨⟨a1, a2, a3, a4, a5, a6, a7, a8, a9⟩, hb2⟩ := h
  have e3 : upI g (202 + 2 * l) b 3 = g 3 := upI_ne (by omega)
  rw [e3]
  have e : ∀ y, y ≠ 202 + 2 * l → y ≠ 202 + 2 * l + 1 → upI (upI g (202 + 2 * l) b) (202 + 2 * l + 1) (g 3 - b) y = g y := fun y hy hz => by rw [upI_ne hz, upI_ne hy]
  refine ⟨⟨?_, ?_, ?_, ?_, ?_, ?_, ?_, ?_, ?_⟩, ?_⟩
  · rw [e 1 (by omega) (by omega)]; exact a1
  · rw [e 2 (by omega) (by omega)]; exact a2
  · rw [e 3 (by omega) (by omega)]; exact a3
  · rw [e 4 (by omega) (by omega)]; exact a4
  · intro s q1 q2; rw [e _ (by omega) (by omega)]; exact a5 s q1 q2
  · intro t q1 q2; rw [e _ (by omega) (by omega)]; exact a6 t q1 q2
  · intro r q1 q2
    rw [e 2 (by omega) (by omega)] at q2
    obtain ⟨p1, p2⟩ := a7 r q1 q2
    rw [e (34 + 14 * r) (by omega) (by omega), e 1 (by omega) (by omega)]
    refine ⟨p1, fun i i1 i2 => ?_⟩
    rw [e _ (by omega) (by omega)]
    exact p2 i i1 i2
  · intro m q1 q2
    by_cases c : m = l
    · subst c
      rw [upI_ne (by omega), upI_at, upI_at]
      omega
    · rw [e _ (by omega) (by omega), e _ (by omega) (by omega)]; exact a8 m q1 q2
  · intro k q1 q2; rw [e _ (by omega) (by omega), e _ (by omega) (by omega), e _ (by omega) (by omega)]; exact a9 k q1 q2
  · intro y q1 q2; rw [e y (by omega) (by omega)]; exact hb2 y q1 q2
end
