/-! THE REFERENCE: readPart, readLaw -/
set_option maxRecDepth 100000
/-- a state in order -/
def PSok (sz : Int) (P : PS) : Prop := PSt sz P ∧ FW P.2.2.2.2.2.2.1 ∧ 3 * P.2.2.2.2.2.2.1 3 ≤ P.2.1 ∧ (P.2.2.2.2.2.2.2.1 = 0 ∨ P.2.2.2.2.2.2.2.1 = 1) ∧ ∀ j, 0 ≤ j → j < 4 → P.2.2.2.2.2.2.2.2 j = 0 ∨ P.2.2.2.2.2.2.2.2 j = 1
theorem PSok.adv {tp : Int → Int} {sz : Int} {P : PS} (h : PSok sz P) : PSok sz (PSadv tp sz P) := by
  obtain ⟨h1, h2, h3, h4, h5⟩ := h
  obtain ⟨a1, a2, a3⟩ := h1.adv (tp := tp)
  exact ⟨a1, h2, Int.le_trans h3 (Int.le_trans h1.1.2.1 a2), h4, h5⟩
theorem PSok.err {sz k : Int} {P : PS} (h : PSok sz P) (hk : 0 ≤ k ∧ k ≤ 3) : PSok sz (PSerr k P) := ⟨h.1.err hk, h.2⟩
theorem PSok.nu {tp : Int → Int} {sz lo hi : Int} {P : PS} (h : PSok sz P) (h0 : 0 ≤ lo) : PSok sz (nuP tp sz lo hi P).2 := by
  obtain ⟨h1, h2, h3, h4, h5⟩ := h
  obtain ⟨a1, a2, a3, a4, a5⟩ := h1.nu (tp := tp) (hi := hi) h0
  unfold PSok
  rw [a2]
  exact ⟨a1, h2, Int.le_trans h3 a3, h4, h5⟩
theorem PSok.nw {tp : Int → Int} {sz : Int} {bs : List Int} {P : PS} (h : PSok sz P) : PSok sz (nwP tp sz bs P) := by
  obtain ⟨h1, h2, h3, h4, h5⟩ := h
  obtain ⟨a1, a2, a3, a4, a5⟩ := h1.nw (tp := tp) (bs := bs)
  unfold PSok
  rw [a2]
  exact ⟨a1, h2, Int.le_trans h3 a3, h4, h5⟩
def askP (tp : Int → Int) (P : PS) : Int := if isW tp wHas P then 1 else if isW tp wLeft P then 2 else if isW tp wEasy P then 3 else if isW tp wTired P then 4 else if isW tp wHour P then 5 else 0
theorem askP_in {tp : Int → Int} {P : PS} : 0 ≤ askP tp P ∧ askP tp P ≤ 5 := by
  unfold askP
  split
  · omega
  · split
    · omega
    · split
      · omega
      · split
        · omega
        · split <;> omega
theorem srP_in {tp : Int → Int} {P : PS} : -1 ≤ srP tp P ∧ srP tp P ≤ 3 := by
  unfold srP
  split
  · omega
  · split
    · omega
    · split
      · omega
      · split <;> omega
def pgF (g : Int → Int) (j kd n : Int) : Int → Int := upI (upI (upI (upI g (220 + 3 * g 3) j) (220 + 3 * g 3 + 1) kd) (220 + 3 * g 3 + 2) n) 3 (upI (upI (upI g (220 + 3 * g 3) j) (220 + 3 * g 3 + 1) kd) (220 + 3 * g 3 + 2) n 3 + 1)
def rpN (j : Int) (q : Int × PS) : PS := if q.2.2.2.2.2.1 = 0 then PSf (pgF q.2.2.2.2.2.2.2.1 j 0 q.1) q.2 else q.2
def rpP (tp : Int → Int) (sz j : Int) (P : PS) : PS := if P.2.2.2.2.1 = 0 then (if askP tp P = 0 then rpN j (nuP tp sz 0 1000 P) else PSf (pgF P.2.2.2.2.2.2.1 j (askP tp P) 0) (PSadv tp sz P)) else P
theorem FW.part {g : Int → Int} {j kd n : Int} (h : FW g) (h3 : g 3 < 300) (hj : 0 ≤ j ∧ j ≤ 4) (hk : 0 ≤ kd ∧ kd ≤ 5) (hn : 0 ≤ n ∧ n ≤ 1000) : FW (pgF g j kd n) ∧ pgF g j kd n 3 = g 3 + 1 := by
  obtain ⟨⟨a1, a2, a3, a4, a5, a6, a7, a8, a9⟩, hb⟩ := h
  have e3 : upI (upI (upI g (220 + 3 * g 3) j) (220 + 3 * g 3 + 1) kd) (220 + 3 * g 3 + 2) n 3 = g 3 := by rw [upI_ne (by omega), upI_ne (by omega), upI_ne (by omega)]
  have e : ∀ y, y ≠ 3 → (y < 220 + 3 * g 3 ∨ 220 + 3 * g 3 + 2 < y) → pgF g j kd n y = g y := fun y hy hz => by
    unfold pgF
    rw [upI_ne hy, upI_ne (by omega), upI_ne (by omega), upI_ne (by omega)]
  have ep : pgF g j kd n 3 = g 3 + 1 := by unfold pgF; rw [upI_at, e3]
  refine ⟨⟨⟨?_, ?_, ?_, ?_, ?_, ?_, ?_, ?_, ?_⟩, ?_⟩, ep⟩
  · rw [e 1 (by omega) (by omega)]; exact a1
  · rw [e 2 (by omega) (by omega)]; exact a2
  · rw [ep]; omega
  · rw [e 4 (by omega) (by omega)]; exact a4
  · intro s q1 q2; rw [e _ (by omega) (by omega)]; exact a5 s q1 q2
  · intro t q1 q2; rw [e _ (by omega) (by omega)]; exact a6 t q1 q2
  · intro r q1 q2
    rw [e 2 (by omega) (by omega)] at q2
    obtain ⟨p1, p2⟩ := a7 r q1 q2
    rw [e (34 + 14 * r) (by omega) (by omega), e 1 (by omega) (by omega)]
    refine ⟨p1, fun i i1 i2 => ?_⟩
    rw [e _ (by omega) (by omega)]
    exact p2 i i1 i2
  · intro l q1 q2; rw [e _ (by omega) (by omega), e _ (by omega) (by omega)]; exact a8 l q1 q2
  · intro k q1 q2
    by_cases c : k = g 3
    · subst c
      have u0 : pgF g j kd n (220 + 3 * g 3) = j := by unfold pgF; rw [upI_ne (by omega), upI_ne (by omega), upI_ne (by omega), upI_at]
      have u1 : pgF g j kd n (220 + 3 * g 3 + 1) = kd := by unfold pgF; rw [upI_ne (by omega), upI_ne (by omega), upI_at]
      have u2 : pgF g j kd n (220 + 3 * g 3 + 2) = n := by unfold pgF; rw [upI_ne (by omega), upI_at]
      rw [u0, u1, u2]
      exact ⟨hj, hk, hn⟩
    · rw [e _ (by omega) (by omega), e _ (by omega) (by omega), e _ (by omega) (by omega)]; exact a9 k q1 q2
  · intro y q1 q2
    rw [e y (by omega) (by omega)]; exact hb y q1 q2
theorem isW_tk {tp : Int → Int} {bs : List Int} {P : PS} (h : isW tp bs P) : P.2.2.1 = 1 := h.2.1
theorem askP_tk {tp : Int → Int} {P : PS} (h : askP tp P ≠ 0) : P.2.2.1 = 1 := by
  unfold askP at h
  split at h
  · rename_i z; exact z.2.1
  · split at h
    · rename_i z; exact z.2.1
    · split at h
      · rename_i z; exact z.2.1
      · split at h
        · rename_i z; exact z.2.1
        · split at h
          · rename_i z; exact z.2.1
          · exact absurd rfl h
/-- a part read: in order; and it went on -/
theorem rpP_ok {tp : Int → Int} {sz j : Int} {P : PS} (h : PSok sz P) (hz : sz ≤ 900) (h3 : P.2.2.2.2.1 = 0 → 3 * P.2.2.2.2.2.2.1 3 + 3 ≤ P.2.1) (hj : 0 ≤ j ∧ j ≤ 4) : PSok sz (rpP tp sz j P) ∧ (rpP tp sz j P).2.2.2.2.2.2.2 = P.2.2.2.2.2.2.2 ∧ ((rpP tp sz j P).2.2.2.2.1 = 0 → P.2.2.2.2.1 = 0 ∧ P.1 ≤ (rpP tp sz j P).2.1 ∧ P.2.1 + 1 ≤ (rpP tp sz j P).2.1 ∧ (rpP tp sz j P).2.2.2.2.2.2.1 3 = P.2.2.2.2.2.2.1 3 + 1) := by
  obtain ⟨h1, h2, h4, h5, h6⟩ := h
  unfold rpP
  by_cases z : P.2.2.2.2.1 = 0
  · rw [if_pos z]
    have q3 := h3 z
    have qfr := h1.1
    by_cases y : askP tp P = 0
    · rw [if_pos y]
      obtain ⟨a1, a2, a3, a4, a5⟩ := h1.nu (tp := tp) (lo := 0) (hi := 1000) (by omega)
      unfold rpN
      have ef : (nuP tp sz 0 1000 P).2.2.2.2.2.2.2.1 = P.2.2.2.2.2.2.1 := by rw [a2]
      have er : (nuP tp sz 0 1000 P).2.2.2.2.2.2.2.2 = P.2.2.2.2.2.2.2 := by rw [a2]
      by_cases x : (nuP tp sz 0 1000 P).2.2.2.2.2.1 = 0
      · rw [if_pos x]
        obtain ⟨b1, b2, b3, b4, b5⟩ := a4 x
        rw [ef]
        obtain ⟨f1, f2⟩ := FW.part (j := j) (kd := 0) (n := (nuP tp sz 0 1000 P).1) h2 (by omega) hj (by omega) b5
        have hlt := h1.2.2.2.2 (by rw [b1]; decide)
        refine ⟨⟨a1, f1, ?_, ?_, ?_⟩, er, fun _ => ⟨z, b3, ?_, f2⟩⟩
        · show 3 * pgF P.2.2.2.2.2.2.1 j 0 (nuP tp sz 0 1000 P).1 3 ≤ (nuP tp sz 0 1000 P).2.2.1
          rw [f2]; omega
        · show (nuP tp sz 0 1000 P).2.2.2.2.2.2.2.2.1 = 0 ∨ (nuP tp sz 0 1000 P).2.2.2.2.2.2.2.2.1 = 1
          rw [er]; exact h5
        · show ∀ j, 0 ≤ j → j < 4 → (nuP tp sz 0 1000 P).2.2.2.2.2.2.2.2.2 j = 0 ∨ (nuP tp sz 0 1000 P).2.2.2.2.2.2.2.2.2 j = 1
          rw [er]; exact h6
        · show P.2.1 + 1 ≤ (nuP tp sz 0 1000 P).2.2.1
          omega
      · rw [if_neg x]
        refine ⟨⟨a1, ?_, ?_, ?_, ?_⟩, er, fun q => absurd q x⟩
        · rw [ef]; exact h2
        · rw [ef]; omega
        · rw [er]; exact h5
        · rw [er]; exact h6
    · rw [if_neg y]
      obtain ⟨a1, a2, a3⟩ := h1.adv (tp := tp)
      have hk := askP_in (tp := tp) (P := P)
      have hlt := h1.2.2.2.2 (by rw [askP_tk y]; decide)
      obtain ⟨f1, f2⟩ := FW.part (j := j) (kd := askP tp P) (n := 0) h2 (by omega) hj hk (by omega)
      refine ⟨⟨a1, f1, ?_, h5, h6⟩, rfl, fun _ => ⟨z, a2, ?_, f2⟩⟩
      · show 3 * pgF P.2.2.2.2.2.2.1 j (askP tp P) 0 3 ≤ (PSadv tp sz P).2.1
        rw [f2]; omega
      · show P.2.1 + 1 ≤ (PSadv tp sz P).2.1
        omega
  · rw [if_neg z]
    exact ⟨⟨h1, h2, h4, h5, h6⟩, rfl, fun q => absurd q z⟩
section
variable {E : gE} {d rc rs am : Nat} {G : gH}
variable {th si lo td sz pa fr tk vl fk fp hdt kl kn cd bp bl : Int} {w hs bk iW iH iB iL iS tp fv fsh lt cp md sw nd mn my wd nm mv : Int → Int}
variable {s a b r r2 i k v e B c n l p j low high : Int} {Q : Outcome → gH → Prop} {x : Nat} {bs : List Int}
theorem c_readPart (htp : ∀ j, 0 ≤ j → j < 900 → -128 ≤ tp j ∧ tp j < 128) (hz : sz ≤ 900) (hO : PSok sz (pa, fr, tk, vl, fk, fp, fsh, hdt, lt)) (h3 : fk = 0 → 3 * fsh 3 + 3 ≤ fr) : CALL E iX6_readPart (d + 5) 0 0 [.ref am, vI j] (mH E G am th w hs si lo bk iW iH iB iL iS tp td fv sz pa fr tk vl fk fp fsh hdt lt kl kn cp cd bp bl md sw nd mn my wd nm mv) ((qVP fun kP => ∃ pa_ fr_ tk_ vl_ fk_ fp_ fsh_ hdt_ lt_, (pa_, fr_, tk_, vl_, fk_, fp_, fsh_, hdt_, lt_) = rpP tp sz j (pa, fr, tk, vl, fk, fp, fsh, hdt, lt) ∧ kP = (mH E G am th w hs si lo bk iW iH iB iL iS tp td fv sz pa_ fr_ tk_ vl_ fk_ fp_ fsh_ hdt_ lt_ kl kn cp cd bp bl md sw nd mn my wd nm mv))) := by
  refine GO.ok fun ok => ?_
  have hP := hO.1
  have p1 : 0 ≤ fr ∧ fr ≤ pa ∧ pa ≤ sz := hP.1
  have p4 : 0 ≤ fk ∧ fk ≤ 3 := hP.2.2.2.1
  have w3 := hO.2.1.1.2.2.1
  replace w3 : 0 ≤ fsh 3 ∧ fsh 3 ≤ 300 := w3
  unfold rpP
  by_cases z : fk = 0
  · rw [if_pos z]
    have q3 := h3 z
    have k66 : ∀ kd : Int, kd = askP tp (pa, fr, tk, vl, fk, fp, fsh, hdt, lt) → GO E iX6_readPart (d + 5) 0 0 66 [some (.ref am), some (vI j), none, none, none] [vI kd] (mH E G am th w hs si lo bk iW iH iB iL iS tp td fv sz pa fr tk vl fk fp fsh hdt lt kl kn cp cd bp bl md sw nd mn my wd nm mv) ((qVP fun kP => ∃ pa_ fr_ tk_ vl_ fk_ fp_ fsh_ hdt_ lt_, (pa_, fr_, tk_, vl_, fk_, fp_, fsh_, hdt_, lt_) = (if askP tp (pa, fr, tk, vl, fk, fp, fsh, hdt, lt) = 0 then rpN j (nuP tp sz 0 1000 (pa, fr, tk, vl, fk, fp, fsh, hdt, lt)) else PSf (pgF fsh j (askP tp (pa, fr, tk, vl, fk, fp, fsh, hdt, lt)) 0) (PSadv tp sz (pa, fr, tk, vl, fk, fp, fsh, hdt, lt))) ∧ kP = (mH E G am th w hs si lo bk iW iH iB iL iS tp td fv sz pa_ fr_ tk_ vl_ fk_ fp_ fsh_ hdt_ lt_ kl kn cp cd bp bl md sw nd mn my wd nm mv))) := by
      intro kd hkd
      have hki := askP_in (tp := tp) (P := (pa, fr, tk, vl, fk, fp, fsh, hdt, lt))
      rw [← hkd] at hki
      rw [← hkd]
      by_cases y : kd = 0
      · rw [if_pos y]
        refine g_istore_n (q := 67) dX6_readPart_66 gs2 rfl ?_
        refine g_aload_n (q := 68) dX6_readPart_67 rfl rfl ?_
        refine g_cv (I' := iX6_good) (mc := 0) (ms := 0) (rc := 0) (rs := 0) (ci := 7) (q := 71) dX6_readPart_68 q1555 q1557 rfl qs45 gcX6_good mO (c_good (by unfold in32; omega)) rfl rfl ?_
        refine g_ifeqB (t := 82) (q := 74) dX6_readPart_71 (by decide) rfl (fun c71 => ?_) (fun c71 => ?_)
        · exact absurd z c71
        · refine g_iload_n (q := 75) dX6_readPart_74 rfl rfl ?_
          refine g_if_eq (t := 82) (q := 78) dX6_readPart_75 (by decide) rfl (by first | assumption | exact in32_gB | exact in32_gCmp | (unfold in32; omega)) (fun c75 => ?_) (fun c75 => ?_)
          · refine g_iload_n (q := 83) dX6_readPart_82 rfl rfl ?_
            refine g_if_ne (t := 97) (q := 86) dX6_readPart_83 (by decide) rfl (by first | assumption | exact in32_gB | exact in32_gCmp | (unfold in32; omega)) (fun c83 => ?_) (fun c83 => ?_)
            · exact absurd y c83
            · refine g_aload_n (q := 87) dX6_readPart_86 rfl rfl ?_
              refine g_iconst (q := 88) dX6_readPart_87 rfl ?_
              refine g_sipush (q := 91) dX6_readPart_88 rfl ?_
              refine g_cvP (I' := iX6_number) (mc := 0) (ms := 0) (rc := 0) (rs := 0) (ci := 7) (q := 94) dX6_readPart_91 q1589 q1591 rfl qs51 gcX6_number mO (c_number (d := d + 2) hP hz (by omega) (by omega)) rfl rfl (fun v91 k91 z91 => ?_)
              obtain ⟨n1, pa1, fr1, tk1, vl1, fk1, fp1, fsh1, hdt1, lt1, e91, rfl, rfl⟩ := z91
              have nu := hP.nu (tp := tp) (lo := 0) (hi := 1000) (by omega)
              rw [← e91] at nu ⊢
              obtain ⟨u1, u2, u3, u4, u5⟩ := nu
              have u6 : fsh1 = fsh := (Prod.mk.inj u2).1
              have u7 : 0 ≤ fk1 ∧ fk1 ≤ 3 := u1.2.2.2.1
              rw [u6]
              refine g_goto (t := 98) dX6_readPart_94 (by decide) ?_
              refine g_istore_n (q := 99) dX6_readPart_98 gs3 rfl ?_
              refine g_aload_n (q := 100) dX6_readPart_99 rfl rfl ?_
              refine g_cv (I' := iX6_good) (mc := 0) (ms := 0) (rc := 0) (rs := 0) (ci := 7) (q := 103) dX6_readPart_100 q1555 q1557 rfl qs45 gcX6_good mO (c_good (by unfold in32; omega)) rfl rfl ?_
              refine g_ifneB (t := 107) (q := 106) dX6_readPart_103 (by decide) rfl (fun c103 => ?_) (fun c103 => ?_)
              · refine g_sipush (q := 110) dX6_readPart_107 rfl ?_
                refine g_iconst (q := 111) dX6_readPart_110 rfl ?_
                refine g_aload_n (q := 112) dX6_readPart_111 rfl rfl ?_
                refine gm_get (k := 21) (q := 115) dX6_readPart_112 q1415 (by decide) rfl rfl ?_
                refine g_iconst (q := 116) dX6_readPart_115 rfl ?_
                refine g_iald (q := 117) dX6_readPart_116 mA21 (by omega) (by omega) rfl ?_
                refine g_imul (q := 118) dX6_readPart_117 rfl ?_
                refine g_iadd (q := 119) dX6_readPart_118 rfl ?_
                refine g_istore (q := 121) dX6_readPart_119 gs4 rfl ?_
                refine g_aload_n (q := 122) dX6_readPart_121 rfl rfl ?_
                refine gm_get (k := 21) (q := 125) dX6_readPart_122 q1415 (by decide) rfl rfl ?_
                refine g_iload (q := 127) dX6_readPart_125 rfl rfl ?_
                refine g_iload_n (q := 128) dX6_readPart_127 rfl rfl ?_
                refine gm_st21 (q := 129) dX6_readPart_128 (by omega) (by omega)  rfl ?_
                refine g_aload_n (q := 130) dX6_readPart_129 rfl rfl ?_
                refine gm_get (k := 21) (q := 133) dX6_readPart_130 q1415 (by decide) rfl rfl ?_
                refine g_iload (q := 135) dX6_readPart_133 rfl rfl ?_
                refine g_iconst (q := 136) dX6_readPart_135 rfl ?_
                refine g_iadd (q := 137) dX6_readPart_136 rfl ?_
                refine g_iload_n (q := 138) dX6_readPart_137 rfl rfl ?_
                refine gm_st21 (q := 139) dX6_readPart_138 (by omega) (by omega)  rfl ?_
                refine g_aload_n (q := 140) dX6_readPart_139 rfl rfl ?_
                refine gm_get (k := 21) (q := 143) dX6_readPart_140 q1415 (by decide) rfl rfl ?_
                refine g_iload (q := 145) dX6_readPart_143 rfl rfl ?_
                refine g_iconst (q := 146) dX6_readPart_145 rfl ?_
                refine g_iadd (q := 147) dX6_readPart_146 rfl ?_
                refine g_iload_n (q := 148) dX6_readPart_147 rfl rfl ?_
                refine gm_st21 (q := 149) dX6_readPart_148 (by omega) (by omega)  rfl ?_
                refine g_aload_n (q := 150) dX6_readPart_149 rfl rfl ?_
                refine gm_get (k := 21) (q := 153) dX6_readPart_150 q1415 (by decide) rfl rfl ?_
                refine g_iconst (q := 154) dX6_readPart_153 rfl ?_
                refine g_dup2 (q := 155) dX6_readPart_154 rfl ?_
                refine g_iald (q := 156) dX6_readPart_155 mA21 (by omega) (by omega) rfl ?_
                refine g_iconst (q := 157) dX6_readPart_156 rfl ?_
                refine g_iadd (q := 158) dX6_readPart_157 rfl ?_
                refine gm_st21 (q := 159) dX6_readPart_158 (by omega) (by omega)  rfl ?_
                exact g_vret dX6_readPart_159 rfl ⟨rfl, _, _, _, _, _, _, _, _, _, (by unfold rpN; rw [if_pos c103, y]; rfl), rfl⟩
              · exact g_vret dX6_readPart_106 rfl ⟨rfl, _, _, _, _, _, _, _, _, _, (by unfold rpN; rw [if_neg c103]), rfl⟩
          · exact absurd y c75
      · rw [if_neg y]
        refine g_istore_n (q := 67) dX6_readPart_66 gs2 rfl ?_
        refine g_aload_n (q := 68) dX6_readPart_67 rfl rfl ?_
        refine g_cv (I' := iX6_good) (mc := 0) (ms := 0) (rc := 0) (rs := 0) (ci := 7) (q := 71) dX6_readPart_68 q1555 q1557 rfl qs45 gcX6_good mO (c_good (by unfold in32; omega)) rfl rfl ?_
        refine g_ifeqB (t := 82) (q := 74) dX6_readPart_71 (by decide) rfl (fun c71 => ?_) (fun c71 => ?_)
        · exact absurd z c71
        · refine g_iload_n (q := 75) dX6_readPart_74 rfl rfl ?_
          refine g_if_eq (t := 82) (q := 78) dX6_readPart_75 (by decide) rfl (by first | assumption | exact in32_gB | exact in32_gCmp | (unfold in32; omega)) (fun c75 => ?_) (fun c75 => ?_)
          · exact absurd c75 y
          · refine g_aload_n (q := 79) dX6_readPart_78 rfl rfl ?_
            refine g_cvV (I' := iX6_advance) (mc := 0) (ms := 0) (rc := 0) (rs := 0) (ci := 7) (q := 82) dX6_readPart_79 q1541 q1543 rfl qs43 gcX6_advance mO (c_advance hz (by omega) p1.2.2) rfl rfl ?_
            refine g_iload_n (q := 83) dX6_readPart_82 rfl rfl ?_
            refine g_if_ne (t := 97) (q := 86) dX6_readPart_83 (by decide) rfl (by first | assumption | exact in32_gB | exact in32_gCmp | (unfold in32; omega)) (fun c83 => ?_) (fun c83 => ?_)
            · refine g_iconst (q := 98) dX6_readPart_97 rfl ?_
              refine g_istore_n (q := 99) dX6_readPart_98 gs3 rfl ?_
              refine g_aload_n (q := 100) dX6_readPart_99 rfl rfl ?_
              refine g_cv (I' := iX6_good) (mc := 0) (ms := 0) (rc := 0) (rs := 0) (ci := 7) (q := 103) dX6_readPart_100 q1555 q1557 rfl qs45 gcX6_good mO (c_good (by unfold in32; omega)) rfl rfl ?_
              refine g_ifneB (t := 107) (q := 106) dX6_readPart_103 (by decide) rfl (fun c103 => ?_) (fun c103 => ?_)
              · refine g_sipush (q := 110) dX6_readPart_107 rfl ?_
                refine g_iconst (q := 111) dX6_readPart_110 rfl ?_
                refine g_aload_n (q := 112) dX6_readPart_111 rfl rfl ?_
                refine gm_get (k := 21) (q := 115) dX6_readPart_112 q1415 (by decide) rfl rfl ?_
                refine g_iconst (q := 116) dX6_readPart_115 rfl ?_
                refine g_iald (q := 117) dX6_readPart_116 mA21 (by omega) (by omega) rfl ?_
                refine g_imul (q := 118) dX6_readPart_117 rfl ?_
                refine g_iadd (q := 119) dX6_readPart_118 rfl ?_
                refine g_istore (q := 121) dX6_readPart_119 gs4 rfl ?_
                refine g_aload_n (q := 122) dX6_readPart_121 rfl rfl ?_
                refine gm_get (k := 21) (q := 125) dX6_readPart_122 q1415 (by decide) rfl rfl ?_
                refine g_iload (q := 127) dX6_readPart_125 rfl rfl ?_
                refine g_iload_n (q := 128) dX6_readPart_127 rfl rfl ?_
                refine gm_st21 (q := 129) dX6_readPart_128 (by omega) (by omega)  rfl ?_
                refine g_aload_n (q := 130) dX6_readPart_129 rfl rfl ?_
                refine gm_get (k := 21) (q := 133) dX6_readPart_130 q1415 (by decide) rfl rfl ?_
                refine g_iload (q := 135) dX6_readPart_133 rfl rfl ?_
                refine g_iconst (q := 136) dX6_readPart_135 rfl ?_
                refine g_iadd (q := 137) dX6_readPart_136 rfl ?_
                refine g_iload_n (q := 138) dX6_readPart_137 rfl rfl ?_
                refine gm_st21 (q := 139) dX6_readPart_138 (by omega) (by omega)  rfl ?_
                refine g_aload_n (q := 140) dX6_readPart_139 rfl rfl ?_
                refine gm_get (k := 21) (q := 143) dX6_readPart_140 q1415 (by decide) rfl rfl ?_
                refine g_iload (q := 145) dX6_readPart_143 rfl rfl ?_
                refine g_iconst (q := 146) dX6_readPart_145 rfl ?_
                refine g_iadd (q := 147) dX6_readPart_146 rfl ?_
                refine g_iload_n (q := 148) dX6_readPart_147 rfl rfl ?_
                refine gm_st21 (q := 149) dX6_readPart_148 (by omega) (by omega)  rfl ?_
                refine g_aload_n (q := 150) dX6_readPart_149 rfl rfl ?_
                refine gm_get (k := 21) (q := 153) dX6_readPart_150 q1415 (by decide) rfl rfl ?_
                refine g_iconst (q := 154) dX6_readPart_153 rfl ?_
                refine g_dup2 (q := 155) dX6_readPart_154 rfl ?_
                refine g_iald (q := 156) dX6_readPart_155 mA21 (by omega) (by omega) rfl ?_
                refine g_iconst (q := 157) dX6_readPart_156 rfl ?_
                refine g_iadd (q := 158) dX6_readPart_157 rfl ?_
                refine gm_st21 (q := 159) dX6_readPart_158 (by omega) (by omega)  rfl ?_
                exact g_vret dX6_readPart_159 rfl ⟨rfl, _, _, _, _, _, _, _, _, _, (by rw [hkd]; rfl), rfl⟩
              · exact absurd z c103
            · exact absurd c83 y
    show GO E iX6_readPart _ _ _ 0 [some (.ref am), some (vI j), none, none, none] [] _ _
    refine g_aload_n (q := 1) dX6_readPart_0 rfl rfl ?_
    refine g_ldcS (q := 3) dX6_readPart_1 rfl q1614 (litM_has ok) rfl ?_
    refine g_cv (I' := iX6_is) (mc := 0) (ms := 0) (rc := 0) (rs := 0) (ci := 7) (q := 6) dX6_readPart_3 q1564 q1566 rfl qs47 gcX6_is mO (c_is (d := d) (litM_has ok).2 htp hP hz) rfl rfl ?_
    refine g_ifeqB (t := 13) (q := 9) dX6_readPart_6 (by decide) rfl (fun c6 => ?_) (fun c6 => ?_)
    · refine g_aload_n (q := 14) dX6_readPart_13 rfl rfl ?_
      refine g_ldcS (q := 16) dX6_readPart_14 rfl q1615 (litM_left ok) rfl ?_
      refine g_cv (I' := iX6_is) (mc := 0) (ms := 0) (rc := 0) (rs := 0) (ci := 7) (q := 19) dX6_readPart_16 q1564 q1566 rfl qs47 gcX6_is mO (c_is (d := d) (litM_left ok).2 htp hP hz) rfl rfl ?_
      refine g_ifeqB (t := 26) (q := 22) dX6_readPart_19 (by decide) rfl (fun c19 => ?_) (fun c19 => ?_)
      · refine g_aload_n (q := 27) dX6_readPart_26 rfl rfl ?_
        refine g_ldcS (q := 29) dX6_readPart_27 rfl q1584 (litM_easy ok) rfl ?_
        refine g_cv (I' := iX6_is) (mc := 0) (ms := 0) (rc := 0) (rs := 0) (ci := 7) (q := 32) dX6_readPart_29 q1564 q1566 rfl qs47 gcX6_is mO (c_is (d := d) (litM_easy ok).2 htp hP hz) rfl rfl ?_
        refine g_ifeqB (t := 39) (q := 35) dX6_readPart_32 (by decide) rfl (fun c32 => ?_) (fun c32 => ?_)
        · refine g_aload_n (q := 40) dX6_readPart_39 rfl rfl ?_
          refine g_ldcS (q := 42) dX6_readPart_40 rfl q1616 (litM_tired ok) rfl ?_
          refine g_cv (I' := iX6_is) (mc := 0) (ms := 0) (rc := 0) (rs := 0) (ci := 7) (q := 45) dX6_readPart_42 q1564 q1566 rfl qs47 gcX6_is mO (c_is (d := d) (litM_tired ok).2 htp hP hz) rfl rfl ?_
          refine g_ifeqB (t := 52) (q := 48) dX6_readPart_45 (by decide) rfl (fun c45 => ?_) (fun c45 => ?_)
          · refine g_aload_n (q := 53) dX6_readPart_52 rfl rfl ?_
            refine g_ldcS (q := 55) dX6_readPart_53 rfl q1617 (litM_hour ok) rfl ?_
            refine g_cv (I' := iX6_is) (mc := 0) (ms := 0) (rc := 0) (rs := 0) (ci := 7) (q := 58) dX6_readPart_55 q1564 q1566 rfl qs47 gcX6_is mO (c_is (d := d) (litM_hour ok).2 htp hP hz) rfl rfl ?_
            refine g_ifeqB (t := 65) (q := 61) dX6_readPart_58 (by decide) rfl (fun c58 => ?_) (fun c58 => ?_)
            · refine g_iconst (q := 66) dX6_readPart_65 rfl ?_
              exact k66 _ (by unfold askP; first | rw [if_pos c6] | rw [if_neg c6, if_pos c19] | rw [if_neg c6, if_neg c19, if_pos c32] | rw [if_neg c6, if_neg c19, if_neg c32, if_pos c45] | rw [if_neg c6, if_neg c19, if_neg c32, if_neg c45, if_pos c58] | rw [if_neg c6, if_neg c19, if_neg c32, if_neg c45, if_neg c58])
            · refine g_iconst (q := 62) dX6_readPart_61 rfl ?_
              refine g_goto (t := 66) dX6_readPart_62 (by decide) ?_
              exact k66 _ (by unfold askP; first | rw [if_pos c6] | rw [if_neg c6, if_pos c19] | rw [if_neg c6, if_neg c19, if_pos c32] | rw [if_neg c6, if_neg c19, if_neg c32, if_pos c45] | rw [if_neg c6, if_neg c19, if_neg c32, if_neg c45, if_pos c58] | rw [if_neg c6, if_neg c19, if_neg c32, if_neg c45, if_neg c58])
          · refine g_iconst (q := 49) dX6_readPart_48 rfl ?_
            refine g_goto (t := 66) dX6_readPart_49 (by decide) ?_
            exact k66 _ (by unfold askP; first | rw [if_pos c6] | rw [if_neg c6, if_pos c19] | rw [if_neg c6, if_neg c19, if_pos c32] | rw [if_neg c6, if_neg c19, if_neg c32, if_pos c45] | rw [if_neg c6, if_neg c19, if_neg c32, if_neg c45, if_pos c58] | rw [if_neg c6, if_neg c19, if_neg c32, if_neg c45, if_neg c58])
        · refine g_iconst (q := 36) dX6_readPart_35 rfl ?_
          refine g_goto (t := 66) dX6_readPart_36 (by decide) ?_
          exact k66 _ (by unfold askP; first | rw [if_pos c6] | rw [if_neg c6, if_pos c19] | rw [if_neg c6, if_neg c19, if_pos c32] | rw [if_neg c6, if_neg c19, if_neg c32, if_pos c45] | rw [if_neg c6, if_neg c19, if_neg c32, if_neg c45, if_pos c58] | rw [if_neg c6, if_neg c19, if_neg c32, if_neg c45, if_neg c58])
      · refine g_iconst (q := 23) dX6_readPart_22 rfl ?_
        refine g_goto (t := 66) dX6_readPart_23 (by decide) ?_
        exact k66 _ (by unfold askP; first | rw [if_pos c6] | rw [if_neg c6, if_pos c19] | rw [if_neg c6, if_neg c19, if_pos c32] | rw [if_neg c6, if_neg c19, if_neg c32, if_pos c45] | rw [if_neg c6, if_neg c19, if_neg c32, if_neg c45, if_pos c58] | rw [if_neg c6, if_neg c19, if_neg c32, if_neg c45, if_neg c58])
    · refine g_iconst (q := 10) dX6_readPart_9 rfl ?_
      refine g_goto (t := 66) dX6_readPart_10 (by decide) ?_
      exact k66 _ (by unfold askP; first | rw [if_pos c6] | rw [if_neg c6, if_pos c19] | rw [if_neg c6, if_neg c19, if_pos c32] | rw [if_neg c6, if_neg c19, if_neg c32, if_pos c45] | rw [if_neg c6, if_neg c19, if_neg c32, if_neg c45, if_pos c58] | rw [if_neg c6, if_neg c19, if_neg c32, if_neg c45, if_neg c58])
  · rw [if_neg z]
    show GO E iX6_readPart _ _ _ 0 [some (.ref am), some (vI j), none, none, none] [] _ _
    refine g_aload_n (q := 1) dX6_readPart_0 rfl rfl ?_
    refine g_ldcS (q := 3) dX6_readPart_1 rfl q1614 (litM_has ok) rfl ?_
    refine g_cv (I' := iX6_is) (mc := 0) (ms := 0) (rc := 0) (rs := 0) (ci := 7) (q := 6) dX6_readPart_3 q1564 q1566 rfl qs47 gcX6_is mO (c_is (d := d) (litM_has ok).2 htp hP hz) rfl rfl ?_
    refine g_ifeqB (t := 13) (q := 9) dX6_readPart_6 (by decide) rfl (fun c6 => ?_) (fun c6 => ?_)
    · refine g_aload_n (q := 14) dX6_readPart_13 rfl rfl ?_
      refine g_ldcS (q := 16) dX6_readPart_14 rfl q1615 (litM_left ok) rfl ?_
      refine g_cv (I' := iX6_is) (mc := 0) (ms := 0) (rc := 0) (rs := 0) (ci := 7) (q := 19) dX6_readPart_16 q1564 q1566 rfl qs47 gcX6_is mO (c_is (d := d) (litM_left ok).2 htp hP hz) rfl rfl ?_
      refine g_ifeqB (t := 26) (q := 22) dX6_readPart_19 (by decide) rfl (fun c19 => ?_) (fun c19 => ?_)
      · refine g_aload_n (q := 27) dX6_readPart_26 rfl rfl ?_
        refine g_ldcS (q := 29) dX6_readPart_27 rfl q1584 (litM_easy ok) rfl ?_
        refine g_cv (I' := iX6_is) (mc := 0) (ms := 0) (rc := 0) (rs := 0) (ci := 7) (q := 32) dX6_readPart_29 q1564 q1566 rfl qs47 gcX6_is mO (c_is (d := d) (litM_easy ok).2 htp hP hz) rfl rfl ?_
        refine g_ifeqB (t := 39) (q := 35) dX6_readPart_32 (by decide) rfl (fun c32 => ?_) (fun c32 => ?_)
        · refine g_aload_n (q := 40) dX6_readPart_39 rfl rfl ?_
          refine g_ldcS (q := 42) dX6_readPart_40 rfl q1616 (litM_tired ok) rfl ?_
          refine g_cv (I' := iX6_is) (mc := 0) (ms := 0) (rc := 0) (rs := 0) (ci := 7) (q := 45) dX6_readPart_42 q1564 q1566 rfl qs47 gcX6_is mO (c_is (d := d) (litM_tired ok).2 htp hP hz) rfl rfl ?_
          refine g_ifeqB (t := 52) (q := 48) dX6_readPart_45 (by decide) rfl (fun c45 => ?_) (fun c45 => ?_)
          · refine g_aload_n (q := 53) dX6_readPart_52 rfl rfl ?_
            refine g_ldcS (q := 55) dX6_readPart_53 rfl q1617 (litM_hour ok) rfl ?_
            refine g_cv (I' := iX6_is) (mc := 0) (ms := 0) (rc := 0) (rs := 0) (ci := 7) (q := 58) dX6_readPart_55 q1564 q1566 rfl qs47 gcX6_is mO (c_is (d := d) (litM_hour ok).2 htp hP hz) rfl rfl ?_
            refine g_ifeqB (t := 65) (q := 61) dX6_readPart_58 (by decide) rfl (fun c58 => ?_) (fun c58 => ?_)
            · refine g_iconst (q := 66) dX6_readPart_65 rfl ?_
              refine g_istore_n (q := 67) dX6_readPart_66 gs2 rfl ?_
              refine g_aload_n (q := 68) dX6_readPart_67 rfl rfl ?_
              refine g_cv (I' := iX6_good) (mc := 0) (ms := 0) (rc := 0) (rs := 0) (ci := 7) (q := 71) dX6_readPart_68 q1555 q1557 rfl qs45 gcX6_good mO (c_good (by unfold in32; omega)) rfl rfl ?_
              refine g_ifeqB (t := 82) (q := 74) dX6_readPart_71 (by decide) rfl (fun c71 => ?_) (fun c71 => ?_)
              · refine g_iload_n (q := 83) dX6_readPart_82 rfl rfl ?_
                refine g_if_ne (t := 97) (q := 86) dX6_readPart_83 (by decide) rfl (by first | assumption | exact in32_gB | exact in32_gCmp | (unfold in32; omega)) (fun c83 => absurd c83 (by decide)) (fun c83 => ?_)
                refine g_aload_n (q := 87) dX6_readPart_86 rfl rfl ?_
                refine g_iconst (q := 88) dX6_readPart_87 rfl ?_
                refine g_sipush (q := 91) dX6_readPart_88 rfl ?_
                refine g_cvP (I' := iX6_number) (mc := 0) (ms := 0) (rc := 0) (rs := 0) (ci := 7) (q := 94) dX6_readPart_91 q1589 q1591 rfl qs51 gcX6_number mO (c_number (d := d + 2) hP hz (by omega) (by omega)) rfl rfl (fun v91 k91 z91 => ?_)
                obtain ⟨n1, pa1, fr1, tk1, vl1, fk1, fp1, fsh1, hdt1, lt1, e91, rfl, rfl⟩ := z91
                have e92 := (hP.nu (tp := tp) (lo := 0) (hi := 1000) (by omega)).2.2.2.2 z
                rw [← e91] at e92
                have e93 : fk1 = fk := (Prod.mk.inj (Prod.mk.inj (Prod.mk.inj (Prod.mk.inj (Prod.mk.inj e92).2).2).2).2).1
                refine g_goto (t := 98) dX6_readPart_94 (by decide) ?_
                refine g_istore_n (q := 99) dX6_readPart_98 gs3 rfl ?_
                refine g_aload_n (q := 100) dX6_readPart_99 rfl rfl ?_
                refine g_cv (I' := iX6_good) (mc := 0) (ms := 0) (rc := 0) (rs := 0) (ci := 7) (q := 103) dX6_readPart_100 q1555 q1557 rfl qs45 gcX6_good mO (c_good (by unfold in32; omega)) rfl rfl ?_
                refine g_ifneB (t := 107) (q := 106) dX6_readPart_103 (by decide) rfl (fun c103 => ?_) (fun c103 => ?_)
                · exact absurd c103 (by omega)
                · exact g_vret dX6_readPart_106 rfl ⟨rfl, _, _, _, _, _, _, _, _, _, e92, rfl⟩
              · exact absurd c71 z
            · exact absurd c58.1 z
          · exact absurd c45.1 z
        · exact absurd c32.1 z
      · exact absurd c19.1 z
    · exact absurd c6.1 z
end
