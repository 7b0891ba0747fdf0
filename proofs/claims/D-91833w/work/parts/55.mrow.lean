/-! THE REFERENCE: readRow, readPart -/
set_option maxRecDepth 100000
/-- what is read so far in order -/
def FW (g : Int → Int) : Prop := WFw g ∧ ∀ j, 34 ≤ j → j < 202 → 0 ≤ g j ∧ g j ≤ 99999
theorem FW.up {g : Int → Int} {j x : Int} (h : FW g) (hj : 34 + 14 * g 2 ≤ j) (hj1 : j < 202) (hx : 0 ≤ x ∧ x ≤ 99999) : FW (upI g j x) := by
  obtain ⟨⟨a1, a2, a3, a4, a5, a6, a7, a8, a9⟩, hb⟩ := h
  have e : ∀ y, y ≠ j → upI g j x y = g y := fun y hy => upI_ne hy
  refine ⟨⟨?_, ?_, ?_, ?_, ?_, ?_, ?_, ?_, ?_⟩, ?_⟩
  · rw [e 1 (by omega)]; exact a1
  · rw [e 2 (by omega)]; exact a2
  · rw [e 3 (by omega)]; exact a3
  · rw [e 4 (by omega)]; exact a4
  · intro s q1 q2; rw [e _ (by omega)]; exact a5 s q1 q2
  · intro t q1 q2; rw [e _ (by omega)]; exact a6 t q1 q2
  · intro r q1 q2
    rw [e 2 (by omega)] at q2
    obtain ⟨p1, p2⟩ := a7 r q1 q2
    rw [e (34 + 14 * r) (by omega), e 1 (by omega)]
    refine ⟨p1, fun i i1 i2 => ?_⟩
    rw [e _ (by omega)]
    exact p2 i i1 i2
  · intro l q1 q2; rw [e _ (by omega), e _ (by omega)]; exact a8 l q1 q2
  · intro k q1 q2; rw [e _ (by omega), e _ (by omega), e _ (by omega)]; exact a9 k q1 q2
  · intro y q1 q2
    by_cases hy : y = j
    · subst hy; rw [upI_at]; exact hx
    · rw [e y hy]; exact hb y q1 q2
/-- a whole row more -/
theorem FW.rowEnd {g : Int → Int} {n : Int} (h : FW g) (h2 : g 2 < 12) (hn : 2 ≤ n ∧ n ≤ 12) (hr : ∀ i, 0 ≤ i → i < n → 0 ≤ g (34 + 14 * g 2 + 1 + i) ∧ g (34 + 14 * g 2 + 1 + i) < g 1) : FW (upI (upI g (34 + 14 * g 2) n) 2 (upI g (34 + 14 * g 2) n 2 + 1)) := by
  obtain ⟨⟨a1, a2, a3, a4, a5, a6, a7, a8, a9⟩, hb⟩ := h
  have e2 : upI g (34 + 14 * g 2) n 2 = g 2 := upI_ne (by omega)
  rw [e2]
  have e : ∀ y, y ≠ 2 → y ≠ 34 + 14 * g 2 → upI (upI g (34 + 14 * g 2) n) 2 (g 2 + 1) y = g y := fun y hy hz => by rw [upI_ne hy, upI_ne hz]
  refine ⟨⟨?_, ?_, ?_, ?_, ?_, ?_, ?_, ?_, ?_⟩, ?_⟩
  · rw [e 1 (by omega) (by omega)]; exact a1
  · rw [upI_at]; omega
  · rw [e 3 (by omega) (by omega)]; exact a3
  · rw [e 4 (by omega) (by omega)]; exact a4
  · intro s q1 q2; rw [e _ (by omega) (by omega)]; exact a5 s q1 q2
  · intro t q1 q2; rw [e _ (by omega) (by omega)]; exact a6 t q1 q2
  · intro r q1 q2
    rw [upI_at] at q2
    rw [e 1 (by omega) (by omega)]
    by_cases c : r = g 2
    · subst c
      rw [show upI (upI g (34 + 14 * g 2) n) 2 (g 2 + 1) (34 + 14 * g 2) = n from by rw [upI_ne (by omega), upI_at]]
      refine ⟨hn, fun i i1 i2 => ?_⟩
      rw [e _ (by omega) (by omega)]
      exact hr i i1 i2
    · obtain ⟨p1, p2⟩ := a7 r q1 (by omega)
      rw [e (34 + 14 * r) (by omega) (by omega)]
      refine ⟨p1, fun i i1 i2 => ?_⟩
      rw [e _ (by omega) (by omega)]
      exact p2 i i1 i2
  · intro l q1 q2; rw [e _ (by omega) (by omega), e _ (by omega) (by omega)]; exact a8 l q1 q2
  · intro k q1 q2; rw [e _ (by omega) (by omega), e _ (by omega) (by omega), e _ (by omega) (by omega)]; exact a9 k q1 q2
  · intro y q1 q2
    by_cases hy : y = 34 + 14 * g 2
    · subst hy; rw [upI_ne (by omega), upI_at]; omega
    · rw [e y (by omega) hy]; exact hb y q1 q2
def dupB (g : Int → Int) (k v : Int) : Nat → Int → Bool
  | 0, _ => false
  | f + 1, i => if g (k + 1 + i) = v then true else dupB g k v f (i + 1)
def rrL (tp : Int → Int) (sz : Int) : Nat → Int → PS → PS
  | 0, _, P => P
  | f + 1, n, P => if P.2.2.1 ≠ 2 then PSerr 1 P else if P.2.2.2.2.2.2.1 1 ≤ P.2.2.2.1 then PSerr 2 P else if dupB P.2.2.2.2.2.2.1 (34 + 14 * P.2.2.2.2.2.2.1 2) P.2.2.2.1 n.toNat 0 = true then PSerr 2 P else if n = 12 then PSerr 3 P
    else if n + 1 < 2 ∨ (PSadv tp sz P).2.2.1 = 2 then rrL tp sz f (n + 1) (PSf (upI P.2.2.2.2.2.2.1 (34 + 14 * P.2.2.2.2.2.2.1 2 + 1 + n) P.2.2.2.1) (PSadv tp sz P))
    else PSf (upI (upI (upI P.2.2.2.2.2.2.1 (34 + 14 * P.2.2.2.2.2.2.1 2 + 1 + n) P.2.2.2.1) (34 + 14 * P.2.2.2.2.2.2.1 2) (n + 1)) 2 (upI (upI P.2.2.2.2.2.2.1 (34 + 14 * P.2.2.2.2.2.2.1 2 + 1 + n) P.2.2.2.1) (34 + 14 * P.2.2.2.2.2.2.1 2) (n + 1) 2 + 1)) (PSadv tp sz P)
section
variable {E : gE} {d rc rs am : Nat} {G : gH}
variable {th si lo td sz pa fr tk vl fk fp hdt kl kn cd bp bl : Int} {w hs bk iW iH iB iL iS tp fv fsh lt cp md sw nd mn my wd nm mv : Int → Int}
variable {s a b r r2 i k v e B c n l p low high : Int} {Q : Outcome → gH → Prop} {x : Nat} {bs : List Int}
theorem l_dup (hk : 34 ≤ k ∧ k ≤ 188) (hn : n ≤ 12) (hF : ∀ j, 34 ≤ j → j < 202 → 0 ≤ fsh j ∧ fsh j ≤ 99999) (hv : 0 ≤ vl ∧ vl ≤ 99999) (hf : fk = 0) : ∀ (f : Nat) (i : Int), 0 ≤ i → i + f = n →
    (dupB fsh k vl f i = false → GO E iX6_readRow (d + 2) 0 0 102 [some (.ref am), some (vI k), some (vI n), some (vI n)] [] (mH E G am th w hs si lo bk iW iH iB iL iS tp td fv sz pa fr tk vl fk fp fsh hdt lt kl kn cp cd bp bl md sw nd mn my wd nm mv) Q) →
    (dupB fsh k vl f i = true → ∀ j : Int, GO E iX6_readRow (d + 2) 0 0 102 [some (.ref am), some (vI k), some (vI n), some (vI j)] [] (mH E G am th w hs si lo bk iW iH iB iL iS tp td fv sz pa fr tk vl 2 fr fsh hdt lt kl kn cp cd bp bl md sw nd mn my wd nm mv) Q) →
    GO E iX6_readRow (d + 2) 0 0 62 [some (.ref am), some (vI k), some (vI n), some (vI i)] [] (mH E G am th w hs si lo bk iW iH iB iL iS tp td fv sz pa fr tk vl fk fp fsh hdt lt kl kn cp cd bp bl md sw nd mn my wd nm mv) Q := by
  intro f
  induction f with
  | zero =>
    intro i h0 h1 k1 k2
    obtain rfl : i = n := by omega
    refine g_iload_n (q := 63) dX6_readRow_62 rfl rfl ?_
    refine g_iload_n (q := 64) dX6_readRow_63 rfl rfl ?_
    refine g_icmp_ge (t := 102) (q := 67) dX6_readRow_64 (by decide) rfl (by first | assumption | exact in32_gB | exact in32_gCmp | (unfold in32; omega)) (by first | assumption | exact in32_gB | exact in32_gCmp | (unfold in32; omega)) (fun c64 => ?_) (fun c64 => ?_)
    · exact k1 rfl
    · exact absurd c64 (by omega)
  | succ f ih =>
    intro i h0 h1 k1 k2
    have h2 := hF (k + 1 + i) (by omega) (by omega)
    have k3 : fsh (k + 1 + i) = vl → GO E iX6_readRow (d + 2) 0 0 62 [some (.ref am), some (vI k), some (vI n), some (vI (i + 1))] [] (mH E G am th w hs si lo bk iW iH iB iL iS tp td fv sz pa fr tk vl 2 fr fsh hdt lt kl kn cp cd bp bl md sw nd mn my wd nm mv) Q := by
      intro z
      have k4 := k2 (if_pos z)
      refine g_iload_n (q := 63) dX6_readRow_62 rfl rfl ?_
      refine g_iload_n (q := 64) dX6_readRow_63 rfl rfl ?_
      refine g_icmp_ge (t := 102) (q := 67) dX6_readRow_64 (by decide) rfl (by first | assumption | exact in32_gB | exact in32_gCmp | (unfold in32; omega)) (by first | assumption | exact in32_gB | exact in32_gCmp | (unfold in32; omega)) (fun c64 => ?_) (fun c64 => ?_)
      · exact k4 _
      · refine g_aload_n (q := 68) dX6_readRow_67 rfl rfl ?_
        refine g_cv (I' := iX6_good) (mc := 0) (ms := 0) (rc := 0) (rs := 0) (ci := 7) (q := 71) dX6_readRow_68 q1555 q1557 rfl qs45 gcX6_good mO (c_good (by unfold in32; omega)) rfl rfl ?_
        refine g_ifeqB (t := 102) (q := 74) dX6_readRow_71 (by decide) rfl (fun c71 => ?_) (fun c71 => ?_)
        · exact k4 _
        · exact absurd c71 (by decide)
    refine g_iload_n (q := 63) dX6_readRow_62 rfl rfl ?_
    refine g_iload_n (q := 64) dX6_readRow_63 rfl rfl ?_
    refine g_icmp_ge (t := 102) (q := 67) dX6_readRow_64 (by decide) rfl (by first | assumption | exact in32_gB | exact in32_gCmp | (unfold in32; omega)) (by first | assumption | exact in32_gB | exact in32_gCmp | (unfold in32; omega)) (fun c64 => ?_) (fun c64 => ?_)
    · exact absurd c64 (by omega)
    · refine g_aload_n (q := 68) dX6_readRow_67 rfl rfl ?_
      refine g_cv (I' := iX6_good) (mc := 0) (ms := 0) (rc := 0) (rs := 0) (ci := 7) (q := 71) dX6_readRow_68 q1555 q1557 rfl qs45 gcX6_good mO (c_good (by unfold in32; omega)) rfl rfl ?_
      refine g_ifeqB (t := 102) (q := 74) dX6_readRow_71 (by decide) rfl (fun c71 => ?_) (fun c71 => ?_)
      · exact absurd hf c71
      · refine g_aload_n (q := 75) dX6_readRow_74 rfl rfl ?_
        refine gm_get (k := 21) (q := 78) dX6_readRow_75 q1415 (by decide) rfl rfl ?_
        refine g_iload_n (q := 79) dX6_readRow_78 rfl rfl ?_
        refine g_iconst (q := 80) dX6_readRow_79 rfl ?_
        refine g_iadd (q := 81) dX6_readRow_80 rfl ?_
        refine g_iload_n (q := 82) dX6_readRow_81 rfl rfl ?_
        refine g_iadd (q := 83) dX6_readRow_82 rfl ?_
        refine g_iald (q := 84) dX6_readRow_83 mA21 (by omega) (by omega) rfl ?_
        refine g_aload_n (q := 85) dX6_readRow_84 rfl rfl ?_
        refine gm_get (k := 18) (q := 88) dX6_readRow_85 q1412 (by decide) rfl rfl ?_
        refine g_icmp_ne (t := 96) (q := 91) dX6_readRow_88 (by decide) rfl (by first | assumption | exact in32_gB | exact in32_gCmp | (unfold in32; omega)) (by first | assumption | exact in32_gB | exact in32_gCmp | (unfold in32; omega)) (fun c88 => ?_) (fun c88 => ?_)
        · refine g_iinc (q := 99) dX6_readRow_96 rfl gs3 rfl ?_
          refine g_goto (t := 62) dX6_readRow_99 (by decide) ?_
          first
          | exact k3 c88
          | exact ih _ (by omega) (by omega) (fun q => k1 (by show (if fsh (k + 1 + i) = vl then true else dupB fsh k vl f (i + 1)) = false; rw [if_neg c88]; exact q)) (fun q => k2 (by show (if fsh (k + 1 + i) = vl then true else dupB fsh k vl f (i + 1)) = true; rw [if_neg c88]; exact q))
        · refine g_aload_n (q := 92) dX6_readRow_91 rfl rfl ?_
          refine g_iconst (q := 93) dX6_readRow_92 rfl ?_
          refine g_cvV (I' := iX6_errs) (mc := 0) (ms := 0) (rc := 0) (rs := 0) (ci := 7) (q := 96) dX6_readRow_93 q1576 q1578 rfl qs48 gcX6_errs mO (c_errs hf) rfl rfl ?_
          refine g_iinc (q := 99) dX6_readRow_96 rfl gs3 rfl ?_
          refine g_goto (t := 62) dX6_readRow_99 (by decide) ?_
          first
          | exact k3 c88
          | exact ih _ (by omega) (by omega) (fun q => k1 (by show (if fsh (k + 1 + i) = vl then true else dupB fsh k vl f (i + 1)) = false; rw [if_neg c88]; exact q)) (fun q => k2 (by show (if fsh (k + 1 + i) = vl then true else dupB fsh k vl f (i + 1)) = true; rw [if_neg c88]; exact q))
theorem l_rrow1 {f : Nat} {x3 : Option Value} {X : PS} (hz : sz ≤ 900) (hP : PSt sz (pa, fr, tk, vl, fk, fp, fsh, hdt, lt)) (hF : FW fsh) (hf : fk = 0) (h0 : 0 ≤ n) (h1 : n ≤ 12) (h2 : fsh 2 < 12) (hX : rrL tp sz (f + 1) n (pa, fr, tk, vl, fk, fp, fsh, hdt, lt) = X)
    (kk : n ≠ 12 → rrL tp sz f (n + 1) (PSf (upI fsh (34 + 14 * fsh 2 + 1 + n) vl) (PSadv tp sz (pa, fr, tk, vl, fk, fp, fsh, hdt, lt))) = X → GO E iX6_readRow (d + 2) 0 0 15 [some (.ref am), some (vI (34 + 14 * fsh 2)), some (vI (n + 1)), some (vI n)] [] (mH E G am th w hs si lo bk iW iH iB iL iS tp td fv sz ((adv tp sz pa vl).1) ((adv tp sz pa vl).2.1) ((adv tp sz pa vl).2.2.1) ((adv tp sz pa vl).2.2.2) fk fp (upI fsh (34 + 14 * fsh 2 + 1 + n) vl) hdt lt kl kn cp cd bp bl md sw nd mn my wd nm mv) ((qVP fun kP => ∃ pa_ fr_ tk_ vl_ fk_ fp_ fsh_ hdt_ lt_, (pa_, fr_, tk_, vl_, fk_, fp_, fsh_, hdt_, lt_) = X ∧ kP = (mH E G am th w hs si lo bk iW iH iB iL iS tp td fv sz pa_ fr_ tk_ vl_ fk_ fp_ fsh_ hdt_ lt_ kl kn cp cd bp bl md sw nd mn my wd nm mv)))) :
    GO E iX6_readRow (d + 2) 0 0 15 [some (.ref am), some (vI (34 + 14 * fsh 2)), some (vI n), x3] [] (mH E G am th w hs si lo bk iW iH iB iL iS tp td fv sz pa fr tk vl fk fp fsh hdt lt kl kn cp cd bp bl md sw nd mn my wd nm mv) ((qVP fun kP => ∃ pa_ fr_ tk_ vl_ fk_ fp_ fsh_ hdt_ lt_, (pa_, fr_, tk_, vl_, fk_, fp_, fsh_, hdt_, lt_) = X ∧ kP = (mH E G am th w hs si lo bk iW iH iB iL iS tp td fv sz pa_ fr_ tk_ vl_ fk_ fp_ fsh_ hdt_ lt_ kl kn cp cd bp bl md sw nd mn my wd nm mv))) := by
  have p1 : 0 ≤ fr ∧ fr ≤ pa ∧ pa ≤ sz := hP.1
  have p2 : 0 ≤ tk ∧ tk ≤ 4 := hP.2.1
  have p3 : 0 ≤ vl ∧ vl ≤ 99999 := hP.2.2.1
  have w1 := hF.1.1
  have w2 := hF.1.2.1
  have hA := (hP.adv (tp := tp)).1
  have at2 : 0 ≤ (adv tp sz pa vl).2.2.1 ∧ (adv tp sz pa vl).2.2.1 ≤ 4 := hA.2.1
  replace hX : (if tk ≠ 2 then PSerr 1 (pa, fr, tk, vl, fk, fp, fsh, hdt, lt) else if fsh 1 ≤ vl then PSerr 2 (pa, fr, tk, vl, fk, fp, fsh, hdt, lt) else if dupB fsh (34 + 14 * fsh 2) vl n.toNat 0 = true then PSerr 2 (pa, fr, tk, vl, fk, fp, fsh, hdt, lt) else if n = 12 then PSerr 3 (pa, fr, tk, vl, fk, fp, fsh, hdt, lt)
    else if n + 1 < 2 ∨ (adv tp sz pa vl).2.2.1 = 2 then rrL tp sz f (n + 1) (PSf (upI fsh (34 + 14 * fsh 2 + 1 + n) vl) (PSadv tp sz (pa, fr, tk, vl, fk, fp, fsh, hdt, lt)))
    else PSf (upI (upI (upI fsh (34 + 14 * fsh 2 + 1 + n) vl) (34 + 14 * fsh 2) (n + 1)) 2 (upI (upI fsh (34 + 14 * fsh 2 + 1 + n) vl) (34 + 14 * fsh 2) (n + 1) 2 + 1)) (PSadv tp sz (pa, fr, tk, vl, fk, fp, fsh, hdt, lt))) = X := hX
  have out : ∀ (k fp : Int) (x3 : Option Value), 1 ≤ k → k ≤ 3 → PSerr k (pa, fr, tk, vl, fk, fp, fsh, hdt, lt) = X → fp = fr → GO E iX6_readRow (d + 2) 0 0 102 [some (.ref am), some (vI (34 + 14 * fsh 2)), some (vI n), x3] [] (mH E G am th w hs si lo bk iW iH iB iL iS tp td fv sz pa fr tk vl k fp fsh hdt lt kl kn cp cd bp bl md sw nd mn my wd nm mv) ((qVP fun kP => ∃ pa_ fr_ tk_ vl_ fk_ fp_ fsh_ hdt_ lt_, (pa_, fr_, tk_, vl_, fk_, fp_, fsh_, hdt_, lt_) = X ∧ kP = (mH E G am th w hs si lo bk iW iH iB iL iS tp td fv sz pa_ fr_ tk_ vl_ fk_ fp_ fsh_ hdt_ lt_ kl kn cp cd bp bl md sw nd mn my wd nm mv))) := by
    intro k fp x3 k1 k2 e ef
    subst ef
    refine g_iload_n (q := 103) dX6_readRow_102 rfl rfl ?_
    refine g_bipush (q := 105) dX6_readRow_103 rfl ?_
    refine g_icmp_ne (t := 113) (q := 108) dX6_readRow_105 (by decide) rfl (by first | assumption | exact in32_gB | exact in32_gCmp | (unfold in32; omega)) (by first | assumption | exact in32_gB | exact in32_gCmp | (unfold in32; omega)) (fun c105 => ?_) (fun c105 => ?_)
    · refine g_aload_n (q := 114) dX6_readRow_113 rfl rfl ?_
      refine g_cv (I' := iX6_good) (mc := 0) (ms := 0) (rc := 0) (rs := 0) (ci := 7) (q := 117) dX6_readRow_114 q1555 q1557 rfl qs45 gcX6_good mO (c_good (by unfold in32; omega)) rfl rfl ?_
      refine g_ifneB (t := 121) (q := 120) dX6_readRow_117 (by decide) rfl (fun c117 => ?_) (fun c117 => ?_)
      · exact absurd c117 (by omega)
      · exact g_vret dX6_readRow_120 rfl ⟨rfl, _, _, _, _, _, _, _, _, _, e, rfl⟩
    · refine g_aload_n (q := 109) dX6_readRow_108 rfl rfl ?_
      refine g_iconst (q := 110) dX6_readRow_109 rfl ?_
      refine g_cvV (I' := iX6_errs) (mc := 0) (ms := 0) (rc := 0) (rs := 0) (ci := 7) (q := 113) dX6_readRow_110 q1576 q1578 rfl qs48 gcX6_errs mO (c_errs_no (by unfold in32; omega) (by omega)) rfl rfl ?_
      refine g_aload_n (q := 114) dX6_readRow_113 rfl rfl ?_
      refine g_cv (I' := iX6_good) (mc := 0) (ms := 0) (rc := 0) (rs := 0) (ci := 7) (q := 117) dX6_readRow_114 q1555 q1557 rfl qs45 gcX6_good mO (c_good (by unfold in32; omega)) rfl rfl ?_
      refine g_ifneB (t := 121) (q := 120) dX6_readRow_117 (by decide) rfl (fun c117 => ?_) (fun c117 => ?_)
      · exact absurd c117 (by omega)
      · exact g_vret dX6_readRow_120 rfl ⟨rfl, _, _, _, _, _, _, _, _, _, e, rfl⟩
  have out0 : ∀ (k fp : Int) (x3 : Option Value), 1 ≤ k → k ≤ 3 → PSerr k (pa, fr, tk, vl, fk, fp, fsh, hdt, lt) = X → fp = fr → GO E iX6_readRow (d + 2) 0 0 60 [some (.ref am), some (vI (34 + 14 * fsh 2)), some (vI n), x3] [] (mH E G am th w hs si lo bk iW iH iB iL iS tp td fv sz pa fr tk vl k fp fsh hdt lt kl kn cp cd bp bl md sw nd mn my wd nm mv) ((qVP fun kP => ∃ pa_ fr_ tk_ vl_ fk_ fp_ fsh_ hdt_ lt_, (pa_, fr_, tk_, vl_, fk_, fp_, fsh_, hdt_, lt_) = X ∧ kP = (mH E G am th w hs si lo bk iW iH iB iL iS tp td fv sz pa_ fr_ tk_ vl_ fk_ fp_ fsh_ hdt_ lt_ kl kn cp cd bp bl md sw nd mn my wd nm mv))) := by
    intro k fp x3 k1 k2 e ef
    refine g_iconst (q := 61) dX6_readRow_60 rfl ?_
    refine g_istore_n (q := 62) dX6_readRow_61 gs3 rfl ?_
    refine g_iload_n (q := 63) dX6_readRow_62 rfl rfl ?_
    refine g_iload_n (q := 64) dX6_readRow_63 rfl rfl ?_
    refine g_icmp_ge (t := 102) (q := 67) dX6_readRow_64 (by decide) rfl (by first | assumption | exact in32_gB | exact in32_gCmp | (unfold in32; omega)) (by first | assumption | exact in32_gB | exact in32_gCmp | (unfold in32; omega)) (fun c64 => ?_) (fun c64 => ?_)
    · exact out _ _ _ k1 k2 e ef
    · refine g_aload_n (q := 68) dX6_readRow_67 rfl rfl ?_
      refine g_cv (I' := iX6_good) (mc := 0) (ms := 0) (rc := 0) (rs := 0) (ci := 7) (q := 71) dX6_readRow_68 q1555 q1557 rfl qs45 gcX6_good mO (c_good (by unfold in32; omega)) rfl rfl ?_
      refine g_ifeqB (t := 102) (q := 74) dX6_readRow_71 (by decide) rfl (fun c71 => ?_) (fun c71 => ?_)
      · exact out _ _ _ k1 k2 e ef
      · exact absurd c71 (by omega)
  by_cases z1 : tk = 2
  · rw [if_neg (not_not_intro z1)] at hX
    by_cases z2 : fsh 1 ≤ vl
    · rw [if_pos z2] at hX
      refine g_aload_n (q := 16) dX6_readRow_15 rfl rfl ?_
      refine g_cv (I' := iX6_good) (mc := 0) (ms := 0) (rc := 0) (rs := 0) (ci := 7) (q := 19) dX6_readRow_16 q1555 q1557 rfl qs45 gcX6_good mO (c_good (by unfold in32; omega)) rfl rfl ?_
      refine g_ifeqB (t := 35) (q := 22) dX6_readRow_19 (by decide) rfl (fun c19 => ?_) (fun c19 => ?_)
      · exact absurd hf c19
      · refine g_aload_n (q := 23) dX6_readRow_22 rfl rfl ?_
        refine gm_get (k := 17) (q := 26) dX6_readRow_23 q1411 (by decide) rfl rfl ?_
        refine g_iconst (q := 27) dX6_readRow_26 rfl ?_
        refine g_icmp_eq (t := 35) (q := 30) dX6_readRow_27 (by decide) rfl (by first | assumption | exact in32_gB | exact in32_gCmp | (unfold in32; omega)) (by first | assumption | exact in32_gB | exact in32_gCmp | (unfold in32; omega)) (fun c27 => ?_) (fun c27 => ?_)
        · refine g_aload_n (q := 36) dX6_readRow_35 rfl rfl ?_
          refine g_cv (I' := iX6_good) (mc := 0) (ms := 0) (rc := 0) (rs := 0) (ci := 7) (q := 39) dX6_readRow_36 q1555 q1557 rfl qs45 gcX6_good mO (c_good (by unfold in32; omega)) rfl rfl ?_
          refine g_ifeqB (t := 60) (q := 42) dX6_readRow_39 (by decide) rfl (fun c39 => ?_) (fun c39 => ?_)
          · exact absurd hf c39
          · refine g_aload_n (q := 43) dX6_readRow_42 rfl rfl ?_
            refine gm_get (k := 18) (q := 46) dX6_readRow_43 q1412 (by decide) rfl rfl ?_
            refine g_aload_n (q := 47) dX6_readRow_46 rfl rfl ?_
            refine gm_get (k := 21) (q := 50) dX6_readRow_47 q1415 (by decide) rfl rfl ?_
            refine g_iconst (q := 51) dX6_readRow_50 rfl ?_
            refine g_iald (q := 52) dX6_readRow_51 mA21 (by omega) (by omega) rfl ?_
            refine g_icmp_lt (t := 60) (q := 55) dX6_readRow_52 (by decide) rfl (by first | assumption | exact in32_gB | exact in32_gCmp | (unfold in32; omega)) (by first | assumption | exact in32_gB | exact in32_gCmp | (unfold in32; omega)) (fun c52 => ?_) (fun c52 => ?_)
            · exact absurd c52 (by omega)
            · refine g_aload_n (q := 56) dX6_readRow_55 rfl rfl ?_
              refine g_iconst (q := 57) dX6_readRow_56 rfl ?_
              refine g_cvV (I' := iX6_errs) (mc := 0) (ms := 0) (rc := 0) (rs := 0) (ci := 7) (q := 60) dX6_readRow_57 q1576 q1578 rfl qs48 gcX6_errs mO (c_errs hf) rfl rfl ?_
              exact out0 _ _ _ (by omega) (by omega) hX rfl
        · exact absurd z1 c27
    · rw [if_neg z2] at hX
      have in2 : dupB fsh (34 + 14 * fsh 2) vl n.toNat 0 = false → GO E iX6_readRow (d + 2) 0 0 102 [some (.ref am), some (vI (34 + 14 * fsh 2)), some (vI n), some (vI n)] [] (mH E G am th w hs si lo bk iW iH iB iL iS tp td fv sz pa fr tk vl fk fp fsh hdt lt kl kn cp cd bp bl md sw nd mn my wd nm mv) ((qVP fun kP => ∃ pa_ fr_ tk_ vl_ fk_ fp_ fsh_ hdt_ lt_, (pa_, fr_, tk_, vl_, fk_, fp_, fsh_, hdt_, lt_) = X ∧ kP = (mH E G am th w hs si lo bk iW iH iB iL iS tp td fv sz pa_ fr_ tk_ vl_ fk_ fp_ fsh_ hdt_ lt_ kl kn cp cd bp bl md sw nd mn my wd nm mv))) := by
        intro z3
        rw [if_neg (by rw [z3]; decide)] at hX
        by_cases z4 : n = 12
        · rw [if_pos z4] at hX
          refine g_iload_n (q := 103) dX6_readRow_102 rfl rfl ?_
          refine g_bipush (q := 105) dX6_readRow_103 rfl ?_
          refine g_icmp_ne (t := 113) (q := 108) dX6_readRow_105 (by decide) rfl (by first | assumption | exact in32_gB | exact in32_gCmp | (unfold in32; omega)) (by first | assumption | exact in32_gB | exact in32_gCmp | (unfold in32; omega)) (fun c105 => ?_) (fun c105 => ?_)
          · exact absurd z4 c105
          · refine g_aload_n (q := 109) dX6_readRow_108 rfl rfl ?_
            refine g_iconst (q := 110) dX6_readRow_109 rfl ?_
            refine g_cvV (I' := iX6_errs) (mc := 0) (ms := 0) (rc := 0) (rs := 0) (ci := 7) (q := 113) dX6_readRow_110 q1576 q1578 rfl qs48 gcX6_errs mO (c_errs hf) rfl rfl ?_
            refine g_aload_n (q := 114) dX6_readRow_113 rfl rfl ?_
            refine g_cv (I' := iX6_good) (mc := 0) (ms := 0) (rc := 0) (rs := 0) (ci := 7) (q := 117) dX6_readRow_114 q1555 q1557 rfl qs45 gcX6_good mO (c_good (by unfold in32; omega)) rfl rfl ?_
            refine g_ifneB (t := 121) (q := 120) dX6_readRow_117 (by decide) rfl (fun c117 => ?_) (fun c117 => ?_)
            · exact absurd c117 (by decide)
            · exact g_vret dX6_readRow_120 rfl ⟨rfl, _, _, _, _, _, _, _, _, _, hX, rfl⟩
        · rw [if_neg z4] at hX
          refine g_iload_n (q := 103) dX6_readRow_102 rfl rfl ?_
          refine g_bipush (q := 105) dX6_readRow_103 rfl ?_
          refine g_icmp_ne (t := 113) (q := 108) dX6_readRow_105 (by decide) rfl (by first | assumption | exact in32_gB | exact in32_gCmp | (unfold in32; omega)) (by first | assumption | exact in32_gB | exact in32_gCmp | (unfold in32; omega)) (fun c105 => ?_) (fun c105 => ?_)
          · refine g_aload_n (q := 114) dX6_readRow_113 rfl rfl ?_
            refine g_cv (I' := iX6_good) (mc := 0) (ms := 0) (rc := 0) (rs := 0) (ci := 7) (q := 117) dX6_readRow_114 q1555 q1557 rfl qs45 gcX6_good mO (c_good (by unfold in32; omega)) rfl rfl ?_
            refine g_ifneB (t := 121) (q := 120) dX6_readRow_117 (by decide) rfl (fun c117 => ?_) (fun c117 => ?_)
            · refine g_aload_n (q := 122) dX6_readRow_121 rfl rfl ?_
              refine gm_get (k := 21) (q := 125) dX6_readRow_122 q1415 (by decide) rfl rfl ?_
              refine g_iload_n (q := 126) dX6_readRow_125 rfl rfl ?_
              refine g_iconst (q := 127) dX6_readRow_126 rfl ?_
              refine g_iadd (q := 128) dX6_readRow_127 rfl ?_
              refine g_iload_n (q := 129) dX6_readRow_128 rfl rfl ?_
              refine g_iadd (q := 130) dX6_readRow_129 rfl ?_
              refine g_aload_n (q := 131) dX6_readRow_130 rfl rfl ?_
              refine gm_get (k := 18) (q := 134) dX6_readRow_131 q1412 (by decide) rfl rfl ?_
              refine gm_st21 (q := 135) dX6_readRow_134 (by omega) (by omega)  rfl ?_
              refine g_iinc (q := 138) dX6_readRow_135 rfl gs2 rfl ?_
              refine g_aload_n (q := 139) dX6_readRow_138 rfl rfl ?_
              refine g_cvV (I' := iX6_advance) (mc := 0) (ms := 0) (rc := 0) (rs := 0) (ci := 7) (q := 142) dX6_readRow_139 q1541 q1543 rfl qs43 gcX6_advance mO (c_advance hz (by omega) p1.2.2) rfl rfl ?_
              refine g_iload_n (q := 143) dX6_readRow_142 rfl rfl ?_
              refine g_iconst (q := 144) dX6_readRow_143 rfl ?_
              refine g_icmp_lt (t := 15) (q := 147) dX6_readRow_144 (by decide) rfl (by first | assumption | exact in32_gB | exact in32_gCmp | (unfold in32; omega)) (by first | assumption | exact in32_gB | exact in32_gCmp | (unfold in32; omega)) (fun c144 => ?_) (fun c144 => ?_)
              · rw [if_pos (by first | exact Or.inl c144 | exact Or.inr c152)] at hX
                exact kk z4 hX
              · refine g_aload_n (q := 148) dX6_readRow_147 rfl rfl ?_
                refine gm_get (k := 17) (q := 151) dX6_readRow_148 q1411 (by decide) rfl rfl ?_
                refine g_iconst (q := 152) dX6_readRow_151 rfl ?_
                refine g_icmp_eq (t := 15) (q := 155) dX6_readRow_152 (by decide) rfl (by first | assumption | exact in32_gB | exact in32_gCmp | (unfold in32; omega)) (by first | assumption | exact in32_gB | exact in32_gCmp | (unfold in32; omega)) (fun c152 => ?_) (fun c152 => ?_)
                · rw [if_pos (by first | exact Or.inl c144 | exact Or.inr c152)] at hX
                  exact kk z4 hX
                · refine g_aload_n (q := 156) dX6_readRow_155 rfl rfl ?_
                  refine gm_get (k := 21) (q := 159) dX6_readRow_156 q1415 (by decide) rfl rfl ?_
                  refine g_iload_n (q := 160) dX6_readRow_159 rfl rfl ?_
                  refine g_iload_n (q := 161) dX6_readRow_160 rfl rfl ?_
                  refine gm_st21 (q := 162) dX6_readRow_161 (by omega) (by omega)  rfl ?_
                  refine g_aload_n (q := 163) dX6_readRow_162 rfl rfl ?_
                  refine gm_get (k := 21) (q := 166) dX6_readRow_163 q1415 (by decide) rfl rfl ?_
                  refine g_iconst (q := 167) dX6_readRow_166 rfl ?_
                  refine g_dup2 (q := 168) dX6_readRow_167 rfl ?_
                  refine g_iald (q := 169) dX6_readRow_168 mA21 (by omega) (by omega) rfl ?_
                  refine g_iconst (q := 170) dX6_readRow_169 rfl ?_
                  refine g_iadd (q := 171) dX6_readRow_170 rfl ?_
                  refine gm_st21 (q := 172) dX6_readRow_171 (by omega) (by omega)  rfl ?_
                  exact g_vret dX6_readRow_172 rfl ⟨rfl, _, _, _, _, _, _, _, _, _, (by rw [if_neg (by omega)] at hX; exact hX), rfl⟩
            · exact absurd hf c117
          · exact absurd c105 z4
      refine g_aload_n (q := 16) dX6_readRow_15 rfl rfl ?_
      refine g_cv (I' := iX6_good) (mc := 0) (ms := 0) (rc := 0) (rs := 0) (ci := 7) (q := 19) dX6_readRow_16 q1555 q1557 rfl qs45 gcX6_good mO (c_good (by unfold in32; omega)) rfl rfl ?_
      refine g_ifeqB (t := 35) (q := 22) dX6_readRow_19 (by decide) rfl (fun c19 => ?_) (fun c19 => ?_)
      · exact absurd hf c19
      · refine g_aload_n (q := 23) dX6_readRow_22 rfl rfl ?_
        refine gm_get (k := 17) (q := 26) dX6_readRow_23 q1411 (by decide) rfl rfl ?_
        refine g_iconst (q := 27) dX6_readRow_26 rfl ?_
        refine g_icmp_eq (t := 35) (q := 30) dX6_readRow_27 (by decide) rfl (by first | assumption | exact in32_gB | exact in32_gCmp | (unfold in32; omega)) (by first | assumption | exact in32_gB | exact in32_gCmp | (unfold in32; omega)) (fun c27 => ?_) (fun c27 => ?_)
        · refine g_aload_n (q := 36) dX6_readRow_35 rfl rfl ?_
          refine g_cv (I' := iX6_good) (mc := 0) (ms := 0) (rc := 0) (rs := 0) (ci := 7) (q := 39) dX6_readRow_36 q1555 q1557 rfl qs45 gcX6_good mO (c_good (by unfold in32; omega)) rfl rfl ?_
          refine g_ifeqB (t := 60) (q := 42) dX6_readRow_39 (by decide) rfl (fun c39 => ?_) (fun c39 => ?_)
          · exact absurd hf c39
          · refine g_aload_n (q := 43) dX6_readRow_42 rfl rfl ?_
            refine gm_get (k := 18) (q := 46) dX6_readRow_43 q1412 (by decide) rfl rfl ?_
            refine g_aload_n (q := 47) dX6_readRow_46 rfl rfl ?_
            refine gm_get (k := 21) (q := 50) dX6_readRow_47 q1415 (by decide) rfl rfl ?_
            refine g_iconst (q := 51) dX6_readRow_50 rfl ?_
            refine g_iald (q := 52) dX6_readRow_51 mA21 (by omega) (by omega) rfl ?_
            refine g_icmp_lt (t := 60) (q := 55) dX6_readRow_52 (by decide) rfl (by first | assumption | exact in32_gB | exact in32_gCmp | (unfold in32; omega)) (by first | assumption | exact in32_gB | exact in32_gCmp | (unfold in32; omega)) (fun c52 => ?_) (fun c52 => ?_)
            · refine g_iconst (q := 61) dX6_readRow_60 rfl ?_
              refine g_istore_n (q := 62) dX6_readRow_61 gs3 rfl ?_
              refine l_dup (by omega) h1 hF.2 p3 hf n.toNat 0 (by omega) (by omega) in2 (fun q j => out _ _ _ (by omega) (by omega) ?_ rfl)
              rw [if_pos q] at hX
              exact hX
            · exact absurd c52 (by omega)
        · exact absurd z1 c27
  · rw [if_pos z1] at hX
    refine g_aload_n (q := 16) dX6_readRow_15 rfl rfl ?_
    refine g_cv (I' := iX6_good) (mc := 0) (ms := 0) (rc := 0) (rs := 0) (ci := 7) (q := 19) dX6_readRow_16 q1555 q1557 rfl qs45 gcX6_good mO (c_good (by unfold in32; omega)) rfl rfl ?_
    refine g_ifeqB (t := 35) (q := 22) dX6_readRow_19 (by decide) rfl (fun c19 => ?_) (fun c19 => ?_)
    · exact absurd hf c19
    · refine g_aload_n (q := 23) dX6_readRow_22 rfl rfl ?_
      refine gm_get (k := 17) (q := 26) dX6_readRow_23 q1411 (by decide) rfl rfl ?_
      refine g_iconst (q := 27) dX6_readRow_26 rfl ?_
      refine g_icmp_eq (t := 35) (q := 30) dX6_readRow_27 (by decide) rfl (by first | assumption | exact in32_gB | exact in32_gCmp | (unfold in32; omega)) (by first | assumption | exact in32_gB | exact in32_gCmp | (unfold in32; omega)) (fun c27 => ?_) (fun c27 => ?_)
      · exact absurd c27 z1
      · refine g_aload_n (q := 31) dX6_readRow_30 rfl rfl ?_
        refine g_iconst (q := 32) dX6_readRow_31 rfl ?_
        refine g_cvV (I' := iX6_errs) (mc := 0) (ms := 0) (rc := 0) (rs := 0) (ci := 7) (q := 35) dX6_readRow_32 q1576 q1578 rfl qs48 gcX6_errs mO (c_errs hf) rfl rfl ?_
        refine g_aload_n (q := 36) dX6_readRow_35 rfl rfl ?_
        refine g_cv (I' := iX6_good) (mc := 0) (ms := 0) (rc := 0) (rs := 0) (ci := 7) (q := 39) dX6_readRow_36 q1555 q1557 rfl qs45 gcX6_good mO (c_good (by unfold in32; omega)) rfl rfl ?_
        refine g_ifeqB (t := 60) (q := 42) dX6_readRow_39 (by decide) rfl (fun c39 => ?_) (fun c39 => ?_)
        · exact out0 _ _ _ (by omega) (by omega) hX rfl
        · exact absurd c39 (by decide)
theorem l_rrow (hz : sz ≤ 900) : ∀ (f : Nat) (n pa fr tk vl : Int) (fsh : Int → Int) (x3 : Option Value) (X : PS), PSt sz (pa, fr, tk, vl, fk, fp, fsh, hdt, lt) → FW fsh → fk = 0 → 0 ≤ n → n + f = 12 → fsh 2 < 12 → rrL tp sz (f + 1) n (pa, fr, tk, vl, fk, fp, fsh, hdt, lt) = X →
    GO E iX6_readRow (d + 2) 0 0 15 [some (.ref am), some (vI (34 + 14 * fsh 2)), some (vI n), x3] [] (mH E G am th w hs si lo bk iW iH iB iL iS tp td fv sz pa fr tk vl fk fp fsh hdt lt kl kn cp cd bp bl md sw nd mn my wd nm mv) ((qVP fun kP => ∃ pa_ fr_ tk_ vl_ fk_ fp_ fsh_ hdt_ lt_, (pa_, fr_, tk_, vl_, fk_, fp_, fsh_, hdt_, lt_) = X ∧ kP = (mH E G am th w hs si lo bk iW iH iB iL iS tp td fv sz pa_ fr_ tk_ vl_ fk_ fp_ fsh_ hdt_ lt_ kl kn cp cd bp bl md sw nd mn my wd nm mv))) := by
  intro f
  induction f with
  | zero =>
    intro n pa fr tk vl fsh x3 X hP hF hf h0 h1 h2 hX
    exact l_rrow1 hz hP hF hf h0 (by omega) h2 hX (fun q => absurd (by omega) q)
  | succ f ih =>
    intro n pa fr tk vl fsh x3 X hP hF hf h0 h1 h2 hX
    have w2 := hF.1.2.1
    refine l_rrow1 hz hP hF hf h0 (by omega) h2 hX (fun q hX2 => ?_)
    have e2 : upI fsh (34 + 14 * fsh 2 + 1 + n) vl 2 = fsh 2 := upI_ne (by omega)
    have hA := (hP.adv (tp := tp)).1
    have z := ih (n + 1) (adv tp sz pa vl).1 (adv tp sz pa vl).2.1 (adv tp sz pa vl).2.2.1 (adv tp sz pa vl).2.2.2 (upI fsh (34 + 14 * fsh 2 + 1 + n) vl) (some (vI n)) X hA (hF.up (by omega) (by omega) hP.2.2.1) hf (by omega) (by omega) (by rw [e2]; exact h2) hX2
    rw [e2] at z
    exact z
theorem c_readRow (hz : sz ≤ 900) (hP : PSt sz (pa, fr, tk, vl, fk, fp, fsh, hdt, lt)) (hF : FW fsh) (hf : fk = 0) (h2 : fsh 2 < 12) : CALL E iX6_readRow (d + 2) 0 0 [.ref am] (mH E G am th w hs si lo bk iW iH iB iL iS tp td fv sz pa fr tk vl fk fp fsh hdt lt kl kn cp cd bp bl md sw nd mn my wd nm mv) ((qVP fun kP => ∃ pa_ fr_ tk_ vl_ fk_ fp_ fsh_ hdt_ lt_, (pa_, fr_, tk_, vl_, fk_, fp_, fsh_, hdt_, lt_) = rrL tp sz 13 0 (pa, fr, tk, vl, fk, fp, fsh, hdt, lt) ∧ kP = (mH E G am th w hs si lo bk iW iH iB iL iS tp td fv sz pa_ fr_ tk_ vl_ fk_ fp_ fsh_ hdt_ lt_ kl kn cp cd bp bl md sw nd mn my wd nm mv))) := by
  have w2 := hF.1.2.1
  show GO E iX6_readRow _ _ _ 0 [some (.ref am), none, none, none] [] _ _
  refine g_bipush (q := 2) dX6_readRow_0 rfl ?_
  refine g_bipush (q := 4) dX6_readRow_2 rfl ?_
  refine g_aload_n (q := 5) dX6_readRow_4 rfl rfl ?_
  refine gm_get (k := 21) (q := 8) dX6_readRow_5 q1415 (by decide) rfl rfl ?_
  refine g_iconst (q := 9) dX6_readRow_8 rfl ?_
  refine g_iald (q := 10) dX6_readRow_9 mA21 (by omega) (by omega) rfl ?_
  refine g_imul (q := 11) dX6_readRow_10 rfl ?_
  refine g_iadd (q := 12) dX6_readRow_11 rfl ?_
  refine g_istore_n (q := 13) dX6_readRow_12 gs1 rfl ?_
  refine g_iconst (q := 14) dX6_readRow_13 rfl ?_
  refine g_istore_n (q := 15) dX6_readRow_14 gs2 rfl ?_
  exact l_rrow hz 12 0 _ _ _ _ _ _ _ hP hF hf (by omega) (by omega) h2 rfl
end
