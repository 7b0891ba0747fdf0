/-! THE REFERENCE: text -/
set_option maxRecDepth 100000
def txL (tp : Int → Int) (sz : Int) : Nat → PS → PS
  | 0, P => P
  | f + 1, P => if P.2.2.2.2.1 = 0 ∧ P.2.2.1 ≠ 0 then txL tp sz f (lnP tp sz P) else P
theorem txL_ok {tp : Int → Int} {sz : Int} (hz : sz ≤ 900) : ∀ (f : Nat) (P : PS), PSok sz P → PSok sz (txL tp sz f P) := by
  intro f
  induction f with
  | zero => intro P h; exact h
  | succ f ih =>
    intro P h
    unfold txL
    by_cases z : P.2.2.2.2.1 = 0 ∧ P.2.2.1 ≠ 0
    · rw [if_pos z]; exact ih _ (lnP_ok h hz z.1).1
    · rw [if_neg z]; exact h
theorem at_aZ {E : gE} {D : va_G} {n a : Nat} {g g' : Int → Int} {H : Heap} (h : ∀ j : Int, 0 ≤ j → j < n → g j = g' j) (z : va_at D vwCl (a, aZ E n g) H) : va_at D vwCl (a, aZ E n g') H := by
  have z : H[a]? = some (vp_cell (E.2.1 4) (n, .inl (fun j => Int32.ofInt (g (j : Int))))) := z
  show H[a]? = some (vp_cell (E.2.1 4) (n, .inl (fun j => Int32.ofInt (g' (j : Int)))))
  rw [z, vp_cell_i, vp_cell_i]
  congr 1
  refine arr_ext fun j hj => ?_
  rw [h j (by omega) (by omega)]
/-- where a text begins -/
def PS0 (fr tk vl : Int) : PS := (0, fr, tk, vl, 0, -1, (fun _ => 0), 0, (fun _ => 0))
theorem FW0 : FW (fun _ => 0) := by
  refine ⟨⟨?_, ?_, ?_, ?_, ?_, ?_, ?_, ?_, ?_⟩, ?_⟩
  · decide
  · decide
  · decide
  · decide
  · intro s _ _; exact (by decide : (0 : Int) ≤ 0 ∧ (0 : Int) ≤ 100)
  · intro s _ _; exact (by decide : (0 : Int) ≤ 0 ∧ (0 : Int) ≤ 9)
  · intro r h1 h2; exact absurd h2 (by show ¬ r < 0; omega)
  · intro l _ _; exact (by decide : (0 : Int) ≤ 0 ∧ (0 : Int) ≤ 0 ∧ (0 : Int) + 0 ≤ 300)
  · intro k _ _; exact (by decide : ((0 : Int) ≤ 0 ∧ (0 : Int) ≤ 4) ∧ ((0 : Int) ≤ 0 ∧ (0 : Int) ≤ 5) ∧ ((0 : Int) ≤ 0 ∧ (0 : Int) ≤ 1000))
  · intro j _ _; exact (by decide : (0 : Int) ≤ 0 ∧ (0 : Int) ≤ 99999)
theorem PS0_ok {tp : Int → Int} {sz fr tk vl : Int} (hz : 0 ≤ sz) (hv : 0 ≤ vl ∧ vl ≤ 99999) : PSok sz (PSadv tp sz (PS0 fr tk vl)) := by
  obtain ⟨a1, a2, a3, a4⟩ := adv_ok (tp := tp) (sz := sz) (pa := 0) (vl := vl) hz hv
  exact ⟨⟨a1, a2, a3, (by decide : (0 : Int) ≤ 0 ∧ (0 : Int) ≤ 3), a4⟩, FW0, a1.1, Or.inl rfl, fun _ _ _ => Or.inl rfl⟩
/-- what a text comes to -/
def txP (tp : Int → Int) (sz fr tk vl : Int) : PS := txL tp sz 1000 (PSadv tp sz (PS0 fr tk vl))
theorem txP_ok {tp : Int → Int} {sz fr tk vl : Int} (hz : 0 ≤ sz ∧ sz ≤ 900) (hv : 0 ≤ vl ∧ vl ≤ 99999) : PSok sz (txP tp sz fr tk vl) := txL_ok hz.2 1000 _ (PS0_ok hz.1 hv)
theorem WFw9 {g : Int → Int} {x : Int} (h : WFw g) : WFw (upI g 9 x) := by
  obtain ⟨a1, a2, a3, a4, a5, a6, a7, a8, a9⟩ := h
  have e : ∀ y, y ≠ 9 → upI g 9 x y = g y := fun y hy => upI_ne hy
  refine ⟨?_, ?_, ?_, ?_, ?_, ?_, ?_, ?_, ?_⟩
  · rw [e 1 (by omega)]; exact a1
  · rw [e 2 (by omega)]; exact a2
  · rw [e 3 (by omega)]; exact a3
  · rw [e 4 (by omega)]; exact a4
  · intro s q1 q2; rw [e _ (by omega)]; exact a5 s q1 q2
  · intro t q1 q2; rw [e _ (by omega)]; exact a6 t q1 q2
  · intro r q1 q2
    rw [e 2 (by omega)] at q2
    obtain ⟨p1, p2⟩ := a7 r q1 q2
    rw [e (34 + 14 * r) (by omega), e 1 (by omega)]
    refine ⟨p1, fun i i1 i2 => ?_⟩
    rw [e _ (by omega)]
    exact p2 i i1 i2
  · intro l q1 q2; rw [e _ (by omega), e _ (by omega)]; exact a8 l q1 q2
  · intro k q1 q2; rw [e _ (by omega), e _ (by omega), e _ (by omega)]; exact a9 k q1 q2
section
variable {E : gE} {d rc rs am : Nat} {G : gH}
variable {th si lo td sz pa fr tk vl fk fp hdt kl kn cd bp bl : Int} {w hs bk iW iH iB iL iS tp fv fsh lt cp md sw nd mn my wd nm mv : Int → Int}
variable {s a b r r2 i k v e B c n l p j low high : Int} {Q : Outcome → gH → Prop} {x : Nat} {bs : List Int}
theorem mX21 {g g' : Int → Int} (h : ∀ j : Int, 0 ≤ j → j < 1120 → g j = g' j) (H : Heap) (hR : gRel E (mH E G am th w hs si lo bk iW iH iB iL iS tp td fv sz pa fr tk vl fk fp g hdt lt kl kn cp cd bp bl md sw nd mn my wd nm mv) H) : gRel E (mH E G am th w hs si lo bk iW iH iB iL iS tp td fv sz pa fr tk vl fk fp g' hdt lt kl kn cp cd bp bl md sw nd mn my wd nm mv) H := by
  refine blk_ext ?_ hR
  intro j hj z
  match j, hj, z with
  | 0, _, z => exact z
  | 1, _, z => exact z
  | 2, _, z => exact z
  | 3, _, z => exact z
  | 4, _, z => exact z
  | 5, _, z => exact z
  | 6, _, z => exact z
  | 7, _, z => exact z
  | 8, _, z => exact z
  | 9, _, z => exact z
  | 10, _, z => exact z
  | 11, _, z => exact at_aI h z
  | 12, _, z => exact z
  | 13, _, z => exact z
  | 14, _, z => exact z
  | 15, _, z => exact z
  | 16, _, z => exact z
  | 17, _, z => exact z
  | 18, _, z => exact z
  | 19, _, z => exact z
  | 20, _, z => exact z
  | 21, _, z => exact z
  | j + 22, hj, _ => omega
theorem mX23 {g g' : Int → Int} (h : ∀ j : Int, 0 ≤ j → j < 4 → g j = g' j) (H : Heap) (hR : gRel E (mH E G am th w hs si lo bk iW iH iB iL iS tp td fv sz pa fr tk vl fk fp fsh hdt g kl kn cp cd bp bl md sw nd mn my wd nm mv) H) : gRel E (mH E G am th w hs si lo bk iW iH iB iL iS tp td fv sz pa fr tk vl fk fp fsh hdt g' kl kn cp cd bp bl md sw nd mn my wd nm mv) H := by
  refine blk_ext ?_ hR
  intro j hj z
  match j, hj, z with
  | 0, _, z => exact z
  | 1, _, z => exact z
  | 2, _, z => exact z
  | 3, _, z => exact z
  | 4, _, z => exact z
  | 5, _, z => exact z
  | 6, _, z => exact z
  | 7, _, z => exact z
  | 8, _, z => exact z
  | 9, _, z => exact z
  | 10, _, z => exact z
  | 11, _, z => exact z
  | 12, _, z => exact at_aZ h z
  | 13, _, z => exact z
  | 14, _, z => exact z
  | 15, _, z => exact z
  | 16, _, z => exact z
  | 17, _, z => exact z
  | 18, _, z => exact z
  | 19, _, z => exact z
  | 20, _, z => exact z
  | 21, _, z => exact z
  | j + 22, hj, _ => omega
theorem l_text1 (hk : 0 ≤ sz) : ∀ (f : Nat) (i : Int), 0 ≤ i → i + f = 1120 → (GO E iX6_text d 0 0 50 [some (.ref am), some (vI (1120))] [] (mH E G am th w hs si lo bk iW iH iB iL iS tp td fv sz pa fr tk vl fk fp (cpyI fsh (fun _ => 0) (0) (0) 1120) hdt lt kl kn cp cd bp bl md sw nd mn my wd nm mv) Q) → GO E iX6_text d 0 0 30 [some (.ref am), some (vI (i))] [] (mH E G am th w hs si lo bk iW iH iB iL iS tp td fv sz pa fr tk vl fk fp (cpyI fsh (fun _ => 0) (0) (0) i) hdt lt kl kn cp cd bp bl md sw nd mn my wd nm mv) Q := by
  intro f
  induction f with
  | zero =>
    intro i h2 h3 kk
    obtain rfl : i = 1120 := by omega
    refine g_iload_n (q := 31) dX6_text_30 rfl rfl ?_
    refine g_sipush (q := 34) dX6_text_31 rfl ?_
    refine g_icmp_ge (t := 50) (q := 37) dX6_text_34 (by decide) rfl (by first | assumption | exact in32_gB | exact in32_gCmp | (unfold in32; omega)) (by first | assumption | exact in32_gB | exact in32_gCmp | (unfold in32; omega)) (fun c34 => ?_) (fun c34 => ?_)
    · exact kk
    · exact absurd c34 (by first | decide | omega)
  | succ f ih =>
    intro i h2 h3 kk
    have e3 := cpyI_s (dst := fsh) (src := (fun _ => 0)) (dO := 0) (sO := 0) h2
    try simp only [Int.zero_add] at e3
    refine g_iload_n (q := 31) dX6_text_30 rfl rfl ?_
    refine g_sipush (q := 34) dX6_text_31 rfl ?_
    refine g_icmp_ge (t := 50) (q := 37) dX6_text_34 (by decide) rfl (by first | assumption | exact in32_gB | exact in32_gCmp | (unfold in32; omega)) (by first | assumption | exact in32_gB | exact in32_gCmp | (unfold in32; omega)) (fun c34 => ?_) (fun c34 => ?_)
    · exact absurd c34 (by omega)
    · refine g_aload_n (q := 38) dX6_text_37 rfl rfl ?_
      refine gm_get (k := 21) (q := 41) dX6_text_38 q1415 (by decide) rfl rfl ?_
      refine g_iload_n (q := 42) dX6_text_41 rfl rfl ?_
      refine g_iconst (q := 43) dX6_text_42 rfl ?_
      refine gm_st21 (q := 44) dX6_text_43 (by omega) (by omega)  rfl ?_
      rw [e3]
      refine g_iinc (q := 47) dX6_text_44 rfl gs1 rfl ?_
      refine g_goto (t := 30) dX6_text_47 (by decide) ?_
      exact ih _ (by omega) (by omega) kk
theorem l_text1_0 (hk : 0 ≤ sz) (kk : GO E iX6_text d 0 0 50 [some (.ref am), some (vI (1120))] [] (mH E G am th w hs si lo bk iW iH iB iL iS tp td fv sz pa fr tk vl fk fp (cpyI fsh (fun _ => 0) (0) (0) 1120) hdt lt kl kn cp cd bp bl md sw nd mn my wd nm mv) Q) : GO E iX6_text d 0 0 30 [some (.ref am), some (vI (0))] [] (mH E G am th w hs si lo bk iW iH iB iL iS tp td fv sz pa fr tk vl fk fp fsh hdt lt kl kn cp cd bp bl md sw nd mn my wd nm mv) Q := by
  have := l_text1 (E := E) (d := d) (am := am) (G := G) hk 1120 0 (by omega) (by omega) kk
  rw [cpyI_0] at this
  exact this
theorem l_text2 (hk : 0 ≤ sz) : ∀ (f : Nat) (i : Int), 0 ≤ i → i + f = 4 → (GO E iX6_text d 0 0 75 [some (.ref am), some (vI (4))] [] (mH E G am th w hs si lo bk iW iH iB iL iS tp td fv sz pa fr tk vl fk fp fsh hdt (cpyI lt (fun _ => 0) (0) (0) 4) kl kn cp cd bp bl md sw nd mn my wd nm mv) Q) → GO E iX6_text d 0 0 57 [some (.ref am), some (vI (i))] [] (mH E G am th w hs si lo bk iW iH iB iL iS tp td fv sz pa fr tk vl fk fp fsh hdt (cpyI lt (fun _ => 0) (0) (0) i) kl kn cp cd bp bl md sw nd mn my wd nm mv) Q := by
  intro f
  induction f with
  | zero =>
    intro i h2 h3 kk
    obtain rfl : i = 4 := by omega
    refine g_iload_n (q := 58) dX6_text_57 rfl rfl ?_
    refine g_iconst (q := 59) dX6_text_58 rfl ?_
    refine g_icmp_ge (t := 75) (q := 62) dX6_text_59 (by decide) rfl (by first | assumption | exact in32_gB | exact in32_gCmp | (unfold in32; omega)) (by first | assumption | exact in32_gB | exact in32_gCmp | (unfold in32; omega)) (fun c59 => ?_) (fun c59 => ?_)
    · exact kk
    · exact absurd c59 (by first | decide | omega)
  | succ f ih =>
    intro i h2 h3 kk
    have e3 := cpyI_s (dst := lt) (src := (fun _ => 0)) (dO := 0) (sO := 0) h2
    try simp only [Int.zero_add] at e3
    refine g_iload_n (q := 58) dX6_text_57 rfl rfl ?_
    refine g_iconst (q := 59) dX6_text_58 rfl ?_
    refine g_icmp_ge (t := 75) (q := 62) dX6_text_59 (by decide) rfl (by first | assumption | exact in32_gB | exact in32_gCmp | (unfold in32; omega)) (by first | assumption | exact in32_gB | exact in32_gCmp | (unfold in32; omega)) (fun c59 => ?_) (fun c59 => ?_)
    · exact absurd c59 (by omega)
    · refine g_aload_n (q := 63) dX6_text_62 rfl rfl ?_
      refine gm_get (k := 23) (q := 66) dX6_text_63 q1417 (by decide) rfl rfl ?_
      refine g_iload_n (q := 67) dX6_text_66 rfl rfl ?_
      refine g_iconst (q := 68) dX6_text_67 rfl ?_
      refine gm_st23 (q := 69) dX6_text_68 (by omega) (by omega) (by omega) rfl ?_
      rw [e3]
      refine g_iinc (q := 72) dX6_text_69 rfl gs1 rfl ?_
      refine g_goto (t := 57) dX6_text_72 (by decide) ?_
      exact ih _ (by omega) (by omega) kk
theorem l_text2_0 (hk : 0 ≤ sz) (kk : GO E iX6_text d 0 0 75 [some (.ref am), some (vI (4))] [] (mH E G am th w hs si lo bk iW iH iB iL iS tp td fv sz pa fr tk vl fk fp fsh hdt (cpyI lt (fun _ => 0) (0) (0) 4) kl kn cp cd bp bl md sw nd mn my wd nm mv) Q) : GO E iX6_text d 0 0 57 [some (.ref am), some (vI (0))] [] (mH E G am th w hs si lo bk iW iH iB iL iS tp td fv sz pa fr tk vl fk fp fsh hdt lt kl kn cp cd bp bl md sw nd mn my wd nm mv) Q := by
  have := l_text2 (E := E) (d := d) (am := am) (G := G) hk 4 0 (by omega) (by omega) kk
  rw [cpyI_0] at this
  exact this
theorem l_text3 (hk : 0 ≤ sz) : ∀ (f : Nat) (i : Int), 0 ≤ i → i + f = 1120 → (GO E iX6_text d 0 0 137 [some (.ref am), some (vI (1120))] [] (mH E G am th (cpyI w fsh (0) (0) 1120) hs si lo bk iW iH iB iL iS tp td fv sz pa fr tk vl fk fp fsh hdt lt kl kn cp cd bp bl md sw nd mn my wd nm mv) Q) → GO E iX6_text d 0 0 112 [some (.ref am), some (vI (i))] [] (mH E G am th (cpyI w fsh (0) (0) i) hs si lo bk iW iH iB iL iS tp td fv sz pa fr tk vl fk fp fsh hdt lt kl kn cp cd bp bl md sw nd mn my wd nm mv) Q := by
  intro f
  induction f with
  | zero =>
    intro i h2 h3 kk
    obtain rfl : i = 1120 := by omega
    refine g_iload_n (q := 113) dX6_text_112 rfl rfl ?_
    refine g_sipush (q := 116) dX6_text_113 rfl ?_
    refine g_icmp_ge (t := 137) (q := 119) dX6_text_116 (by decide) rfl (by first | assumption | exact in32_gB | exact in32_gCmp | (unfold in32; omega)) (by first | assumption | exact in32_gB | exact in32_gCmp | (unfold in32; omega)) (fun c116 => ?_) (fun c116 => ?_)
    · exact kk
    · exact absurd c116 (by first | decide | omega)
  | succ f ih =>
    intro i h2 h3 kk
    have e3 := cpyI_s (dst := w) (src := fsh) (dO := 0) (sO := 0) h2
    try simp only [Int.zero_add] at e3
    refine g_iload_n (q := 113) dX6_text_112 rfl rfl ?_
    refine g_sipush (q := 116) dX6_text_113 rfl ?_
    refine g_icmp_ge (t := 137) (q := 119) dX6_text_116 (by decide) rfl (by first | assumption | exact in32_gB | exact in32_gCmp | (unfold in32; omega)) (by first | assumption | exact in32_gB | exact in32_gCmp | (unfold in32; omega)) (fun c116 => ?_) (fun c116 => ?_)
    · exact absurd c116 (by omega)
    · refine g_aload_n (q := 120) dX6_text_119 rfl rfl ?_
      refine gm_get (k := 1) (q := 123) dX6_text_120 q1395 (by decide) rfl rfl ?_
      refine g_iload_n (q := 124) dX6_text_123 rfl rfl ?_
      refine g_aload_n (q := 125) dX6_text_124 rfl rfl ?_
      refine gm_get (k := 21) (q := 128) dX6_text_125 q1415 (by decide) rfl rfl ?_
      refine g_iload_n (q := 129) dX6_text_128 rfl rfl ?_
      refine g_iald (q := 130) dX6_text_129 mA21 (by omega) (by omega) rfl ?_
      refine gm_st1 (q := 131) dX6_text_130 (by omega) (by omega)  rfl ?_
      rw [e3]
      refine g_iinc (q := 134) dX6_text_131 rfl gs1 rfl ?_
      refine g_goto (t := 112) dX6_text_134 (by decide) ?_
      exact ih _ (by omega) (by omega) kk
theorem l_text3_0 (hk : 0 ≤ sz) (kk : GO E iX6_text d 0 0 137 [some (.ref am), some (vI (1120))] [] (mH E G am th (cpyI w fsh (0) (0) 1120) hs si lo bk iW iH iB iL iS tp td fv sz pa fr tk vl fk fp fsh hdt lt kl kn cp cd bp bl md sw nd mn my wd nm mv) Q) : GO E iX6_text d 0 0 112 [some (.ref am), some (vI (0))] [] (mH E G am th w hs si lo bk iW iH iB iL iS tp td fv sz pa fr tk vl fk fp fsh hdt lt kl kn cp cd bp bl md sw nd mn my wd nm mv) Q := by
  have := l_text3 (E := E) (d := d) (am := am) (G := G) hk 1120 0 (by omega) (by omega) kk
  rw [cpyI_0] at this
  exact this
theorem l_text4 {x1 : Option Value} (htp : ∀ j, 0 ≤ j → j < 900 → -128 ≤ tp j ∧ tp j < 128) (hz : sz ≤ 900) : ∀ (f : Nat) (pa fr tk vl fk fp : Int) (fsh : Int → Int) (hdt : Int) (lt : Int → Int) (X : PS), PSok sz (pa, fr, tk, vl, fk, fp, fsh, hdt, lt) → (fk = 0 → sz - pa < f) → txL tp sz f (pa, fr, tk, vl, fk, fp, fsh, hdt, lt) = X →
    (∀ (pa fr tk vl fk fp : Int) (fsh : Int → Int) (hdt : Int) (lt : Int → Int), (pa, fr, tk, vl, fk, fp, fsh, hdt, lt) = X → GO E iX6_text (d + 9) 0 0 100 [some (.ref am), x1] [] (mH E G am th w hs si lo bk iW iH iB iL iS tp td fv sz pa fr tk vl fk fp fsh hdt lt kl kn cp cd bp bl md sw nd mn my wd nm mv) Q) →
    GO E iX6_text (d + 9) 0 0 79 [some (.ref am), x1] [] (mH E G am th w hs si lo bk iW iH iB iL iS tp td fv sz pa fr tk vl fk fp fsh hdt lt kl kn cp cd bp bl md sw nd mn my wd nm mv) Q := by
  intro f
  induction f with
  | zero =>
    intro pa fr tk vl fk fp fsh hdt lt X hO hf hX kk
    have p1 : 0 ≤ fr ∧ fr ≤ pa ∧ pa ≤ sz := hO.1.1
    have p4 : 0 ≤ fk ∧ fk ≤ 3 := hO.1.2.2.2.1
    have z : fk ≠ 0 := fun q => by have := hf q; omega
    refine g_aload_n (q := 80) dX6_text_79 rfl rfl ?_
    refine g_cv (I' := iX6_good) (mc := 0) (ms := 0) (rc := 0) (rs := 0) (ci := 7) (q := 83) dX6_text_80 q1555 q1557 rfl qs45 gcX6_good mO (c_good (by unfold in32; omega)) rfl rfl ?_
    refine g_ifeqB (t := 100) (q := 86) dX6_text_83 (by decide) rfl (fun c83 => ?_) (fun c83 => ?_)
    · exact kk _ _ _ _ _ _ _ _ _ hX
    · exact absurd c83 z
  | succ f ih =>
    intro pa fr tk vl fk fp fsh hdt lt X hO hf hX kk
    have p1 : 0 ≤ fr ∧ fr ≤ pa ∧ pa ≤ sz := hO.1.1
    have p2 : 0 ≤ tk ∧ tk ≤ 4 := hO.1.2.1
    have p4 : 0 ≤ fk ∧ fk ≤ 3 := hO.1.2.2.2.1
    replace hX : (if fk = 0 ∧ tk ≠ 0 then txL tp sz f (lnP tp sz (pa, fr, tk, vl, fk, fp, fsh, hdt, lt)) else (pa, fr, tk, vl, fk, fp, fsh, hdt, lt)) = X := hX
    by_cases z : fk = 0 ∧ tk ≠ 0
    · rw [if_pos z] at hX
      have lo := lnP_ok (tp := tp) hO hz z.1
      refine g_aload_n (q := 80) dX6_text_79 rfl rfl ?_
      refine g_cv (I' := iX6_good) (mc := 0) (ms := 0) (rc := 0) (rs := 0) (ci := 7) (q := 83) dX6_text_80 q1555 q1557 rfl qs45 gcX6_good mO (c_good (by unfold in32; omega)) rfl rfl ?_
      refine g_ifeqB (t := 100) (q := 86) dX6_text_83 (by decide) rfl (fun c83 => ?_) (fun c83 => ?_)
      · exact absurd z.1 c83
      · refine g_aload_n (q := 87) dX6_text_86 rfl rfl ?_
        refine gm_get (k := 17) (q := 90) dX6_text_87 q1411 (by decide) rfl rfl ?_
        refine g_if_eq (t := 100) (q := 93) dX6_text_90 (by decide) rfl (by first | assumption | exact in32_gB | exact in32_gCmp | (unfold in32; omega)) (fun c90 => ?_) (fun c90 => ?_)
        · exact absurd c90 z.2
        · refine g_aload_n (q := 94) dX6_text_93 rfl rfl ?_
          refine g_cvVP (I' := iX6_readLine) (mc := 0) (ms := 0) (rc := 0) (rs := 0) (ci := 7) (q := 97) dX6_text_94 q1559 q1561 rfl qs46 gcX6_readLine mO (c_readLine (d := d) htp hz hO z.1) rfl rfl (fun k94 z94 => ?_)
          obtain ⟨pa1, fr1, tk1, vl1, fk1, fp1, fsh1, hdt1, lt1, e1, rfl⟩ := z94
          rw [← e1] at lo hX
          refine g_goto (t := 79) dX6_text_97 (by decide) ?_
          exact ih _ _ _ _ _ _ _ _ _ X lo.1 (fun q => by have l2 : pa + 1 ≤ pa1 := lo.2 q; have := hf z.1; omega) hX kk
    · rw [if_neg z] at hX
      refine g_aload_n (q := 80) dX6_text_79 rfl rfl ?_
      refine g_cv (I' := iX6_good) (mc := 0) (ms := 0) (rc := 0) (rs := 0) (ci := 7) (q := 83) dX6_text_80 q1555 q1557 rfl qs45 gcX6_good mO (c_good (by unfold in32; omega)) rfl rfl ?_
      refine g_ifeqB (t := 100) (q := 86) dX6_text_83 (by decide) rfl (fun c83 => ?_) (fun c83 => ?_)
      · exact kk _ _ _ _ _ _ _ _ _ hX
      · refine g_aload_n (q := 87) dX6_text_86 rfl rfl ?_
        refine gm_get (k := 17) (q := 90) dX6_text_87 q1411 (by decide) rfl rfl ?_
        refine g_if_eq (t := 100) (q := 93) dX6_text_90 (by decide) rfl (by first | assumption | exact in32_gB | exact in32_gCmp | (unfold in32; omega)) (fun c90 => ?_) (fun c90 => ?_)
        · exact kk _ _ _ _ _ _ _ _ _ hX
        · exact absurd ⟨c83, c90⟩ z
theorem c_text (htp : ∀ j, 0 ≤ j → j < 900 → -128 ≤ tp j ∧ tp j < 128) (hd : 0 ≤ td ∧ td ≤ 900) (hv : 0 ≤ vl ∧ vl ≤ 99999) :
    CALL E iX6_text (d + 9) 0 0 [.ref am] (mH E G am th w hs si lo bk iW iH iB iL iS tp td fv sz pa fr tk vl fk fp fsh hdt lt kl kn cp cd bp bl md sw nd mn my wd nm mv) (qP fun vP kP => ∃ pa_ fr_ tk_ vl_ fk_ fp_ fsh_ hdt_ lt_, (pa_, fr_, tk_, vl_, fk_, fp_, fsh_, hdt_, lt_) = txP tp td fr tk vl ∧ vP = vI (if fk_ = 0 then fsh_ 2 else -4) ∧
      kP = (if fk_ = 0 then (mH E G am th (upI fsh_ 9 (fsh_ 2)) (fun _ => 0) 0 0 bk iW iH iB iL iS tp 0 fv td pa_ fr_ tk_ vl_ fk_ fp_ fsh_ hdt_ lt_ kl kn cp cd bp bl md sw nd mn my wd nm mv) else (mH E G am th w hs si lo bk iW iH iB iL iS tp 0 fv td pa_ fr_ tk_ vl_ fk_ fp_ fsh_ hdt_ lt_ kl kn cp cd bp bl md sw nd mn my wd nm mv))) := by
  have h0 := PS0_ok (tp := tp) (fr := fr) (tk := tk) hd.1 hv
  show GO E iX6_text _ _ _ 0 [some (.ref am), none] [] _ _
  refine g_aload_n (q := 1) dX6_text_0 rfl rfl ?_
  refine g_aload_n (q := 2) dX6_text_1 rfl rfl ?_
  refine gm_get (k := 12) (q := 5) dX6_text_2 q1406 (by decide) rfl rfl ?_
  refine gm_put14 (q := 8) dX6_text_5 q1408 rfl ?_
  refine g_aload_n (q := 9) dX6_text_8 rfl rfl ?_
  refine g_iconst (q := 10) dX6_text_9 rfl ?_
  refine gm_put12 (q := 13) dX6_text_10 q1406 rfl ?_
  refine g_aload_n (q := 14) dX6_text_13 rfl rfl ?_
  refine g_iconst (q := 15) dX6_text_14 rfl ?_
  refine gm_put15 (q := 18) dX6_text_15 q1409 rfl ?_
  refine g_aload_n (q := 19) dX6_text_18 rfl rfl ?_
  refine g_iconst (q := 20) dX6_text_19 rfl ?_
  refine gm_put19 (q := 23) dX6_text_20 q1413 rfl ?_
  refine g_aload_n (q := 24) dX6_text_23 rfl rfl ?_
  refine g_iconst (q := 25) dX6_text_24 rfl ?_
  refine gm_put20 (q := 28) dX6_text_25 q1414 rfl ?_
  refine g_iconst (q := 29) dX6_text_28 rfl ?_
  refine g_istore_n (q := 30) dX6_text_29 gs1 rfl ?_
  refine l_text1_0 hd.1 ?_
  refine GO.heapx (mX21 (g' := fun _ => 0) (fun j h2 h3 => cpyI_in h2 (by omega))) ?_
  refine g_aload_n (q := 51) dX6_text_50 rfl rfl ?_
  refine g_iconst (q := 52) dX6_text_51 rfl ?_
  refine gm_put22 (q := 55) dX6_text_52 q1416 gFit_0 rfl ?_
  refine g_iconst (q := 56) dX6_text_55 rfl ?_
  refine g_istore_n (q := 57) dX6_text_56 gs1 rfl ?_
  refine l_text2_0 hd.1 ?_
  refine GO.heapx (mX23 (g' := fun _ => 0) (fun j h2 h3 => cpyI_in h2 (by omega))) ?_
  refine g_aload_n (q := 76) dX6_text_75 rfl rfl ?_
  refine g_cvV (I' := iX6_advance) (mc := 0) (ms := 0) (rc := 0) (rs := 0) (ci := 7) (q := 79) dX6_text_76 q1541 q1543 rfl qs43 gcX6_advance mO (c_advance hd.2 (by omega) hd.1) rfl rfl ?_
  refine l_text4 (d := d) htp hd.2 1000 _ _ _ _ _ _ _ _ _ (txP tp td fr tk vl) h0 (fun _ => by have : (0 : Int) ≤ (adv tp td 0 vl).1 := Int.le_trans h0.1.1.1 h0.1.1.2.1; omega) rfl (fun pa1 fr1 tk1 vl1 fk1 fp1 fsh1 hdt1 lt1 e1 => ?_)
  have ho := txP_ok (tp := tp) (fr := fr) (tk := tk) hd hv
  rw [← e1] at ho
  have p4 : 0 ≤ fk1 ∧ fk1 ≤ 3 := ho.1.2.2.2.1
  refine g_aload_n (q := 101) dX6_text_100 rfl rfl ?_
  refine g_cv (I' := iX6_good) (mc := 0) (ms := 0) (rc := 0) (rs := 0) (ci := 7) (q := 104) dX6_text_101 q1555 q1557 rfl qs45 gcX6_good mO (c_good (by unfold in32; omega)) rfl rfl ?_
  refine g_ifneB (t := 110) (q := 107) dX6_text_104 (by decide) rfl (fun c104 => ?_) (fun c104 => ?_)
  · refine g_iconst (q := 111) dX6_text_110 rfl ?_
    refine g_istore_n (q := 112) dX6_text_111 gs1 rfl ?_
    refine l_text3_0 hd.1 ?_
    refine GO.heapx (mX1 (g' := fsh1) (fun j h2 h3 => by rw [cpyI_in h2 (by omega)]; congr 1; omega)) ?_
    refine g_aload_n (q := 138) dX6_text_137 rfl rfl ?_
    refine gm_get (k := 1) (q := 141) dX6_text_138 q1395 (by decide) rfl rfl ?_
    refine g_bipush (q := 143) dX6_text_141 rfl ?_
    refine g_aload_n (q := 144) dX6_text_143 rfl rfl ?_
    refine gm_get (k := 1) (q := 147) dX6_text_144 q1395 (by decide) rfl rfl ?_
    refine g_iconst (q := 148) dX6_text_147 rfl ?_
    refine g_iald (q := 149) dX6_text_148 mA1 (by omega) (by omega) rfl ?_
    refine gm_st1 (q := 150) dX6_text_149 (by omega) (by omega)  rfl ?_
    refine g_aload_n (q := 151) dX6_text_150 rfl rfl ?_
    refine g_cvV (I' := iX6_clearHead) (mc := 0) (ms := 0) (rc := 0) (rs := 0) (ci := 7) (q := 154) dX6_text_151 q1622 q1624 rfl qs56 gcX6_clearHead mO (c_clearHead) rfl rfl ?_
    refine g_aload_n (q := 155) dX6_text_154 rfl rfl ?_
    refine g_iconst (q := 156) dX6_text_155 rfl ?_
    refine gm_put3 (q := 159) dX6_text_156 q1397 rfl ?_
    refine g_aload_n (q := 160) dX6_text_159 rfl rfl ?_
    refine g_iconst (q := 161) dX6_text_160 rfl ?_
    refine gm_put4 (q := 164) dX6_text_161 q1398 rfl ?_
    refine g_aload_n (q := 165) dX6_text_164 rfl rfl ?_
    refine gm_get (k := 1) (q := 168) dX6_text_165 q1395 (by decide) rfl rfl ?_
    refine g_iconst (q := 169) dX6_text_168 rfl ?_
    refine g_iald (q := 170) dX6_text_169 mA1 (by omega) (by omega) rfl ?_
    exact g_iret dX6_text_170 rfl ⟨_, rfl, _, _, _, _, _, _, _, _, _, e1, by rw [if_pos c104]; congr 1, by rw [if_pos c104]⟩
  · refine g_bipush (q := 109) dX6_text_107 rfl ?_
    exact g_iret dX6_text_109 rfl ⟨_, rfl, _, _, _, _, _, _, _, _, _, e1, by rw [if_neg c104], by rw [if_neg c104]⟩
end
