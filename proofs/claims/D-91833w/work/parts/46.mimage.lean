/-! THE REFERENCE: keep, takeImage, back -/
set_option maxRecDepth 100000
/-- rows of length n, one behind the other -/
def fl (n : Int) (u : Int → Int → Int) : Int → Int := fun j => u (j / n) (j % n)
theorem fl_at {n k j : Int} {u : Int → Int → Int} (h0 : 0 ≤ j) (h1 : j < n) : fl n u (n * k + j) = u k j := by
  unfold fl
  have hn : n ≠ 0 := by omega
  rw [Int.add_comm, Int.add_mul_ediv_left _ _ hn, Int.add_mul_emod_self_left, Int.ediv_eq_zero_of_lt h0 h1, Int.emod_eq_of_lt h0 h1, Int.zero_add]
theorem fl_cut {n j : Int} (hn : 0 < n) (h0 : 0 ≤ j) : ∃ q r, j = n * q + r ∧ 0 ≤ r ∧ r < n ∧ 0 ≤ q :=
  ⟨j / n, j % n, (Int.mul_ediv_add_emod j n).symm, Int.emod_nonneg _ (by omega), Int.emod_lt_of_pos _ hn, Int.ediv_nonneg h0 (by omega)⟩
theorem mul_gap {n q k : Int} (hn : 0 < n) (e : q < k) : n * q + n ≤ n * k := by
  have : n * (q + 1) ≤ n * k := Int.mul_le_mul_of_nonneg_left (by omega) (by omega)
  rw [Int.mul_add] at this
  omega
theorem fl_cpy {n k j : Int} {u : Int → Int → Int} {g : Int → Int} (hn : 0 < n) (h0 : 0 ≤ j) : cpyI (fl n u) g (n * k) 0 n j = fl n (upI u k g) j := by
  obtain ⟨q, r, rfl, h2, h3, h4⟩ := fl_cut hn h0
  rw [fl_at h2 h3]
  by_cases e : q = k
  · subst e
    rw [cpyI_in (by omega) (by omega), upI_at]
    congr 1
    omega
  · rw [upI_ne e, cpyI_out ?_, fl_at h2 h3]
    rcases Int.lt_or_gt_of_ne e with w | w
    · left; have := mul_gap hn w; omega
    · right; have := mul_gap hn w; omega
theorem fl_up {n k i j x : Int} {u : Int → Int → Int} (hn : 0 < n) (h0 : 0 ≤ j) (hi : 0 ≤ i) (hi1 : i < n) : upI (fl n u) (n * k + i) x j = fl n (upI u k (upI (u k) i x)) j := by
  obtain ⟨q, r, rfl, h2, h3, h4⟩ := fl_cut hn h0
  rw [fl_at h2 h3]
  by_cases e : q = k
  · subst e
    rw [upI_at]
    by_cases e2 : r = i
    · subst e2; rw [upI_at, upI_at]
    · rw [upI_ne (by omega), upI_ne e2, fl_at h2 h3]
  · rw [upI_ne e, upI_ne ?_, fl_at h2 h3]
    rcases Int.lt_or_gt_of_ne e with w | w
    · have := mul_gap hn w; omega
    · have := mul_gap hn w; omega
section
variable {E : gE} {d rc rs am : Nat} {G : gH}
variable {th si lo td sz pa fr tk vl fk fp hdt kl kn cd bp bl : Int} {w hs bk iW iH iB iL iS tp fv fsh lt cp md sw nd mn my wd nm mv : Int → Int}
variable {s a b r r2 i k v e B c n l low high : Int} {Q : Outcome → gH → Prop} {uW uH uB : Int → Int → Int}
theorem mX6 {g g' : Int → Int} (h : ∀ j : Int, 0 ≤ j → j < 3360 → g j = g' j) (H : Heap) (hR : gRel E (mH E G am th w hs si lo bk g iH iB iL iS tp td fv sz pa fr tk vl fk fp fsh hdt lt kl kn cp cd bp bl md sw nd mn my wd nm mv) H) : gRel E (mH E G am th w hs si lo bk g' iH iB iL iS tp td fv sz pa fr tk vl fk fp fsh hdt lt kl kn cp cd bp bl md sw nd mn my wd nm mv) H := by
  refine blk_ext ?_ hR
  intro j hj z
  match j, hj, z with
  | 0, _, z => exact z
  | 1, _, z => exact z
  | 2, _, z => exact z
  | 3, _, z => exact z
  | 4, _, z => exact at_aI h z
  | 5, _, z => exact z
  | 6, _, z => exact z
  | 7, _, z => exact z
  | 8, _, z => exact z
  | 9, _, z => exact z
  | 10, _, z => exact z
  | 11, _, z => exact z
  | 12, _, z => exact z
  | 13, _, z => exact z
  | 14, _, z => exact z
  | 15, _, z => exact z
  | 16, _, z => exact z
  | 17, _, z => exact z
  | 18, _, z => exact z
  | 19, _, z => exact z
  | 20, _, z => exact z
  | 21, _, z => exact z
  | j + 22, hj, _ => omega
theorem mX7 {g g' : Int → Int} (h : ∀ j : Int, 0 ≤ j → j < 6054 → g j = g' j) (H : Heap) (hR : gRel E (mH E G am th w hs si lo bk iW g iB iL iS tp td fv sz pa fr tk vl fk fp fsh hdt lt kl kn cp cd bp bl md sw nd mn my wd nm mv) H) : gRel E (mH E G am th w hs si lo bk iW g' iB iL iS tp td fv sz pa fr tk vl fk fp fsh hdt lt kl kn cp cd bp bl md sw nd mn my wd nm mv) H := by
  refine blk_ext ?_ hR
  intro j hj z
  match j, hj, z with
  | 0, _, z => exact z
  | 1, _, z => exact z
  | 2, _, z => exact z
  | 3, _, z => exact z
  | 4, _, z => exact z
  | 5, _, z => exact at_aI h z
  | 6, _, z => exact z
  | 7, _, z => exact z
  | 8, _, z => exact z
  | 9, _, z => exact z
  | 10, _, z => exact z
  | 11, _, z => exact z
  | 12, _, z => exact z
  | 13, _, z => exact z
  | 14, _, z => exact z
  | 15, _, z => exact z
  | 16, _, z => exact z
  | 17, _, z => exact z
  | 18, _, z => exact z
  | 19, _, z => exact z
  | 20, _, z => exact z
  | 21, _, z => exact z
  | j + 22, hj, _ => omega
theorem mX8 {g g' : Int → Int} (h : ∀ j : Int, 0 ≤ j → j < 1080 → g j = g' j) (H : Heap) (hR : gRel E (mH E G am th w hs si lo bk iW iH g iL iS tp td fv sz pa fr tk vl fk fp fsh hdt lt kl kn cp cd bp bl md sw nd mn my wd nm mv) H) : gRel E (mH E G am th w hs si lo bk iW iH g' iL iS tp td fv sz pa fr tk vl fk fp fsh hdt lt kl kn cp cd bp bl md sw nd mn my wd nm mv) H := by
  refine blk_ext ?_ hR
  intro j hj z
  match j, hj, z with
  | 0, _, z => exact z
  | 1, _, z => exact z
  | 2, _, z => exact z
  | 3, _, z => exact z
  | 4, _, z => exact z
  | 5, _, z => exact z
  | 6, _, z => exact at_aI h z
  | 7, _, z => exact z
  | 8, _, z => exact z
  | 9, _, z => exact z
  | 10, _, z => exact z
  | 11, _, z => exact z
  | 12, _, z => exact z
  | 13, _, z => exact z
  | 14, _, z => exact z
  | 15, _, z => exact z
  | 16, _, z => exact z
  | 17, _, z => exact z
  | 18, _, z => exact z
  | 19, _, z => exact z
  | 20, _, z => exact z
  | 21, _, z => exact z
  | j + 22, hj, _ => omega
theorem mX31 {g g' : Int → Int} (h : ∀ j : Int, 0 ≤ j → j < 1120 → g j = g' j) (H : Heap) (hR : gRel E (mH E G am th w hs si lo bk iW iH iB iL iS tp td fv sz pa fr tk vl fk fp fsh hdt lt kl kn cp cd bp bl md g nd mn my wd nm mv) H) : gRel E (mH E G am th w hs si lo bk iW iH iB iL iS tp td fv sz pa fr tk vl fk fp fsh hdt lt kl kn cp cd bp bl md g' nd mn my wd nm mv) H := by
  refine blk_ext ?_ hR
  intro j hj z
  match j, hj, z with
  | 0, _, z => exact z
  | 1, _, z => exact z
  | 2, _, z => exact z
  | 3, _, z => exact z
  | 4, _, z => exact z
  | 5, _, z => exact z
  | 6, _, z => exact z
  | 7, _, z => exact z
  | 8, _, z => exact z
  | 9, _, z => exact z
  | 10, _, z => exact z
  | 11, _, z => exact z
  | 12, _, z => exact z
  | 13, _, z => exact z
  | 14, _, z => exact z
  | 15, _, z => exact at_aI h z
  | 16, _, z => exact z
  | 17, _, z => exact z
  | 18, _, z => exact z
  | 19, _, z => exact z
  | 20, _, z => exact z
  | 21, _, z => exact z
  | j + 22, hj, _ => omega
theorem l_keep1 (hk : 0 ≤ k ∧ k ≤ 2) : ∀ (f : Nat) (i : Int), 0 ≤ i → i + f = 1120 → (GO E iX6_keep d 0 0 48 [some (.ref am), some (vI k), some (vI (1120))] [] (mH E G am th w hs si lo bk (cpyI iW w (1120 * k) (0) 1120) iH iB iL iS tp td fv sz pa fr tk vl fk fp fsh hdt lt kl kn cp cd bp bl md sw nd mn my wd nm mv) Q) → GO E iX6_keep d 0 0 17 [some (.ref am), some (vI k), some (vI (i))] [] (mH E G am th w hs si lo bk (cpyI iW w (1120 * k) (0) i) iH iB iL iS tp td fv sz pa fr tk vl fk fp fsh hdt lt kl kn cp cd bp bl md sw nd mn my wd nm mv) Q := by
  intro f
  induction f with
  | zero =>
    intro i h2 h3 kk
    obtain rfl : i = 1120 := by omega
    refine g_iload_n (q := 18) dX6_keep_17 rfl rfl ?_
    refine g_sipush (q := 21) dX6_keep_18 rfl ?_
    refine g_icmp_ge (t := 48) (q := 24) dX6_keep_21 (by decide) rfl (by first | assumption | exact in32_gB | exact in32_gCmp | (unfold in32; omega)) (by first | assumption | exact in32_gB | exact in32_gCmp | (unfold in32; omega)) (fun c21 => ?_) (fun c21 => ?_)
    · exact kk
    · exact absurd c21 (by first | decide | omega)
  | succ f ih =>
    intro i h2 h3 kk
    have e3 := cpyI_s (dst := iW) (src := w) (dO := 1120 * k) (sO := 0) h2
    try simp only [Int.zero_add] at e3
    refine g_iload_n (q := 18) dX6_keep_17 rfl rfl ?_
    refine g_sipush (q := 21) dX6_keep_18 rfl ?_
    refine g_icmp_ge (t := 48) (q := 24) dX6_keep_21 (by decide) rfl (by first | assumption | exact in32_gB | exact in32_gCmp | (unfold in32; omega)) (by first | assumption | exact in32_gB | exact in32_gCmp | (unfold in32; omega)) (fun c21 => ?_) (fun c21 => ?_)
    · exact absurd c21 (by omega)
    · refine g_aload_n (q := 25) dX6_keep_24 rfl rfl ?_
      refine gm_get (k := 6) (q := 28) dX6_keep_25 q1400 (by decide) rfl rfl ?_
      refine g_sipush (q := 31) dX6_keep_28 rfl ?_
      refine g_iload_n (q := 32) dX6_keep_31 rfl rfl ?_
      refine g_imul (q := 33) dX6_keep_32 rfl ?_
      refine g_iload_n (q := 34) dX6_keep_33 rfl rfl ?_
      refine g_iadd (q := 35) dX6_keep_34 rfl ?_
      refine g_aload_n (q := 36) dX6_keep_35 rfl rfl ?_
      refine gm_get (k := 1) (q := 39) dX6_keep_36 q1395 (by decide) rfl rfl ?_
      refine g_iload_n (q := 40) dX6_keep_39 rfl rfl ?_
      refine g_iald (q := 41) dX6_keep_40 mA1 (by omega) (by omega) rfl ?_
      refine gm_st6 (q := 42) dX6_keep_41 (by omega) (by omega)  rfl ?_
      rw [e3]
      refine g_iinc (q := 45) dX6_keep_42 rfl gs2 rfl ?_
      refine g_goto (t := 17) dX6_keep_45 (by decide) ?_
      exact ih _ (by omega) (by omega) kk
theorem l_keep1_0 (hk : 0 ≤ k ∧ k ≤ 2) (kk : GO E iX6_keep d 0 0 48 [some (.ref am), some (vI k), some (vI (1120))] [] (mH E G am th w hs si lo bk (cpyI iW w (1120 * k) (0) 1120) iH iB iL iS tp td fv sz pa fr tk vl fk fp fsh hdt lt kl kn cp cd bp bl md sw nd mn my wd nm mv) Q) : GO E iX6_keep d 0 0 17 [some (.ref am), some (vI k), some (vI (0))] [] (mH E G am th w hs si lo bk iW iH iB iL iS tp td fv sz pa fr tk vl fk fp fsh hdt lt kl kn cp cd bp bl md sw nd mn my wd nm mv) Q := by
  have := l_keep1 (E := E) (d := d) (am := am) (G := G) hk 1120 0 (by omega) (by omega) kk
  rw [cpyI_0] at this
  exact this
theorem l_keep2 (hk : 0 ≤ k ∧ k ≤ 2) : ∀ (f : Nat) (i : Int), 0 ≤ i → i + f = 2018 → (GO E iX6_keep d 0 0 81 [some (.ref am), some (vI k), some (vI (2018))] [] (mH E G am th w hs si lo bk iW (cpyI iH hs (2018 * k) (0) 2018) iB iL iS tp td fv sz pa fr tk vl fk fp fsh hdt lt kl kn cp cd bp bl md sw nd mn my wd nm mv) Q) → GO E iX6_keep d 0 0 50 [some (.ref am), some (vI k), some (vI (i))] [] (mH E G am th w hs si lo bk iW (cpyI iH hs (2018 * k) (0) i) iB iL iS tp td fv sz pa fr tk vl fk fp fsh hdt lt kl kn cp cd bp bl md sw nd mn my wd nm mv) Q := by
  intro f
  induction f with
  | zero =>
    intro i h2 h3 kk
    obtain rfl : i = 2018 := by omega
    refine g_iload_n (q := 51) dX6_keep_50 rfl rfl ?_
    refine g_sipush (q := 54) dX6_keep_51 rfl ?_
    refine g_icmp_ge (t := 81) (q := 57) dX6_keep_54 (by decide) rfl (by first | assumption | exact in32_gB | exact in32_gCmp | (unfold in32; omega)) (by first | assumption | exact in32_gB | exact in32_gCmp | (unfold in32; omega)) (fun c54 => ?_) (fun c54 => ?_)
    · exact kk
    · exact absurd c54 (by first | decide | omega)
  | succ f ih =>
    intro i h2 h3 kk
    have e3 := cpyI_s (dst := iH) (src := hs) (dO := 2018 * k) (sO := 0) h2
    try simp only [Int.zero_add] at e3
    refine g_iload_n (q := 51) dX6_keep_50 rfl rfl ?_
    refine g_sipush (q := 54) dX6_keep_51 rfl ?_
    refine g_icmp_ge (t := 81) (q := 57) dX6_keep_54 (by decide) rfl (by first | assumption | exact in32_gB | exact in32_gCmp | (unfold in32; omega)) (by first | assumption | exact in32_gB | exact in32_gCmp | (unfold in32; omega)) (fun c54 => ?_) (fun c54 => ?_)
    · exact absurd c54 (by omega)
    · refine g_aload_n (q := 58) dX6_keep_57 rfl rfl ?_
      refine gm_get (k := 7) (q := 61) dX6_keep_58 q1401 (by decide) rfl rfl ?_
      refine g_sipush (q := 64) dX6_keep_61 rfl ?_
      refine g_iload_n (q := 65) dX6_keep_64 rfl rfl ?_
      refine g_imul (q := 66) dX6_keep_65 rfl ?_
      refine g_iload_n (q := 67) dX6_keep_66 rfl rfl ?_
      refine g_iadd (q := 68) dX6_keep_67 rfl ?_
      refine g_aload_n (q := 69) dX6_keep_68 rfl rfl ?_
      refine gm_get (k := 2) (q := 72) dX6_keep_69 q1396 (by decide) rfl rfl ?_
      refine g_iload_n (q := 73) dX6_keep_72 rfl rfl ?_
      refine g_iald (q := 74) dX6_keep_73 mA2 (by omega) (by omega) rfl ?_
      refine gm_st7 (q := 75) dX6_keep_74 (by omega) (by omega)  rfl ?_
      rw [e3]
      refine g_iinc (q := 78) dX6_keep_75 rfl gs2 rfl ?_
      refine g_goto (t := 50) dX6_keep_78 (by decide) ?_
      exact ih _ (by omega) (by omega) kk
theorem l_keep2_0 (hk : 0 ≤ k ∧ k ≤ 2) (kk : GO E iX6_keep d 0 0 81 [some (.ref am), some (vI k), some (vI (2018))] [] (mH E G am th w hs si lo bk iW (cpyI iH hs (2018 * k) (0) 2018) iB iL iS tp td fv sz pa fr tk vl fk fp fsh hdt lt kl kn cp cd bp bl md sw nd mn my wd nm mv) Q) : GO E iX6_keep d 0 0 50 [some (.ref am), some (vI k), some (vI (0))] [] (mH E G am th w hs si lo bk iW iH iB iL iS tp td fv sz pa fr tk vl fk fp fsh hdt lt kl kn cp cd bp bl md sw nd mn my wd nm mv) Q := by
  have := l_keep2 (E := E) (d := d) (am := am) (G := G) hk 2018 0 (by omega) (by omega) kk
  rw [cpyI_0] at this
  exact this
theorem l_keep3 (hk : 0 ≤ k ∧ k ≤ 2) : ∀ (f : Nat) (i : Int), 0 ≤ i → i + f = 360 → (GO E iX6_keep d 0 0 114 [some (.ref am), some (vI k), some (vI (360))] [] (mH E G am th w hs si lo bk iW iH (cpyI iB bk (360 * k) (0) 360) iL iS tp td fv sz pa fr tk vl fk fp fsh hdt lt kl kn cp cd bp bl md sw nd mn my wd nm mv) Q) → GO E iX6_keep d 0 0 83 [some (.ref am), some (vI k), some (vI (i))] [] (mH E G am th w hs si lo bk iW iH (cpyI iB bk (360 * k) (0) i) iL iS tp td fv sz pa fr tk vl fk fp fsh hdt lt kl kn cp cd bp bl md sw nd mn my wd nm mv) Q := by
  intro f
  induction f with
  | zero =>
    intro i h2 h3 kk
    obtain rfl : i = 360 := by omega
    refine g_iload_n (q := 84) dX6_keep_83 rfl rfl ?_
    refine g_sipush (q := 87) dX6_keep_84 rfl ?_
    refine g_icmp_ge (t := 114) (q := 90) dX6_keep_87 (by decide) rfl (by first | assumption | exact in32_gB | exact in32_gCmp | (unfold in32; omega)) (by first | assumption | exact in32_gB | exact in32_gCmp | (unfold in32; omega)) (fun c87 => ?_) (fun c87 => ?_)
    · exact kk
    · exact absurd c87 (by first | decide | omega)
  | succ f ih =>
    intro i h2 h3 kk
    have e3 := cpyI_s (dst := iB) (src := bk) (dO := 360 * k) (sO := 0) h2
    try simp only [Int.zero_add] at e3
    refine g_iload_n (q := 84) dX6_keep_83 rfl rfl ?_
    refine g_sipush (q := 87) dX6_keep_84 rfl ?_
    refine g_icmp_ge (t := 114) (q := 90) dX6_keep_87 (by decide) rfl (by first | assumption | exact in32_gB | exact in32_gCmp | (unfold in32; omega)) (by first | assumption | exact in32_gB | exact in32_gCmp | (unfold in32; omega)) (fun c87 => ?_) (fun c87 => ?_)
    · exact absurd c87 (by omega)
    · refine g_aload_n (q := 91) dX6_keep_90 rfl rfl ?_
      refine gm_get (k := 8) (q := 94) dX6_keep_91 q1402 (by decide) rfl rfl ?_
      refine g_sipush (q := 97) dX6_keep_94 rfl ?_
      refine g_iload_n (q := 98) dX6_keep_97 rfl rfl ?_
      refine g_imul (q := 99) dX6_keep_98 rfl ?_
      refine g_iload_n (q := 100) dX6_keep_99 rfl rfl ?_
      refine g_iadd (q := 101) dX6_keep_100 rfl ?_
      refine g_aload_n (q := 102) dX6_keep_101 rfl rfl ?_
      refine gm_get (k := 5) (q := 105) dX6_keep_102 q1399 (by decide) rfl rfl ?_
      refine g_iload_n (q := 106) dX6_keep_105 rfl rfl ?_
      refine g_iald (q := 107) dX6_keep_106 mA5 (by omega) (by omega) rfl ?_
      refine gm_st8 (q := 108) dX6_keep_107 (by omega) (by omega)  rfl ?_
      rw [e3]
      refine g_iinc (q := 111) dX6_keep_108 rfl gs2 rfl ?_
      refine g_goto (t := 83) dX6_keep_111 (by decide) ?_
      exact ih _ (by omega) (by omega) kk
theorem l_keep3_0 (hk : 0 ≤ k ∧ k ≤ 2) (kk : GO E iX6_keep d 0 0 114 [some (.ref am), some (vI k), some (vI (360))] [] (mH E G am th w hs si lo bk iW iH (cpyI iB bk (360 * k) (0) 360) iL iS tp td fv sz pa fr tk vl fk fp fsh hdt lt kl kn cp cd bp bl md sw nd mn my wd nm mv) Q) : GO E iX6_keep d 0 0 83 [some (.ref am), some (vI k), some (vI (0))] [] (mH E G am th w hs si lo bk iW iH iB iL iS tp td fv sz pa fr tk vl fk fp fsh hdt lt kl kn cp cd bp bl md sw nd mn my wd nm mv) Q := by
  have := l_keep3 (E := E) (d := d) (am := am) (G := G) hk 360 0 (by omega) (by omega) kk
  rw [cpyI_0] at this
  exact this
theorem c_keep (hk : 0 ≤ k ∧ k ≤ 2) : CALL E iX6_keep (d + 1) 0 0 [.ref am, vI k] (mH E G am th w hs si lo bk (fl 1120 uW) (fl 2018 uH) (fl 360 uB) iL iS tp td fv sz pa fr tk vl fk fp fsh hdt lt kl kn cp cd bp bl md sw nd mn my wd nm mv) (qR (vI 0) (mH E G am th w hs si lo bk (fl 1120 (upI uW k w)) (fl 2018 (upI uH k hs)) (fl 360 (upI uB k bk)) (upI iL k lo) (upI iS k si) tp td fv sz pa fr tk vl fk fp fsh hdt lt kl kn cp cd bp bl md sw nd mn my wd nm mv)) := by
  show GO E iX6_keep _ _ _ 0 [some (.ref am), some (vI k), none] [] _ _
  refine g_iload_n (q := 1) dX6_keep_0 rfl rfl ?_
  refine g_i2l (q := 2) dX6_keep_1 (by first | assumption | exact in32_gB | exact in32_gCmp | (unfold in32; omega)) rfl ?_
  refine g_lconst0 (q := 3) dX6_keep_2 rfl ?_
  refine g_ldc2 (a := 2) (q := 6) dX6_keep_3 q1513 (by decide) rfl ?_
  refine g_cs (I' := iX6_in) (mc := 0) (ms := 0) (rc := 0) (rs := 0) (q := 9) dX6_keep_6 q1514 q1515 gcX6_in (c_inM (by unfold in64; omega) (by unfold in64; omega) (by unfold in64; omega)) rfl rfl ?_
  refine g_ifneB (t := 15) (q := 12) dX6_keep_9 (by decide) rfl (fun c9 => ?_) (fun c9 => ?_)
  · refine g_iconst (q := 16) dX6_keep_15 rfl ?_
    refine g_istore_n (q := 17) dX6_keep_16 gs2 rfl ?_
    refine l_keep1_0 hk ?_
    refine GO.heapx (mX6 (fun j h2 h3 => fl_cpy (by omega) h2)) ?_
    refine g_iconst (q := 49) dX6_keep_48 rfl ?_
    refine g_istore_n (q := 50) dX6_keep_49 gs2 rfl ?_
    refine l_keep2_0 hk ?_
    refine GO.heapx (mX7 (fun j h2 h3 => fl_cpy (by omega) h2)) ?_
    refine g_iconst (q := 82) dX6_keep_81 rfl ?_
    refine g_istore_n (q := 83) dX6_keep_82 gs2 rfl ?_
    refine l_keep3_0 hk ?_
    refine GO.heapx (mX8 (fun j h2 h3 => fl_cpy (by omega) h2)) ?_
    refine g_aload_n (q := 115) dX6_keep_114 rfl rfl ?_
    refine gm_get (k := 10) (q := 118) dX6_keep_115 q1404 (by decide) rfl rfl ?_
    refine g_iload_n (q := 119) dX6_keep_118 rfl rfl ?_
    refine g_aload_n (q := 120) dX6_keep_119 rfl rfl ?_
    refine gm_get (k := 3) (q := 123) dX6_keep_120 q1397 (by decide) rfl rfl ?_
    refine gm_st10 (q := 124) dX6_keep_123 (by omega) (by omega)  rfl ?_
    refine g_aload_n (q := 125) dX6_keep_124 rfl rfl ?_
    refine gm_get (k := 9) (q := 128) dX6_keep_125 q1403 (by decide) rfl rfl ?_
    refine g_iload_n (q := 129) dX6_keep_128 rfl rfl ?_
    refine g_aload_n (q := 130) dX6_keep_129 rfl rfl ?_
    refine gm_get (k := 4) (q := 133) dX6_keep_130 q1398 (by decide) rfl rfl ?_
    refine gm_st9 (q := 134) dX6_keep_133 (by omega) (by omega)  rfl ?_
    refine g_iconst (q := 135) dX6_keep_134 rfl ?_
    exact g_iret dX6_keep_135 rfl ⟨rfl, rfl⟩
  · exact absurd hk c9
theorem c_keep_bad (hr : in32 k) (hk : ¬ (0 ≤ k ∧ k ≤ 2)) : CALL E iX6_keep (d + 1) 0 0 [.ref am, vI k] (mH E G am th w hs si lo bk iW iH iB iL iS tp td fv sz pa fr tk vl fk fp fsh hdt lt kl kn cp cd bp bl md sw nd mn my wd nm mv) (qR (vI (-2)) (mH E G am th w hs si lo bk iW iH iB iL iS tp td fv sz pa fr tk vl fk fp fsh hdt lt kl kn cp cd bp bl md sw nd mn my wd nm mv)) := by
  have h1 := hr.1
  have h2 := hr.2
  show GO E iX6_keep _ _ _ 0 [some (.ref am), some (vI k), none] [] _ _
  refine g_iload_n (q := 1) dX6_keep_0 rfl rfl ?_
  refine g_i2l (q := 2) dX6_keep_1 (by first | assumption | exact in32_gB | exact in32_gCmp | (unfold in32; omega)) rfl ?_
  refine g_lconst0 (q := 3) dX6_keep_2 rfl ?_
  refine g_ldc2 (a := 2) (q := 6) dX6_keep_3 q1513 (by decide) rfl ?_
  refine g_cs (I' := iX6_in) (mc := 0) (ms := 0) (rc := 0) (rs := 0) (q := 9) dX6_keep_6 q1514 q1515 gcX6_in (c_inM (by unfold in64; omega) (by unfold in64; omega) (by unfold in64; omega)) rfl rfl ?_
  refine g_ifneB (t := 15) (q := 12) dX6_keep_9 (by decide) rfl (fun c9 => ?_) (fun c9 => ?_)
  · exact absurd c9 hk
  · refine g_bipush (q := 14) dX6_keep_12 rfl ?_
    exact g_iret dX6_keep_14 rfl ⟨rfl, rfl⟩
theorem l_take1 (hk : 0 ≤ k ∧ k ≤ 2) : ∀ (f : Nat) (i : Int), 0 ≤ i → i + f = 1120 → (GO E iX6_takeImage d 0 0 33 [some (.ref am), some (vI k), some (vI (1120))] [] (mH E G am th (cpyI w iW (0) (1120 * k) 1120) hs si lo bk iW iH iB iL iS tp td fv sz pa fr tk vl fk fp fsh hdt lt kl kn cp cd bp bl md sw nd mn my wd nm mv) Q) → GO E iX6_takeImage d 0 0 2 [some (.ref am), some (vI k), some (vI (i))] [] (mH E G am th (cpyI w iW (0) (1120 * k) i) hs si lo bk iW iH iB iL iS tp td fv sz pa fr tk vl fk fp fsh hdt lt kl kn cp cd bp bl md sw nd mn my wd nm mv) Q := by
  intro f
  induction f with
  | zero =>
    intro i h2 h3 kk
    obtain rfl : i = 1120 := by omega
    refine g_iload_n (q := 3) dX6_takeImage_2 rfl rfl ?_
    refine g_sipush (q := 6) dX6_takeImage_3 rfl ?_
    refine g_icmp_ge (t := 33) (q := 9) dX6_takeImage_6 (by decide) rfl (by first | assumption | exact in32_gB | exact in32_gCmp | (unfold in32; omega)) (by first | assumption | exact in32_gB | exact in32_gCmp | (unfold in32; omega)) (fun c6 => ?_) (fun c6 => ?_)
    · exact kk
    · exact absurd c6 (by first | decide | omega)
  | succ f ih =>
    intro i h2 h3 kk
    have e3 := cpyI_s (dst := w) (src := iW) (dO := 0) (sO := 1120 * k) h2
    try simp only [Int.zero_add] at e3
    refine g_iload_n (q := 3) dX6_takeImage_2 rfl rfl ?_
    refine g_sipush (q := 6) dX6_takeImage_3 rfl ?_
    refine g_icmp_ge (t := 33) (q := 9) dX6_takeImage_6 (by decide) rfl (by first | assumption | exact in32_gB | exact in32_gCmp | (unfold in32; omega)) (by first | assumption | exact in32_gB | exact in32_gCmp | (unfold in32; omega)) (fun c6 => ?_) (fun c6 => ?_)
    · exact absurd c6 (by omega)
    · refine g_aload_n (q := 10) dX6_takeImage_9 rfl rfl ?_
      refine gm_get (k := 1) (q := 13) dX6_takeImage_10 q1395 (by decide) rfl rfl ?_
      refine g_iload_n (q := 14) dX6_takeImage_13 rfl rfl ?_
      refine g_aload_n (q := 15) dX6_takeImage_14 rfl rfl ?_
      refine gm_get (k := 6) (q := 18) dX6_takeImage_15 q1400 (by decide) rfl rfl ?_
      refine g_sipush (q := 21) dX6_takeImage_18 rfl ?_
      refine g_iload_n (q := 22) dX6_takeImage_21 rfl rfl ?_
      refine g_imul (q := 23) dX6_takeImage_22 rfl ?_
      refine g_iload_n (q := 24) dX6_takeImage_23 rfl rfl ?_
      refine g_iadd (q := 25) dX6_takeImage_24 rfl ?_
      refine g_iald (q := 26) dX6_takeImage_25 mA6 (by omega) (by omega) rfl ?_
      refine gm_st1 (q := 27) dX6_takeImage_26 (by omega) (by omega)  rfl ?_
      rw [e3]
      refine g_iinc (q := 30) dX6_takeImage_27 rfl gs2 rfl ?_
      refine g_goto (t := 2) dX6_takeImage_30 (by decide) ?_
      exact ih _ (by omega) (by omega) kk
theorem l_take1_0 (hk : 0 ≤ k ∧ k ≤ 2) (kk : GO E iX6_takeImage d 0 0 33 [some (.ref am), some (vI k), some (vI (1120))] [] (mH E G am th (cpyI w iW (0) (1120 * k) 1120) hs si lo bk iW iH iB iL iS tp td fv sz pa fr tk vl fk fp fsh hdt lt kl kn cp cd bp bl md sw nd mn my wd nm mv) Q) : GO E iX6_takeImage d 0 0 2 [some (.ref am), some (vI k), some (vI (0))] [] (mH E G am th w hs si lo bk iW iH iB iL iS tp td fv sz pa fr tk vl fk fp fsh hdt lt kl kn cp cd bp bl md sw nd mn my wd nm mv) Q := by
  have := l_take1 (E := E) (d := d) (am := am) (G := G) hk 1120 0 (by omega) (by omega) kk
  rw [cpyI_0] at this
  exact this
theorem l_take2 (hk : 0 ≤ k ∧ k ≤ 2) : ∀ (f : Nat) (i : Int), 0 ≤ i → i + f = 2018 → (GO E iX6_takeImage d 0 0 66 [some (.ref am), some (vI k), some (vI (2018))] [] (mH E G am th w (cpyI hs iH (0) (2018 * k) 2018) si lo bk iW iH iB iL iS tp td fv sz pa fr tk vl fk fp fsh hdt lt kl kn cp cd bp bl md sw nd mn my wd nm mv) Q) → GO E iX6_takeImage d 0 0 35 [some (.ref am), some (vI k), some (vI (i))] [] (mH E G am th w (cpyI hs iH (0) (2018 * k) i) si lo bk iW iH iB iL iS tp td fv sz pa fr tk vl fk fp fsh hdt lt kl kn cp cd bp bl md sw nd mn my wd nm mv) Q := by
  intro f
  induction f with
  | zero =>
    intro i h2 h3 kk
    obtain rfl : i = 2018 := by omega
    refine g_iload_n (q := 36) dX6_takeImage_35 rfl rfl ?_
    refine g_sipush (q := 39) dX6_takeImage_36 rfl ?_
    refine g_icmp_ge (t := 66) (q := 42) dX6_takeImage_39 (by decide) rfl (by first | assumption | exact in32_gB | exact in32_gCmp | (unfold in32; omega)) (by first | assumption | exact in32_gB | exact in32_gCmp | (unfold in32; omega)) (fun c39 => ?_) (fun c39 => ?_)
    · exact kk
    · exact absurd c39 (by first | decide | omega)
  | succ f ih =>
    intro i h2 h3 kk
    have e3 := cpyI_s (dst := hs) (src := iH) (dO := 0) (sO := 2018 * k) h2
    try simp only [Int.zero_add] at e3
    refine g_iload_n (q := 36) dX6_takeImage_35 rfl rfl ?_
    refine g_sipush (q := 39) dX6_takeImage_36 rfl ?_
    refine g_icmp_ge (t := 66) (q := 42) dX6_takeImage_39 (by decide) rfl (by first | assumption | exact in32_gB | exact in32_gCmp | (unfold in32; omega)) (by first | assumption | exact in32_gB | exact in32_gCmp | (unfold in32; omega)) (fun c39 => ?_) (fun c39 => ?_)
    · exact absurd c39 (by omega)
    · refine g_aload_n (q := 43) dX6_takeImage_42 rfl rfl ?_
      refine gm_get (k := 2) (q := 46) dX6_takeImage_43 q1396 (by decide) rfl rfl ?_
      refine g_iload_n (q := 47) dX6_takeImage_46 rfl rfl ?_
      refine g_aload_n (q := 48) dX6_takeImage_47 rfl rfl ?_
      refine gm_get (k := 7) (q := 51) dX6_takeImage_48 q1401 (by decide) rfl rfl ?_
      refine g_sipush (q := 54) dX6_takeImage_51 rfl ?_
      refine g_iload_n (q := 55) dX6_takeImage_54 rfl rfl ?_
      refine g_imul (q := 56) dX6_takeImage_55 rfl ?_
      refine g_iload_n (q := 57) dX6_takeImage_56 rfl rfl ?_
      refine g_iadd (q := 58) dX6_takeImage_57 rfl ?_
      refine g_iald (q := 59) dX6_takeImage_58 mA7 (by omega) (by omega) rfl ?_
      refine gm_st2 (q := 60) dX6_takeImage_59 (by omega) (by omega)  rfl ?_
      rw [e3]
      refine g_iinc (q := 63) dX6_takeImage_60 rfl gs2 rfl ?_
      refine g_goto (t := 35) dX6_takeImage_63 (by decide) ?_
      exact ih _ (by omega) (by omega) kk
theorem l_take2_0 (hk : 0 ≤ k ∧ k ≤ 2) (kk : GO E iX6_takeImage d 0 0 66 [some (.ref am), some (vI k), some (vI (2018))] [] (mH E G am th w (cpyI hs iH (0) (2018 * k) 2018) si lo bk iW iH iB iL iS tp td fv sz pa fr tk vl fk fp fsh hdt lt kl kn cp cd bp bl md sw nd mn my wd nm mv) Q) : GO E iX6_takeImage d 0 0 35 [some (.ref am), some (vI k), some (vI (0))] [] (mH E G am th w hs si lo bk iW iH iB iL iS tp td fv sz pa fr tk vl fk fp fsh hdt lt kl kn cp cd bp bl md sw nd mn my wd nm mv) Q := by
  have := l_take2 (E := E) (d := d) (am := am) (G := G) hk 2018 0 (by omega) (by omega) kk
  rw [cpyI_0] at this
  exact this
theorem c_takeImage (hk : 0 ≤ k ∧ k ≤ 2) : CALL E iX6_takeImage d 0 0 [.ref am, vI k] (mH E G am th w hs si lo bk (fl 1120 uW) (fl 2018 uH) iB iL iS tp td fv sz pa fr tk vl fk fp fsh hdt lt kl kn cp cd bp bl md sw nd mn my wd nm mv) (qV (mH E G am th (uW k) (uH k) si lo bk (fl 1120 uW) (fl 2018 uH) iB iL iS tp td fv sz pa fr tk vl fk fp fsh hdt lt kl kn cp cd bp bl md sw nd mn my wd nm mv)) := by
  show GO E iX6_takeImage _ _ _ 0 [some (.ref am), some (vI k), none] [] _ _
  refine g_iconst (q := 1) dX6_takeImage_0 rfl ?_
  refine g_istore_n (q := 2) dX6_takeImage_1 gs2 rfl ?_
  refine l_take1_0 hk ?_
  refine GO.heapx (mX1 (fun j h2 h3 => by rw [cpyI_in h2 (by omega), Int.sub_zero, fl_at h2 h3])) ?_
  refine g_iconst (q := 34) dX6_takeImage_33 rfl ?_
  refine g_istore_n (q := 35) dX6_takeImage_34 gs2 rfl ?_
  refine l_take2_0 hk ?_
  refine GO.heapx (mX2 (fun j h2 h3 => by rw [cpyI_in h2 (by omega), Int.sub_zero, fl_at h2 h3])) ?_
  exact g_vret dX6_takeImage_66 rfl ⟨rfl, rfl⟩
theorem l_back1 (hk : 0 ≤ k ∧ k ≤ 2) : ∀ (f : Nat) (i : Int), 0 ≤ i → i + f = 360 → (GO E iX6_back d 0 0 66 [some (.ref am), some (vI k), some (vI (360))] [] (mH E G am th w hs si lo (cpyI bk iB (0) (360 * k) 360) iW iH iB iL iS tp td fv sz pa fr tk vl fk fp fsh hdt lt kl kn cp cd bp bl md sw nd mn my wd nm mv) Q) → GO E iX6_back d 0 0 35 [some (.ref am), some (vI k), some (vI (i))] [] (mH E G am th w hs si lo (cpyI bk iB (0) (360 * k) i) iW iH iB iL iS tp td fv sz pa fr tk vl fk fp fsh hdt lt kl kn cp cd bp bl md sw nd mn my wd nm mv) Q := by
  intro f
  induction f with
  | zero =>
    intro i h2 h3 kk
    obtain rfl : i = 360 := by omega
    refine g_iload_n (q := 36) dX6_back_35 rfl rfl ?_
    refine g_sipush (q := 39) dX6_back_36 rfl ?_
    refine g_icmp_ge (t := 66) (q := 42) dX6_back_39 (by decide) rfl (by first | assumption | exact in32_gB | exact in32_gCmp | (unfold in32; omega)) (by first | assumption | exact in32_gB | exact in32_gCmp | (unfold in32; omega)) (fun c39 => ?_) (fun c39 => ?_)
    · exact kk
    · exact absurd c39 (by first | decide | omega)
  | succ f ih =>
    intro i h2 h3 kk
    have e3 := cpyI_s (dst := bk) (src := iB) (dO := 0) (sO := 360 * k) h2
    try simp only [Int.zero_add] at e3
    refine g_iload_n (q := 36) dX6_back_35 rfl rfl ?_
    refine g_sipush (q := 39) dX6_back_36 rfl ?_
    refine g_icmp_ge (t := 66) (q := 42) dX6_back_39 (by decide) rfl (by first | assumption | exact in32_gB | exact in32_gCmp | (unfold in32; omega)) (by first | assumption | exact in32_gB | exact in32_gCmp | (unfold in32; omega)) (fun c39 => ?_) (fun c39 => ?_)
    · exact absurd c39 (by omega)
    · refine g_aload_n (q := 43) dX6_back_42 rfl rfl ?_
      refine gm_get (k := 5) (q := 46) dX6_back_43 q1399 (by decide) rfl rfl ?_
      refine g_iload_n (q := 47) dX6_back_46 rfl rfl ?_
      refine g_aload_n (q := 48) dX6_back_47 rfl rfl ?_
      refine gm_get (k := 8) (q := 51) dX6_back_48 q1402 (by decide) rfl rfl ?_
      refine g_sipush (q := 54) dX6_back_51 rfl ?_
      refine g_iload_n (q := 55) dX6_back_54 rfl rfl ?_
      refine g_imul (q := 56) dX6_back_55 rfl ?_
      refine g_iload_n (q := 57) dX6_back_56 rfl rfl ?_
      refine g_iadd (q := 58) dX6_back_57 rfl ?_
      refine g_iald (q := 59) dX6_back_58 mA8 (by omega) (by omega) rfl ?_
      refine gm_st5 (q := 60) dX6_back_59 (by omega) (by omega)  rfl ?_
      rw [e3]
      refine g_iinc (q := 63) dX6_back_60 rfl gs2 rfl ?_
      refine g_goto (t := 35) dX6_back_63 (by decide) ?_
      exact ih _ (by omega) (by omega) kk
theorem l_back1_0 (hk : 0 ≤ k ∧ k ≤ 2) (kk : GO E iX6_back d 0 0 66 [some (.ref am), some (vI k), some (vI (360))] [] (mH E G am th w hs si lo (cpyI bk iB (0) (360 * k) 360) iW iH iB iL iS tp td fv sz pa fr tk vl fk fp fsh hdt lt kl kn cp cd bp bl md sw nd mn my wd nm mv) Q) : GO E iX6_back d 0 0 35 [some (.ref am), some (vI k), some (vI (0))] [] (mH E G am th w hs si lo bk iW iH iB iL iS tp td fv sz pa fr tk vl fk fp fsh hdt lt kl kn cp cd bp bl md sw nd mn my wd nm mv) Q := by
  have := l_back1 (E := E) (d := d) (am := am) (G := G) hk 360 0 (by omega) (by omega) kk
  rw [cpyI_0] at this
  exact this
theorem c_backI (hk : 0 ≤ k ∧ k ≤ 2) (hi : in32 (iS k)) (h0 : iS k ≠ -1) : CALL E iX6_back (d + 1) 0 0 [.ref am, vI k] (mH E G am th w hs si lo bk (fl 1120 uW) (fl 2018 uH) (fl 360 uB) iL iS tp td fv sz pa fr tk vl fk fp fsh hdt lt kl kn cp cd bp bl md sw nd mn my wd nm mv) (qR (vI 0) (mH E G am th (uW k) (uH k) (iS k) (iL k) (uB k) (fl 1120 uW) (fl 2018 uH) (fl 360 uB) iL iS tp td fv sz pa fr tk vl fk fp fsh hdt lt kl kn cp cd bp bl md sw nd mn my wd nm mv)) := by
  show GO E iX6_back _ _ _ 0 [some (.ref am), some (vI k), none] [] _ _
  refine g_iload_n (q := 1) dX6_back_0 rfl rfl ?_
  refine g_i2l (q := 2) dX6_back_1 (by first | assumption | exact in32_gB | exact in32_gCmp | (unfold in32; omega)) rfl ?_
  refine g_lconst0 (q := 3) dX6_back_2 rfl ?_
  refine g_ldc2 (a := 2) (q := 6) dX6_back_3 q1513 (by decide) rfl ?_
  refine g_cs (I' := iX6_in) (mc := 0) (ms := 0) (rc := 0) (rs := 0) (q := 9) dX6_back_6 q1514 q1515 gcX6_in (c_inM (by unfold in64; omega) (by unfold in64; omega) (by unfold in64; omega)) rfl rfl ?_
  refine g_ifneB (t := 15) (q := 12) dX6_back_9 (by decide) rfl (fun c9 => ?_) (fun c9 => ?_)
  · refine g_aload_n (q := 16) dX6_back_15 rfl rfl ?_
    refine gm_get (k := 10) (q := 19) dX6_back_16 q1404 (by decide) rfl rfl ?_
    refine g_iload_n (q := 20) dX6_back_19 rfl rfl ?_
    refine g_iald (q := 21) dX6_back_20 mA10 (by omega) (by omega) rfl ?_
    refine g_iconst (q := 22) dX6_back_21 rfl ?_
    refine g_icmp_ne (t := 28) (q := 25) dX6_back_22 (by decide) rfl (by first | assumption | exact in32_gB | exact in32_gCmp | (unfold in32; omega)) (by first | assumption | exact in32_gB | exact in32_gCmp | (unfold in32; omega)) (fun c22 => ?_) (fun c22 => ?_)
    · refine g_aload_n (q := 29) dX6_back_28 rfl rfl ?_
      refine g_iload_n (q := 30) dX6_back_29 rfl rfl ?_
      refine g_cvV (I' := iX6_takeImage) (mc := 0) (ms := 0) (rc := 0) (rs := 0) (ci := 7) (q := 33) dX6_back_30 q1521 q1523 rfl qs42 gcX6_takeImage mO (c_takeImage hk) rfl rfl ?_
      refine g_iconst (q := 34) dX6_back_33 rfl ?_
      refine g_istore_n (q := 35) dX6_back_34 gs2 rfl ?_
      refine l_back1_0 hk ?_
      refine GO.heapx (mX5 (fun j h2 h3 => by rw [cpyI_in h2 (by omega), Int.sub_zero, fl_at h2 h3])) ?_
      refine g_aload_n (q := 67) dX6_back_66 rfl rfl ?_
      refine g_aload_n (q := 68) dX6_back_67 rfl rfl ?_
      refine gm_get (k := 10) (q := 71) dX6_back_68 q1404 (by decide) rfl rfl ?_
      refine g_iload_n (q := 72) dX6_back_71 rfl rfl ?_
      refine g_iald (q := 73) dX6_back_72 mA10 (by omega) (by omega) rfl ?_
      refine gm_put3 (q := 76) dX6_back_73 q1397 rfl ?_
      refine g_aload_n (q := 77) dX6_back_76 rfl rfl ?_
      refine g_aload_n (q := 78) dX6_back_77 rfl rfl ?_
      refine gm_get (k := 9) (q := 81) dX6_back_78 q1403 (by decide) rfl rfl ?_
      refine g_iload_n (q := 82) dX6_back_81 rfl rfl ?_
      refine g_iald (q := 83) dX6_back_82 mA9 (by omega) (by omega) rfl ?_
      refine gm_put4 (q := 86) dX6_back_83 q1398 rfl ?_
      refine g_iconst (q := 87) dX6_back_86 rfl ?_
      exact g_iret dX6_back_87 rfl ⟨rfl, rfl⟩
    · exact absurd c22 h0
  · exact absurd hk c9
theorem c_back_none (hk : 0 ≤ k ∧ k ≤ 2) (h0 : iS k = -1) : CALL E iX6_back (d + 1) 0 0 [.ref am, vI k] (mH E G am th w hs si lo bk iW iH iB iL iS tp td fv sz pa fr tk vl fk fp fsh hdt lt kl kn cp cd bp bl md sw nd mn my wd nm mv) (qR (vI (-6)) (mH E G am th w hs si lo bk iW iH iB iL iS tp td fv sz pa fr tk vl fk fp fsh hdt lt kl kn cp cd bp bl md sw nd mn my wd nm mv)) := by
  show GO E iX6_back _ _ _ 0 [some (.ref am), some (vI k), none] [] _ _
  refine g_iload_n (q := 1) dX6_back_0 rfl rfl ?_
  refine g_i2l (q := 2) dX6_back_1 (by first | assumption | exact in32_gB | exact in32_gCmp | (unfold in32; omega)) rfl ?_
  refine g_lconst0 (q := 3) dX6_back_2 rfl ?_
  refine g_ldc2 (a := 2) (q := 6) dX6_back_3 q1513 (by decide) rfl ?_
  refine g_cs (I' := iX6_in) (mc := 0) (ms := 0) (rc := 0) (rs := 0) (q := 9) dX6_back_6 q1514 q1515 gcX6_in (c_inM (by unfold in64; omega) (by unfold in64; omega) (by unfold in64; omega)) rfl rfl ?_
  refine g_ifneB (t := 15) (q := 12) dX6_back_9 (by decide) rfl (fun c9 => ?_) (fun c9 => ?_)
  · refine g_aload_n (q := 16) dX6_back_15 rfl rfl ?_
    refine gm_get (k := 10) (q := 19) dX6_back_16 q1404 (by decide) rfl rfl ?_
    refine g_iload_n (q := 20) dX6_back_19 rfl rfl ?_
    refine g_iald (q := 21) dX6_back_20 mA10 (by omega) (by omega) rfl ?_
    refine g_iconst (q := 22) dX6_back_21 rfl ?_
    refine g_icmp_ne (t := 28) (q := 25) dX6_back_22 (by decide) rfl (by first | assumption | exact in32_gB | exact in32_gCmp | (unfold in32; omega)) (by first | assumption | exact in32_gB | exact in32_gCmp | (unfold in32; omega)) (fun c22 => ?_) (fun c22 => ?_)
    · exact absurd h0 c22
    · refine g_bipush (q := 27) dX6_back_25 rfl ?_
      exact g_iret dX6_back_27 rfl ⟨rfl, rfl⟩
  · exact absurd hk c9
theorem c_back_bad (hr : in32 k) (hk : ¬ (0 ≤ k ∧ k ≤ 2)) : CALL E iX6_back (d + 1) 0 0 [.ref am, vI k] (mH E G am th w hs si lo bk iW iH iB iL iS tp td fv sz pa fr tk vl fk fp fsh hdt lt kl kn cp cd bp bl md sw nd mn my wd nm mv) (qR (vI (-2)) (mH E G am th w hs si lo bk iW iH iB iL iS tp td fv sz pa fr tk vl fk fp fsh hdt lt kl kn cp cd bp bl md sw nd mn my wd nm mv)) := by
  have h1 := hr.1
  have h2 := hr.2
  show GO E iX6_back _ _ _ 0 [some (.ref am), some (vI k), none] [] _ _
  refine g_iload_n (q := 1) dX6_back_0 rfl rfl ?_
  refine g_i2l (q := 2) dX6_back_1 (by first | assumption | exact in32_gB | exact in32_gCmp | (unfold in32; omega)) rfl ?_
  refine g_lconst0 (q := 3) dX6_back_2 rfl ?_
  refine g_ldc2 (a := 2) (q := 6) dX6_back_3 q1513 (by decide) rfl ?_
  refine g_cs (I' := iX6_in) (mc := 0) (ms := 0) (rc := 0) (rs := 0) (q := 9) dX6_back_6 q1514 q1515 gcX6_in (c_inM (by unfold in64; omega) (by unfold in64; omega) (by unfold in64; omega)) rfl rfl ?_
  refine g_ifneB (t := 15) (q := 12) dX6_back_9 (by decide) rfl (fun c9 => ?_) (fun c9 => ?_)
  · exact absurd c9 hk
  · refine g_bipush (q := 14) dX6_back_12 rfl ?_
    exact g_iret dX6_back_14 rfl ⟨rfl, rfl⟩
end
