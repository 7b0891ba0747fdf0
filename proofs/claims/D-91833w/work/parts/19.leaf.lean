/-! LEAVES: comparing longs, Math, in -/
set_option maxRecDepth 100000
theorem in32_gCmp {a b : Int} : in32 (gCmp a b) := by
  unfold in32 gCmp
  (repeat' split) <;> omega
section Rows
variable {E : gE} {I : gI} {d rc rs pc q t : Nat} {lv : List (Option Value)} {st : List Value} {h : gH} {Q : Outcome → gH → Prop} {a b : Int}
theorem g_cif_lt {off : Int} (hd : decode I.2.1 pc = .ok (.ifCond .lt off, 3)) (ht : (pc : Int) + off = (t : Int)) (hq : pc + 3 = q) (k1 : a < b → GO E I d rc rs t lv st h Q) (k2 : b ≤ a → GO E I d rc rs q lv st h Q) : GO E I d rc rs pc lv (vI (gCmp a b) :: st) h Q := by
  refine g_if_lt hd ht hq in32_gCmp (fun c => k1 ?_) (fun c => k2 ?_)
  all_goals (unfold gCmp at c; (repeat' split at c) <;> omega)
theorem g_cif_le {off : Int} (hd : decode I.2.1 pc = .ok (.ifCond .le off, 3)) (ht : (pc : Int) + off = (t : Int)) (hq : pc + 3 = q) (k1 : a ≤ b → GO E I d rc rs t lv st h Q) (k2 : b < a → GO E I d rc rs q lv st h Q) : GO E I d rc rs pc lv (vI (gCmp a b) :: st) h Q := by
  refine g_if_le hd ht hq in32_gCmp (fun c => k1 ?_) (fun c => k2 ?_)
  all_goals (unfold gCmp at c; (repeat' split at c) <;> omega)
theorem g_cif_gt {off : Int} (hd : decode I.2.1 pc = .ok (.ifCond .gt off, 3)) (ht : (pc : Int) + off = (t : Int)) (hq : pc + 3 = q) (k1 : b < a → GO E I d rc rs t lv st h Q) (k2 : a ≤ b → GO E I d rc rs q lv st h Q) : GO E I d rc rs pc lv (vI (gCmp a b) :: st) h Q := by
  refine g_if_gt hd ht hq in32_gCmp (fun c => k1 ?_) (fun c => k2 ?_)
  all_goals (unfold gCmp at c; (repeat' split at c) <;> omega)
theorem g_cif_ge {off : Int} (hd : decode I.2.1 pc = .ok (.ifCond .ge off, 3)) (ht : (pc : Int) + off = (t : Int)) (hq : pc + 3 = q) (k1 : b ≤ a → GO E I d rc rs t lv st h Q) (k2 : a < b → GO E I d rc rs q lv st h Q) : GO E I d rc rs pc lv (vI (gCmp a b) :: st) h Q := by
  refine g_if_ge hd ht hq in32_gCmp (fun c => k1 ?_) (fun c => k2 ?_)
  all_goals (unfold gCmp at c; (repeat' split at c) <;> omega)
theorem g_cif_eq {off : Int} (hd : decode I.2.1 pc = .ok (.ifCond .eq off, 3)) (ht : (pc : Int) + off = (t : Int)) (hq : pc + 3 = q) (k1 : a = b → GO E I d rc rs t lv st h Q) (k2 : ¬ a = b → GO E I d rc rs q lv st h Q) : GO E I d rc rs pc lv (vI (gCmp a b) :: st) h Q := by
  refine g_if_eq hd ht hq in32_gCmp (fun c => k1 ?_) (fun c => k2 ?_)
  all_goals (unfold gCmp at c; (repeat' split at c) <;> omega)
theorem g_cif_ne {off : Int} (hd : decode I.2.1 pc = .ok (.ifCond .ne off, 3)) (ht : (pc : Int) + off = (t : Int)) (hq : pc + 3 = q) (k1 : ¬ a = b → GO E I d rc rs t lv st h Q) (k2 : a = b → GO E I d rc rs q lv st h Q) : GO E I d rc rs pc lv (vI (gCmp a b) :: st) h Q := by
  refine g_if_ne hd ht hq in32_gCmp (fun c => k1 ?_) (fun c => k2 ?_)
  all_goals (unfold gCmp at c; (repeat' split at c) <;> omega)
end Rows
section Leaf
variable {E : gE} {d : Nat} {h : gH} {a b v : Int}
theorem c_min (ha : in32 a) (hb : in32 b) : CALL E iJ3_min d 0 0 [vI a, vI b] h (qR (vI (min a b)) h) := by
  show GO E iJ3_min _ _ _ 0 [some (vI a), some (vI b)] [] _ _
  refine g_iload_n (q := 1) dJ3_min_0 rfl rfl ?_
  refine g_iload_n (q := 2) dJ3_min_1 rfl rfl ?_
  refine g_icmp_gt (t := 9) (q := 5) dJ3_min_2 (by decide) rfl (by first | assumption | exact in32_gB | exact in32_gCmp | (unfold in32; omega)) (by first | assumption | exact in32_gB | exact in32_gCmp | (unfold in32; omega)) (fun c2 => ?_) (fun c2 => ?_)
  · refine g_iload_n (q := 10) dJ3_min_9 rfl rfl ?_
    exact g_iret dJ3_min_10 rfl ⟨rI (by omega), rfl⟩
  · refine g_iload_n (q := 6) dJ3_min_5 rfl rfl ?_
    refine g_goto (t := 10) dJ3_min_6 (by decide) ?_
    exact g_iret dJ3_min_10 rfl ⟨rI (by omega), rfl⟩
theorem c_minL (ha : in64 a) (hb : in64 b) : CALL E iJ3_min_2 d 0 0 [vL a, vL b] h (qR (vL (min a b)) h) := by
  show GO E iJ3_min_2 _ _ _ 0 [some (vL a), none, some (vL b), none] [] _ _
  refine g_lload_n (q := 1) dJ3_min_2_0 rfl rfl ?_
  refine g_lload_n (q := 2) dJ3_min_2_1 rfl rfl ?_
  refine g_lcmp (q := 3) dJ3_min_2_2 (by first | assumption | (unfold in64; omega)) (by first | assumption | (unfold in64; omega)) rfl ?_
  refine g_cif_gt (t := 10) (q := 6) dJ3_min_2_3 (by decide) rfl (fun c3 => ?_) (fun c3 => ?_)
  · refine g_lload_n (q := 11) dJ3_min_2_10 rfl rfl ?_
    exact g_lret dJ3_min_2_11 rfl ⟨rL (by omega), rfl⟩
  · refine g_lload_n (q := 7) dJ3_min_2_6 rfl rfl ?_
    refine g_goto (t := 11) dJ3_min_2_7 (by decide) ?_
    exact g_lret dJ3_min_2_11 rfl ⟨rL (by omega), rfl⟩
theorem c_maxL (ha : in64 a) (hb : in64 b) : CALL E iJ3_max_2 d 0 0 [vL a, vL b] h (qR (vL (max a b)) h) := by
  show GO E iJ3_max_2 _ _ _ 0 [some (vL a), none, some (vL b), none] [] _ _
  refine g_lload_n (q := 1) dJ3_max_2_0 rfl rfl ?_
  refine g_lload_n (q := 2) dJ3_max_2_1 rfl rfl ?_
  refine g_lcmp (q := 3) dJ3_max_2_2 (by first | assumption | (unfold in64; omega)) (by first | assumption | (unfold in64; omega)) rfl ?_
  refine g_cif_lt (t := 10) (q := 6) dJ3_max_2_3 (by decide) rfl (fun c3 => ?_) (fun c3 => ?_)
  · refine g_lload_n (q := 11) dJ3_max_2_10 rfl rfl ?_
    exact g_lret dJ3_max_2_11 rfl ⟨rL (by omega), rfl⟩
  · refine g_lload_n (q := 7) dJ3_max_2_6 rfl rfl ?_
    refine g_goto (t := 11) dJ3_max_2_7 (by decide) ?_
    exact g_lret dJ3_max_2_11 rfl ⟨rL (by omega), rfl⟩
theorem c_abs (ha : in32 a) (hb : -2147483648 < a) : CALL E iJ3_abs d 0 0 [vI a] h (qR (vI (a.natAbs : Int)) h) := by
  show GO E iJ3_abs _ _ _ 0 [some (vI a)] [] _ _
  refine g_iload_n (q := 1) dJ3_abs_0 rfl rfl ?_
  refine g_if_ge (t := 9) (q := 4) dJ3_abs_1 (by decide) rfl (by first | assumption | exact in32_gB | exact in32_gCmp | (unfold in32; omega)) (fun c1 => ?_) (fun c1 => ?_)
  · refine g_iload_n (q := 10) dJ3_abs_9 rfl rfl ?_
    exact g_iret dJ3_abs_10 rfl ⟨rI (by omega), rfl⟩
  · refine g_iload_n (q := 5) dJ3_abs_4 rfl rfl ?_
    refine g_ineg (q := 6) dJ3_abs_5 rfl ?_
    refine g_goto (t := 10) dJ3_abs_6 (by decide) ?_
    exact g_iret dJ3_abs_10 rfl ⟨rI (by omega), rfl⟩
theorem c_inM (hv : in64 v) (ha : in64 a) (hb : in64 b) : CALL E iX6_in d 0 0 [vL v, vL a, vL b] h (qR (vI (gB (a ≤ v ∧ v ≤ b))) h) := by
  show GO E iX6_in _ _ _ 0 [some (vL v), none, some (vL a), none, some (vL b), none] [] _ _
  refine g_lload_n (q := 1) dX6_in_0 rfl rfl ?_
  refine g_lload_n (q := 2) dX6_in_1 rfl rfl ?_
  refine g_lcmp (q := 3) dX6_in_2 (by first | assumption | (unfold in64; omega)) (by first | assumption | (unfold in64; omega)) rfl ?_
  refine g_cif_lt (t := 17) (q := 6) dX6_in_3 (by decide) rfl (fun c3 => ?_) (fun c3 => ?_)
  · refine g_iconst (q := 18) dX6_in_17 rfl ?_
    exact g_zret0 dX6_in_18 rfl ⟨by rw [gB_f (by first | assumption | omega)], rfl⟩
  · refine g_lload_n (q := 7) dX6_in_6 rfl rfl ?_
    refine g_lload (q := 9) dX6_in_7 rfl rfl ?_
    refine g_lcmp (q := 10) dX6_in_9 (by first | assumption | (unfold in64; omega)) (by first | assumption | (unfold in64; omega)) rfl ?_
    refine g_cif_gt (t := 17) (q := 13) dX6_in_10 (by decide) rfl (fun c10 => ?_) (fun c10 => ?_)
    · refine g_iconst (q := 18) dX6_in_17 rfl ?_
      exact g_zret0 dX6_in_18 rfl ⟨by rw [gB_f (by first | assumption | omega)], rfl⟩
    · refine g_iconst (q := 14) dX6_in_13 rfl ?_
      refine g_goto (t := 18) dX6_in_14 (by decide) ?_
      exact g_zret1 dX6_in_18 rfl ⟨by rw [gB_t (by first | assumption | omega)], rfl⟩
theorem c_inX (hv : in64 v) (ha : in64 a) (hb : in64 b) : CALL E iX0_in d 0 0 [vL v, vL a, vL b] h (qR (vI (gB (a ≤ v ∧ v ≤ b))) h) := by
  show GO E iX0_in _ _ _ 0 [some (vL v), none, some (vL a), none, some (vL b), none] [] _ _
  refine g_lload_n (q := 1) dX0_in_0 rfl rfl ?_
  refine g_lload_n (q := 2) dX0_in_1 rfl rfl ?_
  refine g_lcmp (q := 3) dX0_in_2 (by first | assumption | (unfold in64; omega)) (by first | assumption | (unfold in64; omega)) rfl ?_
  refine g_cif_lt (t := 17) (q := 6) dX0_in_3 (by decide) rfl (fun c3 => ?_) (fun c3 => ?_)
  · refine g_iconst (q := 18) dX0_in_17 rfl ?_
    exact g_zret0 dX0_in_18 rfl ⟨by rw [gB_f (by first | assumption | omega)], rfl⟩
  · refine g_lload_n (q := 7) dX0_in_6 rfl rfl ?_
    refine g_lload (q := 9) dX0_in_7 rfl rfl ?_
    refine g_lcmp (q := 10) dX0_in_9 (by first | assumption | (unfold in64; omega)) (by first | assumption | (unfold in64; omega)) rfl ?_
    refine g_cif_gt (t := 17) (q := 13) dX0_in_10 (by decide) rfl (fun c10 => ?_) (fun c10 => ?_)
    · refine g_iconst (q := 18) dX0_in_17 rfl ?_
      exact g_zret0 dX0_in_18 rfl ⟨by rw [gB_f (by first | assumption | omega)], rfl⟩
    · refine g_iconst (q := 14) dX0_in_13 rfl ?_
      refine g_goto (t := 18) dX0_in_14 (by decide) ?_
      exact g_zret1 dX0_in_18 rfl ⟨by rw [gB_t (by first | assumption | omega)], rfl⟩
end Leaf
