/-! THE COMPONENT: small static methods -/
set_option maxRecDepth 100000
section
variable {E : gE} {d ra n : Nat} {h : gH} {s v : Int} {g : Int → Int}
theorem c_isSlotX (hr : in32 s) : CALL E iX0_isSlot (d + 1) 0 0 [vI s] h (qR (vI (gB (0 ≤ s ∧ s ≤ 3))) h) := by
  have h1 := hr.1
  have h2 := hr.2
  show GO E iX0_isSlot _ _ _ 0 [some (vI s)] [] _ _
  refine g_iload_n (q := 1) dX0_isSlot_0 rfl rfl ?_
  refine g_i2l (q := 2) dX0_isSlot_1 (by first | assumption | exact in32_gB | exact in32_gCmp | (unfold in32; omega)) rfl ?_
  refine g_lconst0 (q := 3) dX0_isSlot_2 rfl ?_
  refine g_ldc2 (a := 3) (q := 6) dX0_isSlot_3 q129 (by decide) rfl ?_
  refine g_cs (I' := iX0_in) (mc := 0) (ms := 0) (rc := 0) (rs := 0) (q := 9) dX0_isSlot_6 q130 q131 gcX0_in (c_inX (by unfold in64; omega) (by unfold in64; omega) (by unfold in64; omega)) rfl rfl ?_
  exact g_zret dX0_isSlot_9 rfl ⟨rfl, rfl⟩
theorem c_isSortX (hr : in32 s) : CALL E iX0_isSort (d + 1) 0 0 [vI s] h (qR (vI (gB (0 ≤ s ∧ s ≤ 3))) h) := by
  have h1 := hr.1
  have h2 := hr.2
  show GO E iX0_isSort _ _ _ 0 [some (vI s)] [] _ _
  refine g_iload_n (q := 1) dX0_isSort_0 rfl rfl ?_
  refine g_i2l (q := 2) dX0_isSort_1 (by first | assumption | exact in32_gB | exact in32_gCmp | (unfold in32; omega)) rfl ?_
  refine g_lconst0 (q := 3) dX0_isSort_2 rfl ?_
  refine g_ldc2 (a := 3) (q := 6) dX0_isSort_3 q129 (by decide) rfl ?_
  refine g_cs (I' := iX0_in) (mc := 0) (ms := 0) (rc := 0) (rs := 0) (q := 9) dX0_isSort_6 q130 q131 gcX0_in (c_inX (by unfold in64; omega) (by unfold in64; omega) (by unfold in64; omega)) rfl rfl ?_
  exact g_zret dX0_isSort_9 rfl ⟨rfl, rfl⟩
theorem c_areHours (hr : in32 s) : CALL E iX0_areHours (d + 1) 0 0 [vI s] h (qR (vI (gB (0 ≤ s ∧ s ≤ 200))) h) := by
  have h1 := hr.1
  have h2 := hr.2
  show GO E iX0_areHours _ _ _ 0 [some (vI s)] [] _ _
  refine g_iload_n (q := 1) dX0_areHours_0 rfl rfl ?_
  refine g_i2l (q := 2) dX0_areHours_1 (by first | assumption | exact in32_gB | exact in32_gCmp | (unfold in32; omega)) rfl ?_
  refine g_lconst0 (q := 3) dX0_areHours_2 rfl ?_
  refine g_ldc2 (a := 200) (q := 6) dX0_areHours_3 q1149 (by decide) rfl ?_
  refine g_cs (I' := iX0_in) (mc := 0) (ms := 0) (rc := 0) (rs := 0) (q := 9) dX0_areHours_6 q130 q131 gcX0_in (c_inX (by unfold in64; omega) (by unfold in64; omega) (by unfold in64; omega)) rfl rfl ?_
  exact g_zret dX0_areHours_9 rfl ⟨rfl, rfl⟩
theorem c_counted (hv : in32 v) : CALL E iX0_counted d 0 0 [vI v] h (qR (vI (orM v)) h) := by
  show GO E iX0_counted _ _ _ 0 [some (vI v)] [] _ _
  refine g_iload_n (q := 1) dX0_counted_0 rfl rfl ?_
  refine g_iconst (q := 2) dX0_counted_1 rfl ?_
  refine g_icmp_ne (t := 10) (q := 5) dX0_counted_2 (by decide) rfl (by first | assumption | exact in32_gB | exact in32_gCmp | (unfold in32; omega)) (by first | assumption | exact in32_gB | exact in32_gCmp | (unfold in32; omega)) (fun c2 => ?_) (fun c2 => ?_)
  · refine g_iload_n (q := 11) dX0_counted_10 rfl rfl ?_
    exact g_iret dX0_counted_11 rfl ⟨rI (by unfold orM; first | rw [if_pos c2] | rw [if_neg c2]), rfl⟩
  · refine g_bipush (q := 7) dX0_counted_5 rfl ?_
    refine g_goto (t := 11) dX0_counted_7 (by decide) ?_
    exact g_iret dX0_counted_11 rfl ⟨rI (by unfold orM; first | rw [if_pos c2] | rw [if_neg c2]), rfl⟩
theorem c_placeOf {w : Int → Int} {r t : Int} (hw : WFw w) (hr : 0 ≤ r) (hr1 : r < w 2) (hrc : h.1 ra = some (aI E (w (34 + 14 * r)).toNat g)) (hg : ∀ j, 0 ≤ j → j < w (34 + 14 * r) → g j = w (34 + 14 * r + 1 + j)) (ht : in32 t) : CALL E iX0_placeOf d 0 0 [.ref ra, vI t] h (qR (vI (mPlace w r t)) h) := by
  have hrw := hw.row hr hr1
  have hw1 := hw.1
  have en : (((w (34 + 14 * r)).toNat : Nat) : Int) = w (34 + 14 * r) := Int.toNat_of_nonneg (by omega)
  have loop : ∀ (f : Nat) (i : Int), 0 ≤ i → i + f = w (34 + 14 * r) → GO E iX0_placeOf d 0 0 2 [some (.ref ra), some (vI t), some (vI i)] [] h (qR (vI (plcL w r t f i)) h) := by
    intro f
    induction f with
    | zero =>
      intro i h0 h1
      refine g_iload_n (q := 3) dX0_placeOf_2 rfl rfl ?_
      refine g_aload_n (q := 4) dX0_placeOf_3 rfl rfl ?_
      refine g_alen 0 (q := 5) dX0_placeOf_4 hrc rfl rfl rfl ?_
      rw [en]
      refine g_icmp_ge (t := 23) (q := 8) dX0_placeOf_5 (by decide) rfl (by first | assumption | exact in32_gB | exact in32_gCmp | (unfold in32; omega)) (by first | assumption | exact in32_gB | exact in32_gCmp | (unfold in32; omega)) (fun c5 => ?_) (fun c5 => ?_)
      · refine g_iconst (q := 24) dX0_placeOf_23 rfl ?_
        exact g_iret dX0_placeOf_24 rfl ⟨rfl, rfl⟩
      · exact absurd c5 (by omega)
    | succ f ih =>
      intro i h0 h1
      have eg := hg i h0 (by omega)
      have hth := hw.thing hr hr1 h0 (show i < w (34 + 14 * r) by omega)
      unfold plcL
      refine g_iload_n (q := 3) dX0_placeOf_2 rfl rfl ?_
      refine g_aload_n (q := 4) dX0_placeOf_3 rfl rfl ?_
      refine g_alen 0 (q := 5) dX0_placeOf_4 hrc rfl rfl rfl ?_
      rw [en]
      refine g_icmp_ge (t := 23) (q := 8) dX0_placeOf_5 (by decide) rfl (by first | assumption | exact in32_gB | exact in32_gCmp | (unfold in32; omega)) (by first | assumption | exact in32_gB | exact in32_gCmp | (unfold in32; omega)) (fun c5 => ?_) (fun c5 => ?_)
      · exact absurd c5 (by omega)
      · refine g_aload_n (q := 9) dX0_placeOf_8 rfl rfl ?_
        refine g_iload_n (q := 10) dX0_placeOf_9 rfl rfl ?_
        refine g_iald (q := 11) dX0_placeOf_10 hrc (by omega) (by omega) rfl ?_
        rw [eg]
        refine g_iload_n (q := 12) dX0_placeOf_11 rfl rfl ?_
        refine g_icmp_ne (t := 17) (q := 15) dX0_placeOf_12 (by decide) rfl (by first | assumption | exact in32_gB | exact in32_gCmp | (unfold in32; omega)) (by first | assumption | exact in32_gB | exact in32_gCmp | (unfold in32; omega)) (fun c12 => ?_) (fun c12 => ?_)
        · refine g_iinc (q := 20) dX0_placeOf_17 rfl gs2 rfl ?_
          refine g_goto (t := 2) dX0_placeOf_20 (by decide) ?_
          rw [if_neg c12]; exact ih _ (by omega) (by omega)
        · refine g_iload_n (q := 16) dX0_placeOf_15 rfl rfl ?_
          exact g_iret dX0_placeOf_16 rfl ⟨rI (by rw [if_pos c12]), rfl⟩
  show GO E iX0_placeOf _ _ _ 0 [some (.ref ra), some (vI t), none] [] _ _
  refine g_iconst (q := 1) dX0_placeOf_0 rfl ?_
  refine g_istore_n (q := 2) dX0_placeOf_1 gs2 rfl ?_
  exact loop (w (34 + 14 * r)).toNat 0 (by omega) (by omega)
end
