/-! THE COMPONENT: Slot, what it tells -/
set_option maxRecDepth 100000
theorem nc_SB : Cond.not (.castable "[S" "[B") ∈ cjs narrow_1 := nw_seg (n := 173) (L := [Cond.not (.castable "[S" "[B")]) rfl _ (List.mem_singleton.mpr rfl)
theorem nc_IB : Cond.not (.castable "[I" "[B") ∈ cjs narrow_1 := nw_seg (n := 174) (L := [Cond.not (.castable "[I" "[B")]) rfl _ (List.mem_singleton.mpr rfl)
theorem nc_JB : Cond.not (.castable "[J" "[B") ∈ cjs narrow_1 := nw_seg (n := 175) (L := [Cond.not (.castable "[J" "[B")]) rfl _ (List.mem_singleton.mpr rfl)
theorem nc_IS : Cond.not (.castable "[I" "[S") ∈ cjs narrow_1 := nw_seg (n := 208) (L := [Cond.not (.castable "[I" "[S")]) rfl _ (List.mem_singleton.mpr rfl)
theorem nc_JS : Cond.not (.castable "[J" "[S") ∈ cjs narrow_1 := nw_seg (n := 209) (L := [Cond.not (.castable "[J" "[S")]) rfl _ (List.mem_singleton.mpr rfl)
theorem nc_JI : Cond.not (.castable "[J" "[I") ∈ cjs narrow_1 := nw_seg (n := 243) (L := [Cond.not (.castable "[J" "[I")]) rfl _ (List.mem_singleton.mpr rfl)
section
variable {E : gE} {d a b n : Nat} {h : gH} {g : Int → Int} {j c : Int}
theorem c_manyB (hb : h.1 b = some (oB 6 [.ref a])) (ha : h.1 a = some (aB E n g)) : CALL E iX5_many d 0 0 [.ref b] h (qR (vI n) h) := by
  show GO E iX5_many _ _ _ 0 [some (.ref b)] [] _ _
  refine g_aload_n (q := 1) dX5_many_0 rfl rfl ?_
  refine g_get (C := RX5) (T := TX5) (ci := 6) (k := 0) (q := 4) dX5_many_1 q513 rfl in_X5 (by decide) hb rfl rfl ?_
  refine g_inst1 (q := 7) dX5_many_4 q285 ha anm1 rfl ?_
  refine g_if_eq (t := 19) (q := 10) dX5_many_7 (by decide) rfl (by first | assumption | exact in32_gB | exact in32_gCmp | (unfold in32; omega)) (fun c7 => absurd c7 (by decide)) (fun c7 => ?_)
  refine g_aload_n (q := 11) dX5_many_10 rfl rfl ?_
  refine g_get (C := RX5) (T := TX5) (ci := 6) (k := 0) (q := 14) dX5_many_11 q513 rfl in_X5 (by decide) hb rfl rfl ?_
  refine g_castR (q := 17) dX5_many_14 q285 ha anm1 rfl ?_
  refine g_alen 1 (q := 18) dX5_many_17 ha rfl rfl rfl ?_
  exact g_iret dX5_many_18 rfl ⟨rfl, rfl⟩
theorem c_widthB (hb : h.1 b = some (oB 6 [.ref a])) (ha : h.1 a = some (aB E n g)) : CALL E iX5_width d 0 0 [.ref b] h (qR (vI 0) h) := by
  show GO E iX5_width _ _ _ 0 [some (.ref b)] [] _ _
  refine g_aload_n (q := 1) dX5_width_0 rfl rfl ?_
  refine g_get (C := RX5) (T := TX5) (ci := 6) (k := 0) (q := 4) dX5_width_1 q513 rfl in_X5 (by decide) hb rfl rfl ?_
  refine g_inst1 (q := 7) dX5_width_4 q285 ha anm1 rfl ?_
  refine g_if_eq (t := 14) (q := 10) dX5_width_7 (by decide) rfl (by first | assumption | exact in32_gB | exact in32_gCmp | (unfold in32; omega)) (fun c7 => absurd c7 (by decide)) (fun c7 => ?_)
  refine g_iconst (q := 11) dX5_width_10 rfl ?_
  refine g_goto (t := 43) dX5_width_11 (by decide) ?_
  exact g_iret dX5_width_43 rfl ⟨rfl, rfl⟩
theorem c_numberB (hb : h.1 b = some (oB 6 [.ref a])) (ha : h.1 a = some (aB E n g)) (hj : 0 ≤ j ∧ j < n) (hn : n < 1000) (hg : in32 (g j)) : CALL E iX5_number d 0 0 [.ref b, vI j] h (qR (vL (g j)) h) := by
  show GO E iX5_number _ _ _ 0 [some (.ref b), some (vI j)] [] _ _
  refine g_aload_n (q := 1) dX5_number_0 rfl rfl ?_
  refine g_get (C := RX5) (T := TX5) (ci := 6) (k := 0) (q := 4) dX5_number_1 q513 rfl in_X5 (by decide) hb rfl rfl ?_
  refine g_inst1 (q := 7) dX5_number_4 q285 ha anm1 rfl ?_
  refine g_if_eq (t := 21) (q := 10) dX5_number_7 (by decide) rfl (by first | assumption | exact in32_gB | exact in32_gCmp | (unfold in32; omega)) (fun c7 => absurd c7 (by decide)) (fun c7 => ?_)
  refine g_aload_n (q := 11) dX5_number_10 rfl rfl ?_
  refine g_get (C := RX5) (T := TX5) (ci := 6) (k := 0) (q := 14) dX5_number_11 q513 rfl in_X5 (by decide) hb rfl rfl ?_
  refine g_castR (q := 17) dX5_number_14 q285 ha anm1 rfl ?_
  refine g_iload_n (q := 18) dX5_number_17 rfl rfl ?_
  refine g_bald (q := 19) dX5_number_18 ha (by omega) (by omega) rfl ?_
  refine g_i2l (q := 20) dX5_number_19 (by first | assumption | exact in32_gB | exact in32_gCmp | (unfold in32; omega)) rfl ?_
  exact g_lret dX5_number_20 rfl ⟨rfl, rfl⟩
theorem c_manyS (hb : h.1 b = some (oB 6 [.ref a])) (ha : h.1 a = some (aS E n g)) : CALL E iX5_many d 0 0 [.ref b] h (qR (vI n) h) := by
  show GO E iX5_many _ _ _ 0 [some (.ref b)] [] _ _
  refine g_aload_n (q := 1) dX5_many_0 rfl rfl ?_
  refine g_get (C := RX5) (T := TX5) (ci := 6) (k := 0) (q := 4) dX5_many_1 q513 rfl in_X5 (by decide) hb rfl rfl ?_
  refine g_inst0 (q := 7) dX5_many_4 q285 ha anm2 nc_SB rfl ?_
  refine g_if_eq (t := 19) (q := 10) dX5_many_7 (by decide) rfl (by first | assumption | exact in32_gB | exact in32_gCmp | (unfold in32; omega)) (fun c7 => ?_) (fun c7 => absurd c7 (by decide))
  refine g_aload_n (q := 20) dX5_many_19 rfl rfl ?_
  refine g_get (C := RX5) (T := TX5) (ci := 6) (k := 0) (q := 23) dX5_many_20 q513 rfl in_X5 (by decide) hb rfl rfl ?_
  refine g_inst1 (q := 26) dX5_many_23 q286 ha anm2 rfl ?_
  refine g_if_eq (t := 38) (q := 29) dX5_many_26 (by decide) rfl (by first | assumption | exact in32_gB | exact in32_gCmp | (unfold in32; omega)) (fun c26 => absurd c26 (by decide)) (fun c26 => ?_)
  refine g_aload_n (q := 30) dX5_many_29 rfl rfl ?_
  refine g_get (C := RX5) (T := TX5) (ci := 6) (k := 0) (q := 33) dX5_many_30 q513 rfl in_X5 (by decide) hb rfl rfl ?_
  refine g_castR (q := 36) dX5_many_33 q286 ha anm2 rfl ?_
  refine g_alen 2 (q := 37) dX5_many_36 ha rfl rfl rfl ?_
  exact g_iret dX5_many_37 rfl ⟨rfl, rfl⟩
theorem c_widthS (hb : h.1 b = some (oB 6 [.ref a])) (ha : h.1 a = some (aS E n g)) : CALL E iX5_width d 0 0 [.ref b] h (qR (vI 1) h) := by
  show GO E iX5_width _ _ _ 0 [some (.ref b)] [] _ _
  refine g_aload_n (q := 1) dX5_width_0 rfl rfl ?_
  refine g_get (C := RX5) (T := TX5) (ci := 6) (k := 0) (q := 4) dX5_width_1 q513 rfl in_X5 (by decide) hb rfl rfl ?_
  refine g_inst0 (q := 7) dX5_width_4 q285 ha anm2 nc_SB rfl ?_
  refine g_if_eq (t := 14) (q := 10) dX5_width_7 (by decide) rfl (by first | assumption | exact in32_gB | exact in32_gCmp | (unfold in32; omega)) (fun c7 => ?_) (fun c7 => absurd c7 (by decide))
  refine g_aload_n (q := 15) dX5_width_14 rfl rfl ?_
  refine g_get (C := RX5) (T := TX5) (ci := 6) (k := 0) (q := 18) dX5_width_15 q513 rfl in_X5 (by decide) hb rfl rfl ?_
  refine g_inst1 (q := 21) dX5_width_18 q286 ha anm2 rfl ?_
  refine g_if_eq (t := 28) (q := 24) dX5_width_21 (by decide) rfl (by first | assumption | exact in32_gB | exact in32_gCmp | (unfold in32; omega)) (fun c21 => absurd c21 (by decide)) (fun c21 => ?_)
  refine g_iconst (q := 25) dX5_width_24 rfl ?_
  refine g_goto (t := 43) dX5_width_25 (by decide) ?_
  exact g_iret dX5_width_43 rfl ⟨rfl, rfl⟩
theorem c_numberS (hb : h.1 b = some (oB 6 [.ref a])) (ha : h.1 a = some (aS E n g)) (hj : 0 ≤ j ∧ j < n) (hn : n < 1000) (hg : in32 (g j)) : CALL E iX5_number d 0 0 [.ref b, vI j] h (qR (vL (g j)) h) := by
  show GO E iX5_number _ _ _ 0 [some (.ref b), some (vI j)] [] _ _
  refine g_aload_n (q := 1) dX5_number_0 rfl rfl ?_
  refine g_get (C := RX5) (T := TX5) (ci := 6) (k := 0) (q := 4) dX5_number_1 q513 rfl in_X5 (by decide) hb rfl rfl ?_
  refine g_inst0 (q := 7) dX5_number_4 q285 ha anm2 nc_SB rfl ?_
  refine g_if_eq (t := 21) (q := 10) dX5_number_7 (by decide) rfl (by first | assumption | exact in32_gB | exact in32_gCmp | (unfold in32; omega)) (fun c7 => ?_) (fun c7 => absurd c7 (by decide))
  refine g_aload_n (q := 22) dX5_number_21 rfl rfl ?_
  refine g_get (C := RX5) (T := TX5) (ci := 6) (k := 0) (q := 25) dX5_number_22 q513 rfl in_X5 (by decide) hb rfl rfl ?_
  refine g_inst1 (q := 28) dX5_number_25 q286 ha anm2 rfl ?_
  refine g_if_eq (t := 42) (q := 31) dX5_number_28 (by decide) rfl (by first | assumption | exact in32_gB | exact in32_gCmp | (unfold in32; omega)) (fun c28 => absurd c28 (by decide)) (fun c28 => ?_)
  refine g_aload_n (q := 32) dX5_number_31 rfl rfl ?_
  refine g_get (C := RX5) (T := TX5) (ci := 6) (k := 0) (q := 35) dX5_number_32 q513 rfl in_X5 (by decide) hb rfl rfl ?_
  refine g_castR (q := 38) dX5_number_35 q286 ha anm2 rfl ?_
  refine g_iload_n (q := 39) dX5_number_38 rfl rfl ?_
  refine g_sald (q := 40) dX5_number_39 ha (by omega) (by omega) rfl ?_
  refine g_i2l (q := 41) dX5_number_40 (by first | assumption | exact in32_gB | exact in32_gCmp | (unfold in32; omega)) rfl ?_
  exact g_lret dX5_number_41 rfl ⟨rfl, rfl⟩
theorem c_manyI (hb : h.1 b = some (oB 6 [.ref a])) (ha : h.1 a = some (aI E n g)) : CALL E iX5_many d 0 0 [.ref b] h (qR (vI n) h) := by
  show GO E iX5_many _ _ _ 0 [some (.ref b)] [] _ _
  refine g_aload_n (q := 1) dX5_many_0 rfl rfl ?_
  refine g_get (C := RX5) (T := TX5) (ci := 6) (k := 0) (q := 4) dX5_many_1 q513 rfl in_X5 (by decide) hb rfl rfl ?_
  refine g_inst0 (q := 7) dX5_many_4 q285 ha anm0 nc_IB rfl ?_
  refine g_if_eq (t := 19) (q := 10) dX5_many_7 (by decide) rfl (by first | assumption | exact in32_gB | exact in32_gCmp | (unfold in32; omega)) (fun c7 => ?_) (fun c7 => absurd c7 (by decide))
  refine g_aload_n (q := 20) dX5_many_19 rfl rfl ?_
  refine g_get (C := RX5) (T := TX5) (ci := 6) (k := 0) (q := 23) dX5_many_20 q513 rfl in_X5 (by decide) hb rfl rfl ?_
  refine g_inst0 (q := 26) dX5_many_23 q286 ha anm0 nc_IS rfl ?_
  refine g_if_eq (t := 38) (q := 29) dX5_many_26 (by decide) rfl (by first | assumption | exact in32_gB | exact in32_gCmp | (unfold in32; omega)) (fun c26 => ?_) (fun c26 => absurd c26 (by decide))
  refine g_aload_n (q := 39) dX5_many_38 rfl rfl ?_
  refine g_get (C := RX5) (T := TX5) (ci := 6) (k := 0) (q := 42) dX5_many_39 q513 rfl in_X5 (by decide) hb rfl rfl ?_
  refine g_inst1 (q := 45) dX5_many_42 q305 ha anm0 rfl ?_
  refine g_if_eq (t := 59) (q := 48) dX5_many_45 (by decide) rfl (by first | assumption | exact in32_gB | exact in32_gCmp | (unfold in32; omega)) (fun c45 => absurd c45 (by decide)) (fun c45 => ?_)
  refine g_aload_n (q := 49) dX5_many_48 rfl rfl ?_
  refine g_get (C := RX5) (T := TX5) (ci := 6) (k := 0) (q := 52) dX5_many_49 q513 rfl in_X5 (by decide) hb rfl rfl ?_
  refine g_castR (q := 55) dX5_many_52 q305 ha anm0 rfl ?_
  refine g_alen 0 (q := 56) dX5_many_55 ha rfl rfl rfl ?_
  refine g_goto (t := 67) dX5_many_56 (by decide) ?_
  exact g_iret dX5_many_67 rfl ⟨rfl, rfl⟩
theorem c_widthI (hb : h.1 b = some (oB 6 [.ref a])) (ha : h.1 a = some (aI E n g)) : CALL E iX5_width d 0 0 [.ref b] h (qR (vI 2) h) := by
  show GO E iX5_width _ _ _ 0 [some (.ref b)] [] _ _
  refine g_aload_n (q := 1) dX5_width_0 rfl rfl ?_
  refine g_get (C := RX5) (T := TX5) (ci := 6) (k := 0) (q := 4) dX5_width_1 q513 rfl in_X5 (by decide) hb rfl rfl ?_
  refine g_inst0 (q := 7) dX5_width_4 q285 ha anm0 nc_IB rfl ?_
  refine g_if_eq (t := 14) (q := 10) dX5_width_7 (by decide) rfl (by first | assumption | exact in32_gB | exact in32_gCmp | (unfold in32; omega)) (fun c7 => ?_) (fun c7 => absurd c7 (by decide))
  refine g_aload_n (q := 15) dX5_width_14 rfl rfl ?_
  refine g_get (C := RX5) (T := TX5) (ci := 6) (k := 0) (q := 18) dX5_width_15 q513 rfl in_X5 (by decide) hb rfl rfl ?_
  refine g_inst0 (q := 21) dX5_width_18 q286 ha anm0 nc_IS rfl ?_
  refine g_if_eq (t := 28) (q := 24) dX5_width_21 (by decide) rfl (by first | assumption | exact in32_gB | exact in32_gCmp | (unfold in32; omega)) (fun c21 => ?_) (fun c21 => absurd c21 (by decide))
  refine g_aload_n (q := 29) dX5_width_28 rfl rfl ?_
  refine g_get (C := RX5) (T := TX5) (ci := 6) (k := 0) (q := 32) dX5_width_29 q513 rfl in_X5 (by decide) hb rfl rfl ?_
  refine g_inst1 (q := 35) dX5_width_32 q305 ha anm0 rfl ?_
  refine g_if_eq (t := 42) (q := 38) dX5_width_35 (by decide) rfl (by first | assumption | exact in32_gB | exact in32_gCmp | (unfold in32; omega)) (fun c35 => absurd c35 (by decide)) (fun c35 => ?_)
  refine g_iconst (q := 39) dX5_width_38 rfl ?_
  refine g_goto (t := 43) dX5_width_39 (by decide) ?_
  exact g_iret dX5_width_43 rfl ⟨rfl, rfl⟩
theorem c_numberI (hb : h.1 b = some (oB 6 [.ref a])) (ha : h.1 a = some (aI E n g)) (hj : 0 ≤ j ∧ j < n) (hn : n < 1000) (hg : in32 (g j)) : CALL E iX5_number d 0 0 [.ref b, vI j] h (qR (vL (g j)) h) := by
  show GO E iX5_number _ _ _ 0 [some (.ref b), some (vI j)] [] _ _
  refine g_aload_n (q := 1) dX5_number_0 rfl rfl ?_
  refine g_get (C := RX5) (T := TX5) (ci := 6) (k := 0) (q := 4) dX5_number_1 q513 rfl in_X5 (by decide) hb rfl rfl ?_
  refine g_inst0 (q := 7) dX5_number_4 q285 ha anm0 nc_IB rfl ?_
  refine g_if_eq (t := 21) (q := 10) dX5_number_7 (by decide) rfl (by first | assumption | exact in32_gB | exact in32_gCmp | (unfold in32; omega)) (fun c7 => ?_) (fun c7 => absurd c7 (by decide))
  refine g_aload_n (q := 22) dX5_number_21 rfl rfl ?_
  refine g_get (C := RX5) (T := TX5) (ci := 6) (k := 0) (q := 25) dX5_number_22 q513 rfl in_X5 (by decide) hb rfl rfl ?_
  refine g_inst0 (q := 28) dX5_number_25 q286 ha anm0 nc_IS rfl ?_
  refine g_if_eq (t := 42) (q := 31) dX5_number_28 (by decide) rfl (by first | assumption | exact in32_gB | exact in32_gCmp | (unfold in32; omega)) (fun c28 => ?_) (fun c28 => absurd c28 (by decide))
  refine g_aload_n (q := 43) dX5_number_42 rfl rfl ?_
  refine g_get (C := RX5) (T := TX5) (ci := 6) (k := 0) (q := 46) dX5_number_43 q513 rfl in_X5 (by decide) hb rfl rfl ?_
  refine g_inst1 (q := 49) dX5_number_46 q305 ha anm0 rfl ?_
  refine g_if_eq (t := 65) (q := 52) dX5_number_49 (by decide) rfl (by first | assumption | exact in32_gB | exact in32_gCmp | (unfold in32; omega)) (fun c49 => absurd c49 (by decide)) (fun c49 => ?_)
  refine g_aload_n (q := 53) dX5_number_52 rfl rfl ?_
  refine g_get (C := RX5) (T := TX5) (ci := 6) (k := 0) (q := 56) dX5_number_53 q513 rfl in_X5 (by decide) hb rfl rfl ?_
  refine g_castR (q := 59) dX5_number_56 q305 ha anm0 rfl ?_
  refine g_iload_n (q := 60) dX5_number_59 rfl rfl ?_
  refine g_iald (q := 61) dX5_number_60 ha (by omega) (by omega) rfl ?_
  refine g_i2l (q := 62) dX5_number_61 (by first | assumption | exact in32_gB | exact in32_gCmp | (unfold in32; omega)) rfl ?_
  refine g_goto (t := 74) dX5_number_62 (by decide) ?_
  exact g_lret dX5_number_74 rfl ⟨rfl, rfl⟩
theorem c_manyJ (hb : h.1 b = some (oB 6 [.ref a])) (ha : h.1 a = some (aL E n g)) : CALL E iX5_many d 0 0 [.ref b] h (qR (vI n) h) := by
  show GO E iX5_many _ _ _ 0 [some (.ref b)] [] _ _
  refine g_aload_n (q := 1) dX5_many_0 rfl rfl ?_
  refine g_get (C := RX5) (T := TX5) (ci := 6) (k := 0) (q := 4) dX5_many_1 q513 rfl in_X5 (by decide) hb rfl rfl ?_
  refine g_inst0 (q := 7) dX5_many_4 q285 ha anm3 nc_JB rfl ?_
  refine g_if_eq (t := 19) (q := 10) dX5_many_7 (by decide) rfl (by first | assumption | exact in32_gB | exact in32_gCmp | (unfold in32; omega)) (fun c7 => ?_) (fun c7 => absurd c7 (by decide))
  refine g_aload_n (q := 20) dX5_many_19 rfl rfl ?_
  refine g_get (C := RX5) (T := TX5) (ci := 6) (k := 0) (q := 23) dX5_many_20 q513 rfl in_X5 (by decide) hb rfl rfl ?_
  refine g_inst0 (q := 26) dX5_many_23 q286 ha anm3 nc_JS rfl ?_
  refine g_if_eq (t := 38) (q := 29) dX5_many_26 (by decide) rfl (by first | assumption | exact in32_gB | exact in32_gCmp | (unfold in32; omega)) (fun c26 => ?_) (fun c26 => absurd c26 (by decide))
  refine g_aload_n (q := 39) dX5_many_38 rfl rfl ?_
  refine g_get (C := RX5) (T := TX5) (ci := 6) (k := 0) (q := 42) dX5_many_39 q513 rfl in_X5 (by decide) hb rfl rfl ?_
  refine g_inst0 (q := 45) dX5_many_42 q305 ha anm3 nc_JI rfl ?_
  refine g_if_eq (t := 59) (q := 48) dX5_many_45 (by decide) rfl (by first | assumption | exact in32_gB | exact in32_gCmp | (unfold in32; omega)) (fun c45 => ?_) (fun c45 => absurd c45 (by decide))
  refine g_aload_n (q := 60) dX5_many_59 rfl rfl ?_
  refine g_get (C := RX5) (T := TX5) (ci := 6) (k := 0) (q := 63) dX5_many_60 q513 rfl in_X5 (by decide) hb rfl rfl ?_
  refine g_castR (q := 66) dX5_many_63 q306 ha anm3 rfl ?_
  refine g_alen 3 (q := 67) dX5_many_66 ha rfl rfl rfl ?_
  exact g_iret dX5_many_67 rfl ⟨rfl, rfl⟩
theorem c_widthJ (hb : h.1 b = some (oB 6 [.ref a])) (ha : h.1 a = some (aL E n g)) : CALL E iX5_width d 0 0 [.ref b] h (qR (vI 3) h) := by
  show GO E iX5_width _ _ _ 0 [some (.ref b)] [] _ _
  refine g_aload_n (q := 1) dX5_width_0 rfl rfl ?_
  refine g_get (C := RX5) (T := TX5) (ci := 6) (k := 0) (q := 4) dX5_width_1 q513 rfl in_X5 (by decide) hb rfl rfl ?_
  refine g_inst0 (q := 7) dX5_width_4 q285 ha anm3 nc_JB rfl ?_
  refine g_if_eq (t := 14) (q := 10) dX5_width_7 (by decide) rfl (by first | assumption | exact in32_gB | exact in32_gCmp | (unfold in32; omega)) (fun c7 => ?_) (fun c7 => absurd c7 (by decide))
  refine g_aload_n (q := 15) dX5_width_14 rfl rfl ?_
  refine g_get (C := RX5) (T := TX5) (ci := 6) (k := 0) (q := 18) dX5_width_15 q513 rfl in_X5 (by decide) hb rfl rfl ?_
  refine g_inst0 (q := 21) dX5_width_18 q286 ha anm3 nc_JS rfl ?_
  refine g_if_eq (t := 28) (q := 24) dX5_width_21 (by decide) rfl (by first | assumption | exact in32_gB | exact in32_gCmp | (unfold in32; omega)) (fun c21 => ?_) (fun c21 => absurd c21 (by decide))
  refine g_aload_n (q := 29) dX5_width_28 rfl rfl ?_
  refine g_get (C := RX5) (T := TX5) (ci := 6) (k := 0) (q := 32) dX5_width_29 q513 rfl in_X5 (by decide) hb rfl rfl ?_
  refine g_inst0 (q := 35) dX5_width_32 q305 ha anm3 nc_JI rfl ?_
  refine g_if_eq (t := 42) (q := 38) dX5_width_35 (by decide) rfl (by first | assumption | exact in32_gB | exact in32_gCmp | (unfold in32; omega)) (fun c35 => ?_) (fun c35 => absurd c35 (by decide))
  refine g_iconst (q := 43) dX5_width_42 rfl ?_
  exact g_iret dX5_width_43 rfl ⟨rfl, rfl⟩
theorem c_numberJ (hb : h.1 b = some (oB 6 [.ref a])) (ha : h.1 a = some (aL E n g)) (hj : 0 ≤ j ∧ j < n) (hn : n < 1000) : CALL E iX5_number d 0 0 [.ref b, vI j] h (qR (vL (g j)) h) := by
  show GO E iX5_number _ _ _ 0 [some (.ref b), some (vI j)] [] _ _
  refine g_aload_n (q := 1) dX5_number_0 rfl rfl ?_
  refine g_get (C := RX5) (T := TX5) (ci := 6) (k := 0) (q := 4) dX5_number_1 q513 rfl in_X5 (by decide) hb rfl rfl ?_
  refine g_inst0 (q := 7) dX5_number_4 q285 ha anm3 nc_JB rfl ?_
  refine g_if_eq (t := 21) (q := 10) dX5_number_7 (by decide) rfl (by first | assumption | exact in32_gB | exact in32_gCmp | (unfold in32; omega)) (fun c7 => ?_) (fun c7 => absurd c7 (by decide))
  refine g_aload_n (q := 22) dX5_number_21 rfl rfl ?_
  refine g_get (C := RX5) (T := TX5) (ci := 6) (k := 0) (q := 25) dX5_number_22 q513 rfl in_X5 (by decide) hb rfl rfl ?_
  refine g_inst0 (q := 28) dX5_number_25 q286 ha anm3 nc_JS rfl ?_
  refine g_if_eq (t := 42) (q := 31) dX5_number_28 (by decide) rfl (by first | assumption | exact in32_gB | exact in32_gCmp | (unfold in32; omega)) (fun c28 => ?_) (fun c28 => absurd c28 (by decide))
  refine g_aload_n (q := 43) dX5_number_42 rfl rfl ?_
  refine g_get (C := RX5) (T := TX5) (ci := 6) (k := 0) (q := 46) dX5_number_43 q513 rfl in_X5 (by decide) hb rfl rfl ?_
  refine g_inst0 (q := 49) dX5_number_46 q305 ha anm3 nc_JI rfl ?_
  refine g_if_eq (t := 65) (q := 52) dX5_number_49 (by decide) rfl (by first | assumption | exact in32_gB | exact in32_gCmp | (unfold in32; omega)) (fun c49 => ?_) (fun c49 => absurd c49 (by decide))
  refine g_aload_n (q := 66) dX5_number_65 rfl rfl ?_
  refine g_get (C := RX5) (T := TX5) (ci := 6) (k := 0) (q := 69) dX5_number_66 q513 rfl in_X5 (by decide) hb rfl rfl ?_
  refine g_castR (q := 72) dX5_number_69 q306 ha anm3 rfl ?_
  refine g_iload_n (q := 73) dX5_number_72 rfl rfl ?_
  refine g_lald (q := 74) dX5_number_73 ha (by omega) (by omega) rfl ?_
  exact g_lret dX5_number_74 rfl ⟨rfl, rfl⟩
end
