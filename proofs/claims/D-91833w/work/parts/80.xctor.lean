/-! THE COMPONENT: small constructors -/
set_option maxRecDepth 100000
theorem gFit_01 {x : Int} (h : x = 0 ∨ x = 1) : gFit .boolean (vI x) := by
  rcases h with rfl | rfl
  · exact gFit_0
  · exact gFit_1
section
variable {E : gE} {d a x y : Nat} {h : gH} {c l r1 r2 r3 r4 r5 b1 b2 : Int}
theorem c_ask0 : CALL E iX4_init (d + 1) 0 0 [.ref a] h (qV h) := by
  show GO E iX4_init _ _ _ 0 [some (.ref a)] [] _ _
  refine g_aload_n (q := 1) dX4_init_0 rfl rfl ?_
  refine g_objInit (q := 4) dX4_init_1 q427 rfl ?_
  exact g_vret dX4_init_4 rfl ⟨rfl, rfl⟩
theorem c_slot0 : CALL E iX5_init (d + 1) 0 0 [.ref a] h (qV h) := by
  show GO E iX5_init _ _ _ 0 [some (.ref a)] [] _ _
  refine g_aload_n (q := 1) dX5_init_0 rfl rfl ?_
  refine g_objInit (q := 4) dX5_init_1 q512 rfl ?_
  exact g_vret dX5_init_4 rfl ⟨rfl, rfl⟩
theorem c_sum0 : CALL E iX9_init (d + 1) 0 0 [.ref a] h (qV h) := by
  show GO E iX9_init _ _ _ 0 [some (.ref a)] [] _ _
  refine g_aload_n (q := 1) dX9_init_0 rfl rfl ?_
  refine g_objInit (q := 4) dX9_init_1 q792 rfl ?_
  exact g_vret dX9_init_4 rfl ⟨rfl, rfl⟩
theorem c_amount (ha : h.1 a = some (oB 12 [vI 0])) : CALL E iX10_init (d + 2) 0 0 [.ref a, vI c] h (qV (hset h a (oB 12 [vI c]))) := by
  show GO E iX10_init _ _ _ 0 [some (.ref a), some (vI c)] [] _ _
  refine g_aload_n (q := 1) dX10_init_0 rfl rfl ?_
  refine g_ciN (I' := iX9_init) (mc := 0) (ms := 0) (rc := 0) (rs := 0) (q := 4) dX10_init_1 q789 q790 rfl q791 gcX9_init (c_sum0) rfl rfl ?_
  refine g_aload_n (q := 5) dX10_init_4 rfl rfl ?_
  refine g_iload_n (q := 6) dX10_init_5 rfl rfl ?_
  refine g_putF (C := RX10) (T := TX10) (ci := 12) (k := 0) (q := 9) dX10_init_6 q793 rfl in_X10 tyX10_ok nmX10 (by decide) rfl rfl rfl gFit_int ha (Nat.le_of_ble_eq_true rfl) rfl ?_
  exact g_vret dX10_init_9 rfl ⟨rfl, rfl⟩
theorem c_part (ha : h.1 a = some (oB 13 [vI 0])) : CALL E iX11_init (d + 2) 0 0 [.ref a, vI c] h (qV (hset h a (oB 13 [vI c]))) := by
  show GO E iX11_init _ _ _ 0 [some (.ref a), some (vI c)] [] _ _
  refine g_aload_n (q := 1) dX11_init_0 rfl rfl ?_
  refine g_ciN (I' := iX9_init) (mc := 0) (ms := 0) (rc := 0) (rs := 0) (q := 4) dX11_init_1 q802 q790 rfl q791 gcX9_init (c_sum0) rfl rfl ?_
  refine g_aload_n (q := 5) dX11_init_4 rfl rfl ?_
  refine g_iload_n (q := 6) dX11_init_5 rfl rfl ?_
  refine g_putF (C := RX11) (T := TX11) (ci := 13) (k := 0) (q := 9) dX11_init_6 q803 rfl in_X11 tyX11_ok nmX11 (by decide) rfl rfl rfl gFit_int ha (Nat.le_of_ble_eq_true rfl) rfl ?_
  exact g_vret dX11_init_9 rfl ⟨rfl, rfl⟩
theorem c_both0_14 (ha : h.1 a = some (oB 14 [.null, .null])) : CALL E iX12_init (d + 2) 0 0 [.ref a, .ref x, .ref y] h (qV (hset h a (oB 14 [.ref x, .ref y]))) := by
  show GO E iX12_init _ _ _ 0 [some (.ref a), some (.ref x), some (.ref y)] [] _ _
  refine g_aload_n (q := 1) dX12_init_0 rfl rfl ?_
  refine g_ciN (I' := iX9_init) (mc := 0) (ms := 0) (rc := 0) (rs := 0) (q := 4) dX12_init_1 q820 q790 rfl q791 gcX9_init (c_sum0) rfl rfl ?_
  refine g_aload_n (q := 5) dX12_init_4 rfl rfl ?_
  refine g_aload_n (q := 6) dX12_init_5 rfl rfl ?_
  refine g_putF (C := RX13) (T := TX13) (ci := 14) (k := 0) (q := 9) dX12_init_6 q821 rfl in_X13 tyX13_ok nmX13 (by decide) rfl rfl rfl gFit_o ha (Nat.le_of_ble_eq_true rfl) rfl ?_
  refine g_aload_n (q := 10) dX12_init_9 rfl rfl ?_
  refine g_aload_n (q := 11) dX12_init_10 rfl rfl ?_
  refine g_putF (C := RX13) (T := TX13) (ci := 14) (k := 1) (q := 14) dX12_init_11 q822 rfl in_X13 tyX13_ok nmX13 (by decide) rfl rfl rfl gFit_o hset_at (Nat.le_of_ble_eq_true rfl) rfl ?_
  exact g_vret dX12_init_14 rfl ⟨rfl, hset_hset⟩
theorem c_both0_15 (ha : h.1 a = some (oB 15 [.null, .null])) : CALL E iX12_init (d + 2) 0 0 [.ref a, .ref x, .ref y] h (qV (hset h a (oB 15 [.ref x, .ref y]))) := by
  show GO E iX12_init _ _ _ 0 [some (.ref a), some (.ref x), some (.ref y)] [] _ _
  refine g_aload_n (q := 1) dX12_init_0 rfl rfl ?_
  refine g_ciN (I' := iX9_init) (mc := 0) (ms := 0) (rc := 0) (rs := 0) (q := 4) dX12_init_1 q820 q790 rfl q791 gcX9_init (c_sum0) rfl rfl ?_
  refine g_aload_n (q := 5) dX12_init_4 rfl rfl ?_
  refine g_aload_n (q := 6) dX12_init_5 rfl rfl ?_
  refine g_putF (C := RX14) (T := TX14) (ci := 15) (k := 0) (q := 9) dX12_init_6 q821 rfl in_X14 tyX14_ok nmX14 (by decide) rfl rfl rfl gFit_o ha (Nat.le_of_ble_eq_true rfl) rfl ?_
  refine g_aload_n (q := 10) dX12_init_9 rfl rfl ?_
  refine g_aload_n (q := 11) dX12_init_10 rfl rfl ?_
  refine g_putF (C := RX14) (T := TX14) (ci := 15) (k := 1) (q := 14) dX12_init_11 q822 rfl in_X14 tyX14_ok nmX14 (by decide) rfl rfl rfl gFit_o hset_at (Nat.le_of_ble_eq_true rfl) rfl ?_
  exact g_vret dX12_init_14 rfl ⟨rfl, hset_hset⟩
theorem c_both0_16 (ha : h.1 a = some (oB 16 [.null, .null, vI 0])) : CALL E iX12_init (d + 2) 0 0 [.ref a, .ref x, .ref y] h (qV (hset h a (oB 16 [.ref x, .ref y, vI 0]))) := by
  show GO E iX12_init _ _ _ 0 [some (.ref a), some (.ref x), some (.ref y)] [] _ _
  refine g_aload_n (q := 1) dX12_init_0 rfl rfl ?_
  refine g_ciN (I' := iX9_init) (mc := 0) (ms := 0) (rc := 0) (rs := 0) (q := 4) dX12_init_1 q820 q790 rfl q791 gcX9_init (c_sum0) rfl rfl ?_
  refine g_aload_n (q := 5) dX12_init_4 rfl rfl ?_
  refine g_aload_n (q := 6) dX12_init_5 rfl rfl ?_
  refine g_putF (C := RX15) (T := TX15) (ci := 16) (k := 0) (q := 9) dX12_init_6 q821 rfl in_X15 tyX15_ok nmX15 (by decide) rfl rfl rfl gFit_o ha (Nat.le_of_ble_eq_true rfl) rfl ?_
  refine g_aload_n (q := 10) dX12_init_9 rfl rfl ?_
  refine g_aload_n (q := 11) dX12_init_10 rfl rfl ?_
  refine g_putF (C := RX15) (T := TX15) (ci := 16) (k := 1) (q := 14) dX12_init_11 q822 rfl in_X15 tyX15_ok nmX15 (by decide) rfl rfl rfl gFit_o hset_at (Nat.le_of_ble_eq_true rfl) rfl ?_
  exact g_vret dX12_init_14 rfl ⟨rfl, hset_hset⟩
theorem c_times (ha : h.1 a = some (oB 14 [.null, .null])) : CALL E iX13_init (d + 3) 0 0 [.ref a, .ref x, .ref y] h (qV (hset h a (oB 14 [.ref x, .ref y]))) := by
  show GO E iX13_init _ _ _ 0 [some (.ref a), some (.ref x), some (.ref y)] [] _ _
  refine g_aload_n (q := 1) dX13_init_0 rfl rfl ?_
  refine g_aload_n (q := 2) dX13_init_1 rfl rfl ?_
  refine g_aload_n (q := 3) dX13_init_2 rfl rfl ?_
  refine g_ci (I' := iX12_init) (mc := 0) (ms := 0) (rc := 0) (rs := 0) (q := 6) dX13_init_3 q817 q818 rfl q819 gcX12_init (c_both0_14 ha) rfl rfl ?_
  exact g_vret dX13_init_6 rfl ⟨rfl, rfl⟩
theorem c_times0_15 (ha : h.1 a = some (oB 15 [.null, .null])) : CALL E iX13_init (d + 3) 0 0 [.ref a, .ref x, .ref y] h (qV (hset h a (oB 15 [.ref x, .ref y]))) := by
  show GO E iX13_init _ _ _ 0 [some (.ref a), some (.ref x), some (.ref y)] [] _ _
  refine g_aload_n (q := 1) dX13_init_0 rfl rfl ?_
  refine g_aload_n (q := 2) dX13_init_1 rfl rfl ?_
  refine g_aload_n (q := 3) dX13_init_2 rfl rfl ?_
  refine g_ci (I' := iX12_init) (mc := 0) (ms := 0) (rc := 0) (rs := 0) (q := 6) dX13_init_3 q817 q818 rfl q819 gcX12_init (c_both0_15 ha) rfl rfl ?_
  exact g_vret dX13_init_6 rfl ⟨rfl, rfl⟩
theorem c_over (ha : h.1 a = some (oB 15 [.null, .null])) : CALL E iX14_init (d + 4) 0 0 [.ref a, .ref x, .ref y] h (qV (hset h a (oB 15 [.ref x, .ref y]))) := by
  show GO E iX14_init _ _ _ 0 [some (.ref a), some (.ref x), some (.ref y)] [] _ _
  refine g_aload_n (q := 1) dX14_init_0 rfl rfl ?_
  refine g_aload_n (q := 2) dX14_init_1 rfl rfl ?_
  refine g_aload_n (q := 3) dX14_init_2 rfl rfl ?_
  refine g_ci (I' := iX13_init) (mc := 0) (ms := 0) (rc := 0) (rs := 0) (q := 6) dX14_init_3 q814 q815 rfl q816 gcX13_init (c_times0_15 ha) rfl rfl ?_
  exact g_vret dX14_init_6 rfl ⟨rfl, rfl⟩
theorem c_added (ha : h.1 a = some (oB 16 [.null, .null, vI 0])) (hl : l = 0 ∨ l = 1) : CALL E iX15_init (d + 3) 0 0 [.ref a, .ref x, vI l, .ref y] h (qV (hset h a (oB 16 [.ref x, .ref y, vI l]))) := by
  show GO E iX15_init _ _ _ 0 [some (.ref a), some (.ref x), some (vI l), some (.ref y)] [] _ _
  refine g_aload_n (q := 1) dX15_init_0 rfl rfl ?_
  refine g_aload_n (q := 2) dX15_init_1 rfl rfl ?_
  refine g_aload_n (q := 3) dX15_init_2 rfl rfl ?_
  refine g_ci (I' := iX12_init) (mc := 0) (ms := 0) (rc := 0) (rs := 0) (q := 6) dX15_init_3 q841 q818 rfl q819 gcX12_init (c_both0_16 ha) rfl rfl ?_
  refine g_aload_n (q := 7) dX15_init_6 rfl rfl ?_
  refine g_iload_n (q := 8) dX15_init_7 rfl rfl ?_
  refine g_putF (C := RX15) (T := TX15) (ci := 16) (k := 2) (q := 11) dX15_init_8 q842 rfl in_X15 tyX15_ok nmX15 (by decide) rfl rfl rfl (gFit_01 hl) hset_at (Nat.le_of_ble_eq_true rfl) rfl ?_
  exact g_vret dX15_init_11 rfl ⟨rfl, hset_hset⟩
theorem c_sitting0 (ha : h.1 a = some (oB 17 [vI 0, vI 0, vI 0, vI 0, vI 0, vI 0, vI 0])) (h1 : b1 = 0 ∨ b1 = 1) (h2 : b2 = 0 ∨ b2 = 1) : CALL E iX16_init (d + 1) 0 0 [.ref a, vI r1, vI r2, vI r3, vI r4, vI r5, vI b1, vI b2] h (qV (hset h a (oB 17 [vI r1, vI r2, vI r3, vI r4, vI r5, vI b1, vI b2]))) := by
  show GO E iX16_init _ _ _ 0 [some (.ref a), some (vI r1), some (vI r2), some (vI r3), some (vI r4), some (vI r5), some (vI b1), some (vI b2)] [] _ _
  refine g_aload_n (q := 1) dX16_init_0 rfl rfl ?_
  refine g_objInit (q := 4) dX16_init_1 q1100 rfl ?_
  refine g_aload_n (q := 5) dX16_init_4 rfl rfl ?_
  refine g_iload (q := 7) dX16_init_5 rfl rfl ?_
  refine g_putF (C := RX16) (T := TX16) (ci := 17) (k := 5) (q := 10) dX16_init_7 q1111 rfl in_X16 tyX16_ok nmX16 (by decide) rfl rfl rfl (gFit_01 h1) ha (Nat.le_of_ble_eq_true rfl) rfl ?_
  refine g_aload_n (q := 11) dX16_init_10 rfl rfl ?_
  refine g_iload (q := 13) dX16_init_11 rfl rfl ?_
  refine g_putF (C := RX16) (T := TX16) (ci := 17) (k := 6) (q := 16) dX16_init_13 q1113 rfl in_X16 tyX16_ok nmX16 (by decide) rfl rfl rfl (gFit_01 h2) hset_at (Nat.le_of_ble_eq_true rfl) rfl ?_
  refine GO.cast hset_hset ?_
  refine g_aload_n (q := 17) dX16_init_16 rfl rfl ?_
  refine g_iload_n (q := 18) dX16_init_17 rfl rfl ?_
  refine g_putF (C := RX16) (T := TX16) (ci := 17) (k := 0) (q := 21) dX16_init_18 q1101 rfl in_X16 tyX16_ok nmX16 (by decide) rfl rfl rfl gFit_int hset_at (Nat.le_of_ble_eq_true rfl) rfl ?_
  refine GO.cast hset_hset ?_
  refine g_aload_n (q := 22) dX16_init_21 rfl rfl ?_
  refine g_iload_n (q := 23) dX16_init_22 rfl rfl ?_
  refine g_putF (C := RX16) (T := TX16) (ci := 17) (k := 1) (q := 26) dX16_init_23 q1103 rfl in_X16 tyX16_ok nmX16 (by decide) rfl rfl rfl gFit_int hset_at (Nat.le_of_ble_eq_true rfl) rfl ?_
  refine GO.cast hset_hset ?_
  refine g_aload_n (q := 27) dX16_init_26 rfl rfl ?_
  refine g_iload_n (q := 28) dX16_init_27 rfl rfl ?_
  refine g_putF (C := RX16) (T := TX16) (ci := 17) (k := 2) (q := 31) dX16_init_28 q1105 rfl in_X16 tyX16_ok nmX16 (by decide) rfl rfl rfl gFit_int hset_at (Nat.le_of_ble_eq_true rfl) rfl ?_
  refine GO.cast hset_hset ?_
  refine g_aload_n (q := 32) dX16_init_31 rfl rfl ?_
  refine g_iload (q := 34) dX16_init_32 rfl rfl ?_
  refine g_putF (C := RX16) (T := TX16) (ci := 17) (k := 3) (q := 37) dX16_init_34 q1107 rfl in_X16 tyX16_ok nmX16 (by decide) rfl rfl rfl gFit_int hset_at (Nat.le_of_ble_eq_true rfl) rfl ?_
  refine GO.cast hset_hset ?_
  refine g_aload_n (q := 38) dX16_init_37 rfl rfl ?_
  refine g_iload (q := 40) dX16_init_38 rfl rfl ?_
  refine g_putF (C := RX16) (T := TX16) (ci := 17) (k := 4) (q := 43) dX16_init_40 q1109 rfl in_X16 tyX16_ok nmX16 (by decide) rfl rfl rfl gFit_int hset_at (Nat.le_of_ble_eq_true rfl) rfl ?_
  refine GO.cast hset_hset ?_
  exact g_vret dX16_init_43 rfl ⟨rfl, rfl⟩
end
