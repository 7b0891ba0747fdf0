/-! THE JDK: ArrayList's constructor -/
set_option maxRecDepth 100000
section
variable {E : gE} {d a : Nat} {h : gH} {n : Int}
theorem c_acoll0 : CALL E iJ0_init (d + 1) 0 0 [.ref a] h (qV h) := by
  show GO E iJ0_init _ _ _ 0 [some (.ref a)] [] _ _
  refine g_aload_n (q := 1) dJ0_init_0 rfl rfl ?_
  refine g_objInit (q := 4) dJ0_init_1 q396 rfl ?_
  exact g_vret dJ0_init_4 rfl ⟨rfl, rfl⟩
theorem c_alist0 (ha : h.1 a = some (oB 3 [vI 0, .null, vI 0])) : CALL E iJ1_init (d + 2) 0 0 [.ref a] h (qV h) := by
  show GO E iJ1_init _ _ _ 0 [some (.ref a)] [] _ _
  refine g_aload_n (q := 1) dJ1_init_0 rfl rfl ?_
  refine g_ci (I' := iJ0_init) (mc := 0) (ms := 0) (rc := 0) (rs := 0) (q := 4) dJ1_init_1 q393 q394 rfl q395 gcJ0_init (c_acoll0) rfl rfl ?_
  refine g_aload_n (q := 5) dJ1_init_4 rfl rfl ?_
  refine g_iconst (q := 6) dJ1_init_5 rfl ?_
  refine g_put (C := RJ2) (T := TJ2) (ci := 3) (k := 0) (q := 9) dJ1_init_6 q403 rfl in_J2 tyJ2_ok nmJ2 (by decide) rfl gFit_int ha (Nat.le_of_ble_eq_true rfl) rfl ?_
  exact g_vret dJ1_init_9 rfl ⟨rfl, hset_self ha⟩
theorem c_listX (hn : 0 < n ∧ n < 60000) (hlt : a < h.2) (ha : h.1 a = some (oB 3 [vI 0, .null, vI 0])) : CALL E iJ2_init (d + 3) 1 (0 + n.toNat) [.ref a, vI n] h (qV (hset (hnew h (aR E 12 n.toNat (fun _ => none))) a (oB 3 [vI 0, .ref h.2, vI 0]))) := by
  have hne : (hnew h (aR E 12 n.toNat (fun _ => none))).1 a = some (oB 3 [vI 0, .null, vI 0]) := (hnew_ne (by omega)).trans ha
  show GO E iJ2_init _ _ _ 0 [some (.ref a), some (vI n)] [] _ _
  refine g_aload_n (q := 1) dJ2_init_0 rfl rfl ?_
  refine g_ci (I' := iJ1_init) (mc := 0) (ms := 0) (rc := 1) (rs := (0+n.toNat)) (q := 4) dJ2_init_1 q390 q391 rfl q392 gcJ1_init (c_alist0 ha) rfl rfl ?_
  refine g_iload_n (q := 5) dJ2_init_4 rfl rfl ?_
  refine g_if_le (t := 19) (q := 8) dJ2_init_5 (by decide) rfl (by first | assumption | exact in32_gB | exact in32_gCmp | (unfold in32; omega)) (fun c5 => ?_) (fun c5 => ?_)
  · exact absurd c5 (by omega)
  · refine g_aload_n (q := 9) dJ2_init_8 rfl rfl ?_
    refine g_iload_n (q := 10) dJ2_init_9 rfl rfl ?_
    refine g_anew (q := 13) (rc := 0) (rs := 0) (t0 := 12) dJ2_init_10 q397 q398 rfl (by omega) (by omega) rfl ?_
    refine g_put (C := RJ2) (T := TJ2) (ci := 3) (k := 1) (q := 16) dJ2_init_13 q401 rfl in_J2 tyJ2_ok nmJ2 (by decide) rfl gFit_a hne (Nat.le_of_ble_eq_true rfl) rfl ?_
    refine g_goto (t := 60) dJ2_init_16 (by decide) ?_
    exact g_vret dJ2_init_60 rfl ⟨rfl, rfl⟩
end
