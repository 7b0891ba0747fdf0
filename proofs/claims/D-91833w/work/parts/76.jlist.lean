/-! THE JDK: ArrayList, what only reads -/
set_option maxRecDepth 100000
section
variable {E : gE} {d l ar cap : Nat} {h : gH} {mo sz i n : Int} {f : Int → Option Nat} {x : Value}
theorem c_checkIdxO (h0 : 0 ≤ i) (h1 : i < n) (h2 : n < 2147483648) : CALL E iJ12_checkIndex (d + 1) 0 0 [vI i, vI n] h (qR (vI i) h) := by
  show GO E iJ12_checkIndex _ _ _ 0 [some (vI i), some (vI n)] [] _ _
  refine g_iload_n (q := 1) dJ12_checkIndex_0 rfl rfl ?_
  refine g_iload_n (q := 2) dJ12_checkIndex_1 rfl rfl ?_
  refine g_null (q := 3) dJ12_checkIndex_2 rfl ?_
  refine g_cs (I' := iJ6_checkIndex) (mc := 0) (ms := 0) (rc := 0) (rs := 0) (q := 6) dJ12_checkIndex_3 q961 q685 gcJ6_checkIndex (c_checkIdx gR_null h0 h1 h2) rfl rfl ?_
  exact g_iret dJ12_checkIndex_6 rfl ⟨rfl, rfl⟩
theorem c_lsize (hl : h.1 l = some (oB 3 [vI mo, x, vI sz])) : CALL E iJ2_size d 0 0 [.ref l] h (qR (vI sz) h) := by
  show GO E iJ2_size _ _ _ 0 [some (.ref l)] [] _ _
  refine g_aload_n (q := 1) dJ2_size_0 rfl rfl ?_
  refine g_get (C := RJ2) (T := TJ2) (ci := 3) (k := 2) (q := 4) dJ2_size_1 q402 rfl in_J2 (by decide) hl rfl rfl ?_
  exact g_iret dJ2_size_4 rfl ⟨rfl, rfl⟩
theorem c_lelem (hl : h.1 l = some (oB 3 [vI mo, .ref ar, vI sz])) (ha : h.1 ar = some (aR E 12 cap f)) (h0 : 0 ≤ i) (h1 : i < cap) (h2 : cap < 2147483648) : CALL E iJ2_elementData d 0 0 [.ref l, vI i] h (qR (va_rf (f i)) h) := by
  show GO E iJ2_elementData _ _ _ 0 [some (.ref l), some (vI i)] [] _ _
  refine g_aload_n (q := 1) dJ2_elementData_0 rfl rfl ?_
  refine g_get (C := RJ2) (T := TJ2) (ci := 3) (k := 1) (q := 4) dJ2_elementData_1 q401 rfl in_J2 (by decide) hl rfl rfl ?_
  refine g_iload_n (q := 5) dJ2_elementData_4 rfl rfl ?_
  refine g_aald (t0 := 12) (q := 6) dJ2_elementData_5 ha rfl rfl (by omega) (by omega) rfl ?_
  exact g_aret dJ2_elementData_6 rfl (by first | exact Or.inl ⟨_, rfl⟩ | exact Or.inr ⟨_, rfl⟩) ⟨rfl, rfl⟩
theorem c_lget (hl : h.1 l = some (oB 3 [vI mo, .ref ar, vI sz])) (ha : h.1 ar = some (aR E 12 cap f)) (h0 : 0 ≤ i) (h1 : i < sz) (hs : sz ≤ cap) (h2 : cap < 2147483648) : CALL E iJ2_get (d + 2) 0 0 [.ref l, vI i] h (qR (va_rf (f i)) h) := by
  show GO E iJ2_get _ _ _ 0 [some (.ref l), some (vI i)] [] _ _
  refine g_iload_n (q := 1) dJ2_get_0 rfl rfl ?_
  refine g_aload_n (q := 2) dJ2_get_1 rfl rfl ?_
  refine g_get (C := RJ2) (T := TJ2) (ci := 3) (k := 2) (q := 5) dJ2_get_2 q402 rfl in_J2 (by decide) hl rfl rfl ?_
  refine g_cs (I' := iJ12_checkIndex) (mc := 0) (ms := 0) (rc := 0) (rs := 0) (q := 8) dJ2_get_5 q958 q959 gcJ12_checkIndex (c_checkIdxO h0 h1 (by omega)) rfl rfl ?_
  refine g_pop (q := 9) dJ2_get_8 rfl ?_
  refine g_aload_n (q := 10) dJ2_get_9 rfl rfl ?_
  refine g_iload_n (q := 11) dJ2_get_10 rfl rfl ?_
  refine g_cv (I' := iJ2_elementData) (mc := 0) (ms := 0) (rc := 0) (rs := 0) (ci := 3) (q := 14) dJ2_get_11 q962 q963 rfl q964 gcJ2_elementData hl (c_lelem hl ha h0 (by omega) h2) rfl rfl ?_
  exact g_aret dJ2_get_14 rfl (by first | exact Or.inl ⟨_, rfl⟩ | exact Or.inr ⟨_, rfl⟩) ⟨rfl, rfl⟩
end
