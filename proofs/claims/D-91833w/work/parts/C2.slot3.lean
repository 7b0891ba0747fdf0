/-! THE COMPONENT: Slot.putWider -/
set_option maxRecDepth 100000
theorem nc_18_19 : Cond.not (.castable "java/lang/ArrayIndexOutOfBoundsException" "java/lang/ClassCastException") ∈ cjs narrow_1 := nw_seg (n := 93) (L := [Cond.not (.castable "java/lang/ArrayIndexOutOfBoundsException" "java/lang/ClassCastException")]) rfl _ (List.mem_singleton.mpr rfl)
theorem nc_16_19 : Cond.not (.castable "java/lang/NullPointerException" "java/lang/ClassCastException") ∈ cjs narrow_1 := nw_seg (n := 92) (L := [Cond.not (.castable "java/lang/NullPointerException" "java/lang/ClassCastException")]) rfl _ (List.mem_singleton.mpr rfl)
theorem nc_18_16 : Cond.not (.castable "java/lang/ArrayIndexOutOfBoundsException" "java/lang/NullPointerException") ∈ cjs narrow_1 := nw_seg (n := 54) (L := [Cond.not (.castable "java/lang/ArrayIndexOutOfBoundsException" "java/lang/NullPointerException")]) rfl _ (List.mem_singleton.mpr rfl)
section
variable {E : gE} {d a b n : Nat} {h : gH} {g : Int → Int} {i v : Int}
theorem c_pwI (hb : h.1 b = some (oB 6 [.ref a])) (ha : h.1 a = some (aI E n g)) (hi : 0 ≤ i ∧ i < n) (hn : n < 1000) : CALL E iX5_putWider d 0 0 [.ref b, vI i, vL v] h (qV (hset h a (aI E n (upI g i v)))) := by
  show GO E iX5_putWider _ _ _ 0 [some (.ref b), some (vI i), some (vL v), none, none, none] [] _ _
  refine g_aload_n (q := 1) dX5_putWider_0 rfl rfl ?_
  refine g_get (C := RX5) (T := TX5) (ci := 6) (k := 0) (q := 4) dX5_putWider_1 q513 rfl in_X5 (by decide) hb rfl rfl ?_
  refine g_castR (q := 7) dX5_putWider_4 q305 ha anm0 rfl ?_
  refine g_astore (q := 9) dX5_putWider_7 gs4 rfl ?_
  refine g_aload (q := 11) dX5_putWider_9 rfl rfl ?_
  refine g_iload_n (q := 12) dX5_putWider_11 rfl rfl ?_
  refine g_lload_n (q := 13) dX5_putWider_12 rfl rfl ?_
  refine g_l2i (q := 14) dX5_putWider_13 rfl ?_
  refine g_iast (q := 15) dX5_putWider_14 ha (by omega) (by omega)  rfl ?_
  refine g_goto (t := 34) dX5_putWider_15 (by decide) ?_
  exact g_vret dX5_putWider_34 rfl ⟨rfl, rfl⟩
theorem c_pwIo (hb : h.1 b = some (oB 6 [.ref a])) (ha : h.1 a = some (aI E n g)) (hr : in32 i) (hi : i < 0 ∨ (n : Int) ≤ i) (hn : n < 1000) : CALL E iX5_putWider (d + 170) 3 1010 [.ref b, vI i, vL v] h (fun o k => ∃ fs, o = .threw (h.2 + 2) ∧ k = hexc h 20 fs) := by
  show GO E iX5_putWider _ _ _ 0 [some (.ref b), some (vI i), some (vL v), none, none, none] [] _ _
  refine g_aload_n (q := 1) dX5_putWider_0 rfl rfl ?_
  refine g_get (C := RX5) (T := TX5) (ci := 6) (k := 0) (q := 4) dX5_putWider_1 q513 rfl in_X5 (by decide) hb rfl rfl ?_
  refine g_castR (q := 7) dX5_putWider_4 q305 ha anm0 rfl ?_
  refine g_astore (q := 9) dX5_putWider_7 gs4 rfl ?_
  refine g_aload (q := 11) dX5_putWider_9 rfl rfl ?_
  refine g_iload_n (q := 12) dX5_putWider_11 rfl rfl ?_
  refine g_lload_n (q := 13) dX5_putWider_12 rfl rfl ?_
  refine g_l2i (q := 14) dX5_putWider_13 rfl ?_
  exact r18 (rc := 0) (rs := 0) (RAI.iast dX5_putWider_14 ha hr hi hn) (by omega) (Nat.le_of_ble_eq_true rfl) (fun fs => FLY.leave (FND.pass (ci := 20) (fs := fs) (by decide) (by decide) hset_at rfl q291 nc_18_19 FND.nil) ⟨fs, rfl, rfl⟩)
theorem c_pwN (hb : h.1 b = some (oB 6 [.null])) : CALL E iX5_putWider (d + 170) 1 8 [.ref b, vI i, vL v] h (fun o k => ∃ fs, o = .threw h.2 ∧ k = hnew h (oB 19 fs)) := by
  show GO E iX5_putWider _ _ _ 0 [some (.ref b), some (vI i), some (vL v), none, none, none] [] _ _
  refine g_aload_n (q := 1) dX5_putWider_0 rfl rfl ?_
  refine g_get (C := RX5) (T := TX5) (ci := 6) (k := 0) (q := 4) dX5_putWider_1 q513 rfl in_X5 (by decide) hb rfl rfl ?_
  refine g_castN (q := 7) dX5_putWider_4 rfl ?_
  refine g_astore (q := 9) dX5_putWider_7 gs4 rfl ?_
  refine g_aload (q := 11) dX5_putWider_9 rfl rfl ?_
  refine g_iload_n (q := 12) dX5_putWider_11 rfl rfl ?_
  refine g_lload_n (q := 13) dX5_putWider_12 rfl rfl ?_
  refine g_l2i (q := 14) dX5_putWider_13 rfl ?_
  exact g_iastN (rc := 0) (rs := 0) dX5_putWider_14 (by omega) (Nat.le_of_ble_eq_true rfl) (fun fs => FLY.leave (FND.pass (ci := 19) (fs := fs) (by decide) (by decide) hnew_at rfl q291 nc_16_19 FND.nil) ⟨fs, rfl, rfl⟩)
theorem c_pwJ (hb : h.1 b = some (oB 6 [.ref a])) (ha : h.1 a = some (aL E n g)) (hlt : a < h.2 ∧ b < h.2) (hi : 0 ≤ i ∧ i < n) (hn : n < 1000) : CALL E iX5_putWider (d + 170) 3 1010 [.ref b, vI i, vL v] h (qVP fun k => ∃ fs, k = hset (hexc h 21 fs) a (aL E n (upI g i v))) := by
  show GO E iX5_putWider _ _ _ 0 [some (.ref b), some (vI i), some (vL v), none, none, none] [] _ _
  refine g_aload_n (q := 1) dX5_putWider_0 rfl rfl ?_
  refine g_get (C := RX5) (T := TX5) (ci := 6) (k := 0) (q := 4) dX5_putWider_1 q513 rfl in_X5 (by decide) hb rfl rfl ?_
  refine r19 (rc := 0) (rs := 0) (RAI.castL dX5_putWider_4 q305 ha nc_JI) (by omega) (Nat.le_of_ble_eq_true rfl) (fun fs => FLY.catch (q := 18) (FND.hit (ci := 21) (fs := fs) (by decide) (by decide) hset_at rfl q291 q303) ?_)
  have hb2 : (hexc h 21 fs).1 b = some (oB 6 [.ref a]) := (hset_ne (by omega)).trans hb
  have ha2 : (hexc h 21 fs).1 a = some (aL E n g) := (hset_ne (by omega)).trans ha
  refine g_astore (q := 20) dX5_putWider_18 gs4 rfl ?_
  refine g_aload_n (q := 21) dX5_putWider_20 rfl rfl ?_
  refine g_get (C := RX5) (T := TX5) (ci := 6) (k := 0) (q := 24) dX5_putWider_21 q513 rfl in_X5 (by decide) hb2 rfl rfl ?_
  refine g_castR (q := 27) dX5_putWider_24 q306 ha2 anm3 rfl ?_
  refine g_astore (q := 29) dX5_putWider_27 gs5 rfl ?_
  refine g_aload (q := 31) dX5_putWider_29 rfl rfl ?_
  refine g_iload_n (q := 32) dX5_putWider_31 rfl rfl ?_
  refine g_lload_n (q := 33) dX5_putWider_32 rfl rfl ?_
  refine g_last (q := 34) dX5_putWider_33 ha2 (by omega) (by omega)  rfl ?_
  exact g_vret dX5_putWider_34 rfl ⟨rfl, fs, rfl⟩
theorem c_pwJo (hb : h.1 b = some (oB 6 [.ref a])) (ha : h.1 a = some (aL E n g)) (hlt : a < h.2 ∧ b < h.2) (hr : in32 i) (hi : i < 0 ∨ (n : Int) ≤ i) (hn : n < 1000) : CALL E iX5_putWider (d + 170) 6 2020 [.ref b, vI i, vL v] h (fun o k => ∃ fs fs2, o = .threw (h.2 + 5) ∧ k = hexc (hexc h 21 fs) 20 fs2) := by
  show GO E iX5_putWider _ _ _ 0 [some (.ref b), some (vI i), some (vL v), none, none, none] [] _ _
  refine g_aload_n (q := 1) dX5_putWider_0 rfl rfl ?_
  refine g_get (C := RX5) (T := TX5) (ci := 6) (k := 0) (q := 4) dX5_putWider_1 q513 rfl in_X5 (by decide) hb rfl rfl ?_
  refine r19 (rc := 3) (rs := 1010) (RAI.castL dX5_putWider_4 q305 ha nc_JI) (by omega) (Nat.le_of_ble_eq_true rfl) (fun fs => FLY.catch (q := 18) (FND.hit (ci := 21) (fs := fs) (by decide) (by decide) hset_at rfl q291 q303) ?_)
  have hb2 : (hexc h 21 fs).1 b = some (oB 6 [.ref a]) := (hset_ne (by omega)).trans hb
  have ha2 : (hexc h 21 fs).1 a = some (aL E n g) := (hset_ne (by omega)).trans ha
  refine g_astore (q := 20) dX5_putWider_18 gs4 rfl ?_
  refine g_aload_n (q := 21) dX5_putWider_20 rfl rfl ?_
  refine g_get (C := RX5) (T := TX5) (ci := 6) (k := 0) (q := 24) dX5_putWider_21 q513 rfl in_X5 (by decide) hb2 rfl rfl ?_
  refine g_castR (q := 27) dX5_putWider_24 q306 ha2 anm3 rfl ?_
  refine g_astore (q := 29) dX5_putWider_27 gs5 rfl ?_
  refine g_aload (q := 31) dX5_putWider_29 rfl rfl ?_
  refine g_iload_n (q := 32) dX5_putWider_31 rfl rfl ?_
  refine g_lload_n (q := 33) dX5_putWider_32 rfl rfl ?_
  exact r18 (rc := 0) (rs := 0) (RAI.last dX5_putWider_33 ha2 hr hi hn) (by omega) (Nat.le_of_ble_eq_true rfl) (fun fs2 => FLY.out rfl ⟨fs, fs2, rfl, rfl⟩)
end
