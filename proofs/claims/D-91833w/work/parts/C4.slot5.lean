/-! THE COMPONENT: Slot.put of wider rows, of no row -/
set_option maxRecDepth 100000
section
variable {E : gE} {d a b n : Nat} {h : gH} {g : Int → Int} {i v : Int}
theorem c_putI (hb : h.1 b = some (oB 6 [.ref a])) (ha : h.1 a = some (aI E n g)) (hi : 0 ≤ i ∧ i < n) (hn : n < 1000) : CALL E iX5_put (d + 1) 0 0 [.ref b, vI i, vL v] h (qV (hset h a (aI E n (upI g i v)))) := by
  show GO E iX5_put _ _ _ 0 [some (.ref b), some (vI i), some (vL v), none, none] [] _ _
  refine g_aload_n (q := 1) dX5_put_0 rfl rfl ?_
  refine g_get (C := RX5) (T := TX5) (ci := 6) (k := 0) (q := 4) dX5_put_1 q513 rfl in_X5 (by decide) hb rfl rfl ?_
  refine g_inst0 (q := 7) dX5_put_4 q285 ha anm0 nc_IB rfl ?_
  refine g_if_eq (t := 29) (q := 10) dX5_put_7 (by decide) rfl (by first | assumption | exact in32_gB | exact in32_gCmp | (unfold in32; omega)) (fun c7 => ?_) (fun c7 => absurd c7 (by decide))
  refine g_aload_n (q := 30) dX5_put_29 rfl rfl ?_
  refine g_get (C := RX5) (T := TX5) (ci := 6) (k := 0) (q := 33) dX5_put_30 q513 rfl in_X5 (by decide) hb rfl rfl ?_
  refine g_inst0 (q := 36) dX5_put_33 q286 ha anm0 nc_IS rfl ?_
  refine g_if_eq (t := 58) (q := 39) dX5_put_36 (by decide) rfl (by first | assumption | exact in32_gB | exact in32_gCmp | (unfold in32; omega)) (fun c36 => ?_) (fun c36 => absurd c36 (by decide))
  refine g_aload_n (q := 59) dX5_put_58 rfl rfl ?_
  refine g_iload_n (q := 60) dX5_put_59 rfl rfl ?_
  refine g_lload_n (q := 61) dX5_put_60 rfl rfl ?_
  refine g_cvV (I' := iX5_putWider) (mc := 0) (ms := 0) (rc := 0) (rs := 0) (ci := 6) (q := 64) dX5_put_61 q287 q289 rfl qs3 gcX5_putWider hb (c_pwI hb ha hi hn) rfl rfl ?_
  exact g_vret dX5_put_64 rfl ⟨rfl, rfl⟩
theorem c_putIo (hb : h.1 b = some (oB 6 [.ref a])) (ha : h.1 a = some (aI E n g)) (hr : in32 i) (hi : i < 0 ∨ (n : Int) ≤ i) (hn : n < 1000) : CALL E iX5_put (d + 171) (0 + 3) (0 + 1010) [.ref b, vI i, vL v] h (qT 20 fun k => ∃ fs, k = hexc h 20 fs) := by
  show GO E iX5_put _ _ _ 0 [some (.ref b), some (vI i), some (vL v), none, none] [] _ _
  refine g_aload_n (q := 1) dX5_put_0 rfl rfl ?_
  refine g_get (C := RX5) (T := TX5) (ci := 6) (k := 0) (q := 4) dX5_put_1 q513 rfl in_X5 (by decide) hb rfl rfl ?_
  refine g_inst0 (q := 7) dX5_put_4 q285 ha anm0 nc_IB rfl ?_
  refine g_if_eq (t := 29) (q := 10) dX5_put_7 (by decide) rfl (by first | assumption | exact in32_gB | exact in32_gCmp | (unfold in32; omega)) (fun c7 => ?_) (fun c7 => absurd c7 (by decide))
  refine g_aload_n (q := 30) dX5_put_29 rfl rfl ?_
  refine g_get (C := RX5) (T := TX5) (ci := 6) (k := 0) (q := 33) dX5_put_30 q513 rfl in_X5 (by decide) hb rfl rfl ?_
  refine g_inst0 (q := 36) dX5_put_33 q286 ha anm0 nc_IS rfl ?_
  refine g_if_eq (t := 58) (q := 39) dX5_put_36 (by decide) rfl (by first | assumption | exact in32_gB | exact in32_gCmp | (unfold in32; omega)) (fun c36 => ?_) (fun c36 => absurd c36 (by decide))
  refine g_aload_n (q := 59) dX5_put_58 rfl rfl ?_
  refine g_iload_n (q := 60) dX5_put_59 rfl rfl ?_
  refine g_lload_n (q := 61) dX5_put_60 rfl rfl ?_
  exact g_call (I' := iX5_putWider) (rc := 0) (rs := 0) ⟨_, dX5_put_61⟩ (gInv.virtual (I' := iX5_putWider) (As := [vI i, vL v]) (rest := []) (ci := 6) dX5_put_61 q287 q289 rfl qs3 gcX5_putWider hb rfl rfl) gcX5_putWider (Nat.le_of_ble_eq_true rfl) (Nat.le_of_ble_eq_true rfl) (Nat.le_of_ble_eq_true rfl) rfl (c_pwIo (d := d) hb ha hr hi hn) (fun w k z => by obtain ⟨fs, z1, -⟩ := z; cases z1) (fun x k z => by obtain ⟨fs, z1, rfl⟩ := z; cases z1; exact FLY.out rfl ⟨_, fs, rfl, hset_at, fs, rfl⟩)
theorem c_putN (hb : h.1 b = some (oB 6 [.null])) : CALL E iX5_put (d + 171) (0 + 1) (0 + 8) [.ref b, vI i, vL v] h (qT 19 fun k => ∃ fs, k = hnew h (oB 19 fs)) := by
  show GO E iX5_put _ _ _ 0 [some (.ref b), some (vI i), some (vL v), none, none] [] _ _
  refine g_aload_n (q := 1) dX5_put_0 rfl rfl ?_
  refine g_get (C := RX5) (T := TX5) (ci := 6) (k := 0) (q := 4) dX5_put_1 q513 rfl in_X5 (by decide) hb rfl rfl ?_
  refine g_instN (q := 7) dX5_put_4 rfl ?_
  refine g_if_eq (t := 29) (q := 10) dX5_put_7 (by decide) rfl (by first | assumption | exact in32_gB | exact in32_gCmp | (unfold in32; omega)) (fun c7 => ?_) (fun c7 => absurd c7 (by decide))
  refine g_aload_n (q := 30) dX5_put_29 rfl rfl ?_
  refine g_get (C := RX5) (T := TX5) (ci := 6) (k := 0) (q := 33) dX5_put_30 q513 rfl in_X5 (by decide) hb rfl rfl ?_
  refine g_instN (q := 36) dX5_put_33 rfl ?_
  refine g_if_eq (t := 58) (q := 39) dX5_put_36 (by decide) rfl (by first | assumption | exact in32_gB | exact in32_gCmp | (unfold in32; omega)) (fun c36 => ?_) (fun c36 => absurd c36 (by decide))
  refine g_aload_n (q := 59) dX5_put_58 rfl rfl ?_
  refine g_iload_n (q := 60) dX5_put_59 rfl rfl ?_
  refine g_lload_n (q := 61) dX5_put_60 rfl rfl ?_
  exact g_call (I' := iX5_putWider) (rc := 0) (rs := 0) ⟨_, dX5_put_61⟩ (gInv.virtual (I' := iX5_putWider) (As := [vI i, vL v]) (rest := []) (ci := 6) dX5_put_61 q287 q289 rfl qs3 gcX5_putWider hb rfl rfl) gcX5_putWider (Nat.le_of_ble_eq_true rfl) (Nat.le_of_ble_eq_true rfl) (Nat.le_of_ble_eq_true rfl) rfl (c_pwN (d := d) hb) (fun w k z => by obtain ⟨fs, z1, -⟩ := z; cases z1) (fun x k z => by obtain ⟨fs, z1, rfl⟩ := z; cases z1; exact FLY.out rfl ⟨_, fs, rfl, hnew_at, fs, rfl⟩)
theorem c_putJ (hb : h.1 b = some (oB 6 [.ref a])) (ha : h.1 a = some (aL E n g)) (hlt : a < h.2 ∧ b < h.2) (hi : 0 ≤ i ∧ i < n) (hn : n < 1000) : CALL E iX5_put (d + 171) 3 1010 [.ref b, vI i, vL v] h (qVP fun k => ∃ fs, k = hset (hexc h 21 fs) a (aL E n (upI g i v))) := by
  show GO E iX5_put _ _ _ 0 [some (.ref b), some (vI i), some (vL v), none, none] [] _ _
  refine g_aload_n (q := 1) dX5_put_0 rfl rfl ?_
  refine g_get (C := RX5) (T := TX5) (ci := 6) (k := 0) (q := 4) dX5_put_1 q513 rfl in_X5 (by decide) hb rfl rfl ?_
  refine g_inst0 (q := 7) dX5_put_4 q285 ha anm3 nc_JB rfl ?_
  refine g_if_eq (t := 29) (q := 10) dX5_put_7 (by decide) rfl (by first | assumption | exact in32_gB | exact in32_gCmp | (unfold in32; omega)) (fun c7 => ?_) (fun c7 => absurd c7 (by decide))
  refine g_aload_n (q := 30) dX5_put_29 rfl rfl ?_
  refine g_get (C := RX5) (T := TX5) (ci := 6) (k := 0) (q := 33) dX5_put_30 q513 rfl in_X5 (by decide) hb rfl rfl ?_
  refine g_inst0 (q := 36) dX5_put_33 q286 ha anm3 nc_JS rfl ?_
  refine g_if_eq (t := 58) (q := 39) dX5_put_36 (by decide) rfl (by first | assumption | exact in32_gB | exact in32_gCmp | (unfold in32; omega)) (fun c36 => ?_) (fun c36 => absurd c36 (by decide))
  refine g_aload_n (q := 59) dX5_put_58 rfl rfl ?_
  refine g_iload_n (q := 60) dX5_put_59 rfl rfl ?_
  refine g_lload_n (q := 61) dX5_put_60 rfl rfl ?_
  refine g_cvVP (I' := iX5_putWider) (mc := 3) (ms := 1010) (rc := 0) (rs := 0) (ci := 6) (q := 64) dX5_put_61 q287 q289 rfl qs3 gcX5_putWider hb (c_pwJ (d := d) hb ha hlt hi hn) rfl rfl (fun k61 z61 => ?_)
  exact g_vret dX5_put_64 rfl ⟨rfl, z61⟩
theorem c_putJo (hb : h.1 b = some (oB 6 [.ref a])) (ha : h.1 a = some (aL E n g)) (hlt : a < h.2 ∧ b < h.2) (hr : in32 i) (hi : i < 0 ∨ (n : Int) ≤ i) (hn : n < 1000) : CALL E iX5_put (d + 171) (0 + 6) (0 + 2020) [.ref b, vI i, vL v] h (qT 20 fun k => ∃ fs fs2, k = hexc (hexc h 21 fs) 20 fs2) := by
  show GO E iX5_put _ _ _ 0 [some (.ref b), some (vI i), some (vL v), none, none] [] _ _
  refine g_aload_n (q := 1) dX5_put_0 rfl rfl ?_
  refine g_get (C := RX5) (T := TX5) (ci := 6) (k := 0) (q := 4) dX5_put_1 q513 rfl in_X5 (by decide) hb rfl rfl ?_
  refine g_inst0 (q := 7) dX5_put_4 q285 ha anm3 nc_JB rfl ?_
  refine g_if_eq (t := 29) (q := 10) dX5_put_7 (by decide) rfl (by first | assumption | exact in32_gB | exact in32_gCmp | (unfold in32; omega)) (fun c7 => ?_) (fun c7 => absurd c7 (by decide))
  refine g_aload_n (q := 30) dX5_put_29 rfl rfl ?_
  refine g_get (C := RX5) (T := TX5) (ci := 6) (k := 0) (q := 33) dX5_put_30 q513 rfl in_X5 (by decide) hb rfl rfl ?_
  refine g_inst0 (q := 36) dX5_put_33 q286 ha anm3 nc_JS rfl ?_
  refine g_if_eq (t := 58) (q := 39) dX5_put_36 (by decide) rfl (by first | assumption | exact in32_gB | exact in32_gCmp | (unfold in32; omega)) (fun c36 => ?_) (fun c36 => absurd c36 (by decide))
  refine g_aload_n (q := 59) dX5_put_58 rfl rfl ?_
  refine g_iload_n (q := 60) dX5_put_59 rfl rfl ?_
  refine g_lload_n (q := 61) dX5_put_60 rfl rfl ?_
  exact g_call (I' := iX5_putWider) (rc := 0) (rs := 0) ⟨_, dX5_put_61⟩ (gInv.virtual (I' := iX5_putWider) (As := [vI i, vL v]) (rest := []) (ci := 6) dX5_put_61 q287 q289 rfl qs3 gcX5_putWider hb rfl rfl) gcX5_putWider (Nat.le_of_ble_eq_true rfl) (Nat.le_of_ble_eq_true rfl) (Nat.le_of_ble_eq_true rfl) rfl (c_pwJo (d := d) hb ha hlt hr hi hn) (fun w k z => by obtain ⟨fs, fs2, z1, -⟩ := z; cases z1) (fun x k z => by obtain ⟨fs, fs2, z1, rfl⟩ := z; cases z1; exact FLY.out rfl ⟨_, fs2, rfl, hset_at, fs, fs2, rfl⟩)
end
