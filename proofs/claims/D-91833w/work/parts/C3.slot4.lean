/-! THE COMPONENT: Slot.put, puts -/
set_option maxRecDepth 100000
/-- threw an exception of class ci -/
def qT (ci : Nat) (P : gH → Prop) : Outcome → gH → Prop := fun o k => ∃ x fs, o = .threw x ∧ k.1 x = some (oB ci fs) ∧ P k
section
variable {E : gE} {d a b : Nat} {h : gH} {Q : Outcome → gH → Prop} {x2 x3 x4 x1 : Option Value} {i v : Int}
theorem l_puts9 (hq : Q (.returned (some (vI (-6)))) h) : GO E iX5_puts d 0 0 9 [some (.ref b), some (vI i), some (vL v), none, none] [.ref a] h Q := by
  refine g_astore (q := 11) dX5_puts_9 gs4 rfl ?_
  refine g_bipush (q := 13) dX5_puts_11 rfl ?_
  exact g_iret dX5_puts_13 rfl hq
theorem l_puts14 (hq : Q (.returned (some (vI (-7)))) h) : GO E iX5_puts d 0 0 14 [some (.ref b), some (vI i), some (vL v), none, none] [.ref a] h Q := by
  refine g_astore (q := 16) dX5_puts_14 gs4 rfl ?_
  refine g_bipush (q := 18) dX5_puts_16 rfl ?_
  exact g_iret dX5_puts_18 rfl hq
end
section
variable {E : gE} {d a b n mc ms : Nat} {h : gH} {g : Int → Int} {i v : Int} {P : gH → Prop} {fs0 : List Value}
theorem c_putB (hb : h.1 b = some (oB 6 [.ref a])) (ha : h.1 a = some (aB E n g)) (hi : 0 ≤ i ∧ i < n) (hn : n < 1000) : CALL E iX5_put d 0 0 [.ref b, vI i, vL v] h (qV (hset h a (aB E n (upI g i (v.bmod 256))))) := by
  show GO E iX5_put _ _ _ 0 [some (.ref b), some (vI i), some (vL v), none, none] [] _ _
  refine g_aload_n (q := 1) dX5_put_0 rfl rfl ?_
  refine g_get (C := RX5) (T := TX5) (ci := 6) (k := 0) (q := 4) dX5_put_1 q513 rfl in_X5 (by decide) hb rfl rfl ?_
  refine g_inst1 (q := 7) dX5_put_4 q285 ha anm1 rfl ?_
  refine g_if_eq (t := 29) (q := 10) dX5_put_7 (by decide) rfl (by first | assumption | exact in32_gB | exact in32_gCmp | (unfold in32; omega)) (fun c7 => absurd c7 (by decide)) (fun c7 => ?_)
  refine g_aload_n (q := 11) dX5_put_10 rfl rfl ?_
  refine g_get (C := RX5) (T := TX5) (ci := 6) (k := 0) (q := 14) dX5_put_11 q513 rfl in_X5 (by decide) hb rfl rfl ?_
  refine g_castR (q := 17) dX5_put_14 q285 ha anm1 rfl ?_
  refine g_astore (q := 19) dX5_put_17 gs4 rfl ?_
  refine g_aload (q := 21) dX5_put_19 rfl rfl ?_
  refine g_iload_n (q := 22) dX5_put_21 rfl rfl ?_
  refine g_lload_n (q := 23) dX5_put_22 rfl rfl ?_
  refine g_l2i (q := 24) dX5_put_23 rfl ?_
  refine g_i2b (q := 25) dX5_put_24 rfl ?_
  refine g_bast (q := 26) dX5_put_25 ha (by omega) (by omega) (by have q1 := @Int.bmod_lt v 256 (by decide); have q2 := @Int.le_bmod v 256 (by decide); omega) rfl ?_
  refine g_goto (t := 64) dX5_put_26 (by decide) ?_
  exact g_vret dX5_put_64 rfl ⟨rfl, rfl⟩
theorem c_putBo (hb : h.1 b = some (oB 6 [.ref a])) (ha : h.1 a = some (aB E n g)) (hr : in32 i) (hi : i < 0 ∨ (n : Int) ≤ i) (hn : n < 1000) : CALL E iX5_put (d + 170) 3 1010 [.ref b, vI i, vL v] h (qT 20 fun k => ∃ fs, k = hexc h 20 fs) := by
  show GO E iX5_put _ _ _ 0 [some (.ref b), some (vI i), some (vL v), none, none] [] _ _
  refine g_aload_n (q := 1) dX5_put_0 rfl rfl ?_
  refine g_get (C := RX5) (T := TX5) (ci := 6) (k := 0) (q := 4) dX5_put_1 q513 rfl in_X5 (by decide) hb rfl rfl ?_
  refine g_inst1 (q := 7) dX5_put_4 q285 ha anm1 rfl ?_
  refine g_if_eq (t := 29) (q := 10) dX5_put_7 (by decide) rfl (by first | assumption | exact in32_gB | exact in32_gCmp | (unfold in32; omega)) (fun c7 => absurd c7 (by decide)) (fun c7 => ?_)
  refine g_aload_n (q := 11) dX5_put_10 rfl rfl ?_
  refine g_get (C := RX5) (T := TX5) (ci := 6) (k := 0) (q := 14) dX5_put_11 q513 rfl in_X5 (by decide) hb rfl rfl ?_
  refine g_castR (q := 17) dX5_put_14 q285 ha anm1 rfl ?_
  refine g_astore (q := 19) dX5_put_17 gs4 rfl ?_
  refine g_aload (q := 21) dX5_put_19 rfl rfl ?_
  refine g_iload_n (q := 22) dX5_put_21 rfl rfl ?_
  refine g_lload_n (q := 23) dX5_put_22 rfl rfl ?_
  refine g_l2i (q := 24) dX5_put_23 rfl ?_
  refine g_i2b (q := 25) dX5_put_24 rfl ?_
  exact r18 (rc := 0) (rs := 0) (RAI.bast dX5_put_25 ha hr hi hn) (by omega) (Nat.le_of_ble_eq_true rfl) (fun fs => FLY.out rfl ⟨_, fs, rfl, hset_at, fs, rfl⟩)
theorem c_putS (hb : h.1 b = some (oB 6 [.ref a])) (ha : h.1 a = some (aS E n g)) (hi : 0 ≤ i ∧ i < n) (hn : n < 1000) : CALL E iX5_put d 0 0 [.ref b, vI i, vL v] h (qV (hset h a (aS E n (upI g i (v.bmod 65536))))) := by
  show GO E iX5_put _ _ _ 0 [some (.ref b), some (vI i), some (vL v), none, none] [] _ _
  refine g_aload_n (q := 1) dX5_put_0 rfl rfl ?_
  refine g_get (C := RX5) (T := TX5) (ci := 6) (k := 0) (q := 4) dX5_put_1 q513 rfl in_X5 (by decide) hb rfl rfl ?_
  refine g_inst0 (q := 7) dX5_put_4 q285 ha anm2 nc_SB rfl ?_
  refine g_if_eq (t := 29) (q := 10) dX5_put_7 (by decide) rfl (by first | assumption | exact in32_gB | exact in32_gCmp | (unfold in32; omega)) (fun c7 => ?_) (fun c7 => absurd c7 (by decide))
  refine g_aload_n (q := 30) dX5_put_29 rfl rfl ?_
  refine g_get (C := RX5) (T := TX5) (ci := 6) (k := 0) (q := 33) dX5_put_30 q513 rfl in_X5 (by decide) hb rfl rfl ?_
  refine g_inst1 (q := 36) dX5_put_33 q286 ha anm2 rfl ?_
  refine g_if_eq (t := 58) (q := 39) dX5_put_36 (by decide) rfl (by first | assumption | exact in32_gB | exact in32_gCmp | (unfold in32; omega)) (fun c36 => absurd c36 (by decide)) (fun c36 => ?_)
  refine g_aload_n (q := 40) dX5_put_39 rfl rfl ?_
  refine g_get (C := RX5) (T := TX5) (ci := 6) (k := 0) (q := 43) dX5_put_40 q513 rfl in_X5 (by decide) hb rfl rfl ?_
  refine g_castR (q := 46) dX5_put_43 q286 ha anm2 rfl ?_
  refine g_astore (q := 48) dX5_put_46 gs4 rfl ?_
  refine g_aload (q := 50) dX5_put_48 rfl rfl ?_
  refine g_iload_n (q := 51) dX5_put_50 rfl rfl ?_
  refine g_lload_n (q := 52) dX5_put_51 rfl rfl ?_
  refine g_l2i (q := 53) dX5_put_52 rfl ?_
  refine g_i2s (q := 54) dX5_put_53 rfl ?_
  refine g_sast (q := 55) dX5_put_54 ha (by omega) (by omega) (by have q1 := @Int.bmod_lt v 65536 (by decide); have q2 := @Int.le_bmod v 65536 (by decide); omega) rfl ?_
  refine g_goto (t := 64) dX5_put_55 (by decide) ?_
  exact g_vret dX5_put_64 rfl ⟨rfl, rfl⟩
theorem c_putSo (hb : h.1 b = some (oB 6 [.ref a])) (ha : h.1 a = some (aS E n g)) (hr : in32 i) (hi : i < 0 ∨ (n : Int) ≤ i) (hn : n < 1000) : CALL E iX5_put (d + 170) 3 1010 [.ref b, vI i, vL v] h (qT 20 fun k => ∃ fs, k = hexc h 20 fs) := by
  show GO E iX5_put _ _ _ 0 [some (.ref b), some (vI i), some (vL v), none, none] [] _ _
  refine g_aload_n (q := 1) dX5_put_0 rfl rfl ?_
  refine g_get (C := RX5) (T := TX5) (ci := 6) (k := 0) (q := 4) dX5_put_1 q513 rfl in_X5 (by decide) hb rfl rfl ?_
  refine g_inst0 (q := 7) dX5_put_4 q285 ha anm2 nc_SB rfl ?_
  refine g_if_eq (t := 29) (q := 10) dX5_put_7 (by decide) rfl (by first | assumption | exact in32_gB | exact in32_gCmp | (unfold in32; omega)) (fun c7 => ?_) (fun c7 => absurd c7 (by decide))
  refine g_aload_n (q := 30) dX5_put_29 rfl rfl ?_
  refine g_get (C := RX5) (T := TX5) (ci := 6) (k := 0) (q := 33) dX5_put_30 q513 rfl in_X5 (by decide) hb rfl rfl ?_
  refine g_inst1 (q := 36) dX5_put_33 q286 ha anm2 rfl ?_
  refine g_if_eq (t := 58) (q := 39) dX5_put_36 (by decide) rfl (by first | assumption | exact in32_gB | exact in32_gCmp | (unfold in32; omega)) (fun c36 => absurd c36 (by decide)) (fun c36 => ?_)
  refine g_aload_n (q := 40) dX5_put_39 rfl rfl ?_
  refine g_get (C := RX5) (T := TX5) (ci := 6) (k := 0) (q := 43) dX5_put_40 q513 rfl in_X5 (by decide) hb rfl rfl ?_
  refine g_castR (q := 46) dX5_put_43 q286 ha anm2 rfl ?_
  refine g_astore (q := 48) dX5_put_46 gs4 rfl ?_
  refine g_aload (q := 50) dX5_put_48 rfl rfl ?_
  refine g_iload_n (q := 51) dX5_put_50 rfl rfl ?_
  refine g_lload_n (q := 52) dX5_put_51 rfl rfl ?_
  refine g_l2i (q := 53) dX5_put_52 rfl ?_
  refine g_i2s (q := 54) dX5_put_53 rfl ?_
  exact r18 (rc := 0) (rs := 0) (RAI.sast dX5_put_54 ha hr hi hn) (by omega) (Nat.le_of_ble_eq_true rfl) (fun fs => FLY.out rfl ⟨_, fs, rfl, hset_at, fs, rfl⟩)
theorem c_putsOk (hb : h.1 b = some (oB 6 fs0)) (call : CALL E iX5_put d mc ms [.ref b, vI i, vL v] h (qVP P)) : CALL E iX5_puts (d + 1) (0 + mc) (0 + ms) [.ref b, vI i, vL v] h (qP fun o k => o = vI 0 ∧ P k) := by
  show GO E iX5_puts _ _ _ 0 [some (.ref b), some (vI i), some (vL v), none, none] [] _ _
  refine g_aload_n (q := 1) dX5_puts_0 rfl rfl ?_
  refine g_iload_n (q := 2) dX5_puts_1 rfl rfl ?_
  refine g_lload_n (q := 3) dX5_puts_2 rfl rfl ?_
  refine g_cvVP (I' := iX5_put) (mc := mc) (ms := ms) (rc := 0) (rs := 0) (ci := 6) (q := 6) dX5_puts_3 q280 q282 rfl qs2 gcX5_put hb (call) rfl rfl (fun k3 z3 => ?_)
  refine g_goto (t := 19) dX5_puts_6 (by decide) ?_
  refine g_iconst (q := 20) dX5_puts_19 rfl ?_
  exact g_iret dX5_puts_20 rfl ⟨_, rfl, rfl, z3⟩
theorem c_putsT {q : Nat} {r : Int} (hb : h.1 b = some (oB 6 fs0)) (hq : q = 19 ∧ r = -6 ∨ q = 20 ∧ r = -7) (call : CALL E iX5_put d mc ms [.ref b, vI i, vL v] h (qT q P)) : CALL E iX5_puts (d + 1) (0 + mc) (0 + ms) [.ref b, vI i, vL v] h (qP fun o k => o = vI r ∧ P k) := by
  show GO E iX5_puts _ _ _ 0 [some (.ref b), some (vI i), some (vL v), none, none] [] _ _
  refine g_aload_n (q := 1) dX5_puts_0 rfl rfl ?_
  refine g_iload_n (q := 2) dX5_puts_1 rfl rfl ?_
  refine g_lload_n (q := 3) dX5_puts_2 rfl rfl ?_
  refine g_call (I' := iX5_put) ⟨_, dX5_puts_3⟩ (gInv.virtual (I' := iX5_put) (As := [vI i, vL v]) (rest := []) (ci := 6) dX5_puts_3 q280 q282 rfl qs2 gcX5_put hb rfl rfl) gcX5_put (Nat.le_of_ble_eq_true rfl) (Nat.le_of_ble_eq_true rfl) (Nat.le_of_ble_eq_true rfl) rfl call (fun w k z => by obtain ⟨x, fs, z1, -⟩ := z; cases z1) (fun x k z => ?_)
  obtain ⟨x', fs, z1, z2, z3⟩ := z
  cases z1
  rcases hq with ⟨rfl, rfl⟩ | ⟨rfl, rfl⟩
  · refine FLY.catch (q := 9) (FND.hit (ci := 19) (fs := fs) (by decide) (by decide) z2 rfl q236 q258) ?_
    exact l_puts9 ⟨_, rfl, rfl, z3⟩
  · refine FLY.catch (q := 14) (FND.pass (ci := 20) (fs := fs) (by decide) (by decide) z2 rfl q236 nc_18_16 (FND.hit (ci := 20) (fs := fs) (by decide) (by decide) z2 rfl q261 q276)) ?_
    exact l_puts14 ⟨_, rfl, rfl, z3⟩
end
