/-! THE COMPONENT: Slot.begins -/
set_option maxRecDepth 100000
section
variable {E : gE} {d b : Nat} {h : gH} {c n : Int} {v : Value}
theorem c_begins (hb : h.1 b = some (oB 6 [v])) (hlt : b < h.2) (hc : 0 ≤ c ∧ c ≤ 3) (hn : 0 ≤ n ∧ n ≤ 60) : CALL E iX5_begins d 1 (0 + n.toNat) [.ref b, vI c, vI n] h (qR (vI 1) (hset (hnew h (arrW E c n.toNat (fun _ => 0))) b (oB 6 [.ref h.2]))) := by
  have hb2 : (hnew h (arrW E c n.toNat (fun _ => 0))).1 b = some (oB 6 [v]) := (hnew_ne (by omega)).trans hb
  show GO E iX5_begins _ _ _ 0 [some (.ref b), some (vI c), some (vI n), none] [] _ _
  refine g_iload_n (q := 1) dX5_begins_0 rfl rfl ?_
  refine g_tsw dX5_begins_1 (by first | assumption | exact in32_gB | exact in32_gCmp | (unfold in32; omega)) (fun c1 => ⟨58, by decide, ?_⟩) (fun j1 c1 c1h => ?_)
  · refine g_aload_n (q := 59) dX5_begins_58 rfl rfl ?_
    refine g_iload_n (q := 60) dX5_begins_59 rfl rfl ?_
    refine g_newaL (q := 62) (rc := 0) (rs := 0) dX5_begins_60 q227 (by omega) (by omega) rfl ?_
    refine GO.cast (h' := hnew h (arrW E c n.toNat (fun _ => 0))) (by unfold arrW; rw [if_neg (by omega), if_neg (by omega), if_neg (by omega)]) ?_
    refine g_put (C := RX5) (T := TX5) (ci := 6) (k := 0) (q := 65) dX5_begins_62 q513 rfl in_X5 tyX5_ok nmX5 (by decide) rfl gFit_o hb2 (Nat.le_of_ble_eq_true rfl) rfl ?_
    refine g_goto (t := 71) dX5_begins_65 (by decide) ?_
    refine g_iconst (q := 72) dX5_begins_71 rfl ?_
    exact g_zret1 dX5_begins_72 rfl ⟨rfl, rfl⟩
  · rcases j1 with _ | _ | _ | j1
    · refine ⟨27, 28, rfl, by decide, ?_⟩
      refine g_aload_n (q := 29) dX5_begins_28 rfl rfl ?_
      refine g_iload_n (q := 30) dX5_begins_29 rfl rfl ?_
      refine g_newaB (q := 32) (rc := 0) (rs := 0) dX5_begins_30 q220 (by omega) (by omega) rfl ?_
      refine GO.cast (h' := hnew h (arrW E c n.toNat (fun _ => 0))) (by unfold arrW; rw [if_pos (by omega)]) ?_
      refine g_put (C := RX5) (T := TX5) (ci := 6) (k := 0) (q := 35) dX5_begins_32 q513 rfl in_X5 tyX5_ok nmX5 (by decide) rfl gFit_o hb2 (Nat.le_of_ble_eq_true rfl) rfl ?_
      refine g_goto (t := 65) dX5_begins_35 (by decide) ?_
      refine g_goto (t := 71) dX5_begins_65 (by decide) ?_
      refine g_iconst (q := 72) dX5_begins_71 rfl ?_
      exact g_zret1 dX5_begins_72 rfl ⟨rfl, rfl⟩
    · refine ⟨37, 38, rfl, by decide, ?_⟩
      refine g_aload_n (q := 39) dX5_begins_38 rfl rfl ?_
      refine g_iload_n (q := 40) dX5_begins_39 rfl rfl ?_
      refine g_newaS (q := 42) (rc := 0) (rs := 0) dX5_begins_40 q225 (by omega) (by omega) rfl ?_
      refine GO.cast (h' := hnew h (arrW E c n.toNat (fun _ => 0))) (by unfold arrW; rw [if_neg (by omega), if_pos (by omega)]) ?_
      refine g_put (C := RX5) (T := TX5) (ci := 6) (k := 0) (q := 45) dX5_begins_42 q513 rfl in_X5 tyX5_ok nmX5 (by decide) rfl gFit_o hb2 (Nat.le_of_ble_eq_true rfl) rfl ?_
      refine g_goto (t := 65) dX5_begins_45 (by decide) ?_
      refine g_goto (t := 71) dX5_begins_65 (by decide) ?_
      refine g_iconst (q := 72) dX5_begins_71 rfl ?_
      exact g_zret1 dX5_begins_72 rfl ⟨rfl, rfl⟩
    · refine ⟨47, 48, rfl, by decide, ?_⟩
      refine g_aload_n (q := 49) dX5_begins_48 rfl rfl ?_
      refine g_iload_n (q := 50) dX5_begins_49 rfl rfl ?_
      refine g_newaI (q := 52) (rc := 0) (rs := 0) dX5_begins_50 q226 (by omega) (by omega) rfl ?_
      refine GO.cast (h' := hnew h (arrW E c n.toNat (fun _ => 0))) (by unfold arrW; rw [if_neg (by omega), if_neg (by omega), if_pos (by omega)]) ?_
      refine g_put (C := RX5) (T := TX5) (ci := 6) (k := 0) (q := 55) dX5_begins_52 q513 rfl in_X5 tyX5_ok nmX5 (by decide) rfl gFit_o hb2 (Nat.le_of_ble_eq_true rfl) rfl ?_
      refine g_goto (t := 65) dX5_begins_55 (by decide) ?_
      refine g_goto (t := 71) dX5_begins_65 (by decide) ?_
      refine g_iconst (q := 72) dX5_begins_71 rfl ?_
      exact g_zret1 dX5_begins_72 rfl ⟨rfl, rfl⟩
    · exact absurd c1h (by omega)
theorem c_beginsNeg (hc : 0 ≤ c ∧ c ≤ 3) (hr : in32 n) (hn : n < 0) : CALL E iX5_begins (d + 170) 3 1010 [.ref b, vI c, vI n] h (qP fun o k => o = vI 0 ∧ ∃ fs, k = hexc h 18 fs) := by
  have hF : ∀ fs pc, pc < 65 → FND E iX5_begins pc (h.2 + 2) (hexc h 18 fs) (tableOf iX5_begins.2.2.2.2) (.found 68) := fun fs pc hp =>
    FND.hit (ci := 18) (fs := fs) (by simp only [covers]; simp [hp]) (by decide) hset_at rfl q137 q202
  show GO E iX5_begins _ _ _ 0 [some (.ref b), some (vI c), some (vI n), none] [] _ _
  refine g_iload_n (q := 1) dX5_begins_0 rfl rfl ?_
  refine g_tsw dX5_begins_1 (by first | assumption | exact in32_gB | exact in32_gCmp | (unfold in32; omega)) (fun c1 => ⟨58, by decide, ?_⟩) (fun j1 c1 c1h => ?_)
  · refine g_aload_n (q := 59) dX5_begins_58 rfl rfl ?_
    refine g_iload_n (q := 60) dX5_begins_59 rfl rfl ?_
    refine r15 (rc := 0) (rs := 0) (RAI.neg dX5_begins_60 hr hn) (by omega) (Nat.le_of_ble_eq_true rfl) (fun fs => FLY.catch (hF fs 60 (by decide)) ?_)
    refine g_astore_n (q := 69) dX5_begins_68 gs3 rfl ?_
    refine g_iconst (q := 70) dX5_begins_69 rfl ?_
    exact g_zret0 dX5_begins_70 rfl ⟨_, rfl, rfl, fs, rfl⟩
  · rcases j1 with _ | _ | _ | j1
    · refine ⟨27, 28, rfl, by decide, ?_⟩
      refine g_aload_n (q := 29) dX5_begins_28 rfl rfl ?_
      refine g_iload_n (q := 30) dX5_begins_29 rfl rfl ?_
      refine r15 (rc := 0) (rs := 0) (RAI.neg dX5_begins_30 hr hn) (by omega) (Nat.le_of_ble_eq_true rfl) (fun fs => FLY.catch (hF fs 30 (by decide)) ?_)
      refine g_astore_n (q := 69) dX5_begins_68 gs3 rfl ?_
      refine g_iconst (q := 70) dX5_begins_69 rfl ?_
      exact g_zret0 dX5_begins_70 rfl ⟨_, rfl, rfl, fs, rfl⟩
    · refine ⟨37, 38, rfl, by decide, ?_⟩
      refine g_aload_n (q := 39) dX5_begins_38 rfl rfl ?_
      refine g_iload_n (q := 40) dX5_begins_39 rfl rfl ?_
      refine r15 (rc := 0) (rs := 0) (RAI.neg dX5_begins_40 hr hn) (by omega) (Nat.le_of_ble_eq_true rfl) (fun fs => FLY.catch (hF fs 40 (by decide)) ?_)
      refine g_astore_n (q := 69) dX5_begins_68 gs3 rfl ?_
      refine g_iconst (q := 70) dX5_begins_69 rfl ?_
      exact g_zret0 dX5_begins_70 rfl ⟨_, rfl, rfl, fs, rfl⟩
    · refine ⟨47, 48, rfl, by decide, ?_⟩
      refine g_aload_n (q := 49) dX5_begins_48 rfl rfl ?_
      refine g_iload_n (q := 50) dX5_begins_49 rfl rfl ?_
      refine r15 (rc := 0) (rs := 0) (RAI.neg dX5_begins_50 hr hn) (by omega) (Nat.le_of_ble_eq_true rfl) (fun fs => FLY.catch (hF fs 50 (by decide)) ?_)
      refine g_astore_n (q := 69) dX5_begins_68 gs3 rfl ?_
      refine g_iconst (q := 70) dX5_begins_69 rfl ?_
      exact g_zret0 dX5_begins_70 rfl ⟨_, rfl, rfl, fs, rfl⟩
    · exact absurd c1h (by omega)
end
