/-! MY LOGIC, part 27: athrow; calls that may throw. THE COMPONENT: Wrong, fails -/
set_option maxRecDepth 100000
theorem STA_US {E : gE} (ok : gOK E) : ∃ v, gR v ∧ STA E "java/lang/Throwable" "UNASSIGNED_STACK" "[Ljava/lang/StackTraceElement;" v := by
  have := va_Zqof (A := gOld E) (ok.1 _ q154) (ok.1 _ (lw_all_tbl q100)) (gNw ok (.isRef (.static "java/lang/Throwable" "UNASSIGNED_STACK" "[Ljava/lang/StackTraceElement;")) (List.mem_of_getElem? (i := 2) rfl)) gOld_lt
  rcases this with w | ⟨t, w⟩
  · exact ⟨_, gR_null, w⟩
  · exact ⟨_, gR_ref, w⟩
theorem STA_SS {E : gE} (ok : gOK E) : ∃ v, gR v ∧ STA E "java/lang/Throwable" "SUPPRESSED_SENTINEL" "Ljava/util/List;" v := by
  have := va_Zqof (A := gOld E) (ok.1 _ q156) (ok.1 _ (lw_all_tbl q100)) (gNw ok (.isRef (.static "java/lang/Throwable" "SUPPRESSED_SENTINEL" "Ljava/util/List;")) (List.mem_of_getElem? (i := 3) rfl)) gOld_lt
  rcases this with w | ⟨t, w⟩
  · exact ⟨_, gR_null, w⟩
  · exact ⟨_, gR_ref, w⟩
theorem gFit_oR {C : String} {v : Value} (h : gR v) : gFit (.object C) v := by
  rcases h with rfl | ⟨a, rfl⟩
  · exact ⟨rfl, rfl⟩
  · exact ⟨rfl, rfl⟩
theorem gFit_aR {t : FieldType} {v : Value} (h : gR v) : gFit (.array t) v := by
  rcases h with rfl | ⟨a, rfl⟩
  · exact ⟨rfl, rfl⟩
  · exact ⟨rfl, rfl⟩
/-- returned a value, or threw -/
def qE (Pn : Value → gH → Prop) (Pe : Nat → gH → Prop) : Outcome → gH → Prop := fun o k => match o with
  | .returned (some v) => Pn v k
  | .returned none => False
  | .threw x => Pe x k
def qVE (Pn : gH → Prop) (Pe : Nat → gH → Prop) : Outcome → gH → Prop := fun o k => match o with
  | .returned none => Pn k
  | .returned (some _) => False
  | .threw x => Pe x k
section
variable {E : gE} {I I' : gI} {d rc rs mc ms pc q idx np b ci a : Nat} {lv : List (Option Value)} {st rest fs As : List Value} {h : gH} {Q : Outcome → gH → Prop} {r : vw_C} {Pn : Value → gH → Prop} {Pv : gH → Prop} {Pe : Nat → gH → Prop}
theorem g_athrow (hd : decode I.2.1 pc = .ok (.athrow, 1)) (kk : FLY E I d rc rs pc lv a h Q) : GO E I d rc rs pc lv (.ref a :: st) h Q := by
  intro p l e R s m args below meth c H locs k n ls hc a1 a2 a3 a4 hR hL hl T hT X
  subst hT
  obtain ⟨t, st1, en⟩ := kk p l e R s m args below meth c T locs k n ls st hc a1 a2 a3 a4 hR hL hl X
  refine ⟨t, ?_, en⟩
  have hdg : decode c.code pc = .ok (.athrow, 1) := by rw [hc.2.1]; exact hd
  have hA : At T (F0 m pc ls (.ref a :: st)).method c below := X.here
  jvm_step hA [hc.1, hdg, athrow.wp_sem]
  exact st1
theorem g_cvE (hd : decode I.2.1 pc = .ok (.invokevirtual idx, 3)) (hlink : Cond.methodLink I.1.cls idx I'.1 ∈ lw_all) (hinst : Cond.instanceMethod I'.1 ∈ lw_all) (hcl : vwCl[ci]? = some r) (hsel : Cond.selects r.1 I'.1 I'.1 ∈ lw_all) (hg : gCode I' np) (hb : h.1 b = some (oB ci fs)) (call : CALL E I' d mc ms (.ref b :: As) h (qE Pn Pe)) (hst : st = As.reverse ++ .ref b :: rest) (hq : pc + 3 = q) (kx : ∀ x k, Pe x k → Q (.threw x) k) (kk : ∀ v k, Pn v k → GO E I (d + 1) rc rs q lv (v :: rest) k Q)
    (hn : As.length = np := by rfl) (hf : (lg_sl (.ref b :: As)).length ≤ I'.2.2.1 := by exact Nat.le_of_ble_eq_true rfl) (hw : (rest.map fun v => v.category).sum ≤ 20 := by exact Nat.le_of_ble_eq_true rfl) (hm : I'.2.2.1 ≤ 33 := by exact Nat.le_of_ble_eq_true rfl) (hh : (tableOf I.2.2.2.2).all (fun y => !covers y pc) = true := by exact rfl) : GO E I (d + 1) (rc + mc) (rs + ms) pc lv st h Q :=
  g_call ⟨_, hd⟩ (gInv.virtual hd hlink hinst hcl hsel hg hb hn hst) hg hf hw hm hq call (fun w k' z => by
    cases w with
    | none => exact z.elim
    | some v => exact kk v k' z) (fun x k' z => FLY.out hh (kx x k' z))
theorem g_cvVE (hd : decode I.2.1 pc = .ok (.invokevirtual idx, 3)) (hlink : Cond.methodLink I.1.cls idx I'.1 ∈ lw_all) (hinst : Cond.instanceMethod I'.1 ∈ lw_all) (hcl : vwCl[ci]? = some r) (hsel : Cond.selects r.1 I'.1 I'.1 ∈ lw_all) (hg : gCode I' np) (hb : h.1 b = some (oB ci fs)) (call : CALL E I' d mc ms (.ref b :: As) h (qVE Pv Pe)) (hst : st = As.reverse ++ .ref b :: rest) (hq : pc + 3 = q) (kx : ∀ x k, Pe x k → Q (.threw x) k) (kk : ∀ k, Pv k → GO E I (d + 1) rc rs q lv rest k Q)
    (hn : As.length = np := by rfl) (hf : (lg_sl (.ref b :: As)).length ≤ I'.2.2.1 := by exact Nat.le_of_ble_eq_true rfl) (hw : (rest.map fun v => v.category).sum ≤ 20 := by exact Nat.le_of_ble_eq_true rfl) (hm : I'.2.2.1 ≤ 33 := by exact Nat.le_of_ble_eq_true rfl) (hh : (tableOf I.2.2.2.2).all (fun y => !covers y pc) = true := by exact rfl) : GO E I (d + 1) (rc + mc) (rs + ms) pc lv st h Q :=
  g_call ⟨_, hd⟩ (gInv.virtual hd hlink hinst hcl hsel hg hb hn hst) hg hf hw hm hq call (fun w k' z => by
    cases w with
    | none => exact kk k' z
    | some v => exact z.elim) (fun x k' z => FLY.out hh (kx x k' z))
end
/-- a Wrong -/
def wrO (k p : Int) : va_E := oB 11 [.null, .null, .null, .null, .null, vI 0, vI k, vI p]
section
variable {E : gE} {d b r so la ak ta tx rl : Nat} {h : gH} {k p k0 p0 sz : Int} {P : PS} {c0 s0 u0 m0 bt dp : Value}
theorem c_thr3 (ok : gOK E) (hb : h.1 b = some (oB 11 [c0, s0, u0, m0, bt, dp, vI k0, vI p0])) : CALL E iJ8_init_3 (d + 1) 0 0 [.ref b, .null, .null, vI 0, vI 0] h (qV (hset h b (oB 11 [.null, .null, .null, .null, bt, dp, vI k0, vI p0]))) := by
  obtain ⟨v1, hv1, hS1⟩ := STA_US ok
  obtain ⟨v2, hv2, hS2⟩ := STA_SS ok
  show GO E iJ8_init_3 _ _ _ 0 [some (.ref b), some (.null), some (.null), some (vI 0), some (vI 0)] [] _ _
  refine g_aload_n (q := 1) dJ8_init_3_0 rfl rfl ?_
  refine g_objInit (q := 4) dJ8_init_3_1 q150 rfl ?_
  refine g_aload_n (q := 5) dJ8_init_3_4 rfl rfl ?_
  refine g_aload_n (q := 6) dJ8_init_3_5 rfl rfl ?_
  refine g_put (C := RX8) (T := TX8) (ci := 11) (k := 0) (q := 9) dJ8_init_3_6 q186 rfl in_X8 tyX8_ok nmX8 (by decide) rfl gFit_o hb (Nat.le_of_ble_eq_true rfl) rfl ?_
  refine g_aload_n (q := 10) dJ8_init_3_9 rfl rfl ?_
  refine g_gets (q := 13) dJ8_init_3_10 q153 (hS1) rfl ?_
  refine g_put (C := RX8) (T := TX8) (ci := 11) (k := 1) (q := 16) dJ8_init_3_13 q187 rfl in_X8 tyX8_ok nmX8 (by decide) rfl (gFit_aR hv1) hset_at (Nat.le_of_ble_eq_true rfl) rfl ?_
  rw [hset_hset]
  refine g_aload_n (q := 17) dJ8_init_3_16 rfl rfl ?_
  refine g_gets (q := 20) dJ8_init_3_17 q155 (hS2) rfl ?_
  refine g_put (C := RX8) (T := TX8) (ci := 11) (k := 2) (q := 23) dJ8_init_3_20 q188 rfl in_X8 tyX8_ok nmX8 (by decide) rfl (gFit_oR hv2) hset_at (Nat.le_of_ble_eq_true rfl) rfl ?_
  rw [hset_hset]
  refine g_iload (q := 25) dJ8_init_3_23 rfl rfl ?_
  refine g_if_eq (t := 36) (q := 28) dJ8_init_3_25 (by decide) rfl (by first | assumption | exact in32_gB | exact in32_gCmp | (unfold in32; omega)) (fun c25 => ?_) (fun c25 => ?_)
  · refine g_aload_n (q := 37) dJ8_init_3_36 rfl rfl ?_
    refine g_null (q := 38) dJ8_init_3_37 rfl ?_
    refine g_put (C := RX8) (T := TX8) (ci := 11) (k := 1) (q := 41) dJ8_init_3_38 q187 rfl in_X8 tyX8_ok nmX8 (by decide) rfl gFit_aN hset_at (Nat.le_of_ble_eq_true rfl) rfl ?_
    rw [hset_hset]
    refine g_aload_n (q := 42) dJ8_init_3_41 rfl rfl ?_
    refine g_aload_n (q := 43) dJ8_init_3_42 rfl rfl ?_
    refine g_put (C := RX8) (T := TX8) (ci := 11) (k := 3) (q := 46) dJ8_init_3_43 q185 rfl in_X8 tyX8_ok nmX8 (by decide) rfl gFit_oN hset_at (Nat.le_of_ble_eq_true rfl) rfl ?_
    rw [hset_hset]
    refine g_aload_n (q := 47) dJ8_init_3_46 rfl rfl ?_
    refine g_aload_n (q := 48) dJ8_init_3_47 rfl rfl ?_
    refine g_put (C := RX8) (T := TX8) (ci := 11) (k := 0) (q := 51) dJ8_init_3_48 q186 rfl in_X8 tyX8_ok nmX8 (by decide) rfl gFit_oN hset_at (Nat.le_of_ble_eq_true rfl) rfl ?_
    rw [hset_hset]
    refine g_iload_n (q := 52) dJ8_init_3_51 rfl rfl ?_
    refine g_if_ne (t := 60) (q := 55) dJ8_init_3_52 (by decide) rfl (by first | assumption | exact in32_gB | exact in32_gCmp | (unfold in32; omega)) (fun c52 => ?_) (fun c52 => ?_)
    · exact absurd rfl c52
    · refine g_aload_n (q := 56) dJ8_init_3_55 rfl rfl ?_
      refine g_null (q := 57) dJ8_init_3_56 rfl ?_
      refine g_put (C := RX8) (T := TX8) (ci := 11) (k := 2) (q := 60) dJ8_init_3_57 q188 rfl in_X8 tyX8_ok nmX8 (by decide) rfl gFit_oN hset_at (Nat.le_of_ble_eq_true rfl) rfl ?_
      rw [hset_hset]
      exact g_vret dJ8_init_3_60 rfl ⟨rfl, rfl⟩
  · exact absurd rfl c25
theorem c_exc3 (ok : gOK E) (hb : h.1 b = some (oB 11 [c0, s0, u0, m0, bt, dp, vI k0, vI p0])) : CALL E iJ9_init_3 (d + 2) 0 0 [.ref b, .null, .null, vI 0, vI 0] h (qV (hset h b (oB 11 [.null, .null, .null, .null, bt, dp, vI k0, vI p0]))) := by
  show GO E iJ9_init_3 _ _ _ 0 [some (.ref b), some (.null), some (.null), some (vI 0), some (vI 0)] [] _ _
  refine g_aload_n (q := 1) dJ9_init_3_0 rfl rfl ?_
  refine g_aload_n (q := 2) dJ9_init_3_1 rfl rfl ?_
  refine g_aload_n (q := 3) dJ9_init_3_2 rfl rfl ?_
  refine g_iload_n (q := 4) dJ9_init_3_3 rfl rfl ?_
  refine g_iload (q := 6) dJ9_init_3_4 rfl rfl ?_
  refine g_ci (I' := iJ8_init_3) (mc := 0) (ms := 0) (rc := 0) (rs := 0) (q := 9) dJ9_init_3_6 q737 q738 rfl q739 gcJ8_init_3 (c_thr3 ok hb) rfl rfl ?_
  exact g_vret dJ9_init_3_9 rfl ⟨rfl, rfl⟩
theorem c_wrong (ok : gOK E) (hb : h.1 b = some (oB 11 [c0, s0, u0, m0, bt, dp, vI k0, vI p0])) : CALL E iX8_init (d + 3) 0 0 [.ref b, vI k, vI p] h (qV (hset h b (oB 11 [.null, .null, .null, .null, bt, dp, vI k, vI p]))) := by
  show GO E iX8_init _ _ _ 0 [some (.ref b), some (vI k), some (vI p)] [] _ _
  refine g_aload_n (q := 1) dX8_init_0 rfl rfl ?_
  refine g_null (q := 2) dX8_init_1 rfl ?_
  refine g_null (q := 3) dX8_init_2 rfl ?_
  refine g_iconst (q := 4) dX8_init_3 rfl ?_
  refine g_iconst (q := 5) dX8_init_4 rfl ?_
  refine g_ci (I' := iJ9_init_3) (mc := 0) (ms := 0) (rc := 0) (rs := 0) (q := 8) dX8_init_5 q734 q735 rfl q736 gcJ9_init_3 (c_exc3 ok hb) rfl rfl ?_
  refine g_aload_n (q := 9) dX8_init_8 rfl rfl ?_
  refine g_iload_n (q := 10) dX8_init_9 rfl rfl ?_
  refine g_putF (C := RX8) (T := TX8) (ci := 11) (k := 6) (q := 13) dX8_init_10 q740 rfl in_X8 tyX8_ok nmX8 (by decide) rfl rfl rfl gFit_int hset_at (Nat.le_of_ble_eq_true rfl) rfl ?_
  rw [hset_hset]
  refine g_aload_n (q := 14) dX8_init_13 rfl rfl ?_
  refine g_iload_n (q := 15) dX8_init_14 rfl rfl ?_
  refine g_putF (C := RX8) (T := TX8) (ci := 11) (k := 7) (q := 18) dX8_init_15 q742 rfl in_X8 tyX8_ok nmX8 (by decide) rfl rfl rfl gFit_int hset_at (Nat.le_of_ble_eq_true rfl) rfl ?_
  rw [hset_hset]
  exact g_vret dX8_init_18 rfl ⟨rfl, rfl⟩
theorem c_fails (ok : gOK E) (hr : r < h.2) : CALL E iX7_fails (d + 4) 1 8 [.ref r, vI k] (hset h r (rdO so la ak ta tx rl sz P)) (fun o h' => o = .threw h.2 ∧ h' = hnew (hset h r (rdO so la ak ta tx rl sz P)) (wrO k P.2.1)) := by
  have hc : ∀ v, (hnew (hset h r (rdO so la ak ta tx rl sz P)) v).1 r = some (oB 8 [.ref so, .ref la, .ref ak, .ref ta, vI sz, .ref tx, .ref rl, vI P.1, vI P.2.1, vI P.2.2.1, vI P.2.1, vI (vX P)]) := fun v => (hnew_ne (h := hset h r (rdO so la ak ta tx rl sz P)) (show r ≠ h.2 by omega)).trans hset_at
  show GO E iX7_fails _ _ _ 0 [some (.ref r), some (vI k)] [] _ _
  refine g_new (C := RX8) (T := TX8) (N := 8) (ci := 11) (fs := [.null, .null, .null, .null, .null, vI 0, vI 0, vI 0]) (q := 3) dX7_fails_0 q722 q723 q102 rfl in_X8 tyX8_ok (by decide) rfl ?_
  refine g_dup (q := 4) dX7_fails_3 rfl ?_
  refine g_iload_n (q := 5) dX7_fails_4 rfl rfl ?_
  refine g_aload_n (q := 6) dX7_fails_5 rfl rfl ?_
  refine g_get (C := RX7) (T := TX7) (ci := 8) (k := 10) (q := 9) dX7_fails_6 q604 rfl in_X7 (by decide) (hc _) rfl rfl ?_
  refine g_ci (I' := iX8_init) (mc := 0) (ms := 0) (rc := 0) (rs := 0) (q := 12) dX7_fails_9 q731 q732 rfl q733 gcX8_init (c_wrong ok hnew_at) rfl rfl ?_
  exact g_athrow dX7_fails_12 (FLY.out rfl ⟨rfl, hnew_set⟩)
end
