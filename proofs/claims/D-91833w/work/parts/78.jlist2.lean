/-! THE JDK: ArrayList, what writes -/
set_option maxRecDepth 100000
section Rows
variable {E : gE} {I : gI} {d rc rs pc q a : Nat} {lv : List (Option Value)} {st : List Value} {h : gH} {Q : Outcome → gH → Prop}
/-- an inherited field, named through the heir -/
theorem g_getR {C ref : String} {T : u_T} {N ci index k : Nat} {fs : List Value} {v : Value} (hd : decode I.2.1 pc = .ok (.getfield index, 3)) (hlink : Cond.fieldLink I.1.cls index ref (T k).2.1 (T k).2.2.1 ∈ lw_all) (hsame : Cond.sameField ref (T k).1 (T k).2.1 (T k).2.2.1 ∈ lw_all) (hcl : vwCl[ci]? = some (C, T, N)) (hin : ∀ w ∈ u_ws C T N, w ∈ lw_all) (hk : k < N) (ha : h.1 a = some (oB ci fs)) (hv : fs[k]? = some v) (hq : pc + 3 = q) (kk : GO E I d rc rs q lv (v :: st) h Q) : GO E I d rc rs pc lv (.ref a :: st) h Q := by
  subst hq
  intro p l e R s m args below meth c H locs k n ls hc a1 a2 a3 a4 hR hL hl
  exact va_get hc.1 hc.2.1 (Ts := lw_all) (fun w hw => gw hc hw) hin hc.2.2.2.2.2.2.1 (gK hc) (hR.P ha) 0 rfl hcl _ hk (gw hc hlink) (fun x w => u_same (gw hc (args := args) hsame) x w) hv hd (kk p l e R s m args below meth c H locs k n ls hc a1 a2 a3 a4 hR hL hl)
theorem g_putR {C ref : String} {T : u_T} {N ci index k : Nat} {fs : List Value} {v : Value} {ty : Nat → FieldType} (hd : decode I.2.1 pc = .ok (.putfield index, 3)) (hlink : Cond.fieldLink I.1.cls index ref (T k).2.1 (T k).2.2.1 ∈ lw_all) (hsame : Cond.sameField ref (T k).1 (T k).2.1 (T k).2.2.1 ∈ lw_all) (hcl : vwCl[ci]? = some (C, T, N)) (hin : ∀ w ∈ u_ws C T N, w ∈ lw_all)
    (hty : ∀ k, k < N → parseFieldDescriptor (T k).2.2.1 = some (ty k)) (hnm : ∀ a, a < N → ∀ b, b < N → a ≠ b → (T a).2.1 ≠ (T b).2.1) (hk : k < N) (hfin : (T k).2.2.2 = false) (hfit : gFit (ty k) v) (ha : h.1 a = some (oB ci fs)) (hl0 : k < fs.length) (hq : pc + 3 = q) (kk : GO E I d rc rs q lv st (hset h a (oB ci (fs.set k v))) Q) : GO E I d rc rs pc lv (v :: .ref a :: st) h Q := by
  refine g_putX (ty := ty) ?_ hcl hin hty hnm hk ha hl0 hq kk
  intro p l e R s m args below meth c H locs k0 n ls Qs cell cf fi kf f hc q1 q2 q3 hi hlt hW
  obtain ⟨hS, hfc, kC, hkC, hkind⟩ := (gK hc).1 ci _ hcl
  have hlay : (u_lay C T k).before args s = true := gw hc (hin _ (u_in_lay hk))
  unfold u_lay at hlay
  rw [if_neg (by rw [hfin]; decide)] at hlay
  have hst := (u_facts hfc hkC (u_lays (ws := lw_all) (args := args) (fun w hw => gw hc hw) hin hk) hi).1
  have h6 := u_store hfc hkC hkind hlay hi (hty k hk) hfit.1 hfit.2
  exact W.putK hc.1 hc.2.1 (f := f) ⟨hc.2.2.2.2.2.2.1, gw hc hlink, ⟨_, _, _, u_same (gw hc (args := args) hsame) _ hi⟩, hst⟩ (by rw [q2]; exact h6) q1 q3 hlt rfl rfl hd hW
end Rows
/-- a list at l with its row at ar, over the heap h -/
def lH (E : gE) (h : gH) (l ar cap : Nat) (mo sz : Int) (f : Int → Option Nat) : gH := hset (hset h ar (aR E 12 cap f)) l (oB 3 [vI mo, .ref ar, vI sz])
def clrF (f : Int → Option Nat) (n : Int) : Int → Option Nat := fun j => if 0 ≤ j ∧ j < n then none else f j
theorem clrF_0 {f : Int → Option Nat} : clrF f 0 = f := funext fun j => if_neg (by omega)
theorem clrF_s {f : Int → Option Nat} {n : Int} (h : 0 ≤ n) : upI (clrF f n) n none = clrF f (n + 1) := by
  funext j
  unfold clrF
  by_cases e : j = n
  · subst e; rw [upI_at, if_pos (by omega)]
  · rw [upI_ne e]
    by_cases c : 0 ≤ j ∧ j < n
    · rw [if_pos c, if_pos (by omega)]
    · rw [if_neg c, if_neg (by omega)]
section
variable {E : gE} {d l ar cap v : Nat} {h : gH} {mo sz i n : Int} {f f' : Int → Option Nat} {x : Value}
theorem lH_l : (lH E h l ar cap mo sz f).1 l = some (oB 3 [vI mo, .ref ar, vI sz]) := hset_at
theorem lH_a (hne : ar ≠ l) : (lH E h l ar cap mo sz f).1 ar = some (aR E 12 cap f) := (hset_ne hne).trans hset_at
theorem lH_out {b : Nat} (h1 : b ≠ l) (h2 : b ≠ ar) : (lH E h l ar cap mo sz f).1 b = h.1 b := (hset_ne h1).trans (hset_ne h2)
theorem lH_pl {mo' sz' : Int} : hset (lH E h l ar cap mo sz f) l (oB 3 [vI mo', .ref ar, vI sz']) = lH E h l ar cap mo' sz' f := hset_hset
theorem lH_pa (hne : ar ≠ l) : hset (lH E h l ar cap mo sz f) ar (aR E 12 cap f') = lH E h l ar cap mo sz f' := by
  unfold lH
  rw [hset_comm (Ne.symm hne), hset_hset]
theorem c_lclear (hne : ar ≠ l) (hs0 : 0 ≤ sz ∧ sz ≤ cap) (hc : cap < 2147483648) : CALL E iJ2_clear d 0 0 [.ref l] (lH E h l ar cap mo sz f) (qV (lH E h l ar cap (mo + 1) 0 (clrF f sz))) := by
  have loop : ∀ (k : Nat) (i : Int), 0 ≤ i → i + k = sz → GO E iJ2_clear d 0 0 27 [some (.ref l), some (.ref ar), some (vI sz), some (vI i)] [] (lH E h l ar cap (mo + 1) 0 (clrF f i)) (qV (lH E h l ar cap (mo + 1) 0 (clrF f sz))) := by
    intro k
    induction k with
    | zero =>
      intro i h0 h1
      obtain rfl : i = sz := by omega
      refine g_iload_n (q := 28) dJ2_clear_27 rfl rfl ?_
      refine g_iload_n (q := 29) dJ2_clear_28 rfl rfl ?_
      refine g_icmp_ge (t := 42) (q := 32) dJ2_clear_29 (by decide) rfl (by first | assumption | exact in32_gB | exact in32_gCmp | (unfold in32; omega)) (by first | assumption | exact in32_gB | exact in32_gCmp | (unfold in32; omega)) (fun c29 => ?_) (fun c29 => ?_)
      · exact g_vret dJ2_clear_42 rfl ⟨rfl, rfl⟩
      · exact absurd c29 (by omega)
    | succ k ih =>
      intro i h0 h1
      refine g_iload_n (q := 28) dJ2_clear_27 rfl rfl ?_
      refine g_iload_n (q := 29) dJ2_clear_28 rfl rfl ?_
      refine g_icmp_ge (t := 42) (q := 32) dJ2_clear_29 (by decide) rfl (by first | assumption | exact in32_gB | exact in32_gCmp | (unfold in32; omega)) (by first | assumption | exact in32_gB | exact in32_gCmp | (unfold in32; omega)) (fun c29 => ?_) (fun c29 => ?_)
      · exact absurd c29 (by omega)
      · refine g_aload_n (q := 33) dJ2_clear_32 rfl rfl ?_
        refine g_iload_n (q := 34) dJ2_clear_33 rfl rfl ?_
        refine g_null (q := 35) dJ2_clear_34 rfl ?_
        refine g_aastN (q := 36) (t0 := 12) (C := "java/lang/Object") dJ2_clear_35 (lH_a hne) rfl (by omega) (by omega) rfl ?_
        refine GO.cast (lH_pa hne) ?_
        rw [clrF_s h0]
        refine g_iinc (q := 39) dJ2_clear_36 rfl gs3 rfl ?_
        refine g_goto (t := 27) dJ2_clear_39 (by decide) ?_
        exact ih _ (by omega) (by omega)
  show GO E iJ2_clear _ _ _ 0 [some (.ref l), none, none, none] [] _ _
  refine g_aload_n (q := 1) dJ2_clear_0 rfl rfl ?_
  refine g_dup (q := 2) dJ2_clear_1 rfl ?_
  refine g_getR (C := RJ2) (T := TJ2) (ci := 3) (k := 0) (q := 5) dJ2_clear_2 q404 q405 rfl in_J2 (by decide) lH_l rfl rfl ?_
  refine g_iconst (q := 6) dJ2_clear_5 rfl ?_
  refine g_iadd (q := 7) dJ2_clear_6 rfl ?_
  refine g_putR (C := RJ2) (T := TJ2) (ci := 3) (k := 0) (q := 10) dJ2_clear_7 q404 q405 rfl in_J2 tyJ2_ok nmJ2 (by decide) rfl gFit_int lH_l (Nat.le_of_ble_eq_true rfl) rfl ?_
  refine GO.cast (h' := lH E h l ar cap (mo + 1) sz f) lH_pl ?_
  refine g_aload_n (q := 11) dJ2_clear_10 rfl rfl ?_
  refine g_get (C := RJ2) (T := TJ2) (ci := 3) (k := 1) (q := 14) dJ2_clear_11 q401 rfl in_J2 (by decide) lH_l rfl rfl ?_
  refine g_astore_n (q := 15) dJ2_clear_14 gs1 rfl ?_
  refine g_aload_n (q := 16) dJ2_clear_15 rfl rfl ?_
  refine g_get (C := RJ2) (T := TJ2) (ci := 3) (k := 2) (q := 19) dJ2_clear_16 q402 rfl in_J2 (by decide) lH_l rfl rfl ?_
  refine g_istore_n (q := 20) dJ2_clear_19 gs2 rfl ?_
  refine g_aload_n (q := 21) dJ2_clear_20 rfl rfl ?_
  refine g_iconst (q := 22) dJ2_clear_21 rfl ?_
  refine g_dup_x1 (q := 23) dJ2_clear_22 rfl ?_
  refine g_put (C := RJ2) (T := TJ2) (ci := 3) (k := 2) (q := 26) dJ2_clear_23 q402 rfl in_J2 tyJ2_ok nmJ2 (by decide) rfl gFit_int lH_l (Nat.le_of_ble_eq_true rfl) rfl ?_
  refine GO.cast (h' := lH E h l ar cap (mo + 1) 0 f) lH_pl ?_
  refine g_istore_n (q := 27) dJ2_clear_26 gs3 rfl ?_
  have z := loop sz.toNat 0 (by omega) (by omega)
  rw [clrF_0] at z
  exact z
/-- one more, where there is room -/
theorem c_ladd2 (hne : ar ≠ l) (hs0 : 0 ≤ sz ∧ sz < cap) (hc : cap < 2147483648) (hv : gAny E iJ2_add_2 "java/lang/Object" (lH E h l ar cap mo sz f) v) : CALL E iJ2_add_2 d 0 0 [.ref l, .ref v, .ref ar, vI sz] (lH E h l ar cap mo sz f) (qV (lH E h l ar cap mo (sz + 1) (upI f sz (some v)))) := by
  show GO E iJ2_add_2 _ _ _ 0 [some (.ref l), some (.ref v), some (.ref ar), some (vI sz)] [] _ _
  refine g_iload_n (q := 1) dJ2_add_2_0 rfl rfl ?_
  refine g_aload_n (q := 2) dJ2_add_2_1 rfl rfl ?_
  refine g_alen 12 (q := 3) dJ2_add_2_2 (lH_a hne) rfl rfl rfl ?_
  refine g_icmp_ne (t := 11) (q := 6) dJ2_add_2_3 (by decide) rfl (by first | assumption | exact in32_gB | exact in32_gCmp | (unfold in32; omega)) (by first | assumption | exact in32_gB | exact in32_gCmp | (unfold in32; omega)) (fun c3 => ?_) (fun c3 => ?_)
  · refine g_aload_n (q := 12) dJ2_add_2_11 rfl rfl ?_
    refine g_iload_n (q := 13) dJ2_add_2_12 rfl rfl ?_
    refine g_aload_n (q := 14) dJ2_add_2_13 rfl rfl ?_
    refine g_aast (q := 15) (t0 := 12) (C := "java/lang/Object") dJ2_add_2_14 (lH_a hne) rfl hv (by omega) (by omega) rfl ?_
    refine GO.cast (lH_pa hne) ?_
    refine g_aload_n (q := 16) dJ2_add_2_15 rfl rfl ?_
    refine g_iload_n (q := 17) dJ2_add_2_16 rfl rfl ?_
    refine g_iconst (q := 18) dJ2_add_2_17 rfl ?_
    refine g_iadd (q := 19) dJ2_add_2_18 rfl ?_
    refine g_put (C := RJ2) (T := TJ2) (ci := 3) (k := 2) (q := 22) dJ2_add_2_19 q402 rfl in_J2 tyJ2_ok nmJ2 (by decide) rfl gFit_int lH_l (Nat.le_of_ble_eq_true rfl) rfl ?_
    refine GO.cast (h' := lH E h l ar cap mo (sz + 1) (upI f sz (some v))) lH_pl ?_
    exact g_vret dJ2_add_2_22 rfl ⟨rfl, rfl⟩
  · exact absurd c3 (by omega)
theorem c_ladd (hne : ar ≠ l) (hs0 : 0 ≤ sz ∧ sz < cap) (hc : cap < 2147483648) (hv : gAny E iJ2_add_2 "java/lang/Object" (lH E h l ar cap (mo + 1) sz f) v) : CALL E iJ2_add (d + 1) 0 0 [.ref l, .ref v] (lH E h l ar cap mo sz f) (qR (vI 1) (lH E h l ar cap (mo + 1) (sz + 1) (upI f sz (some v)))) := by
  show GO E iJ2_add _ _ _ 0 [some (.ref l), some (.ref v)] [] _ _
  refine g_aload_n (q := 1) dJ2_add_0 rfl rfl ?_
  refine g_dup (q := 2) dJ2_add_1 rfl ?_
  refine g_getR (C := RJ2) (T := TJ2) (ci := 3) (k := 0) (q := 5) dJ2_add_2 q404 q405 rfl in_J2 (by decide) lH_l rfl rfl ?_
  refine g_iconst (q := 6) dJ2_add_5 rfl ?_
  refine g_iadd (q := 7) dJ2_add_6 rfl ?_
  refine g_putR (C := RJ2) (T := TJ2) (ci := 3) (k := 0) (q := 10) dJ2_add_7 q404 q405 rfl in_J2 tyJ2_ok nmJ2 (by decide) rfl gFit_int lH_l (Nat.le_of_ble_eq_true rfl) rfl ?_
  refine GO.cast (h' := lH E h l ar cap (mo + 1) sz f) lH_pl ?_
  refine g_aload_n (q := 11) dJ2_add_10 rfl rfl ?_
  refine g_aload_n (q := 12) dJ2_add_11 rfl rfl ?_
  refine g_aload_n (q := 13) dJ2_add_12 rfl rfl ?_
  refine g_get (C := RJ2) (T := TJ2) (ci := 3) (k := 1) (q := 16) dJ2_add_13 q401 rfl in_J2 (by decide) lH_l rfl rfl ?_
  refine g_aload_n (q := 17) dJ2_add_16 rfl rfl ?_
  refine g_get (C := RJ2) (T := TJ2) (ci := 3) (k := 2) (q := 20) dJ2_add_17 q402 rfl in_J2 (by decide) lH_l rfl rfl ?_
  refine g_cvV (I' := iJ2_add_2) (mc := 0) (ms := 0) (rc := 0) (rs := 0) (ci := 3) (q := 23) dJ2_add_20 q865 q867 rfl qs21 gcJ2_add_2 lH_l (c_ladd2 hne hs0 hc hv) rfl rfl ?_
  refine g_iconst (q := 24) dJ2_add_23 rfl ?_
  exact g_zret1 dJ2_add_24 rfl ⟨rfl, rfl⟩
end
