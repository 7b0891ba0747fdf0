/-! THE JDK: lists that grow; removal -/
set_option maxRecDepth 100000
theorem shr1 {a : Int} (h0 : 0 ≤ a) (h1 : a < 2147483648) : (Int32.ofInt a >>> (Int32.ofInt 1 &&& 31)).toInt = a / 2 := by
  rw [pk_shr _ _ 1 (by decide), o32 (by unfold in32; omega), Int.shiftRight_eq_div_pow]
  rfl
theorem hnew_set {h : gH} {x y : va_E} : hset (hnew h x) h.2 y = hnew h y := by
  refine Prod.ext (funext fun b => ?_) rfl
  show (if b = h.2 then some y else if b = h.2 then some x else h.1 b) = if b = h.2 then some y else h.1 b
  by_cases c : b = h.2
  · rw [if_pos c, if_pos c]
  · rw [if_neg c, if_neg c, if_neg c]
/-- what lies in a list: a row of ints, or a sitting -/
def ELT (E : gE) (h : gH) (v : Nat) : Prop := (∃ (n : Nat) (g : Int → Int), h.1 v = some (aI E n g)) ∨ ∃ fs : List Value, h.1 v = some (oB 17 fs)
theorem ELT.any {E : gE} {I : gI} {h : gH} {v : Nat} (hv : ELT E h v) : gAny E I "java/lang/Object" h v := by
  rcases hv with ⟨n, g, hv⟩ | ⟨fs, hv⟩
  · exact gAny.ints hv q1952
  · exact gAny.obj (r := (RX16, TX16, 7)) hv rfl q1936
theorem ELT.to {E : gE} {h h' : gH} {v : Nat} (hv : ELT E h v) (e : h'.1 v = h.1 v) : ELT E h' v := by
  rcases hv with ⟨n, g, hv⟩ | ⟨fs, hv⟩
  · exact Or.inl ⟨n, g, e.trans hv⟩
  · exact Or.inr ⟨fs, e.trans hv⟩
section
variable {E : gE} {d l ar cap v mi : Nat} {h : gH} {mo sz i n a b c : Int} {f g : Int → Option Nat} {x : Value}
theorem c_maxI (ha : in32 a) (hb : in32 b) : CALL E iJ3_max d 0 0 [vI a, vI b] h (qR (vI (max a b)) h) := by
  show GO E iJ3_max _ _ _ 0 [some (vI a), some (vI b)] [] _ _
  refine g_iload_n (q := 1) dJ3_max_0 rfl rfl ?_
  refine g_iload_n (q := 2) dJ3_max_1 rfl rfl ?_
  refine g_icmp_lt (t := 9) (q := 5) dJ3_max_2 (by decide) rfl (by first | assumption | exact in32_gB | exact in32_gCmp | (unfold in32; omega)) (by first | assumption | exact in32_gB | exact in32_gCmp | (unfold in32; omega)) (fun c2 => ?_) (fun c2 => ?_)
  · refine g_iload_n (q := 10) dJ3_max_9 rfl rfl ?_
    exact g_iret dJ3_max_10 rfl ⟨rI (by omega), rfl⟩
  · refine g_iload_n (q := 6) dJ3_max_5 rfl rfl ?_
    refine g_goto (t := 10) dJ3_max_6 (by decide) ?_
    exact g_iret dJ3_max_10 rfl ⟨rI (by omega), rfl⟩
theorem c_newLen (ha : 0 ≤ a ∧ a ≤ 1000) (hb : 1 ≤ b ∧ b ≤ 1000) (hc : 0 ≤ c ∧ c ≤ 1000) : CALL E iJ10_newLength (d + 1) 0 0 [vI a, vI b, vI c] h (qR (vI (a + max b c)) h) := by
  show GO E iJ10_newLength _ _ _ 0 [some (vI a), some (vI b), some (vI c), none] [] _ _
  refine g_iload_n (q := 1) dJ10_newLength_0 rfl rfl ?_
  refine g_iload_n (q := 2) dJ10_newLength_1 rfl rfl ?_
  refine g_iload_n (q := 3) dJ10_newLength_2 rfl rfl ?_
  refine g_cs (I' := iJ3_max) (mc := 0) (ms := 0) (rc := 0) (rs := 0) (q := 6) dJ10_newLength_3 q882 q883 gcJ3_max (c_maxI (by unfold in32; omega) (by unfold in32; omega)) rfl rfl ?_
  refine g_iadd (q := 7) dJ10_newLength_6 rfl ?_
  refine g_istore_n (q := 8) dJ10_newLength_7 gs3 rfl ?_
  refine g_iconst (q := 9) dJ10_newLength_8 rfl ?_
  refine g_iload_n (q := 10) dJ10_newLength_9 rfl rfl ?_
  refine g_icmp_ge (t := 21) (q := 13) dJ10_newLength_10 (by decide) rfl (by first | assumption | exact in32_gB | exact in32_gCmp | (unfold in32; omega)) (by first | assumption | exact in32_gB | exact in32_gCmp | (unfold in32; omega)) (fun c10 => ?_) (fun c10 => ?_)
  · exact absurd c10 (by omega)
  · refine g_iload_n (q := 14) dJ10_newLength_13 rfl rfl ?_
    refine g_ldc (a := 2147483639) (q := 16) dJ10_newLength_14 q885 (by decide) rfl ?_
    refine g_icmp_gt (t := 21) (q := 19) dJ10_newLength_16 (by decide) rfl (by first | assumption | exact in32_gB | exact in32_gCmp | (unfold in32; omega)) (by first | assumption | exact in32_gB | exact in32_gCmp | (unfold in32; omega)) (fun c16 => ?_) (fun c16 => ?_)
    · exact absurd c16 (by omega)
    · refine g_iload_n (q := 20) dJ10_newLength_19 rfl rfl ?_
      exact g_iret dJ10_newLength_20 rfl ⟨rfl, rfl⟩
theorem c_copyOf2 (hM : MIR E mi) (hlt : ar < h.2) (ha : h.1 ar = some (aR E 12 cap g)) (hc : cap ≤ 1000) (hn : (cap : Int) ≤ n ∧ n ≤ 200) (hel : ∀ i : Int, 0 ≤ i → i < cap → ∀ y, g i = some y → ELT E h y) (hh : HW h) :
    CALL E iJ11_copyOf_2 (d + 1) 1 200 [.ref ar, vI n, .ref mi] h (qR (.ref h.2) (hnew h (aR E 12 n.toNat (cpyR (fun _ => none) g 0 0 cap)))) := by
  have hne : (hnew h (aR E 12 n.toNat (fun _ => none))).1 ar = some (aR E 12 cap g) := (hnew_ne (by omega)).trans ha
  refine GO.room (rc := 0 + 1) (rs := 0 + n.toNat) ?_ (by omega) (by omega)
  show GO E iJ11_copyOf_2 _ _ _ 0 [some (.ref ar), some (vI n), some (.ref mi), none] [] _ _
  refine g_aload_n (q := 1) dJ11_copyOf_2_0 rfl rfl ?_
  refine g_ldcM (q := 3) dJ11_copyOf_2_1 q919 hM rfl ?_
  refine g_acmpne (t := 13) (q := 6) dJ11_copyOf_2_3 (by decide) rfl (fun z => absurd rfl z) (fun _ => ?_)
  refine g_iload_n (q := 7) dJ11_copyOf_2_6 rfl rfl ?_
  refine g_anew (q := 10) (rc := 0) (rs := 0) (t0 := 12) dJ11_copyOf_2_7 q920 q398 rfl (by omega) (by omega) rfl ?_
  refine g_goto (t := 24) dJ11_copyOf_2_10 (by decide) ?_
  refine g_astore_n (q := 25) dJ11_copyOf_2_24 gs3 rfl ?_
  refine g_aload_n (q := 26) dJ11_copyOf_2_25 rfl rfl ?_
  refine g_iconst (q := 27) dJ11_copyOf_2_26 rfl ?_
  refine g_aload_n (q := 28) dJ11_copyOf_2_27 rfl rfl ?_
  refine g_iconst (q := 29) dJ11_copyOf_2_28 rfl ?_
  refine g_aload_n (q := 30) dJ11_copyOf_2_29 rfl rfl ?_
  refine g_alen 12 (q := 31) dJ11_copyOf_2_30 hne rfl rfl rfl ?_
  refine g_iload_n (q := 32) dJ11_copyOf_2_31 rfl rfl ?_
  refine g_cs (I' := iJ3_min) (mc := 0) (ms := 0) (rc := 0) (rs := 0) (q := 35) dJ11_copyOf_2_32 q921 q644 gcJ3_min (c_min (by unfold in32; omega) (by unfold in32; omega)) rfl rfl ?_
  rw [show min (cap : Int) n = cap by omega]
  refine g_copyR (q := 38) (n := cap) (dp := 0) (sp := 0) (n0 := cap) (n1 := n.toNat) dJ11_copyOf_2_35 q922 hne hnew_at (by omega) (by omega) (by omega) (by omega) (by omega) (by omega) (by omega) (fun i q1 q2 y ey => ?_) rfl ?_
  · rw [Int.zero_add] at ey
    have z := hel i q1 q2 y ey
    refine (z.to (hnew_ne ?_)).any
    rcases z with ⟨_, _, z⟩ | ⟨_, z⟩ <;> have := hh _ _ z <;> omega
  rw [hnew_set]
  refine g_aload_n (q := 39) dJ11_copyOf_2_38 rfl rfl ?_
  exact g_aret dJ11_copyOf_2_39 rfl (by first | exact Or.inl ⟨_, rfl⟩ | exact Or.inr ⟨_, rfl⟩) ⟨rfl, rfl⟩
theorem c_copyOf (hlt : ar < h.2) (ha : h.1 ar = some (aR E 12 cap g)) (hc : cap ≤ 1000) (hn : (cap : Int) ≤ n ∧ n ≤ 200) (hel : ∀ i : Int, 0 ≤ i → i < cap → ∀ y, g i = some y → ELT E h y) (hh : HW h) :
    CALL E iJ11_copyOf (d + 2) 1 200 [.ref ar, vI n] h (qR (.ref h.2) (hnew h (aR E 12 n.toNat (cpyR (fun _ => none) g 0 0 cap)))) := by
  show GO E iJ11_copyOf _ _ _ 0 [some (.ref ar), some (vI n)] [] _ _
  refine GO.ok fun ok => ?_
  obtain ⟨mi, hM⟩ := mir_ok ok
  refine g_aload_n (q := 1) dJ11_copyOf_0 rfl rfl ?_
  refine g_iload_n (q := 2) dJ11_copyOf_1 rfl rfl ?_
  refine g_aload_n (q := 3) dJ11_copyOf_2 rfl rfl ?_
  refine g_getC (q := 6) dJ11_copyOf_3 q892 hM ha rfl ?_
  refine g_cs (I' := iJ11_copyOf_2) (mc := 1) (ms := 200) (rc := 0) (rs := 0) (q := 9) dJ11_copyOf_6 q916 q917 gcJ11_copyOf_2 (c_copyOf2 hM hlt ha hc hn hel hh) rfl rfl ?_
  exact g_aret dJ11_copyOf_9 rfl (by first | exact Or.inl ⟨_, rfl⟩ | exact Or.inr ⟨_, rfl⟩) ⟨rfl, rfl⟩
theorem c_grow2 (hl : h.1 l = some (oB 3 [vI mo, .ref ar, vI sz])) (ha : h.1 ar = some (aR E 12 cap g)) (hc : 4 ≤ cap ∧ cap ≤ 100) (hel : ∀ i : Int, 0 ≤ i → i < cap → ∀ y, g i = some y → ELT E h y) (hh : HW h) :
    CALL E iJ2_grow_2 (d + 3) 1 200 [.ref l, vI (cap + 1)] h (qR (.ref h.2) (hset (hnew h (aR E 12 ((cap : Int) + max 1 ((cap : Int) / 2)).toNat (cpyR (fun _ => none) g 0 0 cap))) l (oB 3 [vI mo, .ref h.2, vI sz]))) := by
  have hlt := hh _ _ hl
  have hlt2 := hh _ _ ha
  show GO E iJ2_grow_2 _ _ _ 0 [some (.ref l), some (vI (cap + 1)), none, none] [] _ _
  refine g_aload_n (q := 1) dJ2_grow_2_0 rfl rfl ?_
  refine g_get (C := RJ2) (T := TJ2) (ci := 3) (k := 1) (q := 4) dJ2_grow_2_1 q401 rfl in_J2 (by decide) hl rfl rfl ?_
  refine g_alen 12 (q := 5) dJ2_grow_2_4 ha rfl rfl rfl ?_
  refine g_istore_n (q := 6) dJ2_grow_2_5 gs2 rfl ?_
  refine g_iload_n (q := 7) dJ2_grow_2_6 rfl rfl ?_
  refine g_if_gt (t := 20) (q := 10) dJ2_grow_2_7 (by decide) rfl (by first | assumption | exact in32_gB | exact in32_gCmp | (unfold in32; omega)) (fun c7 => ?_) (fun c7 => ?_)
  · refine g_iload_n (q := 21) dJ2_grow_2_20 rfl rfl ?_
    refine g_iload_n (q := 22) dJ2_grow_2_21 rfl rfl ?_
    refine g_iload_n (q := 23) dJ2_grow_2_22 rfl rfl ?_
    refine g_isub (q := 24) dJ2_grow_2_23 rfl ?_
    refine g_iload_n (q := 25) dJ2_grow_2_24 rfl rfl ?_
    refine g_iconst (q := 26) dJ2_grow_2_25 rfl ?_
    refine g_ishr (q := 27) dJ2_grow_2_26 rfl ?_
    refine GO.topR ?_
    rw [shr1 (by omega) (by omega), show (cap : Int) + 1 - cap = 1 by omega]
    refine g_cs (I' := iJ10_newLength) (mc := 0) (ms := 0) (rc := 1) (rs := 200) (q := 30) dJ2_grow_2_27 q879 q880 gcJ10_newLength (GO.deep (c_newLen (d := 0) (by omega) (by omega) (by omega)) (by omega)) rfl rfl ?_
    refine g_istore_n (q := 31) dJ2_grow_2_30 gs3 rfl ?_
    refine g_aload_n (q := 32) dJ2_grow_2_31 rfl rfl ?_
    refine g_aload_n (q := 33) dJ2_grow_2_32 rfl rfl ?_
    refine g_get (C := RJ2) (T := TJ2) (ci := 3) (k := 1) (q := 36) dJ2_grow_2_33 q401 rfl in_J2 (by decide) hl rfl rfl ?_
    refine g_iload_n (q := 37) dJ2_grow_2_36 rfl rfl ?_
    refine g_cs (I' := iJ11_copyOf) (mc := 1) (ms := 200) (rc := 0) (rs := 0) (q := 40) dJ2_grow_2_37 q889 q890 gcJ11_copyOf (c_copyOf hlt2 ha (by omega) (by omega) hel hh) rfl rfl ?_
    refine g_dup_x1 (q := 41) dJ2_grow_2_40 rfl ?_
    refine g_put (C := RJ2) (T := TJ2) (ci := 3) (k := 1) (q := 44) dJ2_grow_2_41 q401 rfl in_J2 tyJ2_ok nmJ2 (by decide) rfl gFit_a ((hnew_ne (by omega)).trans hl) (Nat.le_of_ble_eq_true rfl) rfl ?_
    exact g_aret dJ2_grow_2_44 rfl (by first | exact Or.inl ⟨_, rfl⟩ | exact Or.inr ⟨_, rfl⟩) ⟨rfl, rfl⟩
  · exact absurd c7 (by omega)
theorem c_grow (hl : h.1 l = some (oB 3 [vI mo, .ref ar, vI cap])) (ha : h.1 ar = some (aR E 12 cap g)) (hc : 4 ≤ cap ∧ cap ≤ 100) (hel : ∀ i : Int, 0 ≤ i → i < cap → ∀ y, g i = some y → ELT E h y) (hh : HW h) :
    CALL E iJ2_grow (d + 4) 1 200 [.ref l] h (qR (.ref h.2) (hset (hnew h (aR E 12 ((cap : Int) + max 1 ((cap : Int) / 2)).toNat (cpyR (fun _ => none) g 0 0 cap))) l (oB 3 [vI mo, .ref h.2, vI cap]))) := by
  show GO E iJ2_grow _ _ _ 0 [some (.ref l)] [] _ _
  refine g_aload_n (q := 1) dJ2_grow_0 rfl rfl ?_
  refine g_aload_n (q := 2) dJ2_grow_1 rfl rfl ?_
  refine g_get (C := RJ2) (T := TJ2) (ci := 3) (k := 2) (q := 5) dJ2_grow_2 q402 rfl in_J2 (by decide) hl rfl rfl ?_
  refine g_iconst (q := 6) dJ2_grow_5 rfl ?_
  refine g_iadd (q := 7) dJ2_grow_6 rfl ?_
  refine g_cv (I' := iJ2_grow_2) (mc := 1) (ms := 200) (rc := 0) (rs := 0) (ci := 3) (q := 10) dJ2_grow_7 q873 q875 rfl qs23 gcJ2_grow_2 hl (c_grow2 hl ha hc hel hh) rfl rfl ?_
  exact g_aret dJ2_grow_10 rfl (by first | exact Or.inl ⟨_, rfl⟩ | exact Or.inr ⟨_, rfl⟩) ⟨rfl, rfl⟩
/-- one more, where the row is full -/
theorem c_ladd3 (hl : h.1 l = some (oB 3 [vI mo, .ref ar, vI cap])) (ha : h.1 ar = some (aR E 12 cap g)) (hc : 4 ≤ cap ∧ cap ≤ 100) (hel : ∀ i : Int, 0 ≤ i → i < cap → ∀ y, g i = some y → ELT E h y) (hh : HW h) (hv : ELT E h v) (hvl : v ≠ l) :
    CALL E iJ2_add_2 (d + 5) 1 200 [.ref l, .ref v, .ref ar, vI cap] h (qV (hset (hnew h (aR E 12 ((cap : Int) + max 1 ((cap : Int) / 2)).toNat (upI (cpyR (fun _ => none) g 0 0 cap) cap (some v)))) l (oB 3 [vI mo, .ref h.2, vI (cap + 1)]))) := by
  have hlt := hh _ _ hl
  have hv2 : v < h.2 := by rcases hv with ⟨_, _, z⟩ | ⟨_, z⟩ <;> exact hh _ _ z
  show GO E iJ2_add_2 _ _ _ 0 [some (.ref l), some (.ref v), some (.ref ar), some (vI cap)] [] _ _
  refine g_iload_n (q := 1) dJ2_add_2_0 rfl rfl ?_
  refine g_aload_n (q := 2) dJ2_add_2_1 rfl rfl ?_
  refine g_alen 12 (q := 3) dJ2_add_2_2 ha rfl rfl rfl ?_
  refine g_icmp_ne (t := 11) (q := 6) dJ2_add_2_3 (by decide) rfl (by first | assumption | exact in32_gB | exact in32_gCmp | (unfold in32; omega)) (by first | assumption | exact in32_gB | exact in32_gCmp | (unfold in32; omega)) (fun c3 => ?_) (fun c3 => ?_)
  · exact absurd rfl c3
  · refine g_aload_n (q := 7) dJ2_add_2_6 rfl rfl ?_
    refine g_cv (I' := iJ2_grow) (mc := 1) (ms := 200) (rc := 0) (rs := 0) (ci := 3) (q := 10) dJ2_add_2_7 q869 q871 rfl qs22 gcJ2_grow hl (c_grow hl ha hc hel hh) rfl rfl ?_
    refine g_astore_n (q := 11) dJ2_add_2_10 gs2 rfl ?_
    refine g_aload_n (q := 12) dJ2_add_2_11 rfl rfl ?_
    refine g_iload_n (q := 13) dJ2_add_2_12 rfl rfl ?_
    refine g_aload_n (q := 14) dJ2_add_2_13 rfl rfl ?_
    refine g_aast (q := 15) (t0 := 12) (C := "java/lang/Object") dJ2_add_2_14 ((hset_ne (by omega)).trans hnew_at) rfl (ELT.any (hv.to ((hset_ne hvl).trans (hnew_ne (by omega))))) (by omega) (by omega) rfl ?_
    refine GO.cast ((hset_comm (show l ≠ h.2 by omega)).trans (by rw [hnew_set])) ?_
    refine g_aload_n (q := 16) dJ2_add_2_15 rfl rfl ?_
    refine g_iload_n (q := 17) dJ2_add_2_16 rfl rfl ?_
    refine g_iconst (q := 18) dJ2_add_2_17 rfl ?_
    refine g_iadd (q := 19) dJ2_add_2_18 rfl ?_
    refine g_put (C := RJ2) (T := TJ2) (ci := 3) (k := 2) (q := 22) dJ2_add_2_19 q402 rfl in_J2 tyJ2_ok nmJ2 (by decide) rfl gFit_int hset_at (Nat.le_of_ble_eq_true rfl) rfl ?_
    exact g_vret dJ2_add_2_22 rfl ⟨rfl, hset_hset⟩
theorem c_ladd4 (hl : h.1 l = some (oB 3 [vI mo, .ref ar, vI cap])) (ha : h.1 ar = some (aR E 12 cap g)) (hc : 4 ≤ cap ∧ cap ≤ 100) (hal : ar ≠ l) (hel : ∀ i : Int, 0 ≤ i → i < cap → ∀ y, g i = some y → ELT E h y ∧ y ≠ l) (hh : HW h) (hv : ELT E h v) (hvl : v ≠ l) :
    CALL E iJ2_add (d + 6) 1 200 [.ref l, .ref v] h (qR (vI 1) (hset (hnew h (aR E 12 ((cap : Int) + max 1 ((cap : Int) / 2)).toNat (upI (cpyR (fun _ => none) g 0 0 cap) cap (some v)))) l (oB 3 [vI (mo + 1), .ref h.2, vI (cap + 1)]))) := by
  have hlt := hh _ _ hl
  have e2 : hset (hnew (hset h l (oB 3 [vI (mo + 1), .ref ar, vI cap])) (aR E 12 ((cap : Int) + max 1 ((cap : Int) / 2)).toNat (upI (cpyR (fun _ => none) g 0 0 cap) cap (some v)))) l (oB 3 [vI (mo + 1), .ref h.2, vI (cap + 1)]) = hset (hnew h (aR E 12 ((cap : Int) + max 1 ((cap : Int) / 2)).toNat (upI (cpyR (fun _ => none) g 0 0 cap) cap (some v)))) l (oB 3 [vI (mo + 1), .ref h.2, vI (cap + 1)]) := by
    refine Prod.ext (funext fun b => ?_) rfl
    show (if b = l then _ else if b = h.2 then _ else if b = l then _ else h.1 b) = if b = l then _ else if b = h.2 then _ else h.1 b
    by_cases c : b = l
    · rw [if_pos c, if_pos c]
    · rw [if_neg c, if_neg c, if_neg c]
  have z := c_ladd3 (d := d) (E := E) (h := hset h l (oB 3 [vI (mo + 1), .ref ar, vI cap])) (l := l) (mo := mo + 1) (ar := ar) (v := v) hset_at ((hset_ne hal).trans ha) hc (fun i q1 q2 y ey => (hel i q1 q2 y ey).1.to (hset_ne (hel i q1 q2 y ey).2)) (hh.set hl) (hv.to (hset_ne hvl)) hvl
  rw [show (hset h l (oB 3 [vI (mo + 1), .ref ar, vI cap])).2 = h.2 from rfl, e2] at z
  show GO E iJ2_add _ _ _ 0 [some (.ref l), some (.ref v)] [] _ _
  refine g_aload_n (q := 1) dJ2_add_0 rfl rfl ?_
  refine g_dup (q := 2) dJ2_add_1 rfl ?_
  refine g_getR (C := RJ2) (T := TJ2) (ci := 3) (k := 0) (q := 5) dJ2_add_2 q404 q405 rfl in_J2 (by decide) hl rfl rfl ?_
  refine g_iconst (q := 6) dJ2_add_5 rfl ?_
  refine g_iadd (q := 7) dJ2_add_6 rfl ?_
  refine g_putR (C := RJ2) (T := TJ2) (ci := 3) (k := 0) (q := 10) dJ2_add_7 q404 q405 rfl in_J2 tyJ2_ok nmJ2 (by decide) rfl gFit_int hl (Nat.le_of_ble_eq_true rfl) rfl ?_
  refine g_aload_n (q := 11) dJ2_add_10 rfl rfl ?_
  refine g_aload_n (q := 12) dJ2_add_11 rfl rfl ?_
  refine g_aload_n (q := 13) dJ2_add_12 rfl rfl ?_
  refine g_get (C := RJ2) (T := TJ2) (ci := 3) (k := 1) (q := 16) dJ2_add_13 q401 rfl in_J2 (by decide) hset_at rfl rfl ?_
  refine g_aload_n (q := 17) dJ2_add_16 rfl rfl ?_
  refine g_get (C := RJ2) (T := TJ2) (ci := 3) (k := 2) (q := 20) dJ2_add_17 q402 rfl in_J2 (by decide) hset_at rfl rfl ?_
  refine g_cvV (I' := iJ2_add_2) (mc := 1) (ms := 200) (rc := 0) (rs := 0) (ci := 3) (q := 23) dJ2_add_20 q865 q867 rfl qs21 gcJ2_add_2 hset_at (z) rfl rfl ?_
  refine g_iconst (q := 24) dJ2_add_23 rfl ?_
  exact g_zret1 dJ2_add_24 rfl ⟨rfl, rfl⟩
end
section
variable {E : gE} {d l v o : Nat} {h : gH} {ow : OW} {n i : Int} {f : Int → Nat}
theorem lH_self {ar cap : Nat} {mo sz : Int} {g : Int → Option Nat} (hl : h.1 l = some (oB 3 [vI mo, .ref ar, vI sz])) (ha : h.1 ar = some (aR E 12 cap g)) : lH E h l ar cap mo sz g = h := by
  unfold lH
  rw [hset_self ha, hset_self hl]
/-- one more in a list -/
theorem c_LAdd (hL : LST E ow h o l n f) (hh : HW h) (ho : o ≠ 0) (hv : ELT E h v) (hv0 : ow v = 0) (hf : ∀ i, 0 ≤ i → i < n → ELT E h (f i) ∧ ow (f i) = 0) (hn : n ≤ 60) :
    CALL E iJ2_add (d + 6) 1 200 [.ref l, .ref v] h (qP fun r k => r = vI 1 ∧ ∃ ow', LST E ow' k o l (n + 1) (upI f n v) ∧ HW k ∧ FR ow ow' h k (fun i => i ≠ o) ∧ h.2 ≤ k.2) := by
  obtain ⟨ar, cap, mo, g, ⟨w1, w2, w3⟩, hl, ha, hnn, hcap, hg⟩ := hL
  have hvl : v ≠ l := fun z => ho (by rw [← w1, ← z]; exact hv0)
  have hva : v ≠ ar := fun z => ho (by rw [← w2, ← z]; exact hv0)
  have hlt := hh _ _ hl
  have hlt2 := hh _ _ ha
  by_cases c : n < cap
  · have z := c_ladd (E := E) (d := d + 5) (h := h) (l := l) (ar := ar) (cap := cap) (mo := mo) (sz := n) (f := g) (v := v) w3 ⟨hnn.1, c⟩ (by omega) (ELT.any (hv.to (lH_out hvl hva)))
    rw [lH_self hl ha] at z
    refine GO.room (GO.mono z fun o' k hq => ⟨_, hq.1, rfl, ow, ?_⟩) (by omega) (by omega)
    rw [hq.2]
    refine ⟨⟨ar, cap, mo + 1, upI g n (some v), ⟨w1, w2, w3⟩, lH_l, lH_a w3, by omega, hcap, fun i q1 q2 => ?_⟩, (hh.set ha).set ((hset_ne (Ne.symm w3)).trans hl), (FR.set w2).trans (FR.set w1), Nat.le_refl _⟩
    by_cases e : i = n
    · subst e; rw [upI_at, upI_at]
    · rw [upI_ne e, upI_ne e]; exact hg i q1 (by omega)
  · obtain rfl : n = cap := by omega
    have z := c_ladd4 (E := E) (d := d) (h := h) (l := l) (ar := ar) (cap := cap) (mo := mo) (g := g) (v := v) hl ha (by omega) w3 (fun i q1 q2 y ey => by
      have e := (hg i q1 q2).symm.trans ey
      obtain rfl := Option.some.inj e
      exact ⟨(hf i q1 q2).1, fun z => ho (by rw [← w1, ← z]; exact (hf i q1 q2).2)⟩) hh hv hvl
    refine GO.room (GO.mono z fun o' k hq => ⟨_, hq.1, rfl, upO ow h.2 o, ?_⟩) (by omega) (by omega)
    rw [hq.2]
    refine ⟨⟨h.2, ((cap : Int) + max 1 ((cap : Int) / 2)).toNat, mo + 1, _, ⟨(upO_lt hlt).trans w1, upO_at, by omega⟩, hset_at, (hset_ne (by omega)).trans hnew_at, by omega, by omega, fun i q1 q2 => ?_⟩, hh.new.set ((hnew_ne (by omega)).trans hl), (FR.new hh (fun b hb => upO_lt hb)).trans (FR.set ((upO_lt hlt).trans w1)), ?_⟩
    · by_cases e : i = cap
      · subst e; rw [upI_at, upI_at]
      · rw [upI_ne e, upI_ne e]
        exact (if_pos (by omega)).trans ((congrArg g (by omega)).trans (hg i q1 (by omega)))
    · show h.2 ≤ h.2 + 1; omega
theorem c_LClear (hL : LST E ow h o l n f) (hh : HW h) : CALL E iJ2_clear d 0 0 [.ref l] h (qVP fun k => (∀ f', LST E ow k o l 0 f') ∧ HW k ∧ FR ow ow h k (fun i => i ≠ o) ∧ k.2 = h.2) := by
  obtain ⟨ar, cap, mo, g, ⟨w1, w2, w3⟩, hl, ha, hnn, hcap, hg⟩ := hL
  have z := c_lclear (E := E) (d := d) (h := h) (l := l) (ar := ar) (cap := cap) (mo := mo) (sz := n) (f := g) w3 hnn (by omega)
  rw [lH_self hl ha] at z
  refine GO.mono z fun o' k hq => ⟨hq.1, ?_⟩
  rw [hq.2]
  exact ⟨fun f' => ⟨ar, cap, mo + 1, _, ⟨w1, w2, w3⟩, lH_l, lH_a w3, by omega, hcap, fun i q1 q2 => absurd q2 (by omega)⟩, (hh.set ha).set ((hset_ne (Ne.symm w3)).trans hl), (FR.set w2).trans (FR.set w1), rfl⟩
theorem c_lfast {ar cap : Nat} {mo : Int} {g : Int → Option Nat} (hne : ar ≠ l) (hn : 1 ≤ n ∧ n ≤ cap) (hc : cap ≤ 1000) (hel : ∀ i : Int, 0 ≤ i → i < n → ∀ y, g i = some y → ELT E (lH E h l ar cap (mo + 1) n g) y) :
    CALL E iJ2_fastRemove (d + 1) 0 0 [.ref l, .ref ar, vI 0] (lH E h l ar cap mo n g) (qVP fun k => ∃ g', k = lH E h l ar cap (mo + 1) (n - 1) g' ∧ ∀ i : Int, 0 ≤ i → i < n - 1 → g' i = g (i + 1)) := by
  show GO E iJ2_fastRemove _ _ _ 0 [some (.ref l), some (.ref ar), some (vI 0), none] [] _ _
  refine g_aload_n (q := 1) dJ2_fastRemove_0 rfl rfl ?_
  refine g_dup (q := 2) dJ2_fastRemove_1 rfl ?_
  refine g_getR (C := RJ2) (T := TJ2) (ci := 3) (k := 0) (q := 5) dJ2_fastRemove_2 q404 q405 rfl in_J2 (by decide) lH_l rfl rfl ?_
  refine g_iconst (q := 6) dJ2_fastRemove_5 rfl ?_
  refine g_iadd (q := 7) dJ2_fastRemove_6 rfl ?_
  refine g_putR (C := RJ2) (T := TJ2) (ci := 3) (k := 0) (q := 10) dJ2_fastRemove_7 q404 q405 rfl in_J2 tyJ2_ok nmJ2 (by decide) rfl gFit_int lH_l (Nat.le_of_ble_eq_true rfl) rfl ?_
  refine GO.cast (h' := lH E h l ar cap (mo + 1) n g) lH_pl ?_
  refine g_aload_n (q := 11) dJ2_fastRemove_10 rfl rfl ?_
  refine g_get (C := RJ2) (T := TJ2) (ci := 3) (k := 2) (q := 14) dJ2_fastRemove_11 q402 rfl in_J2 (by decide) lH_l rfl rfl ?_
  refine g_iconst (q := 15) dJ2_fastRemove_14 rfl ?_
  refine g_isub (q := 16) dJ2_fastRemove_15 rfl ?_
  refine g_dup (q := 17) dJ2_fastRemove_16 rfl ?_
  refine g_istore_n (q := 18) dJ2_fastRemove_17 gs3 rfl ?_
  refine g_iload_n (q := 19) dJ2_fastRemove_18 rfl rfl ?_
  refine g_icmp_le (t := 34) (q := 22) dJ2_fastRemove_19 (by decide) rfl (by first | assumption | exact in32_gB | exact in32_gCmp | (unfold in32; omega)) (by first | assumption | exact in32_gB | exact in32_gCmp | (unfold in32; omega)) (fun c19 => ?_) (fun c19 => ?_)
  · refine g_aload_n (q := 35) dJ2_fastRemove_34 rfl rfl ?_
    refine g_aload_n (q := 36) dJ2_fastRemove_35 rfl rfl ?_
    refine g_iload_n (q := 37) dJ2_fastRemove_36 rfl rfl ?_
    refine g_dup_x1 (q := 38) dJ2_fastRemove_37 rfl ?_
    refine g_put (C := RJ2) (T := TJ2) (ci := 3) (k := 2) (q := 41) dJ2_fastRemove_38 q402 rfl in_J2 tyJ2_ok nmJ2 (by decide) rfl gFit_int lH_l (Nat.le_of_ble_eq_true rfl) rfl ?_
    first
    | refine GO.cast (h' := lH E h l ar cap (mo + 1) (n - 1) (cpyR g g 0 (0 + 1) (n - 1 - 0))) lH_pl ?_
    | refine GO.cast (h' := lH E h l ar cap (mo + 1) (n - 1) g) lH_pl ?_
    refine g_null (q := 42) dJ2_fastRemove_41 rfl ?_
    refine g_aastN (q := 43) (t0 := 12) (C := "java/lang/Object") dJ2_fastRemove_42 (lH_a hne) rfl (by omega) (by omega) rfl ?_
    refine GO.cast (lH_pa hne) ?_
    exact g_vret dJ2_fastRemove_43 rfl ⟨rfl, _, rfl, fun i q1 q2 => by first | (rw [upI_ne (by omega)]; exact (if_pos (by omega)).trans (congrArg g (by omega))) | (exfalso; omega)⟩
  · refine g_aload_n (q := 23) dJ2_fastRemove_22 rfl rfl ?_
    refine g_iload_n (q := 24) dJ2_fastRemove_23 rfl rfl ?_
    refine g_iconst (q := 25) dJ2_fastRemove_24 rfl ?_
    refine g_iadd (q := 26) dJ2_fastRemove_25 rfl ?_
    refine g_aload_n (q := 27) dJ2_fastRemove_26 rfl rfl ?_
    refine g_iload_n (q := 28) dJ2_fastRemove_27 rfl rfl ?_
    refine g_iload_n (q := 29) dJ2_fastRemove_28 rfl rfl ?_
    refine g_iload_n (q := 30) dJ2_fastRemove_29 rfl rfl ?_
    refine g_isub (q := 31) dJ2_fastRemove_30 rfl ?_
    refine g_copyR (q := 34) (n := n - 1 - 0) (dp := 0) (sp := 0 + 1) (n0 := cap) (n1 := cap) dJ2_fastRemove_31 q1094 (lH_a hne) (lH_a hne) (by omega) (by omega) (by omega) (by omega) (by omega) (by omega) (by omega) (fun i q1 q2 y ey => (hel (0 + 1 + i) (by omega) (by omega) y ey).any) rfl ?_
    refine GO.cast (h' := lH E h l ar cap (mo + 1) n (cpyR g g 0 (0 + 1) (n - 1 - 0))) (lH_pa hne) ?_
    refine g_aload_n (q := 35) dJ2_fastRemove_34 rfl rfl ?_
    refine g_aload_n (q := 36) dJ2_fastRemove_35 rfl rfl ?_
    refine g_iload_n (q := 37) dJ2_fastRemove_36 rfl rfl ?_
    refine g_dup_x1 (q := 38) dJ2_fastRemove_37 rfl ?_
    refine g_put (C := RJ2) (T := TJ2) (ci := 3) (k := 2) (q := 41) dJ2_fastRemove_38 q402 rfl in_J2 tyJ2_ok nmJ2 (by decide) rfl gFit_int lH_l (Nat.le_of_ble_eq_true rfl) rfl ?_
    first
    | refine GO.cast (h' := lH E h l ar cap (mo + 1) (n - 1) (cpyR g g 0 (0 + 1) (n - 1 - 0))) lH_pl ?_
    | refine GO.cast (h' := lH E h l ar cap (mo + 1) (n - 1) g) lH_pl ?_
    refine g_null (q := 42) dJ2_fastRemove_41 rfl ?_
    refine g_aastN (q := 43) (t0 := 12) (C := "java/lang/Object") dJ2_fastRemove_42 (lH_a hne) rfl (by omega) (by omega) rfl ?_
    refine GO.cast (lH_pa hne) ?_
    exact g_vret dJ2_fastRemove_43 rfl ⟨rfl, _, rfl, fun i q1 q2 => by first | (rw [upI_ne (by omega)]; exact (if_pos (by omega)).trans (congrArg g (by omega))) | (exfalso; omega)⟩
theorem c_LRemove (hL : LST E ow h o l n f) (hh : HW h) (ho : o ≠ 0) (hn : 1 ≤ n) (hf : ∀ i, 0 ≤ i → i < n → ELT E h (f i) ∧ ow (f i) = 0) :
    CALL E iJ2_remove (d + 2) 0 0 [.ref l, vI 0] h (qP fun r k => gR r ∧ LST E ow k o l (n - 1) (fun i => f (i + 1)) ∧ HW k ∧ FR ow ow h k (fun i => i ≠ o) ∧ k.2 = h.2) := by
  obtain ⟨ar, cap, mo, g, ⟨w1, w2, w3⟩, hl, ha, hnn, hcap, hg⟩ := hL
  have z := c_lfast (E := E) (d := d) (h := h) (l := l) (ar := ar) (cap := cap) (mo := mo) (n := n) (g := g) w3 ⟨hn, hnn.2⟩ hcap.2 (fun i q1 q2 y ey => by
      have e := (hg i q1 q2).symm.trans ey
      obtain rfl := Option.some.inj e
      exact (hf i q1 q2).1.to (lH_out (fun z => ho (by rw [← w1, ← z]; exact (hf i q1 q2).2)) (fun z => ho (by rw [← w2, ← z]; exact (hf i q1 q2).2))))
  rw [lH_self hl ha] at z
  show GO E iJ2_remove _ _ _ 0 [some (.ref l), some (vI 0), none, none] [] _ _
  refine g_iload_n (q := 1) dJ2_remove_0 rfl rfl ?_
  refine g_aload_n (q := 2) dJ2_remove_1 rfl rfl ?_
  refine g_get (C := RJ2) (T := TJ2) (ci := 3) (k := 2) (q := 5) dJ2_remove_2 q402 rfl in_J2 (by decide) hl rfl rfl ?_
  refine g_cs (I' := iJ12_checkIndex) (mc := 0) (ms := 0) (rc := 0) (rs := 0) (q := 8) dJ2_remove_5 q958 q959 gcJ12_checkIndex (c_checkIdxO (by omega) (by omega) (by omega)) rfl rfl ?_
  refine g_pop (q := 9) dJ2_remove_8 rfl ?_
  refine g_aload_n (q := 10) dJ2_remove_9 rfl rfl ?_
  refine g_get (C := RJ2) (T := TJ2) (ci := 3) (k := 1) (q := 13) dJ2_remove_10 q401 rfl in_J2 (by decide) hl rfl rfl ?_
  refine g_astore_n (q := 14) dJ2_remove_13 gs2 rfl ?_
  refine g_aload_n (q := 15) dJ2_remove_14 rfl rfl ?_
  refine g_iload_n (q := 16) dJ2_remove_15 rfl rfl ?_
  refine g_aald (t0 := 12) (q := 17) dJ2_remove_16 ha rfl rfl (by omega) (by omega) rfl ?_
  refine g_astore_n (q := 18) dJ2_remove_17 gs3 rfl ?_
  refine g_aload_n (q := 19) dJ2_remove_18 rfl rfl ?_
  refine g_aload_n (q := 20) dJ2_remove_19 rfl rfl ?_
  refine g_iload_n (q := 21) dJ2_remove_20 rfl rfl ?_
  refine g_cvVP (I' := iJ2_fastRemove) (mc := 0) (ms := 0) (rc := 0) (rs := 0) (ci := 3) (q := 24) dJ2_remove_21 q1090 q1092 rfl qs31 gcJ2_fastRemove hl (z) rfl rfl (fun k21 z21 => ?_)
  obtain ⟨g', rfl, hg'⟩ := z21
  refine g_aload_n (q := 25) dJ2_remove_24 rfl rfl ?_
  exact g_aret dJ2_remove_25 rfl (by first | exact Or.inl ⟨_, rfl⟩ | exact Or.inr ⟨_, rfl⟩) ⟨_, rfl, gR_rf, ⟨ar, cap, mo + 1, g', ⟨w1, w2, w3⟩, lH_l, lH_a w3, by omega, hcap, fun i q1 q2 => (hg' i q1 q2).trans (hg (i + 1) (by omega) (by omega))⟩, (hh.set ha).set ((hset_ne (Ne.symm w3)).trans hl), (FR.set w2).trans (FR.set w1), rfl⟩
end
