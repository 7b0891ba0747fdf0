/-! MY LOGIC, part 14: System.arraycopy of other things; class objects; references compared -/
set_option maxRecDepth 100000
theorem fits_b {v : Int} (h : -128 ≤ v ∧ v < 128) : fits .byte (.int (Int32.ofInt v)) = true := by
  show (decide ((-128 : Int32) ≤ Int32.ofInt v) && decide (Int32.ofInt v ≤ 127)) = true
  rw [Bool.and_eq_true, decide_eq_true_eq, decide_eq_true_eq, Int32.le_iff_toInt_le, Int32.le_iff_toInt_le, o32 (by unfold in32; omega)]
  exact ⟨by show (-128 : Int) ≤ v; omega, by show v ≤ (127 : Int); omega⟩
theorem fits_s {v : Int} (h : -32768 ≤ v ∧ v < 32768) : fits .short (.int (Int32.ofInt v)) = true := by
  show (decide ((-32768 : Int32) ≤ Int32.ofInt v) && decide (Int32.ofInt v ≤ 32767)) = true
  rw [Bool.and_eq_true, decide_eq_true_eq, decide_eq_true_eq, Int32.le_iff_toInt_le, Int32.le_iff_toInt_le, o32 (by unfold in32; omega)]
  exact ⟨by show (-32768 : Int) ≤ v; omega, by show v ≤ (32767 : Int); omega⟩
section Rows
variable {E : gE} {I : gI} {d rc rs pc q idx a a0 n0 n1 : Nat} {lv : List (Option Value)} {rest : List Value} {h : gH} {Q : Outcome → gH → Prop} {f g : Int → Int} {sp dp n : Int}
theorem g_copyB (hd : decode I.2.1 pc = .ok (.invokestatic idx, 3)) (hlink : Cond.methodLink I.1.cls idx arraycopyName ∈ lw_all) (ha0 : h.1 a0 = some (aB E n0 f)) (ha1 : h.1 a = some (aB E n1 g)) (h1 : 0 ≤ sp) (h2 : 0 ≤ dp) (h3 : 0 ≤ n) (h4 : sp + n ≤ n0) (h5 : dp + n ≤ n1) (hn0 : n0 < 2147483648) (hn1 : n1 < 2147483648) (hfi : ∀ i : Int, 0 ≤ i → i < n → -128 ≤ f (sp + i) ∧ f (sp + i) < 128) (hq : pc + 3 = q)
    (kk : GO E I (d + 1) rc rs q lv rest (hset h a (aB E n1 (cpyI g f dp sp n))) Q) (hw : (rest.map fun v => v.category).sum ≤ 20 := by exact Nat.le_of_ble_eq_true rfl) : GO E I (d + 1) rc rs pc lv (vI n :: vI dp :: .ref a :: vI sp :: .ref a0 :: rest) h Q := by
  subst hq
  intro p l e R s m args below meth c H locs k n' ls hc b1 b2 b3 b4 hR hL hl T hT X
  subst hT
  have i1 : in32 sp := by unfold in32; omega
  have i2 : in32 dp := by unfold in32; omega
  have i3 : in32 n := by unfold in32; omega
  have z0 : ∀ z : Int, in32 z → 0 ≤ z → ¬ Int32.ofInt z < 0 := fun z hz h0 => by rw [o32_0, o32_lt hz in32_0]; omega
  have hsz : ls.size = I.2.2.1 := hl.1.1
  have hc0 : T.heap[a0]? = some (vp_cell (E.2.1 1) (n0, .inl (fun j => Int32.ofInt (f (j : Int))))) := (hR.2.2.2 a0 _ ha0).2
  have hc1 : T.heap[a]? = some (vp_cell (E.2.1 1) (n1, .inl (fun j => Int32.ofInt (g (j : Int))))) := (hR.2.2.2 a _ ha1).2
  obtain ⟨-, k0, hk0, cm0, hkk0⟩ := ((gK hc).2 1 _ rfl).1 n0 (fun j => .int (Int32.ofInt (f (j : Int))))
  have hN : nativeFrameWords "java/lang/System" "arraycopy" 5 ≤ 30 := by decide
  have hnat : Cond.native arraycopyName ∈ lw_all := q322
  have hsta : Cond.static arraycopyName ∈ lw_all := q321
  obtain ⟨vm', X', step⟩ := X.arraycopy hc.1 hc.2.2.2.2.2.2.1 (gw hc hlink) (gw hc hnat) (gw hc hsta) (gw hc q110) (src := a0) (dst := a) (cs := vp_cell (E.2.1 1) (n0, .inl (fun j => Int32.ofInt (f (j : Int))))) (cd := vp_cell (E.2.1 1) (n1, .inl (fun j => Int32.ofInt (g (j : Int))))) (srcPos := Int32.ofInt sp) (destPos := Int32.ofInt dp) (n := Int32.ofInt n) hc0 hc1
    (fun _ h => by cases h) (fun _ h => by cases h) (fun h => by cases h) (fun h => by cases h) hk0 hk0 hkk0 hkk0 (by simp [refKind]) (z0 sp i1 h1) (z0 dp i2 h2) (z0 n i3 h3)
    (by rw [o32 i1, o32 i3]; show ¬ _ > ((arrV _ n0 (fun j => .int (Int32.ofInt (f (j : Int))))).slots.size : Int); rw [arrV_size]; omega)
    (by rw [o32 i2, o32 i3]; show ¬ _ > ((arrV _ n1 (fun j => .int (Int32.ofInt (g (j : Int))))).slots.size : Int); rw [arrV_size]; omega)
    (fun vm₁ _ i hi => by
      rw [o32c i3] at hi
      have e : (vp_cell (E.2.1 1) (n0, .inl (fun j => Int32.ofInt (f (j : Int))))).slots.getD ((Int32.ofInt sp).toNatClampNeg + i) .null = .int (Int32.ofInt (f (((Int32.ofInt sp).toNatClampNeg + i : Nat) : Int))) := by
        show (arrV _ n0 (fun j => .int (Int32.ofInt (f (j : Int))))).slots.getD _ _ = _
        rw [Array.getD_eq_getD_getElem?, arrV_read _ _ (by rw [o32c i1]; omega)]
        rfl
      refine ⟨?_, ?_⟩
      · rw [e]; exact fits_b (by rw [o32c i1, show ((sp.toNat + i : Nat) : Int) = sp + i by omega]; exact hfi i (by omega) (by omega))
      · rw [e]; exact trivial)
    (g := F0 m pc ls (vI n :: vI dp :: .ref a :: vI sp :: .ref a0 :: rest)) rfl (hsz.trans hc.2.2.1.symm) (rest := rest) rfl (by rw [hc.2.1]; exact hd) (by omega) (by show 2 * 0 + _ + _ ≤ _; omega)
  have e1 : copied (vp_cell (E.2.1 1) (n0, .inl (fun j => Int32.ofInt (f (j : Int))))) (vp_cell (E.2.1 1) (n1, .inl (fun j => Int32.ofInt (g (j : Int))))) (Int32.ofInt sp) (Int32.ofInt dp) (Int32.ofInt n) = vp_cell (E.2.1 1) (n1, .inl (fun j => Int32.ofInt (cpyI g f dp sp n (j : Int)))) := by
    refine (va_copied (fun z => .int z) (E.2.1 1) (E.2.1 1) (fun j => Int32.ofInt (f (j : Int))) (fun j => Int32.ofInt (g (j : Int))) (by rw [o32c i1, o32c i3]; omega)).trans ?_
    rw [vp_cell_i]
    show arrV (E.2.1 1) n1 _ = arrV (E.2.1 1) n1 _
    congr 1
    funext j
    congr 1
    unfold va_cpy cpyI
    rw [o32c i1, o32c i2, o32c i3]
    by_cases c1 : dp.toNat ≤ j ∧ j < dp.toNat + n.toNat
    · rw [if_pos c1, if_pos (by omega)]
      show Int32.ofInt (f ((sp.toNat + (j - dp.toNat) : Nat) : Int)) = _
      rw [show ((sp.toNat + (j - dp.toNat) : Nat) : Int) = sp + ((j : Int) - dp) by omega]
    · rw [if_neg c1, if_neg (by omega)]
  rw [e1] at X' step
  have hlt : a < T.heap.size := (Array.getElem?_eq_some_iff.mp hc1).1
  have hga : gZ E ≤ a := (hR.2.2.2 a _ ha1).1
  obtain ⟨t, st1, en⟩ := kk p l e R s m args below meth c _ _ k n' ls hc b1 b2 b3 b4 (hR.set ha1 (H1 := ((T.setVm vm').setCell a (vp_cell (E.2.1 1) (n1, .inl (fun j => Int32.ofInt (cpyI g f dp sp n (j : Int)))))).heap) (by show (T.heap.setIfInBounds a _).size = _; simp) (fun q hq => by show (T.heap.setIfInBounds a _)[q]? = _; simp [Array.getElem?_setIfInBounds, Ne.symm hq]) (by show (T.heap.setIfInBounds a _)[a]? = some _; simp [Array.getElem?_setIfInBounds, hlt])) (fun q hq => by
      rcases List.mem_append.mp hq with w | w
      · exact hL q w
      · obtain ⟨z, -, hz⟩ := List.mem_map.mp w
        rw [← hz]; exact hga) hl _ rfl X'
  exact ⟨t, step t st1, en⟩
theorem g_copyS (hd : decode I.2.1 pc = .ok (.invokestatic idx, 3)) (hlink : Cond.methodLink I.1.cls idx arraycopyName ∈ lw_all) (ha0 : h.1 a0 = some (aS E n0 f)) (ha1 : h.1 a = some (aS E n1 g)) (h1 : 0 ≤ sp) (h2 : 0 ≤ dp) (h3 : 0 ≤ n) (h4 : sp + n ≤ n0) (h5 : dp + n ≤ n1) (hn0 : n0 < 2147483648) (hn1 : n1 < 2147483648) (hfi : ∀ i : Int, 0 ≤ i → i < n → -32768 ≤ f (sp + i) ∧ f (sp + i) < 32768) (hq : pc + 3 = q)
    (kk : GO E I (d + 1) rc rs q lv rest (hset h a (aS E n1 (cpyI g f dp sp n))) Q) (hw : (rest.map fun v => v.category).sum ≤ 20 := by exact Nat.le_of_ble_eq_true rfl) : GO E I (d + 1) rc rs pc lv (vI n :: vI dp :: .ref a :: vI sp :: .ref a0 :: rest) h Q := by
  subst hq
  intro p l e R s m args below meth c H locs k n' ls hc b1 b2 b3 b4 hR hL hl T hT X
  subst hT
  have i1 : in32 sp := by unfold in32; omega
  have i2 : in32 dp := by unfold in32; omega
  have i3 : in32 n := by unfold in32; omega
  have z0 : ∀ z : Int, in32 z → 0 ≤ z → ¬ Int32.ofInt z < 0 := fun z hz h0 => by rw [o32_0, o32_lt hz in32_0]; omega
  have hsz : ls.size = I.2.2.1 := hl.1.1
  have hc0 : T.heap[a0]? = some (vp_cell (E.2.1 2) (n0, .inl (fun j => Int32.ofInt (f (j : Int))))) := (hR.2.2.2 a0 _ ha0).2
  have hc1 : T.heap[a]? = some (vp_cell (E.2.1 2) (n1, .inl (fun j => Int32.ofInt (g (j : Int))))) := (hR.2.2.2 a _ ha1).2
  obtain ⟨-, k0, hk0, cm0, hkk0⟩ := ((gK hc).2 2 _ rfl).1 n0 (fun j => .int (Int32.ofInt (f (j : Int))))
  have hN : nativeFrameWords "java/lang/System" "arraycopy" 5 ≤ 30 := by decide
  have hnat : Cond.native arraycopyName ∈ lw_all := q322
  have hsta : Cond.static arraycopyName ∈ lw_all := q321
  obtain ⟨vm', X', step⟩ := X.arraycopy hc.1 hc.2.2.2.2.2.2.1 (gw hc hlink) (gw hc hnat) (gw hc hsta) (gw hc q110) (src := a0) (dst := a) (cs := vp_cell (E.2.1 2) (n0, .inl (fun j => Int32.ofInt (f (j : Int))))) (cd := vp_cell (E.2.1 2) (n1, .inl (fun j => Int32.ofInt (g (j : Int))))) (srcPos := Int32.ofInt sp) (destPos := Int32.ofInt dp) (n := Int32.ofInt n) hc0 hc1
    (fun _ h => by cases h) (fun _ h => by cases h) (fun h => by cases h) (fun h => by cases h) hk0 hk0 hkk0 hkk0 (by simp [refKind]) (z0 sp i1 h1) (z0 dp i2 h2) (z0 n i3 h3)
    (by rw [o32 i1, o32 i3]; show ¬ _ > ((arrV _ n0 (fun j => .int (Int32.ofInt (f (j : Int))))).slots.size : Int); rw [arrV_size]; omega)
    (by rw [o32 i2, o32 i3]; show ¬ _ > ((arrV _ n1 (fun j => .int (Int32.ofInt (g (j : Int))))).slots.size : Int); rw [arrV_size]; omega)
    (fun vm₁ _ i hi => by
      rw [o32c i3] at hi
      have e : (vp_cell (E.2.1 2) (n0, .inl (fun j => Int32.ofInt (f (j : Int))))).slots.getD ((Int32.ofInt sp).toNatClampNeg + i) .null = .int (Int32.ofInt (f (((Int32.ofInt sp).toNatClampNeg + i : Nat) : Int))) := by
        show (arrV _ n0 (fun j => .int (Int32.ofInt (f (j : Int))))).slots.getD _ _ = _
        rw [Array.getD_eq_getD_getElem?, arrV_read _ _ (by rw [o32c i1]; omega)]
        rfl
      refine ⟨?_, ?_⟩
      · rw [e]; exact fits_s (by rw [o32c i1, show ((sp.toNat + i : Nat) : Int) = sp + i by omega]; exact hfi i (by omega) (by omega))
      · rw [e]; exact trivial)
    (g := F0 m pc ls (vI n :: vI dp :: .ref a :: vI sp :: .ref a0 :: rest)) rfl (hsz.trans hc.2.2.1.symm) (rest := rest) rfl (by rw [hc.2.1]; exact hd) (by omega) (by show 2 * 0 + _ + _ ≤ _; omega)
  have e1 : copied (vp_cell (E.2.1 2) (n0, .inl (fun j => Int32.ofInt (f (j : Int))))) (vp_cell (E.2.1 2) (n1, .inl (fun j => Int32.ofInt (g (j : Int))))) (Int32.ofInt sp) (Int32.ofInt dp) (Int32.ofInt n) = vp_cell (E.2.1 2) (n1, .inl (fun j => Int32.ofInt (cpyI g f dp sp n (j : Int)))) := by
    refine (va_copied (fun z => .int z) (E.2.1 2) (E.2.1 2) (fun j => Int32.ofInt (f (j : Int))) (fun j => Int32.ofInt (g (j : Int))) (by rw [o32c i1, o32c i3]; omega)).trans ?_
    rw [vp_cell_i]
    show arrV (E.2.1 2) n1 _ = arrV (E.2.1 2) n1 _
    congr 1
    funext j
    congr 1
    unfold va_cpy cpyI
    rw [o32c i1, o32c i2, o32c i3]
    by_cases c1 : dp.toNat ≤ j ∧ j < dp.toNat + n.toNat
    · rw [if_pos c1, if_pos (by omega)]
      show Int32.ofInt (f ((sp.toNat + (j - dp.toNat) : Nat) : Int)) = _
      rw [show ((sp.toNat + (j - dp.toNat) : Nat) : Int) = sp + ((j : Int) - dp) by omega]
    · rw [if_neg c1, if_neg (by omega)]
  rw [e1] at X' step
  have hlt : a < T.heap.size := (Array.getElem?_eq_some_iff.mp hc1).1
  have hga : gZ E ≤ a := (hR.2.2.2 a _ ha1).1
  obtain ⟨t, st1, en⟩ := kk p l e R s m args below meth c _ _ k n' ls hc b1 b2 b3 b4 (hR.set ha1 (H1 := ((T.setVm vm').setCell a (vp_cell (E.2.1 2) (n1, .inl (fun j => Int32.ofInt (cpyI g f dp sp n (j : Int)))))).heap) (by show (T.heap.setIfInBounds a _).size = _; simp) (fun q hq => by show (T.heap.setIfInBounds a _)[q]? = _; simp [Array.getElem?_setIfInBounds, Ne.symm hq]) (by show (T.heap.setIfInBounds a _)[a]? = some _; simp [Array.getElem?_setIfInBounds, hlt])) (fun q hq => by
      rcases List.mem_append.mp hq with w | w
      · exact hL q w
      · obtain ⟨z, -, hz⟩ := List.mem_map.mp w
        rw [← hz]; exact hga) hl _ rfl X'
  exact ⟨t, step t st1, en⟩
theorem g_copyL (hd : decode I.2.1 pc = .ok (.invokestatic idx, 3)) (hlink : Cond.methodLink I.1.cls idx arraycopyName ∈ lw_all) (ha0 : h.1 a0 = some (aL E n0 f)) (ha1 : h.1 a = some (aL E n1 g)) (h1 : 0 ≤ sp) (h2 : 0 ≤ dp) (h3 : 0 ≤ n) (h4 : sp + n ≤ n0) (h5 : dp + n ≤ n1) (hn0 : n0 < 2147483648) (hn1 : n1 < 2147483648) (hq : pc + 3 = q)
    (kk : GO E I (d + 1) rc rs q lv rest (hset h a (aL E n1 (cpyI g f dp sp n))) Q) (hw : (rest.map fun v => v.category).sum ≤ 20 := by exact Nat.le_of_ble_eq_true rfl) : GO E I (d + 1) rc rs pc lv (vI n :: vI dp :: .ref a :: vI sp :: .ref a0 :: rest) h Q := by
  subst hq
  intro p l e R s m args below meth c H locs k n' ls hc b1 b2 b3 b4 hR hL hl T hT X
  subst hT
  have i1 : in32 sp := by unfold in32; omega
  have i2 : in32 dp := by unfold in32; omega
  have i3 : in32 n := by unfold in32; omega
  have z0 : ∀ z : Int, in32 z → 0 ≤ z → ¬ Int32.ofInt z < 0 := fun z hz h0 => by rw [o32_0, o32_lt hz in32_0]; omega
  have hsz : ls.size = I.2.2.1 := hl.1.1
  have hc0 : T.heap[a0]? = some (vp_cell (E.2.1 3) (n0, .inr (.inl (fun j => Int64.ofInt (f (j : Int)))))) := (hR.2.2.2 a0 _ ha0).2
  have hc1 : T.heap[a]? = some (vp_cell (E.2.1 3) (n1, .inr (.inl (fun j => Int64.ofInt (g (j : Int)))))) := (hR.2.2.2 a _ ha1).2
  obtain ⟨-, k0, hk0, cm0, hkk0⟩ := ((gK hc).2 3 _ rfl).1 n0 (fun j => .long (Int64.ofInt (f (j : Int))))
  have hN : nativeFrameWords "java/lang/System" "arraycopy" 5 ≤ 30 := by decide
  have hnat : Cond.native arraycopyName ∈ lw_all := q322
  have hsta : Cond.static arraycopyName ∈ lw_all := q321
  obtain ⟨vm', X', step⟩ := X.arraycopy hc.1 hc.2.2.2.2.2.2.1 (gw hc hlink) (gw hc hnat) (gw hc hsta) (gw hc q110) (src := a0) (dst := a) (cs := vp_cell (E.2.1 3) (n0, .inr (.inl (fun j => Int64.ofInt (f (j : Int)))))) (cd := vp_cell (E.2.1 3) (n1, .inr (.inl (fun j => Int64.ofInt (g (j : Int)))))) (srcPos := Int32.ofInt sp) (destPos := Int32.ofInt dp) (n := Int32.ofInt n) hc0 hc1
    (fun _ h => by cases h) (fun _ h => by cases h) (fun h => by cases h) (fun h => by cases h) hk0 hk0 hkk0 hkk0 (by simp [refKind]) (z0 sp i1 h1) (z0 dp i2 h2) (z0 n i3 h3)
    (by rw [o32 i1, o32 i3]; show ¬ _ > ((arrV _ n0 (fun j => .long (Int64.ofInt (f (j : Int))))).slots.size : Int); rw [arrV_size]; omega)
    (by rw [o32 i2, o32 i3]; show ¬ _ > ((arrV _ n1 (fun j => .long (Int64.ofInt (g (j : Int))))).slots.size : Int); rw [arrV_size]; omega)
    (fun vm₁ _ i hi => by
      rw [o32c i3] at hi
      have e : (vp_cell (E.2.1 3) (n0, .inr (.inl (fun j => Int64.ofInt (f (j : Int)))))).slots.getD ((Int32.ofInt sp).toNatClampNeg + i) .null = .long (Int64.ofInt (f (((Int32.ofInt sp).toNatClampNeg + i : Nat) : Int))) := by
        show (arrV _ n0 (fun j => .long (Int64.ofInt (f (j : Int))))).slots.getD _ _ = _
        rw [Array.getD_eq_getD_getElem?, arrV_read _ _ (by rw [o32c i1]; omega)]
        rfl
      refine ⟨?_, ?_⟩
      · rw [e]; rfl
      · rw [e]; exact trivial)
    (g := F0 m pc ls (vI n :: vI dp :: .ref a :: vI sp :: .ref a0 :: rest)) rfl (hsz.trans hc.2.2.1.symm) (rest := rest) rfl (by rw [hc.2.1]; exact hd) (by omega) (by show 2 * 0 + _ + _ ≤ _; omega)
  have e1 : copied (vp_cell (E.2.1 3) (n0, .inr (.inl (fun j => Int64.ofInt (f (j : Int)))))) (vp_cell (E.2.1 3) (n1, .inr (.inl (fun j => Int64.ofInt (g (j : Int)))))) (Int32.ofInt sp) (Int32.ofInt dp) (Int32.ofInt n) = vp_cell (E.2.1 3) (n1, .inr (.inl (fun j => Int64.ofInt (cpyI g f dp sp n (j : Int))))) := by
    refine (va_copied (fun z => .long z) (E.2.1 3) (E.2.1 3) (fun j => Int64.ofInt (f (j : Int))) (fun j => Int64.ofInt (g (j : Int))) (by rw [o32c i1, o32c i3]; omega)).trans ?_
    rw [vp_cell_l]
    show arrV (E.2.1 3) n1 _ = arrV (E.2.1 3) n1 _
    congr 1
    funext j
    congr 1
    unfold va_cpy cpyI
    rw [o32c i1, o32c i2, o32c i3]
    by_cases c1 : dp.toNat ≤ j ∧ j < dp.toNat + n.toNat
    · rw [if_pos c1, if_pos (by omega)]
      show Int64.ofInt (f ((sp.toNat + (j - dp.toNat) : Nat) : Int)) = _
      rw [show ((sp.toNat + (j - dp.toNat) : Nat) : Int) = sp + ((j : Int) - dp) by omega]
    · rw [if_neg c1, if_neg (by omega)]
  rw [e1] at X' step
  have hlt : a < T.heap.size := (Array.getElem?_eq_some_iff.mp hc1).1
  have hga : gZ E ≤ a := (hR.2.2.2 a _ ha1).1
  obtain ⟨t, st1, en⟩ := kk p l e R s m args below meth c _ _ k n' ls hc b1 b2 b3 b4 (hR.set ha1 (H1 := ((T.setVm vm').setCell a (vp_cell (E.2.1 3) (n1, .inr (.inl (fun j => Int64.ofInt (cpyI g f dp sp n (j : Int))))))).heap) (by show (T.heap.setIfInBounds a _).size = _; simp) (fun q hq => by show (T.heap.setIfInBounds a _)[q]? = _; simp [Array.getElem?_setIfInBounds, Ne.symm hq]) (by show (T.heap.setIfInBounds a _)[a]? = some _; simp [Array.getElem?_setIfInBounds, hlt])) (fun q hq => by
      rcases List.mem_append.mp hq with w | w
      · exact hL q w
      · obtain ⟨z, -, hz⟩ := List.mem_map.mp w
        rw [← hz]; exact hga) hl _ rfl X'
  exact ⟨t, step t st1, en⟩
end Rows
def cpyR (dst src : Int → Option Nat) (dO sO n : Int) : Int → Option Nat := fun j => if dO ≤ j ∧ j < dO + n then src (sO + (j - dO)) else dst j
section Rows
variable {E : gE} {I : gI} {d rc rs pc q idx a a0 n0 n1 : Nat} {lv : List (Option Value)} {rest : List Value} {h : gH} {Q : Outcome → gH → Prop} {f g : Int → Option Nat} {sp dp n : Int}
theorem g_copyR (hd : decode I.2.1 pc = .ok (.invokestatic idx, 3)) (hlink : Cond.methodLink I.1.cls idx arraycopyName ∈ lw_all) (ha0 : h.1 a0 = some (aR E 12 n0 f)) (ha1 : h.1 a = some (aR E 12 n1 g)) (h1 : 0 ≤ sp) (h2 : 0 ≤ dp) (h3 : 0 ≤ n) (h4 : sp + n ≤ n0) (h5 : dp + n ≤ n1) (hn0 : n0 < 2147483648) (hn1 : n1 < 2147483648) (hel : ∀ i : Int, 0 ≤ i → i < n → ∀ y, f (sp + i) = some y → gAny E I "java/lang/Object" h y) (hq : pc + 3 = q)
    (kk : GO E I (d + 1) rc rs q lv rest (hset h a (aR E 12 n1 (cpyR g f dp sp n))) Q) (hw : (rest.map fun v => v.category).sum ≤ 20 := by exact Nat.le_of_ble_eq_true rfl) : GO E I (d + 1) rc rs pc lv (vI n :: vI dp :: .ref a :: vI sp :: .ref a0 :: rest) h Q := by
  subst hq
  intro p l e R s m args below meth c H locs k n' ls hc b1 b2 b3 b4 hR hL hl T hT X
  subst hT
  have i1 : in32 sp := by unfold in32; omega
  have i2 : in32 dp := by unfold in32; omega
  have i3 : in32 n := by unfold in32; omega
  have z0 : ∀ z : Int, in32 z → 0 ≤ z → ¬ Int32.ofInt z < 0 := fun z hz h0 => by rw [o32_0, o32_lt hz in32_0]; omega
  have hsz : ls.size = I.2.2.1 := hl.1.1
  have hc0 : T.heap[a0]? = some (vp_cell (E.2.1 12) (n0, .inr (.inr (.inr (.inr (fun j : Nat => f (j : Int))))))) := (hR.2.2.2 a0 _ ha0).2
  have hc1 : T.heap[a]? = some (vp_cell (E.2.1 12) (n1, .inr (.inr (.inr (.inr (fun j : Nat => g (j : Int))))))) := (hR.2.2.2 a _ ha1).2
  obtain ⟨-, k0, hk0, cm0, hkk0⟩ := ((gK hc).2 12 _ rfl).1 n0 (fun j => va_rf (f (j : Int)))
  have hN : nativeFrameWords "java/lang/System" "arraycopy" 5 ≤ 30 := by decide
  have hnat : Cond.native arraycopyName ∈ lw_all := q322
  have hsta : Cond.static arraycopyName ∈ lw_all := q321
  obtain ⟨vm', X', step⟩ := X.arraycopy hc.1 hc.2.2.2.2.2.2.1 (gw hc hlink) (gw hc hnat) (gw hc hsta) (gw hc q110) (src := a0) (dst := a) (cs := vp_cell (E.2.1 12) (n0, .inr (.inr (.inr (.inr (fun j : Nat => f (j : Int))))))) (cd := vp_cell (E.2.1 12) (n1, .inr (.inr (.inr (.inr (fun j : Nat => g (j : Int))))))) (srcPos := Int32.ofInt sp) (destPos := Int32.ofInt dp) (n := Int32.ofInt n) hc0 hc1
    (fun _ h => by cases h) (fun _ h => by cases h) (fun h => by cases h) (fun h => by cases h) hk0 hk0 hkk0 hkk0 rfl (z0 sp i1 h1) (z0 dp i2 h2) (z0 n i3 h3)
    (by rw [o32 i1, o32 i3]; show ¬ _ > ((arrV _ n0 (fun j => va_rf (f (j : Int)))).slots.size : Int); rw [arrV_size]; omega)
    (by rw [o32 i2, o32 i3]; show ¬ _ > ((arrV _ n1 (fun j => va_rf (g (j : Int)))).slots.size : Int); rw [arrV_size]; omega)
    (fun vm₁ hal i hi => by
      rw [o32c i3] at hi
      have e : (vp_cell (E.2.1 12) (n0, .inr (.inr (.inr (.inr (fun j : Nat => f (j : Int))))))).slots.getD ((Int32.ofInt sp).toNatClampNeg + i) .null = va_rf (f (sp + i)) := by
        show (arrV _ n0 (fun j => va_rf (f (j : Int)))).slots.getD _ _ = _
        rw [Array.getD_eq_getD_getElem?, arrV_read _ _ (by rw [o32c i1]; omega), o32c i1]
        show va_rf (f ((sp.toNat + i : Nat) : Int)) = _
        rw [show ((sp.toNat + i : Nat) : Int) = sp + i by omega]
      rw [e]
      cases hy : f (sp + i) with
      | none => exact ⟨rfl, trivial⟩
      | some y =>
        obtain ⟨cellV, g1, g2, ⟨kC, hkC⟩, hasg⟩ := hel i (by omega) (by omega) y hy p s m meth c T.heap hc hR
        obtain ⟨kA, comp, r1, r2, r3, -⟩ := ((gK hc).2 12 _ rfl).2
        cases hk0.symm.trans r1
        cases hkk0.symm.trans r2
        obtain ⟨kE, hkE, -⟩ := Vm.findClass_spec r3
        obtain ⟨kC', hkC', -⟩ := hal.2.2 _ _ hkC
        obtain ⟨kE', hkE', -⟩ := hal.2.2 _ _ hkE
        refine ⟨rfl, cellV, g1, (fun q h => by rw [h] at g2; cases g2), ⟨kC', hkC'⟩, ?_, ?_⟩
        · exact ⟨kE', hkE'⟩
        · show vm₁.assignable _ _ = true
          rw [hal.assignable]
          exact hasg _ r3)
    (g := F0 m pc ls (vI n :: vI dp :: .ref a :: vI sp :: .ref a0 :: rest)) rfl (hsz.trans hc.2.2.1.symm) (rest := rest) rfl (by rw [hc.2.1]; exact hd) (by omega) (by show 2 * 0 + _ + _ ≤ _; omega)
  have e1 : copied (vp_cell (E.2.1 12) (n0, .inr (.inr (.inr (.inr (fun j : Nat => f (j : Int))))))) (vp_cell (E.2.1 12) (n1, .inr (.inr (.inr (.inr (fun j : Nat => g (j : Int))))))) (Int32.ofInt sp) (Int32.ofInt dp) (Int32.ofInt n) = vp_cell (E.2.1 12) (n1, .inr (.inr (.inr (.inr (fun j : Nat => cpyR g f dp sp n (j : Int)))))) := by
    rw [vp_cell_q, vp_cell_q, vp_cell_q]
    refine (va_copied (fun z => va_rf z) (E.2.1 12) (E.2.1 12) (fun j : Nat => f (j : Int)) (fun j : Nat => g (j : Int)) (by rw [o32c i1, o32c i3]; omega)).trans ?_
    congr 1
    funext j
    congr 1
    unfold va_cpy cpyR
    rw [o32c i1, o32c i2, o32c i3]
    by_cases c1 : dp.toNat ≤ j ∧ j < dp.toNat + n.toNat
    · rw [if_pos c1, if_pos (by omega)]
      show f ((sp.toNat + (j - dp.toNat) : Nat) : Int) = _
      rw [show ((sp.toNat + (j - dp.toNat) : Nat) : Int) = sp + ((j : Int) - dp) by omega]
    · rw [if_neg c1, if_neg (by omega)]
  rw [e1] at X' step
  have hlt : a < T.heap.size := (Array.getElem?_eq_some_iff.mp hc1).1
  have hga : gZ E ≤ a := (hR.2.2.2 a _ ha1).1
  obtain ⟨t, st1, en⟩ := kk p l e R s m args below meth c _ _ k n' ls hc b1 b2 b3 b4 (hR.set ha1 (H1 := ((T.setVm vm').setCell a (vp_cell (E.2.1 12) (n1, .inr (.inr (.inr (.inr (fun j : Nat => cpyR g f dp sp n (j : Int)))))))).heap) (by show (T.heap.setIfInBounds a _).size = _; simp) (fun q hq => by show (T.heap.setIfInBounds a _)[q]? = _; simp [Array.getElem?_setIfInBounds, Ne.symm hq]) (by show (T.heap.setIfInBounds a _)[a]? = some _; simp [Array.getElem?_setIfInBounds, hlt])) (fun q hq => by
      rcases List.mem_append.mp hq with w | w
      · exact hL q w
      · obtain ⟨z, -, hz⟩ := List.mem_map.mp w
        rw [← hz]; exact hga) hl _ rfl X'
  exact ⟨t, step t st1, en⟩
/-- references that are not the same, or the same -/
theorem g_acmpne {off : Int} {t x y : Nat} (hd : decode I.2.1 pc = .ok (.if_acmp .ne off, 3)) (ht : (pc : Int) + off = (t : Int)) (hq : pc + 3 = q) (k1 : x ≠ y → GO E I d rc rs t lv rest h Q) (k2 : x = y → GO E I d rc rs q lv rest h Q) : GO E I d rc rs pc lv (.ref y :: .ref x :: rest) h Q := by
  subst hq
  intro p l e R s m args below meth c H locs k n' ls hc a1 a2 a3 a4 hR hL hl
  exact lv_acmp_ne (rx := some x) (ry := some y) hc.1 hc.2.1 hd ht (fun z => k1 (fun w => z (by rw [w])) p l e R s m args below meth c H locs k n' ls hc a1 a2 a3 a4 hR hL hl) (fun z => k2 (Option.some.inj z) p l e R s m args below meth c H locs k n' ls hc a1 a2 a3 a4 hR hL hl)
theorem g_acmpeq {off : Int} {t x y : Nat} (hd : decode I.2.1 pc = .ok (.if_acmp .eq off, 3)) (ht : (pc : Int) + off = (t : Int)) (hq : pc + 3 = q) (k1 : x = y → GO E I d rc rs t lv rest h Q) (k2 : x ≠ y → GO E I d rc rs q lv rest h Q) : GO E I d rc rs pc lv (.ref y :: .ref x :: rest) h Q := by
  subst hq
  intro p l e R s m args below meth c H locs k n' ls hc a1 a2 a3 a4 hR hL hl
  exact lv_acmp_eq (rx := some x) (ry := some y) hc.1 hc.2.1 hd ht (fun z => k1 (Option.some.inj z) p l e R s m args below meth c H locs k n' ls hc a1 a2 a3 a4 hR hL hl) (fun z => k2 (fun w => z (by rw [w])) p l e R s m args below meth c H locs k n' ls hc a1 a2 a3 a4 hR hL hl)
end Rows
/-- the class object of Object[] -/
def MIR (E : gE) (mi : Nat) : Prop := va_Mi "[Ljava/lang/Object;" mi (gS E)
section Rows
variable {E : gE} {I : gI} {d rc rs pc q idx a n mi : Nat} {lv : List (Option Value)} {rest : List Value} {h : gH} {Q : Outcome → gH → Prop} {f : Int → Option Nat}
theorem nw_mir : (Jvm.Cond.isRef (.mirror "[Ljava/lang/Object;")) ∈ cjs narrow_1 := nw_seg (n := 363) (L := [Jvm.Cond.isRef (.mirror "[Ljava/lang/Object;")]) rfl _ (List.mem_singleton.mpr rfl)
theorem mir_ok (ok : gOK E) : ∃ mi, MIR E mi := va_Mi.of (gNw ok _ (nw_mir))
theorem g_ldcM (hd : decode I.2.1 pc = .ok (.ldc idx, 2)) (hlink : Cond.classLink I.1.cls idx "[Ljava/lang/Object;" ∈ lw_all) (hM : MIR E mi) (hq : pc + 2 = q) (kk : GO E I d rc rs q lv (.ref mi :: rest) h Q) : GO E I d rc rs pc lv rest h Q := by
  subst hq
  intro p l e R s m args below meth c H locs k n' ls hc a1 a2 a3 a4 hR hL hl
  exact va_ldcM hc.1 hc.2.1 hc.2.2.2.2.2.2.1 (gw hc hlink) (va_Mi.moved hc.2.2.2.2.2.2.2.2.1.alike hM) hd (kk p l e R s m args below meth c H locs k n' ls hc a1 a2 a3 a4 hR hL hl)
theorem g_getC (hd : decode I.2.1 pc = .ok (.invokevirtual idx, 3)) (hlink : Cond.methodLink I.1.cls idx ⟨"java/lang/Object", "getClass", "()Ljava/lang/Class;"⟩ ∈ lw_all) (hM : MIR E mi) (ha : h.1 a = some (aR E 12 n f)) (hq : pc + 3 = q) (kk : GO E I (d + 1) rc rs q lv (.ref mi :: rest) h Q) (hw : (rest.map fun v => v.category).sum ≤ 20 := by exact Nat.le_of_ble_eq_true rfl) : GO E I (d + 1) rc rs pc lv (.ref a :: rest) h Q := by
  subst hq
  intro p l e R s m args below meth c H locs k n' ls hc a1 a2 a3 a4 hR hL hl
  have hdecl : va_Dc s := va_Dc.moved hc.2.2.2.2.2.2.2.2.1.alike (va_Dc.of (hc.2.2.2.2.2.2.2.2.2.1 _ q1949))
  have hsz : ls.size = I.2.2.1 := hl.1.1
  have hcell : H[a]? = some (vp_cell (E.2.1 12) (n, .inr (.inr (.inr (.inr (fun j : Nat => f (j : Int))))))) := (hR.2.2.2 a _ ha).2
  exact va_getC hc.1 hc.2.1 (hc.2.2.1.trans hsz.symm) hc.2.2.2.2.2.2.1 (gw hc hlink) (va_Dc.use hdecl) (C := "[Ljava/lang/Object;") (gw hc q1948) (gw hc q893) (gw hc q915) (va_Mi.moved hc.2.2.2.2.2.2.2.2.1.alike hM) ⟨_, hcell, rfl, va_nmO ((gK hc).2 12 _ rfl).2 rfl⟩ (by omega) (by omega) hd (kk p l e R s m args below meth c H locs k n' ls hc a1 a2 a3 a4 hR hL hl)
end Rows
