/-! MY LOGIC, part 10: System.arraycopy of ints; THE COMPONENT: becomes -/
set_option maxRecDepth 100000
section Rows
variable {E : gE} {I : gI} {d rc rs pc q idx a a0 n0 n1 : Nat} {lv : List (Option Value)} {rest : List Value} {h : gH} {Q : Outcome → gH → Prop} {f g : Int → Int} {sp dp n : Int}
theorem g_copyI (hd : decode I.2.1 pc = .ok (.invokestatic idx, 3)) (hlink : Cond.methodLink I.1.cls idx arraycopyName ∈ lw_all) (ha0 : h.1 a0 = some (aI E n0 f)) (ha1 : h.1 a = some (aI E n1 g)) (h1 : 0 ≤ sp) (h2 : 0 ≤ dp) (h3 : 0 ≤ n) (h4 : sp + n ≤ n0) (h5 : dp + n ≤ n1) (hn0 : n0 < 2147483648) (hn1 : n1 < 2147483648) (hq : pc + 3 = q)
    (kk : GO E I (d + 1) rc rs q lv rest (hset h a (aI E n1 (cpyI g f dp sp n))) Q) (hw : (rest.map fun v => v.category).sum ≤ 20 := by exact Nat.le_of_ble_eq_true rfl) : GO E I (d + 1) rc rs pc lv (vI n :: vI dp :: .ref a :: vI sp :: .ref a0 :: rest) h Q := by
  subst hq
  intro p l e R s m args below meth c H locs k n' ls hc b1 b2 b3 b4 hR hL hl T hT X
  subst hT
  have i1 : in32 sp := by unfold in32; omega
  have i2 : in32 dp := by unfold in32; omega
  have i3 : in32 n := by unfold in32; omega
  have z0 : ∀ z : Int, in32 z → 0 ≤ z → ¬ Int32.ofInt z < 0 := fun z hz h0 => by rw [o32_0, o32_lt hz in32_0]; omega
  have hsz : ls.size = I.2.2.1 := hl.1.1
  have hc0 : T.heap[a0]? = some (vp_cell (E.2.1 0) (n0, .inl (fun j => Int32.ofInt (f (j : Int))))) := (hR.2.2.2 a0 _ ha0).2
  have hc1 : T.heap[a]? = some (vp_cell (E.2.1 0) (n1, .inl (fun j => Int32.ofInt (g (j : Int))))) := (hR.2.2.2 a _ ha1).2
  obtain ⟨-, k0, hk0, cm0, hkk0⟩ := ((gK hc).2 0 _ rfl).1 n0 (fun j => .int (Int32.ofInt (f (j : Int))))
  have hN : nativeFrameWords "java/lang/System" "arraycopy" 5 ≤ 30 := by decide
  have hnat : Cond.native arraycopyName ∈ lw_all := q322
  have hsta : Cond.static arraycopyName ∈ lw_all := q321
  obtain ⟨vm', X', step⟩ := X.arraycopy hc.1 hc.2.2.2.2.2.2.1 (gw hc hlink) (gw hc hnat) (gw hc hsta) (gw hc q110) (src := a0) (dst := a) (cs := vp_cell (E.2.1 0) (n0, .inl (fun j => Int32.ofInt (f (j : Int))))) (cd := vp_cell (E.2.1 0) (n1, .inl (fun j => Int32.ofInt (g (j : Int))))) (srcPos := Int32.ofInt sp) (destPos := Int32.ofInt dp) (n := Int32.ofInt n) hc0 hc1
    (fun _ h => by cases h) (fun _ h => by cases h) (fun h => by cases h) (fun h => by cases h) hk0 hk0 hkk0 hkk0 (by simp [refKind]) (z0 sp i1 h1) (z0 dp i2 h2) (z0 n i3 h3)
    (by rw [o32 i1, o32 i3]; show ¬ _ > ((arrV _ n0 (fun j => .int (Int32.ofInt (f (j : Int))))).slots.size : Int); rw [arrV_size]; omega)
    (by rw [o32 i2, o32 i3]; show ¬ _ > ((arrV _ n1 (fun j => .int (Int32.ofInt (g (j : Int))))).slots.size : Int); rw [arrV_size]; omega)
    (fun vm₁ _ i hi => by
      rw [o32c i3] at hi
      have e : (vp_cell (E.2.1 0) (n0, .inl (fun j => Int32.ofInt (f (j : Int))))).slots.getD ((Int32.ofInt sp).toNatClampNeg + i) .null = .int (Int32.ofInt (f (((Int32.ofInt sp).toNatClampNeg + i : Nat) : Int))) := by
        show (arrV _ n0 (fun j => .int (Int32.ofInt (f (j : Int))))).slots.getD _ _ = _
        rw [Array.getD_eq_getD_getElem?, arrV_read _ _ (by rw [o32c i1]; omega)]
        rfl
      refine ⟨?_, ?_⟩
      · rw [e]; rfl
      · rw [e]; exact trivial)
    (g := F0 m pc ls (vI n :: vI dp :: .ref a :: vI sp :: .ref a0 :: rest)) rfl (hsz.trans hc.2.2.1.symm) (rest := rest) rfl (by rw [hc.2.1]; exact hd) (by omega) (by show 2 * 0 + _ + _ ≤ _; omega)
  have e1 : copied (vp_cell (E.2.1 0) (n0, .inl (fun j => Int32.ofInt (f (j : Int))))) (vp_cell (E.2.1 0) (n1, .inl (fun j => Int32.ofInt (g (j : Int))))) (Int32.ofInt sp) (Int32.ofInt dp) (Int32.ofInt n) = vp_cell (E.2.1 0) (n1, .inl (fun j => Int32.ofInt (cpyI g f dp sp n (j : Int)))) := by
    refine (va_copied (fun z => .int z) (E.2.1 0) (E.2.1 0) (fun j => Int32.ofInt (f (j : Int))) (fun j => Int32.ofInt (g (j : Int))) (by rw [o32c i1, o32c i3]; omega)).trans ?_
    rw [vp_cell_i]
    show arrV (E.2.1 0) n1 _ = arrV (E.2.1 0) n1 _
    congr 1
    funext j
    congr 1
    unfold va_cpy cpyI
    rw [o32c i1, o32c i2, o32c i3]
    by_cases c1 : dp.toNat ≤ j ∧ j < dp.toNat + n.toNat
    · rw [if_pos c1, if_pos (by omega)]
      show Int32.ofInt (f ((sp.toNat + (j - dp.toNat) : Nat) : Int)) = _
      rw [show ((sp.toNat + (j - dp.toNat) : Nat) : Int) = sp + ((j : Int) - dp) by omega]
    · rw [if_neg c1, if_neg (by omega)]
  rw [e1] at X' step
  have hlt : a < T.heap.size := (Array.getElem?_eq_some_iff.mp hc1).1
  have hga : gZ E ≤ a := (hR.2.2.2 a _ ha1).1
  obtain ⟨t, st1, en⟩ := kk p l e R s m args below meth c _ _ k n' ls hc b1 b2 b3 b4 (hR.set ha1 (H1 := ((T.setVm vm').setCell a (vp_cell (E.2.1 0) (n1, .inl (fun j => Int32.ofInt (cpyI g f dp sp n (j : Int)))))).heap) (by show (T.heap.setIfInBounds a _).size = _; simp) (fun q hq => by show (T.heap.setIfInBounds a _)[q]? = _; simp [Array.getElem?_setIfInBounds, Ne.symm hq]) (by show (T.heap.setIfInBounds a _)[a]? = some _; simp [Array.getElem?_setIfInBounds, hlt])) (fun q hq => by
      rcases List.mem_append.mp hq with w | w
      · exact hL q w
      · obtain ⟨z, -, hz⟩ := List.mem_map.mp w
        rw [← hz]; exact hga) hl _ rfl X'
  exact ⟨t, step t st1, en⟩
end Rows
/-! two heads, one over the other: what is read of the lower one -/
section
variable {E : gE} {d p o : Nat} {tx ty : Option Nat} {G : gH} {hs ho : Int → Int} {ak ao : va_E} {v s a b c : Int} {Q : Outcome → gH → Prop}
theorem hH_out {b : Nat} (hb : ¬ avH p b) : (hH E G p tx hs ak).1 b = G.1 b := blk_out (by unfold avH at hb; omega)
/-- a row of strengths copied whole -/
theorem xl_all {g : Int → Int} (h : ∀ j, 0 ≤ j → j < 24 → g j = xl ho s a j) (n : Nat) : cpyI g (xl ho s a) 0 0 24 = fun j => if 0 ≤ j ∧ j < 24 then xl ho s a j else g j := by
  funext j
  unfold cpyI
  by_cases c : 0 ≤ j ∧ j < 24
  · rw [if_pos (by omega), if_pos c]; congr 1; omega
  · rw [if_neg (by omega), if_neg c]
end
