/-! MY LOGIC, part 11: writing into arrays of references -/
set_option maxRecDepth 100000
section Rows
variable {E : gE} {I : gI} {d rc rs pc q a v n t0 ci : Nat} {lv : List (Option Value)} {st fs : List Value} {h : gH} {Q : Outcome → gH → Prop} {f : Int → Option Nat} {g : Int → Int} {i : Int} {C : String} {r : vw_C}
theorem up_ref {i : Int} {x : Option Nat} (h0 : 0 ≤ i) (i1 : in32 i) : (fun k : Nat => va_rf (upI f i x (k : Int))) = updV (fun j : Nat => va_rf (f (j : Int))) (Int32.ofInt i).toNatClampNeg (va_rf x) := by
  funext k
  rw [o32c i1]
  by_cases hk : k = i.toNat
  · subst hk
    simp only [updV, upI, if_true]
    rw [if_pos (Int.toNat_of_nonneg h0)]
  · simp only [updV, upI, if_neg hk]
    rw [if_neg (by omega)]
/-- a null -/
theorem g_aastN (hd : decode I.2.1 pc = .ok (.aastore, 1)) (ha : h.1 a = some (aR E t0 n f)) (ht : (gTys E)[t0]? = some (E.2.1 t0, .object C)) (h0 : 0 ≤ i) (h1 : i < n) (hq : pc + 1 = q) (kk : GO E I d rc rs q lv st (hset h a (aR E t0 n (upI f i none))) Q) (hn : n < 2147483648 := by first | decide | omega) : GO E I d rc rs pc lv (.null :: vI i :: .ref a :: st) h Q := by
  subst hq
  intro p l e R s m args below meth c H locs k n' ls hc a1 a2 a3 a4 hR hL hl
  have hin := vp_in_o h0 h1 hn
  refine va_WaastN (C := C) hc.1 hc.2.1 (hR.P ha 0 _ rfl) (((gK hc).2 t0 _ ht).1 n (fun j => va_rf (f (j : Int)))) (fun h => by cases h) (by show ¬ (Int32.ofInt i < 0 ∨ (arrV _ _ _).slots.size ≤ _); rw [arrV_size]; exact hin) (g := F0 m pc ls (.null :: vI i :: .ref a :: st)) rfl rfl hd fun H1 e z oq => ?_
  refine kk p l _ R s m args below meth c H1 _ k n' ls hc a1 a2 a3 a4 (hR.set ha z oq ?_) (locs1 hL (hR.2.2.2 a _ ha).1) hl
  show H1[a]? = some (vp_cell _ _)
  rw [e, vp_cell_q, vp_cell_q, arrV_store]
  congr 2
  exact (up_ref (f := f) (x := none) h0 (by unfold in32; omega)).symm
/-- what may lie in a row of C -/
def gAny (E : gE) (I : gI) (C : String) (h : gH) (v : Nat) : Prop := ∀ (p : Program) (s : State) (m : MethodId) (meth : Method) (c : Code) (H : Heap), gCx E I p s m meth c → gRel E h H → va_Any C s H v
theorem g_aast (hd : decode I.2.1 pc = .ok (.aastore, 1)) (ha : h.1 a = some (aR E t0 n f)) (ht : (gTys E)[t0]? = some (E.2.1 t0, .object C)) (hr : gAny E I C h v) (h0 : 0 ≤ i) (h1 : i < n) (hq : pc + 1 = q) (kk : GO E I d rc rs q lv st (hset h a (aR E t0 n (upI f i (some v)))) Q) (hn : n < 2147483648 := by first | decide | omega) : GO E I d rc rs pc lv (.ref v :: vI i :: .ref a :: st) h Q := by
  subst hq
  intro p l e R s m args below meth c H locs k n' ls hc a1 a2 a3 a4 hR hL hl
  have hin := vp_in_o h0 h1 hn
  have hlt : (Int32.ofInt i).toNatClampNeg < n := Nat.not_le.mp fun q => hin (Or.inr q)
  have hn0 : ¬ Int32.ofInt i < 0 := fun q => hin (Or.inl q)
  obtain ⟨cellV, g1, g3, ⟨kC, hkC⟩, hasg⟩ := hr p s m meth c H hc hR
  obtain ⟨kA, comp, k1, k2, k3, -⟩ := ((gK hc).2 t0 _ ht).2
  obtain ⟨kE, hkE, -⟩ := Vm.findClass_spec k3
  refine W.aast hc.1 hc.2.1 (hR.P ha 0 _ rfl) (fun q h => by cases h) (fun h => by cases h) k1 k2 rfl hkE ⟨hn0, by show _ < (arrV _ _ _).slots.size; rw [arrV_size]; exact hlt⟩ g1 (fun q h => by rw [h] at g3; cases g3) hkC (hasg _ k3) rfl rfl hd fun H1 e z oq => ?_
  refine kk p l _ R s m args below meth c H1 _ k n' ls hc a1 a2 a3 a4 (hR.set ha z oq ?_) (locs1 hL (hR.2.2.2 a _ ha).1) hl
  show H1[a]? = some (vp_cell _ _)
  rw [e, vp_cell_q, vp_cell_q, arrV_store]
  congr 2
  exact (up_ref (x := some v) h0 (by unfold in32; omega)).symm
theorem gwC {p : Program} {s : State} {m : MethodId} {meth : Method} {c : Code} (hc : gCx E I p s m meth c) {X Y : String} (hw : Cond.castable X Y ∈ lw_tbl) : va_Nw (.castable X Y) s := va_Nw.warmC hc.2.2.2.2.2.2.2.2.1 (va_Nw.of rfl (hc.2.2.2.2.2.2.2.2.2.1 _ hw))
/-- an object of a class that may be cast -/
theorem gAny.obj (hv : h.1 v = some (oB ci fs)) (hcl : vwCl[ci]? = some r) (hca : Cond.castable r.1 C ∈ lw_tbl) : gAny E I C h v := fun p s m meth c H hc hR =>
  va_rAny (gK hc) (hR.P hv) (q0 := 0) rfl hcl (fun comp c0 h1 h2 => vb_asgC (gwC hc hca) comp c0 h1 h2)
/-- an array of ints -/
theorem gAny.ints (hv : h.1 v = some (aI E n g)) (hca : Cond.castable "[I" C ∈ lw_tbl) : gAny E I C h v := fun p s m meth c H hc hR => by
  have hcell : H[v]? = some (vp_cell (E.2.1 0) (n, .inl (fun j => Int32.ofInt (g (j : Int))))) := (hR.2.2.2 v _ hv).2
  obtain ⟨-, k0, hk0, cm0, hkk0⟩ := ((gK hc).2 0 _ rfl).1 n (fun j => .int (Int32.ofInt (g (j : Int))))
  exact ⟨_, hcell, rfl, ⟨k0, hk0⟩, fun comp h1 => vb_asgC (gwC hc hca) comp (E.2.1 0) h1 ((gK hc).2 0 _ rfl).2⟩
end Rows
