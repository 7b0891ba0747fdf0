/-! MY LOGIC, part 21: instructions that raise an exception -/
set_option maxRecDepth 100000
/-- the instruction raises cls with a short message -/
def RAI (E : gE) (I : gI) (pc : Nat) (st rest : List Value) (h : gH) (cls : String) : Prop :=
  ∀ (p : Program) (l : gL) (e : Env) (R : Room) (s : State) (m : MethodId) (args : Array Value) (below : List Frame) (meth : Method) (c : Code) (T : State) (locs : List Loc) (k n : Nat) (ls : Array Slot),
    gCx E I p s m meth c → gRel E h T.heap → Stand p l.1 e R s m args below meth c T locs k n →
    ∃ (vm' : Vm) (text : String), Stand p l.1 e R s m args below meth c (T.setVm vm') locs k n ∧ (text == notModelled) = false ∧ (stringBytes (stringToUtf16 text)).size ≤ 1000 ∧
      ∀ target, Steps p.tables e below (((T.setVm vm').setTop (F0 m pc ls rest)).pushFrame (.throwNew cls (some text) none)) target → Steps p.tables e below (T.setTop (F0 m pc ls st)) target
section
variable {E : gE} {I : gI} {d rc rs pc q a t n : Nat} {lv : List (Option Value)} {st rest : List Value} {h : gH} {Q : Outcome → gH → Prop} {i : Int} {v : Value} {y : vp_A}
theorem RAI.go {cls : String} {names : List String} {TT : u_T} {ty : Nat → FieldType} {ci NN : Nat} (hat : ∀ vm, gOK E → (gS E).WarmedH vm → ∀ a ∈ Bundle.messageArmAtoms cls names, a.before #[Value.ref E.2.2.2] ((gS E).setVm vm) = true) (hci : vwCl[ci]? = some (cls, TT, NN)) (hin : ∀ w ∈ u_ws cls TT NN, w ∈ lw_all) (hty : ∀ k, k < NN → parseFieldDescriptor (TT k).2.2.1 = some (ty k)) (hcls : Bundle.fit cls = true) (hnames : ∀ n ∈ names, Bundle.fit n = true) (hsoe : (cls == "java/lang/StackOverflowError") = false) (hoom : (cls == "java/lang/OutOfMemoryError") = false) (hnl : names.length ≤ 10)
    (hr : RAI E I pc st rest h cls) (hd : 170 ≤ d) (hw : (rest.map fun v => v.category).sum ≤ 20) (kk : ∀ fs, FLY E I d rc rs pc lv (h.2 + 2) (hexc h ci fs) Q) : GO E I d (rc + 3) (rs + 1010) pc lv st h Q := by
  intro p l e R s m args below meth c H locs k n ls hc a1 a2 a3 a4 hR hL hl T hT X
  subst hT
  obtain ⟨vm', text, X1, ht1, ht2, hst⟩ := hr p l e R s m args below meth c T locs k n ls hc hR X
  obtain ⟨fs, U, locs', n', hn', XU, hRU, hLU, hstU⟩ := msg_at (pc := pc) (ls := ls) (st := rest) (T := T.setVm vm') (fun vm hW => hat vm hc.2.2.2.2.2.2.2.2.2 hW) hci hin hty hcls hnames hsoe hoom hc X1 hR hL hl.1.1 ht1 ht2 (by omega) (by omega) (by omega) (by omega) (by omega)
  obtain ⟨t, st1, en⟩ := kk fs p l e R s m args below meth c U locs' (k + 3) n' ls rest hc a1 a2 (by omega) (by omega) hRU hLU hl XU
  exact ⟨t, hst t (hstU t st1), en⟩
theorem r15 (hr : RAI E I pc st rest h "java/lang/NegativeArraySizeException") (hd : 170 ≤ d) (hw : (rest.map fun v => v.category).sum ≤ 20) (kk : ∀ fs, FLY E I d rc rs pc lv (h.2 + 2) (hexc h 18 fs) Q) : GO E I d (rc + 3) (rs + 1010) pc lv st h Q :=
  RAI.go (ci := 18) (fun vm ok hW => at_J15 ok hW) rfl in_J15 tyJ15_ok (by decide +kernel) (by decide +kernel) (by decide +kernel) (by decide +kernel) (by decide) hr hd hw kk
theorem r18 (hr : RAI E I pc st rest h "java/lang/ArrayIndexOutOfBoundsException") (hd : 170 ≤ d) (hw : (rest.map fun v => v.category).sum ≤ 20) (kk : ∀ fs, FLY E I d rc rs pc lv (h.2 + 2) (hexc h 20 fs) Q) : GO E I d (rc + 3) (rs + 1010) pc lv st h Q :=
  RAI.go (ci := 20) (fun vm ok hW => at_J18 ok hW) rfl in_J18 tyJ18_ok (by decide +kernel) (by decide +kernel) (by decide +kernel) (by decide +kernel) (by decide) hr hd hw kk
theorem r19 (hr : RAI E I pc st rest h "java/lang/ClassCastException") (hd : 170 ≤ d) (hw : (rest.map fun v => v.category).sum ≤ 20) (kk : ∀ fs, FLY E I d rc rs pc lv (h.2 + 2) (hexc h 21 fs) Q) : GO E I d (rc + 3) (rs + 1010) pc lv st h Q :=
  RAI.go (ci := 21) (fun vm ok hW => at_J19 ok hW) rfl in_J19 tyJ19_ok (by decide +kernel) (by decide +kernel) (by decide +kernel) (by decide +kernel) (by decide) hr hd hw kk
theorem text_small {x : String} {N : Nat} (h : x.toList.length ≤ N) : (stringBytes (stringToUtf16 x)).size ≤ 4 * N := by
  have b1 := stringBytes_size_le (stringToUtf16 x)
  have b2 := utf16_size_le x
  omega
theorem text_ne {x : String} (h : x.toList.length < notModelled.toList.length ∨ notModelled.toList.length < x.toList.length) : (x == notModelled) = false := by
  rw [beq_eq_false_iff_ne]
  intro e
  rw [e] at h
  omega
/-- a row of a length below 0 -/
theorem RAI.neg {ty : ArrayType} (hd : decode I.2.1 pc = .ok (.newarray ty, 2)) (hi : in32 i) (h0 : i < 0) : RAI E I pc (vI i :: rest) rest h "java/lang/NegativeArraySizeException" := by
  intro p l e R s m args below meth c T locs k n ls hc hR X
  refine ⟨T.vm, toString (Int32.ofInt i), X, ?_, ?_, fun target hs => ?_⟩
  · refine text_ne (Or.inl ?_)
    have := int32_print (Int32.ofInt i)
    have e : 11 < notModelled.toList.length := by decide
    omega
  · have := text_small (int32_print (Int32.ofInt i))
    omega
  · exact X.newarrayNegative hc.1 (g := F0 m pc ls (vI i :: rest)) rfl (by rw [o32_0, o32_lt hi in32_0]; exact h0) rfl (by rw [hc.2.1]; exact hd) target hs
theorem RAI.bast {x : Int} {g : Int → Int} (hd : decode I.2.1 pc = .ok (.bastore, 1)) (ha : h.1 a = some (aB E n g)) (hi : in32 i) (ho : i < 0 ∨ (n : Int) ≤ i) (hn : n < 1000) : RAI E I pc (vI x :: vI i :: .ref a :: rest) rest h "java/lang/ArrayIndexOutOfBoundsException" := by
  intro p l e R s m args below meth c T locs k n' ls hc hR X
  have hcell : T.heap[a]? = some (vp_cell (E.2.1 1) (n, .inl (fun j => Int32.ofInt (g (j : Int))))) := (hR.2.2.2 a _ ha).2
  have hsz : (vp_cell (E.2.1 1) (n, .inl (fun j => Int32.ofInt (g (j : Int))))).slots.size = n := arrV_size ..
  have harr : s.isArrayOf (vp_cell (E.2.1 1) (n, .inl (fun j => Int32.ofInt (g (j : Int))))) .byte := ((gK hc).2 1 _ rfl).1 n (fun j => .int (Int32.ofInt (g (j : Int))))
  refine ⟨T.vm, _, X, ?_, ?_, fun target hs => X.bastoreOut hc.1 hcell harr ?_ (g := F0 m pc ls (vI x :: vI i :: .ref a :: rest)) rfl rfl (by rw [hc.2.1]; exact hd) target hs⟩
  · exact index_text_modelled _ _
  · rw [hsz]; have := index_text_bytes (Int32.ofInt i) (n := n) (by omega); omega
  · rw [hsz, o32_0, o32_lt hi in32_0, o32c hi]; omega
theorem RAI.sast {x : Int} {g : Int → Int} (hd : decode I.2.1 pc = .ok (.sastore, 1)) (ha : h.1 a = some (aS E n g)) (hi : in32 i) (ho : i < 0 ∨ (n : Int) ≤ i) (hn : n < 1000) : RAI E I pc (vI x :: vI i :: .ref a :: rest) rest h "java/lang/ArrayIndexOutOfBoundsException" := by
  intro p l e R s m args below meth c T locs k n' ls hc hR X
  have hcell : T.heap[a]? = some (vp_cell (E.2.1 2) (n, .inl (fun j => Int32.ofInt (g (j : Int))))) := (hR.2.2.2 a _ ha).2
  have hsz : (vp_cell (E.2.1 2) (n, .inl (fun j => Int32.ofInt (g (j : Int))))).slots.size = n := arrV_size ..
  have harr : s.isArrayOf (vp_cell (E.2.1 2) (n, .inl (fun j => Int32.ofInt (g (j : Int))))) .short := ((gK hc).2 2 _ rfl).1 n (fun j => .int (Int32.ofInt (g (j : Int))))
  refine ⟨T.vm, _, X, ?_, ?_, fun target hs => X.sastoreOut hc.1 hcell harr ?_ (g := F0 m pc ls (vI x :: vI i :: .ref a :: rest)) rfl rfl (by rw [hc.2.1]; exact hd) target hs⟩
  · exact index_text_modelled _ _
  · rw [hsz]; have := index_text_bytes (Int32.ofInt i) (n := n) (by omega); omega
  · rw [hsz, o32_0, o32_lt hi in32_0, o32c hi]; omega
theorem RAI.iast {x : Int} {g : Int → Int} (hd : decode I.2.1 pc = .ok (.iastore, 1)) (ha : h.1 a = some (aI E n g)) (hi : in32 i) (ho : i < 0 ∨ (n : Int) ≤ i) (hn : n < 1000) : RAI E I pc (vI x :: vI i :: .ref a :: rest) rest h "java/lang/ArrayIndexOutOfBoundsException" := by
  intro p l e R s m args below meth c T locs k n' ls hc hR X
  have hcell : T.heap[a]? = some (vp_cell (E.2.1 0) (n, .inl (fun j => Int32.ofInt (g (j : Int))))) := (hR.2.2.2 a _ ha).2
  have hsz : (vp_cell (E.2.1 0) (n, .inl (fun j => Int32.ofInt (g (j : Int))))).slots.size = n := arrV_size ..
  have harr : s.isArrayOf (vp_cell (E.2.1 0) (n, .inl (fun j => Int32.ofInt (g (j : Int))))) .int := ((gK hc).2 0 _ rfl).1 n (fun j => .int (Int32.ofInt (g (j : Int))))
  refine ⟨T.vm, _, X, ?_, ?_, fun target hs => X.iastoreOut hc.1 hcell harr ?_ (g := F0 m pc ls (vI x :: vI i :: .ref a :: rest)) rfl rfl (by rw [hc.2.1]; exact hd) target hs⟩
  · exact index_text_modelled _ _
  · rw [hsz]; have := index_text_bytes (Int32.ofInt i) (n := n) (by omega); omega
  · rw [hsz, o32_0, o32_lt hi in32_0, o32c hi]; omega
theorem RAI.last {x : Int} {g : Int → Int} (hd : decode I.2.1 pc = .ok (.lastore, 1)) (ha : h.1 a = some (aL E n g)) (hi : in32 i) (ho : i < 0 ∨ (n : Int) ≤ i) (hn : n < 1000) : RAI E I pc (vL x :: vI i :: .ref a :: rest) rest h "java/lang/ArrayIndexOutOfBoundsException" := by
  intro p l e R s m args below meth c T locs k n' ls hc hR X
  have hcell : T.heap[a]? = some (vp_cell (E.2.1 3) (n, .inr (.inl (fun j => Int64.ofInt (g (j : Int)))))) := (hR.2.2.2 a _ ha).2
  have hsz : (vp_cell (E.2.1 3) (n, .inr (.inl (fun j => Int64.ofInt (g (j : Int)))))).slots.size = n := arrV_size ..
  have harr : s.isArrayOf (vp_cell (E.2.1 3) (n, .inr (.inl (fun j => Int64.ofInt (g (j : Int)))))) .long := ((gK hc).2 3 _ rfl).1 n (fun j => .long (Int64.ofInt (g (j : Int))))
  refine ⟨T.vm, _, X, ?_, ?_, fun target hs => X.lastoreOut hc.1 hcell harr ?_ (g := F0 m pc ls (vL x :: vI i :: .ref a :: rest)) rfl rfl (by rw [hc.2.1]; exact hd) target hs⟩
  · exact index_text_modelled _ _
  · rw [hsz]; have := index_text_bytes (Int32.ofInt i) (n := n) (by omega); omega
  · rw [hsz, o32_0, o32_lt hi in32_0, o32c hi]; omega
end
