/-! MY LOGIC, part 20: an exception with a message is made -/
set_option maxRecDepth 100000
/-- the heap with a message's row and string and the exception behind it -/
def hexc (h : gH) (ci : Nat) (fs : List Value) : gH := hset (h.1, h.2 + 3) (h.2 + 2) (oB ci fs)
section
variable {E : gE} {I : gI} {p : Program} {l : gL} {e : Env} {R : Room} {s : State} {m : MethodId} {args : Array Value} {below : List Frame} {meth : Method} {c : Code} {T : State} {locs : List Loc} {k n pc ci NN : Nat} {ls : Array Slot} {st : List Value} {h : gH} {cls text : String} {names : List String} {TT : u_T}
theorem traces_off (X : Stand p l.1 e R s m args below meth c T locs k n) : e.platform.stackTraces = false := Launch.traces_off l.2 X.admits
/-- an object of a known class has its fields -/
theorem exc_fields {u : State} {A : Array Value} {H : Heap} {a : Nat} {cell : Cell} {kX : Class} {ty : Nat → FieldType} (hK : va_K E.1 vwCl (gTys E) u) (hts : ∀ w ∈ lw_all, w.before A u = true) (hci : vwCl[ci]? = some (cls, TT, NN)) (hin : ∀ w ∈ u_ws cls TT NN, w ∈ lw_all) (hty : ∀ k, k < NN → parseFieldDescriptor (TT k).2.2.1 = some (ty k)) (hf : u.vm.findClass cls = some cell.cls) (hk : u.vm.classes[cell.cls]? = some kX) (hsz : cell.slots.size = kX.instanceTypes.size) (hvm : cell.vm = .none) (hH : H[a]? = some cell) : ∃ fs : List Value, va_at E.1 vwCl (a, oB ci fs) H := by
  have hKn := hK.1 ci _ hci
  have ec : E.1.1 ci = cell.cls := Option.some.inj (hKn.2.1.symm.trans hf)
  obtain ⟨cell0, g1, g2, g3, g4⟩ := u_born (ws := lw_all) (H := #[blank (E.1.1 ci) kX]) (o := 0) ty hts hin hKn (by rw [ec]; exact hk) rfl hty
  have e0 : cell0 = blank (E.1.1 ci) kX := (Option.some.inj g1).symm
  have hlt : ∀ j, j < NN → E.1.2 ci j < cell.slots.size := fun j hj => by
    have := g4 j hj
    rw [e0] at this
    obtain ⟨q, -⟩ := Array.getElem?_eq_some_iff.mp this
    rw [hsz]
    simpa [blank] using q
  refine ⟨(List.range NN).map (fun j => (cell.slots[E.1.2 ci j]?).getD .null), _, hci, cell, hH, ec.symm, hvm, fun j hj => ?_⟩
  obtain ⟨v, hv⟩ : ∃ v, cell.slots[E.1.2 ci j]? = some v := ⟨_, Array.getElem?_eq_getElem (hlt j hj)⟩
  rw [hv]
  unfold vp_V
  simp [hj, hv]
theorem msg_at {ty : Nat → FieldType} (hat : ∀ vm, (gS E).WarmedH vm → ∀ a ∈ Bundle.messageArmAtoms cls names, a.before #[Value.ref E.2.2.2] ((gS E).setVm vm) = true) (hci : vwCl[ci]? = some (cls, TT, NN)) (hin : ∀ w ∈ u_ws cls TT NN, w ∈ lw_all) (hty : ∀ k, k < NN → parseFieldDescriptor (TT k).2.2.1 = some (ty k)) (hcls : Bundle.fit cls = true) (hnames : ∀ n ∈ names, Bundle.fit n = true) (hsoe : (cls == "java/lang/StackOverflowError") = false) (hoom : (cls == "java/lang/OutOfMemoryError") = false)
    (hc : gCx E I p s m meth c) (X : Stand p l.1 e R s m args below meth c T locs k n) (hR : gRel E h T.heap) (hL : ∀ q ∈ locs, gZ E ≤ q.base) (hsz : ls.size = I.2.2.1) (htext : (text == notModelled) = false) (hlen : (stringBytes (stringToUtf16 text)).size ≤ 1000)
    (hfr : names.length + 4 < R.frames) (hlo : (st.map fun v => v.category).sum + 10240 ≤ R.locals) (hshort : 13 * names.length + 55 ≤ 10240) (hce : k + 3 ≤ R.cells) (hsl : n + 1010 ≤ R.slots) :
    ∃ (fs : List Value) (U : State) (locs' : List Loc) (n' : Nat), n' ≤ n + 1010 ∧ Stand p l.1 e R s m args below meth c U locs' (k + 3) n' ∧ gRel E (hexc h ci fs) U.heap ∧ (∀ q ∈ locs', gZ E ≤ q.base) ∧
      ∀ target, Steps p.tables e below ((U.setTop (F0 m pc ls st)).pushFrame (.throwing (h.2 + 2))) target → Steps p.tables e below ((T.setTop (F0 m pc ls st)).pushFrame (.throwNew cls (some text) none)) target := by
  have ok : gOK E := hc.2.2.2.2.2.2.2.2.2
  have hWg : (gS E).WarmedH T.vm := State.WarmedH.trans hc.2.2.2.2.2.2.2.2.1 X.warmed
  replace hat := hat _ hWg
  have hts : ∀ w ∈ lw_all, w.before #[Value.ref E.2.2.2] ((gS E).setVm T.vm) = true := fun w hw => wq ok hWg hw
  have hKg : va_K E.1 vwCl (gTys E) ((gS E).setVm T.vm) := va_K.moved hWg.alike ok.2.1
  generalize hs0 : (gS E).setVm T.vm = s0 at hat hts hKg
  have hvm0 : s0.vm = T.vm := by rw [← hs0]; rfl
  have hhp0 : s0.heap = (gS E).heap := by rw [← hs0]; rfl
  have hW0 : s0.WarmedH T.vm := by rw [← hvm0]; exact State.WarmedH.refl s0
  have htr := traces_off X
  have howns : e.platform.frameOwnsMonitors = true := by rw [X.admits.platform]
  have hfin : e.platform.finalization = false := by rw [X.admits.platform]
  have hpl : e.platform.magicAccessors = ({} : Platform).magicAccessors := by rw [X.admits.platform]
  have a : ∀ x, x ∈ Bundle.messageArmAtoms cls names → x.holds #[Value.ref E.2.2.2] s0 none s0 [] = true := fun x hx => hat x hx
  have mA : ∀ {x}, x ∈ Bundle.throwableAtoms → x ∈ Bundle.messageArmAtoms cls names := fun hx => by simp [Bundle.messageArmAtoms, hx]
  have mB : ∀ {x}, x ∈ Bundle.throwableSAtoms → x ∈ Bundle.messageArmAtoms cls names := fun hx => by simp [Bundle.messageArmAtoms, hx]
  have mC : ∀ {x}, x ∈ Bundle.chainSAtoms cls names → x ∈ Bundle.messageArmAtoms cls names := fun hx => by simp [Bundle.messageArmAtoms, hx]
  have mD : ∀ {x}, x ∈ Bundle.stringAtoms → x ∈ Bundle.messageArmAtoms cls names := fun hx => by simp [Bundle.messageArmAtoms, hx]
  obtain ⟨Tc, Z0, L, -, Y⟩ := ThrowableC.of_atoms (pl := e.platform) howns hfin hpl (fun x hx => hat x (mA hx))
  obtain ⟨Z, M, LZ, LM, hnZ⟩ := Init0T.ofS_atoms (args := #[Value.ref E.2.2.2]) hpl L Y (fun x hx => hat x (mB hx))
  obtain ⟨P1, Ps, hlP, L1, hLs, hP1m, hlink1, hlink⟩ := Bundle.chainS (args := #[Value.ref E.2.2.2]) hpl hnZ names cls hcls hnames (fun x hx => hat x (mC hx))
  obtain ⟨Zs, LZs, hn4, hfitv, hfitc⟩ := StringT.of_atoms (args := #[Value.ref E.2.2.2]) (fun x hx => hat x (mD hx))
  have hfound : s0.vm.findClass cls = some P1.m.cls := findClass_of_methodNamed hP1m
  obtain ⟨c1, kX, hc1, hk, hord, -, -, hn6⟩ := Cond.instantiable_spec (a (.instantiable cls 6) (by simp [Bundle.messageArmAtoms]))
  cases Option.some.inj (hc1.symm.trans hfound)
  have hinit := Cond.initialized_spec hfound hk (a (.initialized cls) (by simp [Bundle.messageArmAtoms]))
  have hctor : kX.findMethod "<init>" "(Ljava/lang/String;)V" = some P1.m.idx := findMethod_of_methodNamed hP1m hk
  have hsel0 : selectMethod e.platform s0.vm P1.m.cls Tc.fill0 = .method Tc.fill0 := by
    obtain ⟨c2, r2, m2, q1, q2, q3, q4, -⟩ := Cond.selects_spec (a (.selects cls Bundle.tFill0 Bundle.tFill0) (by simp [Bundle.messageArmAtoms]))
    cases Option.some.inj (q1.symm.trans hfound)
    cases Option.some.inj (q2.symm.trans (State.methodFound?_of_named Y.fill0 (by decide)))
    cases Option.some.inj (q3.symm.trans Y.fill0)
    rw [Launch.admits_selectMethod X.admits]; exact q4
  have hselF : selectMethod e.platform s0.vm P1.m.cls Tc.fill = .method Tc.fill := by
    obtain ⟨c2, r2, m2, q1, q2, q3, q4, -⟩ := Cond.selects_spec (a (.selects cls Bundle.tFill Bundle.tFill) (by simp [Bundle.messageArmAtoms]))
    cases Option.some.inj (q1.symm.trans hfound)
    cases Option.some.inj (q2.symm.trans (State.methodFound?_of_named Y.fill (by decide)))
    cases Option.some.inj (q3.symm.trans Y.fill)
    rw [Launch.admits_selectMethod X.admits]; exact q4
  obtain ⟨cellS, hcS0, hiss⟩ := Y.statics
  have hu := Cond.staticRefV Y.unassigned L.unassignedStatic L.statics hcS0 hiss (a (.isRef (.static Bundle.tN "UNASSIGNED_STACK" Bundle.steD)) (by simp [Bundle.messageArmAtoms]))
  have hv := Cond.staticRefV Y.sentinel L.sentinelStatic L.statics hcS0 hiss (a (.isRef (.static Bundle.tN "SUPPRESSED_SENTINEL" Bundle.listD)) (by simp [Bundle.messageArmAtoms]))
  obtain ⟨u0, hu0⟩ := hu
  obtain ⟨sen, hsen⟩ := hv
  obtain ⟨ci198, i198, fB, hk198, hg198, ha198, hsB, -, hnB, htB, hffB⟩ := Cond.ownField (t := .object "java/lang/Object") Y.found L.cls (by decide +kernel) (a (.fieldLink Bundle.tN 198 Bundle.tN "backtrace" "Ljava/lang/Object;") (by simp [Bundle.messageArmAtoms])) (a (.lays Bundle.tN Bundle.tN "backtrace" "Ljava/lang/Object;") (by simp [Bundle.messageArmAtoms])) e.platform hpl
  have haS : Tc.aS < gZ E := by rw [hhp0] at hcS0; exact (Array.getElem?_eq_some_iff.mp hcS0).1
  have hcellS : T.heap[Tc.aS]? = some cellS := (hR.2.2.1 _ haS).trans (by rw [← hhp0]; exact hcS0)
  have hknownS : cellS.vm ≠ .unknown := by
    intro hu
    rw [show cellS.vm = .unknown from hu] at hiss
    cases hiss
  obtain ⟨iM, hffM⟩ := Y.msg
  obtain ⟨tyC, dC, hdC, hdnC⟩ := Cond.laysAt hfound hk Y.cause (a (.lays cls Bundle.tN "cause" "Ljava/lang/Throwable;") (by simp [Bundle.messageArmAtoms]))
  obtain ⟨tyS, dS, hdS, hdnS⟩ := Cond.laysAt hfound hk Y.stack (a (.lays cls Bundle.tN "stackTrace" Bundle.steD) (by simp [Bundle.messageArmAtoms]))
  obtain ⟨tyP, dP, hdP, hdnP⟩ := Cond.laysAt hfound hk Y.supp (a (.lays cls Bundle.tN "suppressedExceptions" Bundle.listD) (by simp [Bundle.messageArmAtoms]))
  obtain ⟨tyM, dM, hdM, hdnM⟩ := Cond.laysAt hfound hk hffM (a (.lays cls Bundle.tN "detailMessage" "Ljava/lang/String;") (by simp [Bundle.messageArmAtoms]))
  obtain ⟨tyB, dB, hdB, hdnB⟩ := Cond.laysAt hfound hk hffB (a (.lays cls Bundle.tN "backtrace" "Ljava/lang/Object;") (by simp [Bundle.messageArmAtoms]))
  have bC := Cond.laysApart hdB hdC hdnB hdnC (by rw [hnB, Y.causeName]; decide)
  have bS := Cond.laysApart hdB hdS hdnB hdnS (by rw [hnB, Y.stackName]; decide)
  have bP := Cond.laysApart hdB hdP hdnB hdnP (by rw [hnB, Y.suppName]; decide)
  have hskip : SkipFacts Tc e.platform s0 (fun u => u) u0 ((preparedCellV Tc.toThrowableT (freshCell P1.m.cls kX) (T.heap.size + 2) u0 sen).withEntry T.cur) :=
    ⟨{ ci198 := ci198, i198 := i198, fBack := fB }, ⟨hk198, hg198, ha198, hsB⟩, by
      have := fresh_default (c := P1.m.cls) tyB
      rw [htB] at this
      simpa [preparedCellV, Cell.setSlot, Cell.withEntry, Array.getElem?_setIfInBounds, bC, bS, bP, bC.symm, bS.symm, bP.symm, defaultValue] using this, fun _ _ => rfl⟩
  have hsize : (F0 m pc ls st).locals.size = c.maxLocals := hsz.trans hc.2.2.1.symm
  have hK : 2 * (F0 m pc ls st).monitorRoom + ((F0 m pc ls st).stack.map fun v => v.category).sum + 10240 ≤ R.locals := by
    show 2 * 0 + (st.map fun v => v.category).sum + 10240 ≤ R.locals
    omega
  obtain ⟨hbeyond, hfreeW⟩ := X.vmMayThrow (g := F0 m pc ls st) hsize (.throwNew cls (some text) none) (fun f hf => by cases hf) rfl hK
  have hfr' : T.frames.length + Ps.length + 4 < (e.platform.stackLimits T.me).1 := by have := X.framesAbove hfr; omega
  have hwd' : (stackUse (.java (F0 m pc ls st) :: T.frames.tail)).2 + 13 * Ps.length + 55 ≤ (e.platform.stackLimits T.me).2 := by have := X.stackAbove (g := F0 m pc ls st) hsize (K := 13 * Ps.length + 55) (by rw [hlP]; omega); omega
  have hslots : T.slotsUsed + (stringBytes (stringToUtf16 text)).size + Zs.kS.instanceTypes.size + kX.instanceTypes.size ≤ e.platform.maxSlots := by have := X.slotsAbove hsl; omega
  have hlim1 : ¬ (stringBytes (stringToUtf16 text)).size > e.platform.arrayLengthLimit := by
    rw [Launch.admits_arrayLengthLimit X.admits]
    show ¬ _ > 2147483645
    omega
  have hlim2 : ¬ (stringBytes (stringToUtf16 text)).size * componentBytes .byte > e.platform.maxHeapBytes := by
    rw [Launch.admits_maxHeapBytes X.admits]
    show ¬ _ * 1 > 536870912
    omega
  obtain ⟨vm', hW', stp⟩ := Steps.vmThrowsMessageColdByV p (s₀ := s0) (S := T) (g := F0 m pc ls st) (c := c) (below := below) X.here hc.1 Tc L Z LZ M LM hW0 (t := T.cur) rfl Zs LZs P1 L1 Ps hLs hlink1 hlink hsoe hoom hfound hk hinit hord hctor
    (Launch.admits_hotImplicitExceptions X.admits) hbeyond hfreeW htext hlim1 hlim2 (X.cellsAbove hce) hslots (hfitv _) (hfitc _)
    (Nn := fun u => u) heapOnly_id (fun _ _ => rfl) (fun _ => rfl) (fun u x y => setCell_twice _ _ _ _) (fun _ => Nat.le_refl _) (cN := (preparedCellV Tc.toThrowableT (freshCell P1.m.cls kX) (T.heap.size + 2) u0 sen).withEntry T.cur)
    hsel0 hcellS hknownS hu0 (Takes.of_laid hk hord tyS (by rw [Y.stackType]; exact fits_refV_array _ u0)) (fun _ hu => hu) (fun _ hu => hu) rfl rfl rfl (by simp [preparedCellV, Cell.setSlot, Cell.withEntry]) hskip (fun _ _ hA hW _ hroom _ hrest => L.nativeOff p htr hA hW hroom hrest) hselF hsen
    (Takes.of_laid hk hord tyC (by rw [Y.causeType]; rfl)) (Takes.of_laid hk hord tyP (by rw [Y.suppType]; exact fits_refV_object _ sen)) (Takes.of_laid hk hord tyM (by rw [Y.msgType]; rfl)) Y.objLocals rfl hfr' hwd'
  rw [plainBareV_eq Tc.toThrowableT (T.heap.size + 2) u0 sen (.ref (T.heap.size + 1)) T.cur rfl rfl] at stp
  obtain ⟨-, -, w3, w4, w5, -, -⟩ := withThrown_facts e.platform T Zs text P1.m.cls kX
  have hWs : s.WarmedH vm' := State.WarmedH.trans (t := s0) (by rw [hvm0]; exact X.warmed) hW'
  have X3 := ((X.pushed (bytesOf Zs.cB (stringToUtf16 text))).pushed (stringAt Zs.cS Zs.kS Zs.fv Zs.fc (stringToUtf16 text) T.heap.size)).pushed (freshCell P1.m.cls kX)
  rw [← withString_eq] at X3
  have X4 := X3.noted hWs
  have hlt : T.heap.size + 2 < ((withThrown T Zs text P1.m.cls kX).setVm vm').heap.size := by show _ < (withThrown T Zs text P1.m.cls kX).heap.size; rw [w3]; omega
  have hcell : ((withThrown T Zs text P1.m.cls kX).setVm vm').heap[T.heap.size + 2]? = some (freshCell P1.m.cls kX) := w4
  have X5 := ((((X4.stored hcell Tc.fCause.slot (.ref (T.heap.size + 2))).storedAgain hlt Tc.fStack.slot u0.v).storedAgain hlt Tc.fSupp.slot sen.v).storedAgain hlt Tc.fStack.slot u0.v).storedAgain hlt Tc.fMsg.slot (.ref (T.heap.size + 1))
  have b1 : (bytesOf Zs.cB (stringToUtf16 text)).slots.size = (stringBytes (stringToUtf16 text)).size := by
    rw [(Cell.writeAll_facts _ _).2.2]; simp [bytes0]
  have b2 : (stringAt Zs.cS Zs.kS Zs.fv Zs.fc (stringToUtf16 text) T.heap.size).slots.size = 4 := by simp [string0, Cell.setSlot, hn4]
  have b3 : (freshCell P1.m.cls kX).slots.size = 6 := by simp [hn6]
  generalize hU : ((withThrown T Zs text P1.m.cls kX).setVm vm').setCell (T.heap.size + 2) (plainBareV Tc.toThrowableT (freshCell P1.m.cls kX) (T.heap.size + 2) u0 sen (.ref (T.heap.size + 1))) = U at stp
  have hUc : U.heap[T.heap.size + 2]? = some (plainBareV Tc.toThrowableT (freshCell P1.m.cls kX) (T.heap.size + 2) u0 sen (.ref (T.heap.size + 1))) := by rw [← hU]; exact heapAt_setCell_self _ hlt
  have hUs : U.heap.size = T.heap.size + 3 := by
    rw [← hU]
    show (((withThrown T Zs text P1.m.cls kX)).heap.setIfInBounds _ _).size = _
    rw [Array.size_setIfInBounds, w3]
  have hUo : ∀ q, q < T.heap.size → U.heap[q]? = T.heap[q]? := fun q hq => by
    rw [← hU, State.heap_setCell_other (show T.heap.size + 2 ≠ q by omega)]
    exact w5 q hq
  obtain ⟨fs, hfs⟩ := exc_fields (H := U.heap) (a := T.heap.size + 2) hKg hts hci hin hty (cell := plainBareV Tc.toThrowableT (freshCell P1.m.cls kX) (T.heap.size + 2) u0 sen (.ref (T.heap.size + 1))) hfound hk (by simp [preparedCellV, Cell.setSlot]) rfl hUc
  have hXU : ∃ locs' n', Stand p l.1 e R s m args below meth c U locs' (k + 3) n' ∧ n' ≤ n + 1010 ∧ ∀ q ∈ locs', gZ E ≤ q.base := by
    refine ⟨_, _, by rw [← hU]; exact X5, by rw [b1, b2, b3]; omega, fun q hq => ?_⟩
    simp only [List.append_assoc, List.cons_append, List.nil_append] at hq
    rcases List.mem_append.mp hq with h1 | h1
    · exact hL q h1
    · have hb : q.base = T.heap.size + 2 := by
        simp only [List.mem_cons, List.not_mem_nil, or_false] at h1
        rcases h1 with rfl | rfl | rfl | rfl | rfl <;> rfl
      have h2 := hR.1
      have h3 := hR.2.1
      rw [hb]
      show gZ E ≤ T.heap.size + 2
      omega
  obtain ⟨locs', n', XU, hn', hL'⟩ := hXU
  have hs := hR.1
  refine ⟨fs, U, locs', n', hn', XU, ⟨by show U.heap.size = h.2 + 3; omega, by show gZ E ≤ h.2 + 3; have := hR.2.1; omega, fun q hq => ?_, fun b v hb => ?_⟩, hL', fun target hrest => stp target ?_⟩
  · rw [hUo q (by have := hR.2.1; omega)]; exact hR.2.2.1 q hq
  · by_cases cb : b = h.2 + 2
    · subst cb
      have ev : oB ci fs = v := Option.some.inj ((hset_at (h := (h.1, h.2 + 3)) (a := h.2 + 2) (x := oB ci fs)).symm.trans hb)
      rw [← ev, ← hs]
      exact ⟨by have := hR.2.1; omega, hfs⟩
    · have hb' : h.1 b = some v := (hset_ne (h := (h.1, h.2 + 3)) cb).symm.trans hb
      have h7 := hR.2.2.2 b v hb'
      exact ⟨h7.1, h7.2.kept (hUo b (by have := hR.lt hb'; omega))⟩
  · obtain ⟨g1, hfr1⟩ := XU.frames_eq
    have e1 : (U.setTop (F0 m pc ls st)).pushFrame (.throwing (h.2 + 2)) = U.setFrames (.throwing (T.heap.size + 2) :: .java (F0 m pc ls st) :: T.frames.tail) := by
      rw [State.pushFrame, State.frames_setTop _ hfr1, State.setTop_of_frames _ hfr1, State.setFrames_setFrames, hs, X.tail]
    rw [← e1]
    exact hrest
end
