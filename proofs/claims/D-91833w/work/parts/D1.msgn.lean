/-! MY LOGIC, part 25: a native makes an exception with a message -/
set_option maxRecDepth 100000
section
variable {E : gE} {I : gI} {p : Program} {l : gL} {e : Env} {R : Room} {s : State} {m : MethodId} {args : Array Value} {below : List Frame} {meth : Method} {c : Code} {T : State} {locs : List Loc} {k n pc ci NN : Nat} {ls : Array Slot} {st : List Value} {h : gH} {cls text : String} {names : List String} {TT : u_T}
theorem msgN_at {nf : NFrame} {ty : Nat → FieldType} (hat : ∀ vm, (gS E).WarmedH vm → ∀ a ∈ Bundle.messageArmAtoms cls names, a.before #[Value.ref E.2.2.2] ((gS E).setVm vm) = true) (hci : vwCl[ci]? = some (cls, TT, NN)) (hin : ∀ w ∈ u_ws cls TT NN, w ∈ lw_all) (hty : ∀ k, k < NN → parseFieldDescriptor (TT k).2.2.1 = some (ty k)) (hcls : Bundle.fit cls = true) (hnames : ∀ n ∈ names, Bundle.fit n = true) (hsoe : (cls == "java/lang/StackOverflowError") = false) (hoom : (cls == "java/lang/OutOfMemoryError") = false)
    (hnf : nf.words = 0 ∧ nf.awaiting = false ∧ nf.locked = none) (hc : gCx E I p s m meth c) (X : Stand p l.1 e R s m args below meth c T locs k n) (hR : gRel E h T.heap) (hL : ∀ q ∈ locs, gZ E ≤ q.base) (hsz : ls.size = I.2.2.1) (htext : (text == notModelled) = false) (hlen : (stringBytes (stringToUtf16 text)).size ≤ 1000)
    (hfr : names.length + 5 < R.frames) (hlo : (st.map fun v => v.category).sum + 10240 ≤ R.locals) (hshort : 13 * names.length + 55 ≤ 10240) (hce : k + 3 ≤ R.cells) (hsl : n + 1010 ≤ R.slots) :
    ∃ (fs : List Value) (U : State) (locs' : List Loc) (n' : Nat), n' ≤ n + 1010 ∧ Stand p l.1 e R s m args below meth c U locs' (k + 3) n' ∧ gRel E (hexc h ci fs) U.heap ∧ (∀ q ∈ locs', gZ E ≤ q.base) ∧
      ∀ target, Steps p.tables e below ((U.setTop (F0 m pc ls st)).pushFrame (.throwing (h.2 + 2))) target → Steps p.tables e below (T.setFrames (.throwNew cls (some text) none :: .native nf :: .java (F0 m pc ls st) :: below)) target := by
  have ok : gOK E := hc.2.2.2.2.2.2.2.2.2
  have hWg : (gS E).WarmedH T.vm := State.WarmedH.trans hc.2.2.2.2.2.2.2.2.1 X.warmed
  replace hat := hat _ hWg
  have hts : ∀ w ∈ lw_all, w.before #[Value.ref E.2.2.2] ((gS E).setVm T.vm) = true := fun w hw => wq ok hWg hw
  have hKg : va_K E.1 vwCl (gTys E) ((gS E).setVm T.vm) := va_K.moved hWg.alike ok.2.1
  generalize hs0 : (gS E).setVm T.vm = s0 at hat hts hKg
  have hvm0 : s0.vm = T.vm := by rw [← hs0]; rfl
  have hhp0 : s0.heap = (gS E).heap := by rw [← hs0]; rfl
  have hW0 : s0.WarmedH T.vm := by rw [← hvm0]; exact State.WarmedH.refl s0
  have htr := traces_off X
  have howns : e.platform.frameOwnsMonitors = true := by rw [X.admits.platform]
  have hfin : e.platform.finalization = false := by rw [X.admits.platform]
  have hpl : e.platform.magicAccessors = ({} : Platform).magicAccessors := by rw [X.admits.platform]
  have a : ∀ x, x ∈ Bundle.messageArmAtoms cls names → x.holds #[Value.ref E.2.2.2] s0 none s0 [] = true := fun x hx => hat x hx
  have mA : ∀ {x}, x ∈ Bundle.throwableAtoms → x ∈ Bundle.messageArmAtoms cls names := fun hx => by simp [Bundle.messageArmAtoms, hx]
  have mB : ∀ {x}, x ∈ Bundle.throwableSAtoms → x ∈ Bundle.messageArmAtoms cls names := fun hx => by simp [Bundle.messageArmAtoms, hx]
  have mC : ∀ {x}, x ∈ Bundle.chainSAtoms cls names → x ∈ Bundle.messageArmAtoms cls names := fun hx => by simp [Bundle.messageArmAtoms, hx]
  have mD : ∀ {x}, x ∈ Bundle.stringAtoms → x ∈ Bundle.messageArmAtoms cls names := fun hx => by simp [Bundle.messageArmAtoms, hx]
  obtain ⟨Tc, Z0, L, -, Y⟩ := ThrowableC.of_atoms (pl := e.platform) howns hfin hpl (fun x hx => hat x (mA hx))
  obtain ⟨Z, M, LZ, LM, hnZ⟩ := Init0T.ofS_atoms (args := #[Value.ref E.2.2.2]) hpl L Y (fun x hx => hat x (mB hx))
  obtain ⟨P1, Ps, hlP, L1, hLs, hP1m, hlink1, hlink⟩ := Bundle.chainS (args := #[Value.ref E.2.2.2]) hpl hnZ names cls hcls hnames (fun x hx => hat x (mC hx))
  obtain ⟨Zs, LZs, hn4, hfitv, hfitc⟩ := StringT.of_atoms (args := #[Value.ref E.2.2.2]) (fun x hx => hat x (mD hx))
  have hfound : s0.vm.findClass cls = some P1.m.cls := findClass_of_methodNamed hP1m
  obtain ⟨c1, kX, hc1, hk, hord, -, -, hn6⟩ := Cond.instantiable_spec (a (.instantiable cls 6) (by simp [Bundle.messageArmAtoms]))
  cases Option.some.inj (hc1.symm.trans hfound)
  have hinit := Cond.initialized_spec hfound hk (a (.initialized cls) (by simp [Bundle.messageArmAtoms]))
  have hctor : kX.findMethod "<init>" "(Ljava/lang/String;)V" = some P1.m.idx := findMethod_of_methodNamed hP1m hk
  have hsel0 : selectMethod e.platform s0.vm P1.m.cls Tc.fill0 = .method Tc.fill0 := by
    obtain ⟨c2, r2, m2, q1, q2, q3, q4, -⟩ := Cond.selects_spec (a (.selects cls Bundle.tFill0 Bundle.tFill0) (by simp [Bundle.messageArmAtoms]))
    cases Option.some.inj (q1.symm.trans hfound)
    cases Option.some.inj (q2.symm.trans (State.methodFound?_of_named Y.fill0 (by decide)))
    cases Option.some.inj (q3.symm.trans Y.fill0)
    rw [Launch.admits_selectMethod X.admits]; exact q4
  have hselF : selectMethod e.platform s0.vm P1.m.cls Tc.fill = .method Tc.fill := by
    obtain ⟨c2, r2, m2, q1, q2, q3, q4, -⟩ := Cond.selects_spec (a (.selects cls Bundle.tFill Bundle.tFill) (by simp [Bundle.messageArmAtoms]))
    cases Option.some.inj (q1.symm.trans hfound)
    cases Option.some.inj (q2.symm.trans (State.methodFound?_of_named Y.fill (by decide)))
    cases Option.some.inj (q3.symm.trans Y.fill)
    rw [Launch.admits_selectMethod X.admits]; exact q4
  obtain ⟨cellS, hcS0, hiss⟩ := Y.statics
  have hu := Cond.staticRefV Y.unassigned L.unassignedStatic L.statics hcS0 hiss (a (.isRef (.static Bundle.tN "UNASSIGNED_STACK" Bundle.steD)) (by simp [Bundle.messageArmAtoms]))
  have hv := Cond.staticRefV Y.sentinel L.sentinelStatic L.statics hcS0 hiss (a (.isRef (.static Bundle.tN "SUPPRESSED_SENTINEL" Bundle.listD)) (by simp [Bundle.messageArmAtoms]))
  obtain ⟨u0, hu0⟩ := hu
  obtain ⟨sen, hsen⟩ := hv
  obtain ⟨ci198, i198, fB, hk198, hg198, ha198, hsB, -, hnB, htB, hffB⟩ := Cond.ownField (t := .object "java/lang/Object") Y.found L.cls (by decide +kernel) (a (.fieldLink Bundle.tN 198 Bundle.tN "backtrace" "Ljava/lang/Object;") (by simp [Bundle.messageArmAtoms])) (a (.lays Bundle.tN Bundle.tN "backtrace" "Ljava/lang/Object;") (by simp [Bundle.messageArmAtoms])) e.platform hpl
  have haS : Tc.aS < gZ E := by rw [hhp0] at hcS0; exact (Array.getElem?_eq_some_iff.mp hcS0).1
  have hcellS : T.heap[Tc.aS]? = some cellS := (hR.2.2.1 _ haS).trans (by rw [← hhp0]; exact hcS0)
  have hknownS : cellS.vm ≠ .unknown := by
    intro hu
    rw [show cellS.vm = .unknown from hu] at hiss
    cases hiss
  obtain ⟨iM, hffM⟩ := Y.msg
  obtain ⟨tyC, dC, hdC, hdnC⟩ := Cond.laysAt hfound hk Y.cause (a (.lays cls Bundle.tN "cause" "Ljava/lang/Throwable;") (by simp [Bundle.messageArmAtoms]))
  obtain ⟨tyS, dS, hdS, hdnS⟩ := Cond.laysAt hfound hk Y.stack (a (.lays cls Bundle.tN "stackTrace" Bundle.steD) (by simp [Bundle.messageArmAtoms]))
  obtain ⟨tyP, dP, hdP, hdnP⟩ := Cond.laysAt hfound hk Y.supp (a (.lays cls Bundle.tN "suppressedExceptions" Bundle.listD) (by simp [Bundle.messageArmAtoms]))
  obtain ⟨tyM, dM, hdM, hdnM⟩ := Cond.laysAt hfound hk hffM (a (.lays cls Bundle.tN "detailMessage" "Ljava/lang/String;") (by simp [Bundle.messageArmAtoms]))
  obtain ⟨tyB, dB, hdB, hdnB⟩ := Cond.laysAt hfound hk hffB (a (.lays cls Bundle.tN "backtrace" "Ljava/lang/Object;") (by simp [Bundle.messageArmAtoms]))
  have bC := Cond.laysApart hdB hdC hdnB hdnC (by rw [hnB, Y.causeName]; decide)
  have bS := Cond.laysApart hdB hdS hdnB hdnS (by rw [hnB, Y.stackName]; decide)
  have bP := Cond.laysApart hdB hdP hdnB hdnP (by rw [hnB, Y.suppName]; decide)
  have hskip : SkipFacts Tc e.platform s0 (fun u => u) u0 ((preparedCellV Tc.toThrowableT (freshCell P1.m.cls kX) (T.heap.size + 2) u0 sen).withEntry T.cur) :=
    ⟨{ ci198 := ci198, i198 := i198, fBack := fB }, ⟨hk198, hg198, ha198, hsB⟩, by
      have := fresh_default (c := P1.m.cls) tyB
      rw [htB] at this
      simpa [preparedCellV, Cell.setSlot, Cell.withEntry, Array.getElem?_setIfInBounds, bC, bS, bP, bC.symm, bS.symm, bP.symm, defaultValue] using this, fun _ _ => rfl⟩
  have hsize : (F0 m pc ls st).locals.size = c.maxLocals := hsz.trans hc.2.2.1.symm
  have hK : 2 * (F0 m pc ls st).monitorRoom + ((F0 m pc ls st).stack.map fun v => v.category).sum + 10240 ≤ R.locals := by
    show 2 * 0 + (st.map fun v => v.category).sum + 10240 ≤ R.locals
    omega
  obtain ⟨g0, hfr0⟩ := X.frames_eq
  have hcur0 : T.cur < T.threads.size := State.cur_lt_of_frames hfr0
  have hSt : (stackUse (.native nf :: .java (F0 m pc ls st) :: below)).2 + 10240 ≤ (e.platform.stackLimits T.me).2 := by
    have q := X.stackAbove (g := F0 m pc ls st) hsize hK
    rw [X.tail] at q
    rw [stackUse_light (.native nf) _ (fun f hf => by cases hf) hnf.1]
    exact q
  have hbt : ((((T.setFrames (.throwNew cls (some text) none :: .native nf :: .java (F0 m pc ls st) :: below)).threads[T.cur]?).map (·.stackBytes)).getD 0) = T.me.stackBytes := by
    rw [← State.stackBytes_setFrames T (.throwNew cls (some text) none :: .native nf :: .java (F0 m pc ls st) :: below)]
    exact State.stackBytes_me (T.setFrames (.throwNew cls (some text) none :: .native nf :: .java (F0 m pc ls st) :: below))
  have hlm : (e.platform.stackLimits T.me).2 = (e.platform.limitsFor T.me.stackBytes).2 := rfl
  have hbeyond : e.platform.stackBeyond ((((T.setFrames (.throwNew cls (some text) none :: .native nf :: .java (F0 m pc ls st) :: below)).threads[T.cur]?).map (·.stackBytes)).getD 0) (T.setFrames (.throwNew cls (some text) none :: .native nf :: .java (F0 m pc ls st) :: below)).frames = false := by
    rw [hbt, State.frames_setFrames _ hcur0]
    unfold Platform.stackBeyond
    rw [stackUse_light _ _ (fun f hf => by cases hf) rfl]
    exact decide_eq_false (by omega)
  have hfreeW : e.platform.vmThrowRoom ≤ e.platform.stackFree ((((T.setFrames (.throwNew cls (some text) none :: .native nf :: .java (F0 m pc ls st) :: below)).threads[T.cur]?).map (·.stackBytes)).getD 0) (T.setFrames (.throwNew cls (some text) none :: .native nf :: .java (F0 m pc ls st) :: below)).frames := by
    rw [hbt, State.frames_setFrames _ hcur0, Launch.admits_vmThrowRoom X.admits]
    unfold Platform.stackFree
    rw [stackUse_light _ _ (fun f hf => by cases hf) rfl]
    omega
  have hfr' : (Frame.native nf :: .java (F0 m pc ls st) :: below).length + Ps.length + 4 < (e.platform.stackLimits T.me).1 := by
    have q := X.framesAbove hfr
    rw [hfr0] at q
    simp only [List.length_cons] at q ⊢
    omega
  have hwd' : (stackUse (.native nf :: .java (F0 m pc ls st) :: below)).2 + 13 * Ps.length + 55 ≤ (e.platform.stackLimits T.me).2 := by omega
  have hslots : T.slotsUsed + (stringBytes (stringToUtf16 text)).size + Zs.kS.instanceTypes.size + kX.instanceTypes.size ≤ e.platform.maxSlots := by have := X.slotsAbove hsl; omega
  have hlim1 : ¬ (stringBytes (stringToUtf16 text)).size > e.platform.arrayLengthLimit := by
    rw [Launch.admits_arrayLengthLimit X.admits]
    show ¬ _ > 2147483645
    omega
  have hlim2 : ¬ (stringBytes (stringToUtf16 text)).size * componentBytes .byte > e.platform.maxHeapBytes := by
    rw [Launch.admits_maxHeapBytes X.admits]
    show ¬ _ * 1 > 536870912
    omega
  obtain ⟨vm', hW', stp⟩ := ovr_msg p (s₀ := s0) (S := T) (base := .native nf :: .java (F0 m pc ls st) :: below) (mid := [.native nf, .java (F0 m pc ls st)]) rfl X.here.running X.here.runnable X.here.alone hcur0 hc.1 Tc L Z LZ M LM hvm0 (by rw [← hs0]; rfl) Zs LZs P1 L1 Ps hLs hlink1 hlink hsoe hoom hfound hk hinit hord hctor
    (Launch.admits_hotImplicitExceptions X.admits) hbeyond hfreeW htext hlim1 hlim2 (X.cellsAbove hce) hslots (hfitv _) (hfitc _)
    hsel0 hcellS hknownS hu0 (Takes.of_laid hk hord tyS (by rw [Y.stackType]; exact fits_refV_array _ u0)) hskip (fun _ _ hA hW _ hroom _ hrest => L.nativeOff p htr hA hW hroom hrest) hselF hsen
    (Takes.of_laid hk hord tyC (by rw [Y.causeType]; rfl)) (Takes.of_laid hk hord tyP (by rw [Y.suppType]; exact fits_refV_object _ sen)) (Takes.of_laid hk hord tyM (by rw [Y.msgType]; rfl)) Y.objLocals rfl hfr' hwd'
  rw [plainBareV_eq Tc.toThrowableT (T.heap.size + 2) u0 sen (.ref (T.heap.size + 1)) T.cur rfl rfl] at stp
  obtain ⟨-, -, w3, w4, w5, -, -⟩ := withThrown_facts e.platform T Zs text P1.m.cls kX
  have hWs : s.WarmedH vm' := State.WarmedH.trans (t := s0) (by rw [hvm0]; exact X.warmed) hW'
  have X3 := ((X.pushed (bytesOf Zs.cB (stringToUtf16 text))).pushed (stringAt Zs.cS Zs.kS Zs.fv Zs.fc (stringToUtf16 text) T.heap.size)).pushed (freshCell P1.m.cls kX)
  rw [← withString_eq] at X3
  have X4 := X3.noted hWs
  have hlt : T.heap.size + 2 < ((withThrown T Zs text P1.m.cls kX).setVm vm').heap.size := by show _ < (withThrown T Zs text P1.m.cls kX).heap.size; rw [w3]; omega
  have hcell : ((withThrown T Zs text P1.m.cls kX).setVm vm').heap[T.heap.size + 2]? = some (freshCell P1.m.cls kX) := w4
  have X5 := ((((X4.stored hcell Tc.fCause.slot (.ref (T.heap.size + 2))).storedAgain hlt Tc.fStack.slot u0.v).storedAgain hlt Tc.fSupp.slot sen.v).storedAgain hlt Tc.fStack.slot u0.v).storedAgain hlt Tc.fMsg.slot (.ref (T.heap.size + 1))
  have b1 : (bytesOf Zs.cB (stringToUtf16 text)).slots.size = (stringBytes (stringToUtf16 text)).size := by
    rw [(Cell.writeAll_facts _ _).2.2]; simp [bytes0]
  have b2 : (stringAt Zs.cS Zs.kS Zs.fv Zs.fc (stringToUtf16 text) T.heap.size).slots.size = 4 := by simp [string0, Cell.setSlot, hn4]
  have b3 : (freshCell P1.m.cls kX).slots.size = 6 := by simp [hn6]
  generalize hU : ((withThrown T Zs text P1.m.cls kX).setVm vm').setCell (T.heap.size + 2) (plainBareV Tc.toThrowableT (freshCell P1.m.cls kX) (T.heap.size + 2) u0 sen (.ref (T.heap.size + 1))) = U at stp
  have hUc : U.heap[T.heap.size + 2]? = some (plainBareV Tc.toThrowableT (freshCell P1.m.cls kX) (T.heap.size + 2) u0 sen (.ref (T.heap.size + 1))) := by rw [← hU]; exact heapAt_setCell_self _ hlt
  have hUs : U.heap.size = T.heap.size + 3 := by
    rw [← hU]
    show (((withThrown T Zs text P1.m.cls kX)).heap.setIfInBounds _ _).size = _
    rw [Array.size_setIfInBounds, w3]
  have hUo : ∀ q, q < T.heap.size → U.heap[q]? = T.heap[q]? := fun q hq => by
    rw [← hU, State.heap_setCell_other (show T.heap.size + 2 ≠ q by omega)]
    exact w5 q hq
  obtain ⟨fs, hfs⟩ := exc_fields (H := U.heap) (a := T.heap.size + 2) hKg hts hci hin hty (cell := plainBareV Tc.toThrowableT (freshCell P1.m.cls kX) (T.heap.size + 2) u0 sen (.ref (T.heap.size + 1))) hfound hk (by simp [preparedCellV, Cell.setSlot]) rfl hUc
  have hXU : ∃ locs' n', Stand p l.1 e R s m args below meth c U locs' (k + 3) n' ∧ n' ≤ n + 1010 ∧ ∀ q ∈ locs', gZ E ≤ q.base := by
    refine ⟨_, _, by rw [← hU]; exact X5, by rw [b1, b2, b3]; omega, fun q hq => ?_⟩
    simp only [List.append_assoc, List.cons_append, List.nil_append] at hq
    rcases List.mem_append.mp hq with h1 | h1
    · exact hL q h1
    · have hb : q.base = T.heap.size + 2 := by
        simp only [List.mem_cons, List.not_mem_nil, or_false] at h1
        rcases h1 with rfl | rfl | rfl | rfl | rfl <;> rfl
      have h2 := hR.1
      have h3 := hR.2.1
      rw [hb]
      show gZ E ≤ T.heap.size + 2
      omega
  obtain ⟨locs', n', XU, hn', hL'⟩ := hXU
  have hs := hR.1
  refine ⟨fs, U, locs', n', hn', XU, ⟨by show U.heap.size = h.2 + 3; omega, by show gZ E ≤ h.2 + 3; have := hR.2.1; omega, fun q hq => ?_, fun b v hb => ?_⟩, hL', fun target hrest => stp target ?_⟩
  · rw [hUo q (by have := hR.2.1; omega)]; exact hR.2.2.1 q hq
  · by_cases cb : b = h.2 + 2
    · subst cb
      have ev : oB ci fs = v := Option.some.inj ((hset_at (h := (h.1, h.2 + 3)) (a := h.2 + 2) (x := oB ci fs)).symm.trans hb)
      rw [← ev, ← hs]
      exact ⟨by have := hR.2.1; omega, hfs⟩
    · have hb' : h.1 b = some v := (hset_ne (h := (h.1, h.2 + 3)) cb).symm.trans hb
      have h7 := hR.2.2.2 b v hb'
      exact ⟨h7.1, h7.2.kept (hUo b (by have := hR.lt hb'; omega))⟩
  · obtain ⟨g1, hfr1⟩ := XU.frames_eq
    have hcu : U.cur < U.threads.size := State.cur_lt_of_frames hfr1
    have hf2 : (U.setFrames (.throwing (T.heap.size + 2) :: .native nf :: .java (F0 m pc ls st) :: below)).frames = .throwing (T.heap.size + 2) :: .native nf :: .java (F0 m pc ls st) :: below := State.frames_setFrames _ hcu
    have e1 : (U.setTop (F0 m pc ls st)).pushFrame (.throwing (h.2 + 2)) = U.setFrames (.throwing (T.heap.size + 2) :: .java (F0 m pc ls st) :: below) := by
      rw [State.pushFrame, State.frames_setTop _ hfr1, State.setTop_of_frames _ hfr1, State.setFrames_setFrames, hs]
    rw [e1] at hrest
    refine Steps.head ⟨XU.here.running, by simpa using XU.here.runnable, by simpa using XU.here.alone⟩ ⟨[.throwing (T.heap.size + 2), .native nf, .java (F0 m pc ls st)], by rw [hf2]; rfl, by simp, by simp⟩ ?_
    rw [stepThread_throwing hf2]
    have e2 : (stepThrowing e (U.setFrames (.throwing (T.heap.size + 2) :: .native nf :: .java (F0 m pc ls st) :: below)) (T.heap.size + 2) (.native nf :: .java (F0 m pc ls st) :: below)).1 = U.setFrames (.throwing (T.heap.size + 2) :: .java (F0 m pc ls st) :: below) := by
      simp only [stepThrowing, hnf.2.1, Bool.false_eq_true, if_false, vmDo]
      generalize hr : Sem.go _ e false _ _ = res
      obtain ⟨as, rfl, -⟩ := Sem.eq_ok_of hr (a := true) (s' := U.setFrames (.throwing (T.heap.size + 2) :: .native nf :: .java (F0 m pc ls st) :: below)) (acts' := []) (by simp [hnf.2.2, leaveIfLocked])
      show (U.setFrames (.throwing (T.heap.size + 2) :: .native nf :: .java (F0 m pc ls st) :: below)).setFrames (.throwing (T.heap.size + 2) :: .java (F0 m pc ls st) :: below) = _
      rw [State.setFrames_setFrames]
    rw [e2]
    exact hrest
end
