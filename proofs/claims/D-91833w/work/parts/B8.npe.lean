/-! MY LOGIC, part 22: the machine's null pointer exception -/
set_option maxRecDepth 100000
theorem at_J16 {E : gE} {vm : Vm} (ok : gOK E) (hW : (gS E).WarmedH vm) : ∀ a ∈ Bundle.npeArmAtoms 8, a.before #[Value.ref E.2.2.2] ((gS E).setVm vm) = true := fa_c (wq ok hW q100) (fa_c (wq ok hW q216) (fa_c (wq ok hW q158) (fa_c (wq ok hW q178) (fa_c (wq ok hW q181) (fa_c (wq ok hW q183) (fa_c (wq ok hW q217) (fa_c (wq ok hW q218) (fa_c (wq ok hW q151) (fa_c (wq ok hW q152) (fa_c (wq ok hW q150) (fa_c (wq ok hW q157) (fa_c (wq ok hW q179) (fa_c (wq ok hW q186) (fa_c (wq ok hW q210) (fa_c (wq ok hW q187) (fa_c (wq ok hW q211) (fa_c (wq ok hW q188) (fa_c (wq ok hW q212) (fa_c (wq ok hW q153) (fa_c (wl ok hW q154) (fa_c (wq ok hW q155) (fa_c (wl ok hW q156) (fa_c (wq ok hW q213) (fa_c (wq ok hW q175) (fa_c (wq ok hW q165) (fa_c (wq ok hW q166) (fa_c (wq ok hW q246) (fa_c (wq ok hW q248) (fa_c (wq ok hW q172) (fa_c (wq ok hW q173) (fa_c (wc ok hW q260) (fa_c (wq ok hW q237) (fa_c (wq ok hW q238) (fa_c (wq ok hW q239) (fa_c (wq ok hW q240) (fa_c (wd ok hW q203) (fa_c (wq ok hW q240) (fa_c (wq ok hW q241) (fa_c (wq ok hW q242) (fa_c (wq ok hW q243) (fa_c (wd ok hW q205) (fa_c (wq ok hW q243) (fa_c (wq ok hW q244) (fa_c (wq ok hW q245) (fa_c (wq ok hW q217) (fa_c (wd ok hW q207) (fa_c (wq ok hW q118) (fa_c (wq ok hW q170) (fa_c (wc ok hW q258) (fa_c (wq ok hW q259) (fa_c (wq ok hW q164) (fa_c (wq ok hW q254) (fa_c (wq ok hW q255) (fa_c (wq ok hW q257) (fa_c (wr ok hW nw_una) (fa_c (wr ok hW nw_sen) (fa_c (wq ok hW q184) (fa_c (wq ok hW q214) (fa_c (wq ok hW q252) (fa_n))))))))))))))))))))))))))))))))))))))))))))))))))))))))))))
section
variable {E : gE} {I : gI} {p : Program} {l : gL} {e : Env} {R : Room} {s : State} {m : MethodId} {args : Array Value} {below : List Frame} {meth : Method} {c : Code} {T : State} {locs : List Loc} {k n pc : Nat} {ls : Array Slot} {st : List Value} {h : gH}
theorem npe_at (hc : gCx E I p s m meth c) (X : Stand p l.1 e R s m args below meth c T locs k n) (hR : gRel E h T.heap) (hL : ∀ q ∈ locs, gZ E ≤ q.base) (hsz : ls.size = I.2.2.1)
    (hfr : 10 < R.frames) (hlo : (st.map fun v => v.category).sum + 10240 ≤ R.locals) (hce : k + 1 ≤ R.cells) (hsl : n + 8 ≤ R.slots) :
    ∃ (fs : List Value) (U : State) (locs' : List Loc), Stand p l.1 e R s m args below meth c U locs' (k + 1) (n + 8) ∧ gRel E (hnew h (oB 19 fs)) U.heap ∧ (∀ q ∈ locs', gZ E ≤ q.base) ∧
      ∀ target, Steps p.tables e below ((U.setTop (F0 m pc ls st)).pushFrame (.throwing h.2)) target → Steps p.tables e below ((T.setTop (F0 m pc ls st)).pushFrame (.throwNew "java/lang/NullPointerException" none none)) target := by
  have ok : gOK E := hc.2.2.2.2.2.2.2.2.2
  have hWg : (gS E).WarmedH T.vm := State.WarmedH.trans hc.2.2.2.2.2.2.2.2.1 X.warmed
  have hat := at_J16 ok hWg
  have hts : ∀ w ∈ lw_all, w.before #[Value.ref E.2.2.2] ((gS E).setVm T.vm) = true := fun w hw => wq ok hWg hw
  have hKg : va_K E.1 vwCl (gTys E) ((gS E).setVm T.vm) := va_K.moved hWg.alike ok.2.1
  generalize hs0 : (gS E).setVm T.vm = s0 at hat hts hKg
  have hvm0 : s0.vm = T.vm := by rw [← hs0]; rfl
  have hhp0 : s0.heap = (gS E).heap := by rw [← hs0]; rfl
  have hW0 : s0.WarmedH T.vm := by rw [← hvm0]; exact State.WarmedH.refl s0
  have htr := traces_off X
  have howns : e.platform.frameOwnsMonitors = true := by rw [X.admits.platform]
  have hfin : e.platform.finalization = false := by rw [X.admits.platform]
  have hpl : e.platform.magicAccessors = ({} : Platform).magicAccessors := by rw [X.admits.platform]
  have hpl2 : e.platform.arrayCloneIsPublic = true := by rw [X.admits.platform]
  have a : ∀ x, x ∈ Bundle.npeArmAtoms 8 → x.holds #[Value.ref E.2.2.2] s0 none s0 [] = true := fun x hx => hat x hx
  obtain ⟨Tc, Z, L, LZ, Y⟩ := ThrowableC.of_atoms (pl := e.platform) (args := #[Value.ref E.2.2.2]) howns hfin hpl (fun x hx => hat x (by simp [Bundle.npeArmAtoms, hx]))
  obtain ⟨N, LN, hcN, hnNF, hordN, hffS⟩ := NpeC.of_atoms (args := #[Value.ref E.2.2.2]) hpl hpl2 L Y (fun x hx => hat x (by simp [Bundle.npeArmAtoms, hx]))
  obtain ⟨P1, L1, hP1m, hP1s⟩ := PassC.of_atoms (args := #[Value.ref E.2.2.2]) (s := s0) hpl (X := Bundle.nN) (Y := Bundle.rN) (by decide) (by decide) LibCode.NullPointerException.Init0.at_0 LibCode.NullPointerException.Init0.at_1 LibCode.NullPointerException.Init0.at_4 (fun x hx => hat x (by simp [Bundle.npeArmAtoms, hx]))
  obtain ⟨PR, LR, hPRm, hPRs⟩ := PassC.of_atoms (args := #[Value.ref E.2.2.2]) (s := s0) hpl (X := Bundle.rN) (Y := Bundle.eN) (by decide) (by decide) LibCode.RuntimeException.Init0.at_0 LibCode.RuntimeException.Init0.at_1 LibCode.RuntimeException.Init0.at_4 (fun x hx => hat x (by simp [Bundle.npeArmAtoms, hx]))
  obtain ⟨PE, LEx, hPEm, hPEs⟩ := PassC.of_atoms (args := #[Value.ref E.2.2.2]) (s := s0) hpl (X := Bundle.eN) (Y := Bundle.tN) (by decide) (by decide) LibCode.Exception.Init0.at_0 LibCode.Exception.Init0.at_1 LibCode.Exception.Init0.at_4 (fun x hx => hat x (by simp [Bundle.npeArmAtoms, hx]))
  have hfound : s0.vm.findClass Bundle.nN = some P1.m.cls := findClass_of_methodNamed hP1m
  have ecls : N.cN = P1.m.cls := Option.some.inj (hcN.symm.trans hfound)
  have hk : s0.vm.classes[P1.m.cls]? = some N.kN := by rw [← ecls]; exact LN.cls
  have hinit := Cond.initialized_spec hfound hk (a (.initialized Bundle.nN) (by simp [Bundle.npeArmAtoms]))
  have hctor : N.kN.findMethod "<init>" "()V" = some P1.m.idx := findMethod_of_methodNamed hP1m hk
  obtain ⟨c1, k1, hc1, hk1, -, -, -, hn⟩ := Cond.instantiable_spec (a (.instantiable Bundle.nN 8) (by simp [Bundle.npeArmAtoms]))
  cases Option.some.inj (hc1.symm.trans hfound)
  cases Option.some.inj (hk1.symm.trans hk)
  have hlink1 : P1.sup = PR.m := Option.some.inj (hP1s.symm.trans hPRm)
  have hlinkR : PR.sup = PE.m := Option.some.inj (hPRs.symm.trans hPEm)
  have hlinkE : PE.sup = Z.m Tc.toThrowableT := Option.some.inj (hPEs.symm.trans Y.init0)
  have hsel0 : selectMethod e.platform s0.vm P1.m.cls Tc.fill0 = .method Tc.fill0 := by
    obtain ⟨c2, r2, m2, q1, q2, q3, q4, -⟩ := Cond.selects_spec (a (.selects Bundle.nN Bundle.tFill0 Bundle.tFill0) (by simp [Bundle.npeArmAtoms]))
    cases Option.some.inj (q1.symm.trans hfound)
    cases Option.some.inj (q2.symm.trans (State.methodFound?_of_named Y.fill0 (by decide)))
    cases Option.some.inj (q3.symm.trans Y.fill0)
    rw [Launch.admits_selectMethod X.admits]; exact q4
  have hselF : selectMethod e.platform s0.vm P1.m.cls Tc.fill = .method N.fill := by
    obtain ⟨c2, r2, m2, q1, q2, q3, q4, -⟩ := Cond.selects_spec (a (.selects Bundle.nN Bundle.tFill Bundle.nFill) (by simp [Bundle.npeArmAtoms]))
    cases Option.some.inj (q1.symm.trans hfound)
    cases Option.some.inj (q2.symm.trans (State.methodFound?_of_named Y.fill (by decide)))
    cases Option.some.inj (q3.symm.trans hnNF)
    rw [Launch.admits_selectMethod X.admits]; exact q4
  obtain ⟨cellS, hcS0, hiss⟩ := Y.statics
  obtain ⟨u0, hu0⟩ := Cond.staticRefV Y.unassigned L.unassignedStatic L.statics hcS0 hiss (a (.isRef (.static Bundle.tN "UNASSIGNED_STACK" Bundle.steD)) (by simp [Bundle.npeArmAtoms]))
  obtain ⟨sen, hsen⟩ := Cond.staticRefV Y.sentinel L.sentinelStatic L.statics hcS0 hiss (a (.isRef (.static Bundle.tN "SUPPRESSED_SENTINEL" Bundle.listD)) (by simp [Bundle.npeArmAtoms]))
  obtain ⟨ci198, i198, fB, hk198, hg198, ha198, hsB, -, hnB, htB, hffB⟩ := Cond.ownField (t := .object "java/lang/Object") Y.found L.cls (by decide +kernel) (a (.fieldLink Bundle.tN 198 Bundle.tN "backtrace" Bundle.objD) (by simp [Bundle.npeArmAtoms])) (a (.lays Bundle.tN Bundle.tN "backtrace" Bundle.objD) (by simp [Bundle.npeArmAtoms])) e.platform hpl
  have haS : Tc.aS < gZ E := by rw [hhp0] at hcS0; exact (Array.getElem?_eq_some_iff.mp hcS0).1
  have hcellS : T.heap[Tc.aS]? = some cellS := (hR.2.2.1 _ haS).trans (by rw [← hhp0]; exact hcS0)
  have hknownS : cellS.vm ≠ .unknown := by
    intro hu
    rw [show cellS.vm = .unknown from hu] at hiss
    cases hiss
  obtain ⟨tyC, dC, hdC, hdnC⟩ := Cond.laysAt hfound hk Y.cause (a (.lays Bundle.nN Bundle.tN "cause" "Ljava/lang/Throwable;") (by simp [Bundle.npeArmAtoms]))
  obtain ⟨tyS, dS, hdS, hdnS⟩ := Cond.laysAt hfound hk Y.stack (a (.lays Bundle.nN Bundle.tN "stackTrace" Bundle.steD) (by simp [Bundle.npeArmAtoms]))
  obtain ⟨tyP, dP, hdP, hdnP⟩ := Cond.laysAt hfound hk Y.supp (a (.lays Bundle.nN Bundle.tN "suppressedExceptions" Bundle.listD) (by simp [Bundle.npeArmAtoms]))
  obtain ⟨tyX, dX, hdX, hdnX⟩ := Cond.laysAt hfound hk hffS (a (.lays Bundle.nN Bundle.nN "extendedMessageState" "I") (by simp [Bundle.npeArmAtoms, Bundle.npeAtoms]))
  have hnX : N.fState.name = "extendedMessageState" := (State.fieldFound?_type hffS (t := .int) (by decide +kernel)).1
  obtain ⟨tyB, dB, hdB, hdnB⟩ := Cond.laysAt hfound hk hffB (a (.lays Bundle.nN Bundle.tN "backtrace" Bundle.objD) (by simp [Bundle.npeArmAtoms]))
  have bC := Cond.laysApart hdB hdC hdnB hdnC (by rw [hnB, Y.causeName]; decide)
  have bS := Cond.laysApart hdB hdS hdnB hdnS (by rw [hnB, Y.stackName]; decide)
  have bP := Cond.laysApart hdB hdP hdnB hdnP (by rw [hnB, Y.suppName]; decide)
  have bX := Cond.laysApart hdB hdX hdnB hdnX (by rw [hnB, hnX]; decide)
  have hskip : SkipFacts Tc e.platform s0 (fun u => u) u0 ((npeCell N.toNpeT (preparedCellV Tc.toThrowableT (freshCell P1.m.cls N.kN) T.heap.size u0 sen) T.cur).withEntry T.cur) :=
    ⟨{ ci198 := ci198, i198 := i198, fBack := fB }, ⟨hk198, hg198, ha198, hsB⟩, by
      have := fresh_default (c := P1.m.cls) tyB
      rw [htB] at this
      simpa [npeCell, preparedCellV, Cell.setSlot, Cell.withEntry, Array.getElem?_setIfInBounds, bC, bS, bP, bX, bC.symm, bS.symm, bP.symm, bX.symm, defaultValue] using this, fun _ _ => rfl⟩
  have hsize : (F0 m pc ls st).locals.size = c.maxLocals := hsz.trans hc.2.2.1.symm
  have hK : 2 * (F0 m pc ls st).monitorRoom + ((F0 m pc ls st).stack.map fun v => v.category).sum + 10240 ≤ R.locals := by
    show 2 * 0 + (st.map fun v => v.category).sum + 10240 ≤ R.locals
    omega
  obtain ⟨hbeyond, hfreeW⟩ := X.vmMayThrow (g := F0 m pc ls st) hsize (.throwNew "java/lang/NullPointerException" none none) (fun f hf => by cases hf) rfl hK
  have hfr' : T.frames.length + [PR, PE].length + 5 < (e.platform.stackLimits T.me).1 := by have := X.framesAbove hfr; show T.frames.length + 2 + 5 < _; omega
  have hwd' : (stackUse (.java (F0 m pc ls st) :: T.frames.tail)).2 + 13 * [PR, PE].length + 68 ≤ (e.platform.stackLimits T.me).2 := by have := X.stackAbove (g := F0 m pc ls st) hsize (K := 13 * 2 + 68) (by omega); show _ + 13 * 2 + 68 ≤ _; omega
  obtain ⟨vm', hW', stp⟩ := Steps.vmThrowsNpeColdByV p (s₀ := s0) (S := T) (g := F0 m pc ls st) (c := c) (below := below) X.here hc.1 Tc L Z LZ N LN hW0 (t := T.cur) rfl P1 L1 [PR, PE] (fun P hP => by
      simp only [List.mem_cons, List.not_mem_nil, or_false] at hP
      rcases hP with rfl | rfl
      · exact LR
      · exact LEx) hlink1 ⟨hlinkR, hlinkE, trivial⟩ hfound hk hinit hordN hctor
    (Launch.admits_hotImplicitExceptions X.admits) hbeyond hfreeW (X.cellsAbove hce) (by rw [hn]; exact X.slotsAbove hsl)
    (Nn := fun u => u) heapOnly_id (fun _ _ => rfl) (fun _ => rfl) (fun u x y => setCell_twice _ _ _ _) (fun _ => Nat.le_refl _) (cN := (npeCell N.toNpeT (preparedCellV Tc.toThrowableT (freshCell P1.m.cls N.kN) T.heap.size u0 sen) T.cur).withEntry T.cur)
    hsel0 hcellS hknownS hu0 (by rw [fresh_default tyX, LN.stateInt]; rfl) (Cond.laysApart hdC hdX hdnC hdnX (by rw [Y.causeName, hnX]; decide)) (Cond.laysApart hdS hdX hdnS hdnX (by rw [Y.stackName, hnX]; decide)) (Cond.laysApart hdP hdX hdnP hdnX (by rw [Y.suppName, hnX]; decide))
    (Takes.of_laid hk hordN tyS (by rw [Y.stackType]; exact fits_refV_array _ u0)) (Takes.of_laid hk hordN tyX (by rw [LN.stateInt]; rfl)) (fun _ hu => hu) (fun _ hu => hu) rfl rfl rfl (by simp [npeCell, preparedCellV, Cell.setSlot, Cell.withEntry]) hskip (fun _ _ hA hW _ hroom _ hrest => L.nativeOff p htr hA hW hroom hrest) hselF hsen
    (Takes.of_laid hk hordN tyC (by rw [Y.causeType]; rfl)) (Takes.of_laid hk hordN tyP (by rw [Y.suppType]; exact fits_refV_object _ sen)) Y.objLocals rfl hfr' hwd'
  rw [npeBareV_eq Tc.toThrowableT N.toNpeT T.heap.size u0 sen T.cur rfl rfl] at stp
  have hWs : s.WarmedH vm' := State.WarmedH.trans (t := s0) (by rw [hvm0]; exact X.warmed) hW'
  have X2 := (X.pushed (freshCell P1.m.cls N.kN)).noted hWs
  have hsz1 : ((T.pushCell (freshCell P1.m.cls N.kN)).setVm vm').heap.size = T.heap.size + 1 := State.heap_size_pushCell _ _
  have hlt : T.heap.size < ((T.pushCell (freshCell P1.m.cls N.kN)).setVm vm').heap.size := by rw [hsz1]; omega
  have hcell : ((T.pushCell (freshCell P1.m.cls N.kN)).setVm vm').heap[T.heap.size]? = some (freshCell P1.m.cls N.kN) := State.heap_pushCell_size T (freshCell P1.m.cls N.kN)
  have X5 := ((((X2.stored hcell Tc.fCause.slot (.ref T.heap.size)).storedAgain hlt Tc.fStack.slot u0.v).storedAgain hlt Tc.fSupp.slot sen.v).storedAgain hlt N.fState.slot (.int 1)).storedAgain hlt Tc.fStack.slot u0.v
  have b3 : (freshCell P1.m.cls N.kN).slots.size = 8 := by simp [hn]
  rw [b3] at X5
  generalize hU : ((T.pushCell (freshCell P1.m.cls N.kN)).setVm vm').setCell T.heap.size (npeBareV Tc.toThrowableT N.toNpeT (freshCell P1.m.cls N.kN) T.heap.size u0 sen) = U at stp
  have hUc : U.heap[T.heap.size]? = some (npeBareV Tc.toThrowableT N.toNpeT (freshCell P1.m.cls N.kN) T.heap.size u0 sen) := by rw [← hU]; exact heapAt_setCell_self _ hlt
  have hUs : U.heap.size = T.heap.size + 1 := by
    rw [← hU]
    show ((T.pushCell (freshCell P1.m.cls N.kN)).heap.setIfInBounds _ _).size = _
    rw [Array.size_setIfInBounds]
    exact State.heap_size_pushCell _ _
  have hUo : ∀ q, q < T.heap.size → U.heap[q]? = T.heap[q]? := fun q hq => by
    rw [← hU, State.heap_setCell_other (show T.heap.size ≠ q by omega)]
    exact State.heap_pushCell_of_lt _ _ hq
  obtain ⟨fs, hfs⟩ := exc_fields (ci := 19) (cls := RJ16) (TT := TJ16) (NN := 8) (H := U.heap) (a := T.heap.size) hKg hts rfl in_J16 tyJ16_ok (cell := npeBareV Tc.toThrowableT N.toNpeT (freshCell P1.m.cls N.kN) T.heap.size u0 sen) hfound hk (by simp [npeBareV, preparedCellV, Cell.setSlot]) rfl hUc
  have hXU : ∃ locs', Stand p l.1 e R s m args below meth c U locs' (k + 1) (n + 8) ∧ ∀ q ∈ locs', gZ E ≤ q.base := by
    refine ⟨_, by rw [← hU]; exact X5, fun q hq => ?_⟩
    simp only [List.append_assoc, List.cons_append, List.nil_append] at hq
    rcases List.mem_append.mp hq with h1 | h1
    · exact hL q h1
    · have hb : q.base = T.heap.size := by
        simp only [List.mem_cons, List.not_mem_nil, or_false] at h1
        rcases h1 with rfl | rfl | rfl | rfl | rfl <;> rfl
      have h2 := hR.1
      have h3 := hR.2.1
      rw [hb]
      show gZ E ≤ T.heap.size
      omega
  obtain ⟨locs', XU, hL'⟩ := hXU
  have hs := hR.1
  refine ⟨fs, U, locs', XU, hR.push (by rw [hUs]) (fun q hq => hUo q hq) (by rw [← hs]; exact hfs), hL', fun target hrest => stp target ?_⟩
  obtain ⟨g1, hfr1⟩ := XU.frames_eq
  have e1 : (U.setTop (F0 m pc ls st)).pushFrame (.throwing h.2) = U.setFrames (.throwing T.heap.size :: .java (F0 m pc ls st) :: T.frames.tail) := by
    rw [State.pushFrame, State.frames_setTop _ hfr1, State.setTop_of_frames _ hfr1, State.setFrames_setFrames, hs, X.tail]
  rw [← e1]
  exact hrest
end
