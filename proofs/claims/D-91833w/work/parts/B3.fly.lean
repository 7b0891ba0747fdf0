/-! MY LOGIC, part 17: what an exception finds in a method's table -/
set_option maxRecDepth 100000
/-- the search through a table's rest, and the tables that it leaves -/
def FGO (e : Env) (s : State) (f : JFrame) (a : Addr) (L : List ExceptionTableEntry) (r : Handler) (vm' : Vm) : Prop :=
  ∀ (Q : Handler → Pre) (K : CtlPost) (d : Bool) (acts : List Action), wp (findHandler.go f a L) Q K e d acts s ↔ Q r d acts (s.setVm vm')
section
variable {e : Env} {s : State} {f : JFrame} {a : Addr} {x : ExceptionTableEntry} {t : List ExceptionTableEntry} {cT : ClassId} {cell : Cell} {r : Handler} {vm' : Vm}
/-- an entry that names a class, be it resolved or not -/
theorem go_named (hx : covers x f.pc = true) (h0 : x.catchType ≠ 0) (hl : s.vm.ClassLinks e.platform f.method.cls x.catchType cT) (hcell : s.heap[a]? = some cell) (hobj : cell.vm.isStatics = false) (h1 : ∃ k, s.vm.classes[cell.cls]? = some k) (h2 : ∃ k, s.vm.classes[cT]? = some k) (Q : Handler → Pre) (K : CtlPost) (d : Bool) (acts : List Action) :
    wp (findHandler.go f a (x :: t)) Q K e d acts s ↔ if s.vm.assignable cell.cls cT = true then Q (.found x.handlerPc) d acts (s.setVm (s.vm.noted f.method.cls x.catchType (.cls cT))) else wp (findHandler.go f a t) Q K e d acts (s.setVm (s.vm.noted f.method.cls x.catchType (.cls cT))) := by
  have hob := VmData.ne_statics_of hobj
  have hx' : (decide (x.startPc ≤ f.pc) && decide (f.pc < x.endPc)) = true := hx
  obtain ⟨ra, rt⟩ := (resolveClass_links e.toSetting hl).op (op := VmOp.resolveClass f.method.cls x.catchType) rfl
  have al : s.vm.Alike (s.vm.noted f.method.cls x.catchType (.cls cT)) := (Vm.Alike.refl s.vm).noted _ _ _
  obtain ⟨k1, y1⟩ := h1
  obtain ⟨k2, y2⟩ := h2
  obtain ⟨k3, y3, -⟩ := al.2.2 _ _ y1
  obtain ⟨k4, y4, -⟩ := al.2.2 _ _ y2
  have ea := al.assignable cell.cls cT
  by_cases hf : s.vm.assignable cell.cls cT = true
  · rw [hf] at ea
    rw [if_pos hf]
    simp [findHandler.go, hx', h0, ra, rt, hcell, hob, y3, y4, ea, VmOp.dirties, VmOp.acts]
  · have hf' : s.vm.assignable cell.cls cT = false := by simpa using hf
    rw [hf'] at ea
    rw [if_neg hf]
    simp [findHandler.go, hx', h0, ra, rt, hcell, hob, y3, y4, ea, VmOp.dirties, VmOp.acts]
end
/-- what the exception x finds at pc in the table's rest L -/
def FND (E : gE) (I : gI) (pc : Nat) (x : Addr) (h : gH) (L : List ExceptionTableEntry) (r : Handler) : Prop :=
  ∀ (p : Program) (l : gL) (e : Env) (R : Room) (s : State) (m : MethodId) (args : Array Value) (below : List Frame) (meth : Method) (c : Code) (T : State) (locs : List Loc) (k n : Nat) (ls : Array Slot) (st : List Value),
    gCx E I p s m meth c → gRel E h T.heap → Stand p l.1 e R s m args below meth c T locs k n →
    ∃ vm', Stand p l.1 e R s m args below meth c (T.setVm vm') locs k n ∧ FGO e ((T.setTop (F0 m pc ls st)).pushFrame (.throwing x)) (F0 m pc ls st) x L r vm'
section
variable {E : gE} {I : gI} {d rc rs pc q ci : Nat} {lv : List (Option Value)} {x : Addr} {h : gH} {Q : Outcome → gH → Prop} {L : List ExceptionTableEntry} {y : ExceptionTableEntry} {r : Handler} {fs : List Value} {rr : vw_C} {nm : String}
theorem FND.nil : FND E I pc x h [] .none := fun p l e R s m args below meth c T locs k n ls st hc hR X =>
  ⟨T.vm, X, fun Q K d acts => W.findHandler_go_nil⟩
theorem FND.skip (hy : covers y pc = false) (hF : FND E I pc x h L r) : FND E I pc x h (y :: L) r := fun p l e R s m args below meth c T locs k n ls st hc hR X => by
  obtain ⟨vm', X', hg⟩ := hF p l e R s m args below meth c T locs k n ls st hc hR X
  exact ⟨vm', X', fun Q K d acts => (W.findHandler_go_skip hy).trans (hg Q K d acts)⟩
theorem FND.any (hy : covers y pc = true) (h0 : y.catchType = 0) : FND E I pc x h (y :: L) (.found y.handlerPc) := fun p l e R s m args below meth c T locs k n ls st hc hR X =>
  ⟨T.vm, X, fun Q K d acts => W.findHandler_go_any hy h0⟩
theorem FND.hit (hy : covers y pc = true) (h0 : y.catchType ≠ 0) (hx : h.1 x = some (oB ci fs)) (hcl : vwCl[ci]? = some rr) (hlink : Cond.classLink I.1.cls y.catchType nm ∈ lw_all) (hca : Cond.castable rr.1 nm ∈ lw_tbl) : FND E I pc x h (y :: L) (.found y.handlerPc) := fun p l e R s m args below meth c T locs k n ls st hc hR X => by
  have hpl : e.platform.magicAccessors = ({} : Platform).magicAccessors := by rw [X.admits.platform]
  obtain ⟨c', hc', hcl'⟩ := Cond.classLink_spec hc.2.2.2.2.2.2.1 (gw hc (args := args) hlink) e.platform hpl
  obtain ⟨dk, _, _, kt, hd, _, _, _, _, hkt, _, hopen⟩ := hcl'.here
  obtain ⟨cell, g1, g2, g3⟩ := va_recv (gK hc) (hR.P hx) hcl (q0 := 0) rfl
  obtain ⟨c0, t0, f1, f2, f3⟩ := Cond.castable_spec (va_Nw.use (A := args) rfl (gwC hc hca))
  cases g3.symm.trans f1
  cases hc'.symm.trans f2
  have hW' : s.WarmedH (T.vm.noted m.cls y.catchType (.cls c')) := X.warmed.noted hd hopen (State.rightAt_cls hcl')
  obtain ⟨kt', hkt', -⟩ := X.warmed.alike.2.2 _ _ hkt
  have hf : T.vm.assignable cell.cls c' = true := by rw [X.warmed.alike.assignable]; exact f3
  refine ⟨_, X.noted hW', fun Q K d acts => (go_named (s := (T.setTop (F0 m pc ls st)).pushFrame (.throwing x)) (f := F0 m pc ls st) hy h0 (X.warmed.classLinks hcl') g1 g2 (Vm.classAt_of_assignable hf ⟨kt', hkt'⟩) ⟨kt', hkt'⟩ Q K d acts).trans ?_⟩
  rw [if_pos (show ((T.setTop (F0 m pc ls st)).pushFrame (Frame.throwing x)).vm.assignable cell.cls c' = true from hf)]
  rfl
theorem FND.pass (hy : covers y pc = true) (h0 : y.catchType ≠ 0) (hx : h.1 x = some (oB ci fs)) (hcl : vwCl[ci]? = some rr) (hlink : Cond.classLink I.1.cls y.catchType nm ∈ lw_all) (hca : Cond.not (.castable rr.1 nm) ∈ cjs narrow_1) (hF : FND E I pc x h L r) : FND E I pc x h (y :: L) r := fun p l e R s m args below meth c T locs k n ls st hc hR X => by
  have hpl : e.platform.magicAccessors = ({} : Platform).magicAccessors := by rw [X.admits.platform]
  obtain ⟨c', hc', hcl'⟩ := Cond.classLink_spec hc.2.2.2.2.2.2.1 (gw hc (args := args) hlink) e.platform hpl
  obtain ⟨dk, _, _, kt, hd, _, _, _, _, hkt, _, hopen⟩ := hcl'.here
  obtain ⟨cell, g1, g2, g3⟩ := va_recv (gK hc) (hR.P hx) hcl (q0 := 0) rfl
  obtain ⟨c0, t0, f1, f2, f3⟩ := va_Nc.moved hc.2.2.2.2.2.2.2.2.1.alike (va_Nc.of (gNw hc.2.2.2.2.2.2.2.2.2 _ hca))
  cases g3.symm.trans f1
  cases hc'.symm.trans f2
  have hW' : s.WarmedH (T.vm.noted m.cls y.catchType (.cls c')) := X.warmed.noted hd hopen (State.rightAt_cls hcl')
  obtain ⟨kt', hkt', -⟩ := X.warmed.alike.2.2 _ _ hkt
  obtain ⟨ks, hks, -⟩ := Vm.findClass_spec g3
  obtain ⟨ks', hks', -⟩ := X.warmed.alike.2.2 _ _ hks
  have hf : T.vm.assignable cell.cls c' = false := by rw [X.warmed.alike.assignable]; exact f3
  have X' := X.noted hW'
  obtain ⟨vm2, X2, hg⟩ := hF p l e R s m args below meth c (T.setVm (T.vm.noted m.cls y.catchType (.cls c'))) locs k n ls st hc hR X'
  refine ⟨vm2, X2, fun Q K d acts => (go_named (s := (T.setTop (F0 m pc ls st)).pushFrame (.throwing x)) (f := F0 m pc ls st) hy h0 (X.warmed.classLinks hcl') g1 g2 ⟨ks', hks'⟩ ⟨kt', hkt'⟩ Q K d acts).trans ?_⟩
  rw [if_neg (by show ¬ T.vm.assignable cell.cls c' = true; rw [hf]; decide)]
  exact hg Q K d acts
/-- caught here -/
theorem FLY.catch (hF : FND E I pc x h (tableOf I.2.2.2.2) (.found q)) (kk : GO E I d rc rs q lv [.ref x] h Q) : FLY E I d rc rs pc lv x h Q := by
  intro p l e R s m args below meth c T locs k n ls st hc a1 a2 a3 a4 hR hL hl X
  obtain ⟨vm', X', hg⟩ := hF p l e R s m args below meth c T locs k n ls st hc hR X
  obtain ⟨t, st1, en⟩ := kk p l e R s m args below meth c (T.setVm vm').heap locs k n ls hc a1 a2 a3 a4 hR hL hl (T.setVm vm') rfl X'
  refine ⟨t, ?_, en⟩
  obtain ⟨hgo, hw⟩ := At.throwing (g := F0 m pc ls st) X.here x
  refine Steps.head hgo hw ?_
  rw [stepThread_throwing (frames_entered X.here.top _)]
  have hfind : ∀ (Q : Handler → Pre) (K : CtlPost) (d : Bool) (acts : List Action), wp (findHandler (F0 m pc ls st) x) Q K e d acts ((T.setTop (F0 m pc ls st)).pushFrame (.throwing x)) ↔ Q (.found q) d acts (((T.setTop (F0 m pc ls st)).pushFrame (.throwing x)).setVm vm') := fun Q K d acts => by
    rw [W.findHandler_eq (meth := meth) (code := c) X.method' X.code, hc.2.2.2.2.2.1]
    exact hg Q K d acts
  have hstep : (stepThrowing e ((T.setTop (F0 m pc ls st)).pushFrame (.throwing x)) x (.java (F0 m pc ls st) :: T.frames.tail)).Is ((((T.setTop (F0 m pc ls st)).pushFrame (.throwing x)).setVm vm').setFrames (.java { F0 m pc ls st with pc := q, stack := [.ref x] } :: T.frames.tail)) [] := by
    simp only [stepThrowing, searchFrame, vmDo]
    generalize hr : Sem.go _ e false [] _ = res
    obtain ⟨as, rfl, ha⟩ := Sem.eq_ok_of hr (a := Handler.found q) (s' := ((T.setTop (F0 m pc ls st)).pushFrame (.throwing x)).setVm vm') (acts' := []) (by simp [hfind _ _ _ _])
    exact ⟨rfl, ha⟩
  rw [hstep.1]
  obtain ⟨g0, hg0⟩ := Option.isSome_iff_exists.mp X.here.top
  obtain ⟨r0, hr0⟩ := State.topJava?_eq_some.mp hg0
  have hr1 : (T.setVm vm').frames = .java g0 :: r0 := hr0
  have hS : (((T.setTop (F0 m pc ls st)).pushFrame (.throwing x)).setVm vm').setFrames (.java { F0 m pc ls st with pc := q, stack := [.ref x] } :: T.frames.tail) = (T.setVm vm').setTop (F0 m q ls [.ref x]) := by
    rw [State.setTop_of_frames _ hr1, hr0, State.setTop_of_frames _ hr0]
    show ((((T.setVm vm').setFrames _).setFrames _).setFrames _) = _
    rw [State.setFrames_setFrames, State.setFrames_setFrames]
    rfl
  rw [hS]
  exact st1
/-- not caught here, though entries cover -/
theorem FLY.leave (hF : FND E I pc x h (tableOf I.2.2.2.2) .none) (hq : Q (.threw x) h) : FLY E I d rc rs pc lv x h Q := by
  intro p l e R s m args below meth c T locs k n ls st hc a1 a2 a3 a4 hR hL hl X
  obtain ⟨vm', X', hg⟩ := hF p l e R s m args below meth c T locs k n ls st hc hR X
  have hfind : ∀ (Q : Handler → Pre) (K : CtlPost) (d : Bool) (acts : List Action), wp (findHandler (F0 m pc ls st) x) Q K e d acts ((T.setTop (F0 m pc ls st)).pushFrame (.throwing x)) ↔ Q .none d acts (((T.setTop (F0 m pc ls st)).pushFrame (.throwing x)).setVm vm') := fun Q K d acts => by
    rw [W.findHandler_eq (meth := meth) (code := c) X.method' X.code, hc.2.2.2.2.2.1]
    exact hg Q K d acts
  have hlk : meth.locks = false := hc.2.2.2.2.1
  have hm' : vm'.method? m = some meth := X'.method'
  have hstep : (stepThrowing e ((T.setTop (F0 m pc ls st)).pushFrame (.throwing x)) x (.java (F0 m pc ls st) :: T.frames.tail)).Is ((((T.setTop (F0 m pc ls st)).pushFrame (.throwing x)).setVm vm').setFrames (.throwing x :: T.frames.tail)) [] := by
    simp only [stepThrowing, searchFrame, vmDo]
    generalize hr : Sem.go _ e false [] _ = res
    obtain ⟨as, rfl, ha⟩ := Sem.eq_ok_of hr (a := Handler.none) (s' := ((T.setTop (F0 m pc ls st)).pushFrame (.throwing x)).setVm vm') (acts' := []) (by cases hp : e.platform.frameOwnsMonitors <;> simp [hfind _ _ _ _, hm', hlk, hp, leaveIfLocked])
    exact ⟨rfl, ha⟩
  obtain ⟨g0, hfr⟩ := X'.frames_eq
  have hS : (((T.setTop (F0 m pc ls st)).pushFrame (.throwing x)).setVm vm').setFrames (.throwing x :: T.frames.tail) = (T.setVm vm').setFrames (.throwing x :: below) := by
    have hr0 : T.frames = .java g0 :: below := hfr
    rw [X.tail, State.setTop_of_frames _ hr0]
    show ((((T.setVm vm').setFrames _).setFrames _).setFrames _) = _
    rw [State.setFrames_setFrames, State.setFrames_setFrames]
  refine ⟨(T.setVm vm').setFrames (.throwing x :: below), ?_, .threw x, h, locs, k, n, hq, hR, X'.here.running, State.frames_setFrames _ (State.cur_lt_of_frames hfr), (X'.ends _).1, (X'.ends _).2, hL, by omega, by omega⟩
  obtain ⟨hgo, hw⟩ := At.throwing (g := F0 m pc ls st) X.here x
  refine Steps.head hgo hw ?_
  rw [stepThread_throwing (frames_entered X.here.top _), hstep.1, hS]
  exact Steps.refl _
end
