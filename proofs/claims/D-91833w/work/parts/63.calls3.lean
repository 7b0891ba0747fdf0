/-! MY LOGIC, part 9: calls of overriding methods, through an interface, of nest mates -/
set_option maxRecDepth 100000
section Calls
variable {E : gE} {I I' : gI} {d rc rs pc q mc ms np idx b ci : Nat} {lv : List (Option Value)} {st rest As fs : List Value} {h k : gH} {Q Q1 : Outcome → gH → Prop} {v : Value} {r : vw_C} {P : Value → gH → Prop} {P1 : gH → Prop}
theorem g_calln {len : Nat} (hd : ∃ ig, decode I.2.1 pc = .ok (ig, len)) (hinv : gInv E I pc st rest h I' As) (hg : gCode I' np) (hf : (lg_sl As).length ≤ I'.2.2.1) (hw : (rest.map fun v => v.category).sum ≤ 20) (hm : I'.2.2.1 ≤ 33) (hq : pc + len = q)
    (call : CALL E I' d mc ms As h Q1) (k1 : ∀ v h', Q1 (.returned v) h' → GO E I (d + 1) rc rs q lv (v.toList ++ rest) h' Q) (k2 : ∀ x h', Q1 (.threw x) h' → FLY E I (d + 1) rc rs pc lv x h' Q) : GO E I (d + 1) (rc + mc) (rs + ms) pc lv st h Q := by
  subst hq
  obtain ⟨ig, hd⟩ := hd
  intro p l e R s m args below meth c H locs k n ls hc a1 a2 a3 a4 hR hL hl T hT X
  subst hT
  have hsz : ls.size = I.2.2.1 := hl.1.1
  obtain ⟨vm₁, mk, X₁, hnamed, hstep⟩ := hinv p l e R s m args below meth c T locs k n ls hc hR hsz X
  generalize hT1 : T.setVm vm₁ = T₁ at X₁ hstep
  have hR1 : gRel E h T₁.heap := by rw [← hT1]; exact hR
  have hcW : (gS E).WarmedH s.vm := hc.2.2.2.2.2.2.2.2.1
  have ok : gOK E := hc.2.2.2.2.2.2.2.2.2
  have hW1 : (gS E).WarmedH T₁.vm := State.WarmedH.trans hcW X₁.warmed
  have hn1 : T₁.methodNamed? I'.1 = some mk := X₁.named hnamed
  obtain ⟨methk, ck, b1, b2, b3, b4, b5, b6, b7, b8⟩ := gCode.at ok hW1 hg hn1
  have hpk : T₁.plainMethod mk := State.plainMethod.of_named hg.1 hn1 b1
  have hdg : decode c.code (F0 m pc ls rest).pc = .ok (ig, len) := by rw [hc.2.1]; exact hd
  have hsize : (F0 m pc ls rest).locals.size = c.maxLocals := hsz.trans hc.2.2.1.symm
  have hmr : (F0 m pc ls rest).monitorRoom = 0 := rfl
  obtain ⟨Y₀, hin⟩ := X₁.into (g := F0 m pc ls rest) rfl hsize hdg As.toArray (R' := { frames := d, cells := mc, slots := ms, locals := 64 * d }) b1 b2 b6 hpk (by show d + 1 ≤ R.frames; exact a1)
    (by rw [hmr, b4]; show 2 * 0 + (rest.map fun v => v.category).sum + (I'.2.2.1 + 11) + 64 * d ≤ R.locals; omega) (by show k + mc ≤ R.cells; omega) (by show n + ms ≤ R.slots; omega)
  generalize hU : (T₁.setTop (F0 m pc ls rest)).pushFrame (.java (entryFrame mk As.toArray ck.maxLocals)) = U at Y₀ hin
  have hUh : U.heap = T₁.heap := by rw [← hU]; rfl
  have hcx' : gCx E I' p (T₁.calling (F0 m pc ls rest) mk As.toArray) mk methk ck :=
    ⟨hc.1, b3, b4, b5, b6, b7, findClass_of_methodNamed hn1, (name_of_methodNamed hn1 b1).1, hW1, ok⟩
  obtain ⟨t, hst, o, h', L, k', n', hq1, hRt, hrun, hend, hWt, hsame, hLt, hk', hn'⟩ := call p l e { frames := d, cells := mc, slots := ms, locals := 64 * d } (T₁.calling (F0 m pc ls rest) mk As.toArray) mk As.toArray (.java (F0 m pc ls rest) :: below) methk ck U.heap [] 0 0 _ hcx' (Nat.le_refl _) (Nat.le_refl _) (by show 0 + mc ≤ mc; omega) (by show 0 + ms ≤ ms; omega) (by rw [hUh]; exact hR1) (fun _ z => by cases z) (gLv_entry hf) U rfl Y₀
  rw [← lg_entry_eq, ← b4] at hst
  have hst' : ∀ acts, Steps p.tables e below (doInvoke e (T₁.setTop (F0 m pc ls rest)) acts mk As.toArray).1 t := by
    intro acts
    rw [hin acts]
    exact steps_weaken (mid := [.java (F0 m pc ls rest)]) hst
  have hLL : ∀ z ∈ locs ++ L, gZ E ≤ z.base := by
    intro z hz
    rcases List.mem_append.mp hz with w | w
    · exact hL z w
    · exact hLt z w
  cases o with
  | returned v =>
    obtain ⟨T', X', hW', hsm, ht⟩ := X₁.outOf (g := F0 m pc ls rest) rfl hdg hend hWt hsame
    have hT'h : t.heap = T'.heap := by rw [ht]; rfl
    obtain ⟨t2, s2, e2⟩ := k1 v h' hq1 p l e R s m args below meth c T'.heap (locs ++ L) (k + k') (n + n') ls hc a1 a2 (by have : k' ≤ mc := hk'; omega) (by have : n' ≤ ms := hn'; omega) (hT'h ▸ hRt) hLL hl T' rfl X'
    refine ⟨t2, hstep t2 (fun acts => (hst' acts).trans ?_), e2⟩
    rw [ht]
    exact s2
  | threw x =>
    obtain ⟨T', X', hW', hsm, ht⟩ := X₁.outOfThrown (g := F0 m pc ls rest) rfl hend hWt hsame
    have hT'h : t.heap = T'.heap := by rw [ht]; exact throwing_heap _ _ _
    obtain ⟨t2, s2, e2⟩ := k2 x h' hq1 p l e R s m args below meth c T' (locs ++ L) (k + k') (n + n') ls rest hc a1 a2 (by have : k' ≤ mc := hk'; omega) (by have : n' ≤ ms := hn'; omega) (hT'h ▸ hRt) hLL hl X'
    refine ⟨t2, hstep t2 (fun acts => (hst' acts).trans ?_), e2⟩
    rw [ht]
    exact s2
/-- what the reference names is declared -/
def gDecl (x : MethodName) : Prop := Cond.declares x ∈ lw_tbl ∨ (Cond.instanceMethod x ∈ lw_all ∧ ∃ b m r, Cond.code x b m r ∈ lw_all)
theorem gDecl.at {x : MethodName} (hx : gDecl x) {p : Program} {s : State} {m : MethodId} {meth : Method} {c : Code} (hc : gCx E I p s m meth c) : va_Decl s x := by
  rcases hx with w | ⟨w, bb, mm, rr, w2⟩
  · exact va_Decl.abs (va_Nw.warmD hc.2.2.2.2.2.2.2.2.1 (va_Nw.of rfl (hc.2.2.2.2.2.2.2.2.2.1 _ w)))
  · exact va_Decl.of (gw hc (args := #[]) w) (gw hc (args := #[]) w2)
/-- an overriding (or inherited) method: x is what the reference names, declared in its own class -/
theorem gInv.over {x : MethodName} {r : vw_C} {fs As : List Value} (hd : decode I.2.1 pc = .ok (.invokevirtual idx, 3)) (hlink : Cond.methodLink I.1.cls idx x ∈ lw_all) (hsame : Cond.sameMethod x.cls x.cls x.name x.desc ∈ lw_all) (hdecl : gDecl x) (hxn : x.cls ≠ "java/lang/invoke/MethodHandle" ∧ x.cls ≠ "java/lang/invoke/VarHandle") (hxp : (parseMethodDescriptor x.desc).map (fun s => s.parameters.length) = some np)
    (hinst : Cond.instanceMethod I'.1 ∈ lw_all) (hcl : vwCl[ci]? = some r) (hsel : Cond.selects r.1 x I'.1 ∈ lw_all) (hb : h.1 b = some (oB ci fs)) (hn : As.length = np) (hst : st = As.reverse ++ .ref b :: rest) : gInv E I pc st rest h I' (.ref b :: As) := by
  intro p l e R s m args below meth c T locs k n ls hc hR hsz X
  obtain ⟨r0, r1, hn0, hrm, hstR, hsigR⟩ := hdecl.at hc
  obtain ⟨cn, ck, r2, hcn, hck, hni, hf, hn1⟩ := Cond.sameMethod_found (gw hc (args := args) hsame)
  cases hn0.symm.trans hn1
  obtain ⟨mk, methM, hnamed, hmethM, -, habM⟩ := Cond.instanceMethod_spec (gw hc (args := args) hinst)
  obtain ⟨cellB, hcell, hobj, hcls⟩ := va_recv (gK hc) (hR.P hb) hcl (q0 := 0) rfl
  obtain ⟨c2, r3, m2, q1, q2, q3, q4, kP, hkP, hkPi⟩ := Cond.selects_spec (gw hc (args := args) hsel)
  cases hcls.symm.trans q1
  cases hf.symm.trans q2
  cases hnamed.symm.trans q3
  have hselP : selectMethod e.platform s.vm cellB.cls r0 = .method mk := by rw [Launch.admits_selectMethod X.admits]; exact q4
  have hlen : As.length = r1.sig.parameters.length := by
    rw [hsigR] at hxp
    simpa [hn] using hxp.symm
  obtain ⟨vm₁, X₁, hstep₁⟩ := X.invokevirtualUp hc.1 hc.2.2.2.2.2.2.1 (gw hc hlink) (gw hc hsame) hxn hn0 hrm hstR (a := b) (cell := cellB) hcell
    (fun z w => by rw [w] at hobj; cases hobj) hselP hmethM habM hkP hkPi (g := F0 m pc ls st) rfl (argsL := As) (rest := rest) hlen hst (by rw [hc.2.1]; exact hd)
  exact ⟨vm₁, mk, X₁, hnamed, hstep₁⟩
/-- through an interface -/
theorem gInv.iface {x : MethodName} {cnt : Nat} {r : vw_C} {fs As : List Value} (hd : decode I.2.1 pc = .ok (.invokeinterface idx cnt, 5)) (hlink : Cond.methodLink I.1.cls idx x ∈ lw_all) (h1 : Cond.declares x ∈ lw_tbl) (h2 : Cond.interfaceMethod x.cls x.cls x.name x.desc ∈ lw_tbl) (h3 : Cond.publicMethod I'.1 ∈ lw_tbl) (h4 : Cond.unhidden r.1 x.name x.desc ∈ lw_tbl) (h5 : Cond.castable r.1 x.cls ∈ lw_tbl) (hxn : x.cls ≠ "java/lang/invoke/MethodHandle" ∧ x.cls ≠ "java/lang/invoke/VarHandle") (hxp : (parseMethodDescriptor x.desc).map (fun s => s.parameters.length) = some np)
    (hinst : Cond.instanceMethod I'.1 ∈ lw_all) (hcl : vwCl[ci]? = some r) (hsel : Cond.selects r.1 x I'.1 ∈ lw_all) (hb : h.1 b = some (oB ci fs)) (hn : As.length = np) (hst : st = As.reverse ++ .ref b :: rest) : gInv E I pc st rest h I' (.ref b :: As) := by
  intro p l e R s m args below meth c T locs k n ls hc hR hsz X
  have ok := hc.2.2.2.2.2.2.2.2.2.1
  obtain ⟨f1, f2, f3, f4, f5⟩ := va_Fw.moved hxn hc.2.2.2.2.2.2.2.2.1.alike (va_Fw.of (ok _ h1) (ok _ h2) (ok _ h3) (ok _ h4) (ok _ h5))
  obtain ⟨r0, r1, hn0, hrm, hstR, hsigR⟩ := Cond.declares_spec f1
  obtain ⟨cL, kL, r2, hcL, hkL, hiL, hfoundL, hn1⟩ := Cond.interfaceMethod_spec f2
  cases hn0.symm.trans hn1
  have hr0cls : r0.cls = cL := Option.some.inj ((findClass_of_methodNamed hn0).symm.trans hcL)
  obtain ⟨hnameR, hdescR⟩ := name_of_methodNamed hn0 hrm
  obtain ⟨mk, methM, hnamed, hmethM, -, habM⟩ := Cond.instanceMethod_spec (gw hc (args := args) hinst)
  obtain ⟨cellB, hcell, hobj, hcls⟩ := va_recv (gK hc) (hR.P hb) hcl (q0 := 0) rfl
  obtain ⟨c2, r3, m2, q1, q2, q3, q4, -⟩ := Cond.selects_spec (gw hc (args := args) hsel)
  cases hcls.symm.trans q1
  cases hfoundL.symm.trans q2
  cases hnamed.symm.trans q3
  have hselP : selectMethod e.platform s.vm cellB.cls r0 = .method mk := by rw [Launch.admits_selectMethod X.admits]; exact q4
  have hpubM : hasFlag methM.accessFlags Acc.public_ = true := Cond.publicMethod_spec hnamed hmethM f3
  have hway : ((cellB.cls :: s.vm.superclasses cellB.cls).any fun k => (declaredIn s.vm r1.name r1.desc k).any fun (_, z) => z.isPrivate || z.isStatic) = false := by
    rw [hnameR, hdescR]; exact Cond.unhidden_spec hcls f4
  obtain ⟨c3, t3, w1, w2, w3⟩ := Cond.castable_spec f5
  cases hcls.symm.trans w1
  cases hcL.symm.trans w2
  obtain ⟨hS, hfc, kB, hkB, hkind⟩ := (gK hc).1 ci _ hcl
  have hkB2 : s.vm.classes[cellB.cls]? = some kB := by
    have e1 : cellB.cls = E.1.1 ci := Option.some.inj (hcls.symm.trans hfc)
    rw [e1]; exact hkB
  have hlen : As.length = r1.sig.parameters.length := by
    rw [hsigR] at hxp
    simpa [hn] using hxp.symm
  obtain ⟨vm₁, X₁, hstep₁⟩ := X.invokeinterface hc.1 hc.2.2.2.2.2.2.1 (gw hc hlink) hn0 hrm hstR (by rw [hr0cls]; exact hkL) hiL hxn (a := b) (cell := cellB) (kcell := kB) hcell
    (fun z w => by rw [w] at hobj; cases hobj) hkB2 (by rw [hr0cls]; exact w3) hselP hmethM hway hpubM habM (g := F0 m pc ls st) rfl (argsL := As) (rest := rest) hlen hst (by rw [hc.2.1]; exact hd)
  exact ⟨vm₁, mk, X₁, hnamed, hstep₁⟩
theorem gwM {p : Program} {s : State} {m : MethodId} {meth : Method} {c : Code} (hc : gCx E I p s m meth c) {args : Array Value} {o : String} {i : Nat} {x : MethodName} {g : String} (hw : Cond.methodLinkNest o i x g ∈ lw_tbl) : (Cond.methodLinkNest o i x g).before args s = true :=
  va_Nw.use rfl (va_Nw.warmM hc.2.2.2.2.2.2.2.2.1 (va_Nw.of rfl (hc.2.2.2.2.2.2.2.2.2.1 _ hw)))
/-- a nest mate's constructor -/
theorem gInv.initN {host : String} {As : List Value} (hd : decode I.2.1 pc = .ok (.invokespecial idx, 3)) (hlink : Cond.methodLinkNest I.1.cls idx I'.1 host ∈ lw_tbl) (hinst : Cond.instanceMethod I'.1 ∈ lw_all) (hy1 : I'.1.name = "<init>") (hcode : Cond.code I'.1 I'.2.1 I'.2.2.1 none ∈ lw_all) (hg : gCode I' np) (hn : As.length = np) (hst : st = As.reverse ++ .ref b :: rest) : gInv E I pc st rest h I' (.ref b :: As) := by
  intro p l e R s m args below meth c T locs k n ls hc hR hsz X
  have hsp := hg.2.1
  have hpl : e.platform.magicAccessors = ({} : Platform).magicAccessors := by rw [X.admits.platform]
  obtain ⟨mk, methM, cM, kP, vm₁, hnamed, hmethM, hcodeM, -, hlocalsM, -, hkP, -, hW₁, hstep₁⟩ := Steps.initColdArgsNest (e := e) X.here hc.1 X.warmed hpl hc.2.2.2.2.2.2.1 hy1 hg.2.2.1 (gwM hc (args := args) hlink) (gw hc (args := args) hinst) (gw hc (args := args) hcode) (f := F0 m pc ls st) rfl (argsL := As) (rest := rest) (a := b)
    (fun sig hs => by rw [hs] at hsp; simpa [hn] using hsp.symm) hst (by rw [hc.2.1]; exact hd)
  exact ⟨vm₁, mk, X.noted hW₁, hnamed, hstep₁⟩
theorem gInv.staticN {host : String} (hd : decode I.2.1 pc = .ok (.invokestatic idx, 3)) (hlink : Cond.methodLinkNest I.1.cls idx I'.1 host ∈ lw_tbl) (hstat : Cond.static I'.1 ∈ lw_all) (hg : gCode I' np) (hn : As.length = np) (hst : st = As.reverse ++ rest) : gInv E I pc st rest h I' As := by
  intro p l e R s m args below meth c T locs k n ls hc hR hsz X
  have hsp := hg.2.1
  obtain ⟨mk, hnamed⟩ : ∃ mk, s.methodNamed? I'.1 = some mk := by
    rcases hg.2.2.2.2 with ⟨-, hw⟩ | hw
    · exact Cond.code_named (gw hc (args := args) hw)
    · obtain ⟨m', _, _, h0, _⟩ := Cond.codeWith_spec (gw hc (args := args) hw)
      exact ⟨m', h0⟩
  obtain ⟨methM, cM, hmethM, -, -, -, -, -, -, hsigM⟩ := gCode.at hc.2.2.2.2.2.2.2.2.2 hc.2.2.2.2.2.2.2.2.1 hg hnamed
  have hstatic : methM.isStatic = true := Cond.static_spec hnamed hmethM (gw hc (args := args) hstat)
  obtain ⟨kP, hkP, -⟩ := className_of_methodNamed hnamed
  have hinitP : kP.init = .initialized := Cond.initialized_spec (findClass_of_methodNamed hnamed) hkP (gw hc (args := args) hg.2.2.2.1)
  have hlen : As.length = methM.sig.parameters.length := by
    rw [hsigM] at hsp
    simpa [hn] using hsp.symm
  obtain ⟨vm₁, X₁, hstep₁⟩ := X.invokestaticNest hc.1 hc.2.2.2.2.2.2.1 (gwM hc hlink) hnamed hmethM hstatic hkP hinitP hg.2.2.1 (g := F0 m pc ls st) rfl (argsL := As) (rest := rest) hlen hst (by rw [hc.2.1]; exact hd)
  exact ⟨vm₁, mk, X₁, hnamed, hstep₁⟩
theorem g_cx {x : MethodName} (hd : decode I.2.1 pc = .ok (.invokevirtual idx, 3)) (hlink : Cond.methodLink I.1.cls idx x ∈ lw_all) (hsame : Cond.sameMethod x.cls x.cls x.name x.desc ∈ lw_all) (hdecl : gDecl x) (hxn : x.cls ≠ "java/lang/invoke/MethodHandle" ∧ x.cls ≠ "java/lang/invoke/VarHandle") (hxp : (parseMethodDescriptor x.desc).map (fun s => s.parameters.length) = some np) (hinst : Cond.instanceMethod I'.1 ∈ lw_all) (hcl : vwCl[ci]? = some r) (hsel : Cond.selects r.1 x I'.1 ∈ lw_all) (hg : gCode I' np) (hb : h.1 b = some (oB ci fs)) (call : CALL E I' d mc ms (.ref b :: As) h (qR v k)) (hst : st = As.reverse ++ .ref b :: rest) (hq : pc + 3 = q) (kk : GO E I (d + 1) rc rs q lv (v :: rest) k Q)
    (hn : As.length = np := by rfl) (hf : (lg_sl (.ref b :: As)).length ≤ I'.2.2.1 := by exact Nat.le_of_ble_eq_true rfl) (hw : (rest.map fun v => v.category).sum ≤ 20 := by exact Nat.le_of_ble_eq_true rfl) (hm : I'.2.2.1 ≤ 33 := by exact Nat.le_of_ble_eq_true rfl) : GO E I (d + 1) (rc + mc) (rs + ms) pc lv st h Q :=
  g_call ⟨_, hd⟩ (gInv.over hd hlink hsame hdecl hxn hxp hinst hcl hsel hb hn hst) hg hf hw hm hq call (fun w k' z => by obtain ⟨z1, rfl⟩ := z; cases z1; exact kk) (fun x k' z => by cases z.1)
theorem g_cf {x : MethodName} {cnt : Nat} (hd : decode I.2.1 pc = .ok (.invokeinterface idx cnt, 5)) (hlink : Cond.methodLink I.1.cls idx x ∈ lw_all) (h1 : Cond.declares x ∈ lw_tbl) (h2 : Cond.interfaceMethod x.cls x.cls x.name x.desc ∈ lw_tbl) (h3 : Cond.publicMethod I'.1 ∈ lw_tbl) (h4 : Cond.unhidden r.1 x.name x.desc ∈ lw_tbl) (h5 : Cond.castable r.1 x.cls ∈ lw_tbl) (hxn : x.cls ≠ "java/lang/invoke/MethodHandle" ∧ x.cls ≠ "java/lang/invoke/VarHandle") (hxp : (parseMethodDescriptor x.desc).map (fun s => s.parameters.length) = some np) (hinst : Cond.instanceMethod I'.1 ∈ lw_all) (hcl : vwCl[ci]? = some r) (hsel : Cond.selects r.1 x I'.1 ∈ lw_all) (hg : gCode I' np) (hb : h.1 b = some (oB ci fs)) (call : CALL E I' d mc ms (.ref b :: As) h (qR v k)) (hst : st = As.reverse ++ .ref b :: rest) (hq : pc + 5 = q) (kk : GO E I (d + 1) rc rs q lv (v :: rest) k Q)
    (hn : As.length = np := by rfl) (hf : (lg_sl (.ref b :: As)).length ≤ I'.2.2.1 := by exact Nat.le_of_ble_eq_true rfl) (hw : (rest.map fun v => v.category).sum ≤ 20 := by exact Nat.le_of_ble_eq_true rfl) (hm : I'.2.2.1 ≤ 33 := by exact Nat.le_of_ble_eq_true rfl) : GO E I (d + 1) (rc + mc) (rs + ms) pc lv st h Q :=
  g_calln ⟨_, hd⟩ (gInv.iface hd hlink h1 h2 h3 h4 h5 hxn hxp hinst hcl hsel hb hn hst) hg hf hw hm hq call (fun w k' z => by obtain ⟨z1, rfl⟩ := z; cases z1; exact kk) (fun x k' z => by cases z.1)
theorem g_cxV {x : MethodName} (hd : decode I.2.1 pc = .ok (.invokevirtual idx, 3)) (hlink : Cond.methodLink I.1.cls idx x ∈ lw_all) (hsame : Cond.sameMethod x.cls x.cls x.name x.desc ∈ lw_all) (hdecl : gDecl x) (hxn : x.cls ≠ "java/lang/invoke/MethodHandle" ∧ x.cls ≠ "java/lang/invoke/VarHandle") (hxp : (parseMethodDescriptor x.desc).map (fun s => s.parameters.length) = some np) (hinst : Cond.instanceMethod I'.1 ∈ lw_all) (hcl : vwCl[ci]? = some r) (hsel : Cond.selects r.1 x I'.1 ∈ lw_all) (hg : gCode I' np) (hb : h.1 b = some (oB ci fs)) (call : CALL E I' d mc ms (.ref b :: As) h (qV k)) (hst : st = As.reverse ++ .ref b :: rest) (hq : pc + 3 = q) (kk : GO E I (d + 1) rc rs q lv rest k Q)
    (hn : As.length = np := by rfl) (hf : (lg_sl (.ref b :: As)).length ≤ I'.2.2.1 := by exact Nat.le_of_ble_eq_true rfl) (hw : (rest.map fun v => v.category).sum ≤ 20 := by exact Nat.le_of_ble_eq_true rfl) (hm : I'.2.2.1 ≤ 33 := by exact Nat.le_of_ble_eq_true rfl) : GO E I (d + 1) (rc + mc) (rs + ms) pc lv st h Q :=
  g_call ⟨_, hd⟩ (gInv.over hd hlink hsame hdecl hxn hxp hinst hcl hsel hb hn hst) hg hf hw hm hq call (fun w k' z => by obtain ⟨z1, rfl⟩ := z; cases z1; exact kk) (fun x k' z => by cases z.1)
theorem g_cfV {x : MethodName} {cnt : Nat} (hd : decode I.2.1 pc = .ok (.invokeinterface idx cnt, 5)) (hlink : Cond.methodLink I.1.cls idx x ∈ lw_all) (h1 : Cond.declares x ∈ lw_tbl) (h2 : Cond.interfaceMethod x.cls x.cls x.name x.desc ∈ lw_tbl) (h3 : Cond.publicMethod I'.1 ∈ lw_tbl) (h4 : Cond.unhidden r.1 x.name x.desc ∈ lw_tbl) (h5 : Cond.castable r.1 x.cls ∈ lw_tbl) (hxn : x.cls ≠ "java/lang/invoke/MethodHandle" ∧ x.cls ≠ "java/lang/invoke/VarHandle") (hxp : (parseMethodDescriptor x.desc).map (fun s => s.parameters.length) = some np) (hinst : Cond.instanceMethod I'.1 ∈ lw_all) (hcl : vwCl[ci]? = some r) (hsel : Cond.selects r.1 x I'.1 ∈ lw_all) (hg : gCode I' np) (hb : h.1 b = some (oB ci fs)) (call : CALL E I' d mc ms (.ref b :: As) h (qV k)) (hst : st = As.reverse ++ .ref b :: rest) (hq : pc + 5 = q) (kk : GO E I (d + 1) rc rs q lv rest k Q)
    (hn : As.length = np := by rfl) (hf : (lg_sl (.ref b :: As)).length ≤ I'.2.2.1 := by exact Nat.le_of_ble_eq_true rfl) (hw : (rest.map fun v => v.category).sum ≤ 20 := by exact Nat.le_of_ble_eq_true rfl) (hm : I'.2.2.1 ≤ 33 := by exact Nat.le_of_ble_eq_true rfl) : GO E I (d + 1) (rc + mc) (rs + ms) pc lv st h Q :=
  g_calln ⟨_, hd⟩ (gInv.iface hd hlink h1 h2 h3 h4 h5 hxn hxp hinst hcl hsel hb hn hst) hg hf hw hm hq call (fun w k' z => by obtain ⟨z1, rfl⟩ := z; cases z1; exact kk) (fun x k' z => by cases z.1)
theorem g_cxP {x : MethodName} (hd : decode I.2.1 pc = .ok (.invokevirtual idx, 3)) (hlink : Cond.methodLink I.1.cls idx x ∈ lw_all) (hsame : Cond.sameMethod x.cls x.cls x.name x.desc ∈ lw_all) (hdecl : gDecl x) (hxn : x.cls ≠ "java/lang/invoke/MethodHandle" ∧ x.cls ≠ "java/lang/invoke/VarHandle") (hxp : (parseMethodDescriptor x.desc).map (fun s => s.parameters.length) = some np) (hinst : Cond.instanceMethod I'.1 ∈ lw_all) (hcl : vwCl[ci]? = some r) (hsel : Cond.selects r.1 x I'.1 ∈ lw_all) (hg : gCode I' np) (hb : h.1 b = some (oB ci fs)) (call : CALL E I' d mc ms (.ref b :: As) h (qP P)) (hst : st = As.reverse ++ .ref b :: rest) (hq : pc + 3 = q) (kk : ∀ v k, P v k → GO E I (d + 1) rc rs q lv (v :: rest) k Q)
    (hn : As.length = np := by rfl) (hf : (lg_sl (.ref b :: As)).length ≤ I'.2.2.1 := by exact Nat.le_of_ble_eq_true rfl) (hw : (rest.map fun v => v.category).sum ≤ 20 := by exact Nat.le_of_ble_eq_true rfl) (hm : I'.2.2.1 ≤ 33 := by exact Nat.le_of_ble_eq_true rfl) : GO E I (d + 1) (rc + mc) (rs + ms) pc lv st h Q :=
  g_call ⟨_, hd⟩ (gInv.over hd hlink hsame hdecl hxn hxp hinst hcl hsel hb hn hst) hg hf hw hm hq call (fun w k' z => by obtain ⟨v, z1, z2⟩ := z; cases z1; exact kk v k' z2) (fun x k' z => by obtain ⟨v, z1, z2⟩ := z; cases z1)
theorem g_cfP {x : MethodName} {cnt : Nat} (hd : decode I.2.1 pc = .ok (.invokeinterface idx cnt, 5)) (hlink : Cond.methodLink I.1.cls idx x ∈ lw_all) (h1 : Cond.declares x ∈ lw_tbl) (h2 : Cond.interfaceMethod x.cls x.cls x.name x.desc ∈ lw_tbl) (h3 : Cond.publicMethod I'.1 ∈ lw_tbl) (h4 : Cond.unhidden r.1 x.name x.desc ∈ lw_tbl) (h5 : Cond.castable r.1 x.cls ∈ lw_tbl) (hxn : x.cls ≠ "java/lang/invoke/MethodHandle" ∧ x.cls ≠ "java/lang/invoke/VarHandle") (hxp : (parseMethodDescriptor x.desc).map (fun s => s.parameters.length) = some np) (hinst : Cond.instanceMethod I'.1 ∈ lw_all) (hcl : vwCl[ci]? = some r) (hsel : Cond.selects r.1 x I'.1 ∈ lw_all) (hg : gCode I' np) (hb : h.1 b = some (oB ci fs)) (call : CALL E I' d mc ms (.ref b :: As) h (qP P)) (hst : st = As.reverse ++ .ref b :: rest) (hq : pc + 5 = q) (kk : ∀ v k, P v k → GO E I (d + 1) rc rs q lv (v :: rest) k Q)
    (hn : As.length = np := by rfl) (hf : (lg_sl (.ref b :: As)).length ≤ I'.2.2.1 := by exact Nat.le_of_ble_eq_true rfl) (hw : (rest.map fun v => v.category).sum ≤ 20 := by exact Nat.le_of_ble_eq_true rfl) (hm : I'.2.2.1 ≤ 33 := by exact Nat.le_of_ble_eq_true rfl) : GO E I (d + 1) (rc + mc) (rs + ms) pc lv st h Q :=
  g_calln ⟨_, hd⟩ (gInv.iface hd hlink h1 h2 h3 h4 h5 hxn hxp hinst hcl hsel hb hn hst) hg hf hw hm hq call (fun w k' z => by obtain ⟨v, z1, z2⟩ := z; cases z1; exact kk v k' z2) (fun x k' z => by obtain ⟨v, z1, z2⟩ := z; cases z1)
theorem g_cxVP {x : MethodName} (hd : decode I.2.1 pc = .ok (.invokevirtual idx, 3)) (hlink : Cond.methodLink I.1.cls idx x ∈ lw_all) (hsame : Cond.sameMethod x.cls x.cls x.name x.desc ∈ lw_all) (hdecl : gDecl x) (hxn : x.cls ≠ "java/lang/invoke/MethodHandle" ∧ x.cls ≠ "java/lang/invoke/VarHandle") (hxp : (parseMethodDescriptor x.desc).map (fun s => s.parameters.length) = some np) (hinst : Cond.instanceMethod I'.1 ∈ lw_all) (hcl : vwCl[ci]? = some r) (hsel : Cond.selects r.1 x I'.1 ∈ lw_all) (hg : gCode I' np) (hb : h.1 b = some (oB ci fs)) (call : CALL E I' d mc ms (.ref b :: As) h (qVP P1)) (hst : st = As.reverse ++ .ref b :: rest) (hq : pc + 3 = q) (kk : ∀ k, P1 k → GO E I (d + 1) rc rs q lv rest k Q)
    (hn : As.length = np := by rfl) (hf : (lg_sl (.ref b :: As)).length ≤ I'.2.2.1 := by exact Nat.le_of_ble_eq_true rfl) (hw : (rest.map fun v => v.category).sum ≤ 20 := by exact Nat.le_of_ble_eq_true rfl) (hm : I'.2.2.1 ≤ 33 := by exact Nat.le_of_ble_eq_true rfl) : GO E I (d + 1) (rc + mc) (rs + ms) pc lv st h Q :=
  g_call ⟨_, hd⟩ (gInv.over hd hlink hsame hdecl hxn hxp hinst hcl hsel hb hn hst) hg hf hw hm hq call (fun w k' z => by obtain ⟨z1, z2⟩ := z; cases z1; exact kk k' z2) (fun x k' z => by cases z.1)
theorem g_cfVP {x : MethodName} {cnt : Nat} (hd : decode I.2.1 pc = .ok (.invokeinterface idx cnt, 5)) (hlink : Cond.methodLink I.1.cls idx x ∈ lw_all) (h1 : Cond.declares x ∈ lw_tbl) (h2 : Cond.interfaceMethod x.cls x.cls x.name x.desc ∈ lw_tbl) (h3 : Cond.publicMethod I'.1 ∈ lw_tbl) (h4 : Cond.unhidden r.1 x.name x.desc ∈ lw_tbl) (h5 : Cond.castable r.1 x.cls ∈ lw_tbl) (hxn : x.cls ≠ "java/lang/invoke/MethodHandle" ∧ x.cls ≠ "java/lang/invoke/VarHandle") (hxp : (parseMethodDescriptor x.desc).map (fun s => s.parameters.length) = some np) (hinst : Cond.instanceMethod I'.1 ∈ lw_all) (hcl : vwCl[ci]? = some r) (hsel : Cond.selects r.1 x I'.1 ∈ lw_all) (hg : gCode I' np) (hb : h.1 b = some (oB ci fs)) (call : CALL E I' d mc ms (.ref b :: As) h (qVP P1)) (hst : st = As.reverse ++ .ref b :: rest) (hq : pc + 5 = q) (kk : ∀ k, P1 k → GO E I (d + 1) rc rs q lv rest k Q)
    (hn : As.length = np := by rfl) (hf : (lg_sl (.ref b :: As)).length ≤ I'.2.2.1 := by exact Nat.le_of_ble_eq_true rfl) (hw : (rest.map fun v => v.category).sum ≤ 20 := by exact Nat.le_of_ble_eq_true rfl) (hm : I'.2.2.1 ≤ 33 := by exact Nat.le_of_ble_eq_true rfl) : GO E I (d + 1) (rc + mc) (rs + ms) pc lv st h Q :=
  g_calln ⟨_, hd⟩ (gInv.iface hd hlink h1 h2 h3 h4 h5 hxn hxp hinst hcl hsel hb hn hst) hg hf hw hm hq call (fun w k' z => by obtain ⟨z1, z2⟩ := z; cases z1; exact kk k' z2) (fun x k' z => by cases z.1)
theorem g_ciN {host : String} (hd : decode I.2.1 pc = .ok (.invokespecial idx, 3)) (hlink : Cond.methodLinkNest I.1.cls idx I'.1 host ∈ lw_tbl) (hinst : Cond.instanceMethod I'.1 ∈ lw_all) (hy1 : I'.1.name = "<init>") (hcode : Cond.code I'.1 I'.2.1 I'.2.2.1 none ∈ lw_all) (hg : gCode I' np) (call : CALL E I' d mc ms (.ref b :: As) h (qV k)) (hst : st = As.reverse ++ .ref b :: rest) (hq : pc + 3 = q) (kk : GO E I (d + 1) rc rs q lv rest k Q)
    (hn : As.length = np := by rfl) (hf : (lg_sl (.ref b :: As)).length ≤ I'.2.2.1 := by exact Nat.le_of_ble_eq_true rfl) (hw : (rest.map fun v => v.category).sum ≤ 20 := by exact Nat.le_of_ble_eq_true rfl) (hm : I'.2.2.1 ≤ 33 := by exact Nat.le_of_ble_eq_true rfl) : GO E I (d + 1) (rc + mc) (rs + ms) pc lv st h Q :=
  g_call ⟨_, hd⟩ (gInv.initN hd hlink hinst hy1 hcode hg hn hst) hg hf hw hm hq call (fun w k' z => by obtain ⟨z1, rfl⟩ := z; cases z1; exact kk) (fun x k' z => by cases z.1)
theorem g_ciNVP {host : String} (hd : decode I.2.1 pc = .ok (.invokespecial idx, 3)) (hlink : Cond.methodLinkNest I.1.cls idx I'.1 host ∈ lw_tbl) (hinst : Cond.instanceMethod I'.1 ∈ lw_all) (hy1 : I'.1.name = "<init>") (hcode : Cond.code I'.1 I'.2.1 I'.2.2.1 none ∈ lw_all) (hg : gCode I' np) (call : CALL E I' d mc ms (.ref b :: As) h (qVP P1)) (hst : st = As.reverse ++ .ref b :: rest) (hq : pc + 3 = q) (kk : ∀ k, P1 k → GO E I (d + 1) rc rs q lv rest k Q)
    (hn : As.length = np := by rfl) (hf : (lg_sl (.ref b :: As)).length ≤ I'.2.2.1 := by exact Nat.le_of_ble_eq_true rfl) (hw : (rest.map fun v => v.category).sum ≤ 20 := by exact Nat.le_of_ble_eq_true rfl) (hm : I'.2.2.1 ≤ 33 := by exact Nat.le_of_ble_eq_true rfl) : GO E I (d + 1) (rc + mc) (rs + ms) pc lv st h Q :=
  g_call ⟨_, hd⟩ (gInv.initN hd hlink hinst hy1 hcode hg hn hst) hg hf hw hm hq call (fun w k' z => by obtain ⟨z1, z2⟩ := z; cases z1; exact kk k' z2) (fun x k' z => by cases z.1)
theorem g_csN {host : String} (hd : decode I.2.1 pc = .ok (.invokestatic idx, 3)) (hlink : Cond.methodLinkNest I.1.cls idx I'.1 host ∈ lw_tbl) (hstat : Cond.static I'.1 ∈ lw_all) (hg : gCode I' np) (call : CALL E I' d mc ms As h (qR v k)) (hst : st = As.reverse ++ rest) (hq : pc + 3 = q) (kk : GO E I (d + 1) rc rs q lv (v :: rest) k Q)
    (hn : As.length = np := by rfl) (hf : (lg_sl As).length ≤ I'.2.2.1 := by exact Nat.le_of_ble_eq_true rfl) (hw : (rest.map fun v => v.category).sum ≤ 20 := by exact Nat.le_of_ble_eq_true rfl) (hm : I'.2.2.1 ≤ 33 := by exact Nat.le_of_ble_eq_true rfl) : GO E I (d + 1) (rc + mc) (rs + ms) pc lv st h Q :=
  g_call ⟨_, hd⟩ (gInv.staticN hd hlink hstat hg hn hst) hg hf hw hm hq call (fun w k' z => by obtain ⟨z1, rfl⟩ := z; cases z1; exact kk) (fun x k' z => by cases z.1)
theorem g_csNV {host : String} (hd : decode I.2.1 pc = .ok (.invokestatic idx, 3)) (hlink : Cond.methodLinkNest I.1.cls idx I'.1 host ∈ lw_tbl) (hstat : Cond.static I'.1 ∈ lw_all) (hg : gCode I' np) (call : CALL E I' d mc ms As h (qV k)) (hst : st = As.reverse ++ rest) (hq : pc + 3 = q) (kk : GO E I (d + 1) rc rs q lv rest k Q)
    (hn : As.length = np := by rfl) (hf : (lg_sl As).length ≤ I'.2.2.1 := by exact Nat.le_of_ble_eq_true rfl) (hw : (rest.map fun v => v.category).sum ≤ 20 := by exact Nat.le_of_ble_eq_true rfl) (hm : I'.2.2.1 ≤ 33 := by exact Nat.le_of_ble_eq_true rfl) : GO E I (d + 1) (rc + mc) (rs + ms) pc lv st h Q :=
  g_call ⟨_, hd⟩ (gInv.staticN hd hlink hstat hg hn hst) hg hf hw hm hq call (fun w k' z => by obtain ⟨z1, rfl⟩ := z; cases z1; exact kk) (fun x k' z => by cases z.1)
theorem g_csNP {host : String} (hd : decode I.2.1 pc = .ok (.invokestatic idx, 3)) (hlink : Cond.methodLinkNest I.1.cls idx I'.1 host ∈ lw_tbl) (hstat : Cond.static I'.1 ∈ lw_all) (hg : gCode I' np) (call : CALL E I' d mc ms As h (qP P)) (hst : st = As.reverse ++ rest) (hq : pc + 3 = q) (kk : ∀ v k, P v k → GO E I (d + 1) rc rs q lv (v :: rest) k Q)
    (hn : As.length = np := by rfl) (hf : (lg_sl As).length ≤ I'.2.2.1 := by exact Nat.le_of_ble_eq_true rfl) (hw : (rest.map fun v => v.category).sum ≤ 20 := by exact Nat.le_of_ble_eq_true rfl) (hm : I'.2.2.1 ≤ 33 := by exact Nat.le_of_ble_eq_true rfl) : GO E I (d + 1) (rc + mc) (rs + ms) pc lv st h Q :=
  g_call ⟨_, hd⟩ (gInv.staticN hd hlink hstat hg hn hst) hg hf hw hm hq call (fun w k' z => by obtain ⟨v, z1, z2⟩ := z; cases z1; exact kk v k' z2) (fun x k' z => by obtain ⟨v, z1, z2⟩ := z; cases z1)
theorem g_csNVP {host : String} (hd : decode I.2.1 pc = .ok (.invokestatic idx, 3)) (hlink : Cond.methodLinkNest I.1.cls idx I'.1 host ∈ lw_tbl) (hstat : Cond.static I'.1 ∈ lw_all) (hg : gCode I' np) (call : CALL E I' d mc ms As h (qVP P1)) (hst : st = As.reverse ++ rest) (hq : pc + 3 = q) (kk : ∀ k, P1 k → GO E I (d + 1) rc rs q lv rest k Q)
    (hn : As.length = np := by rfl) (hf : (lg_sl As).length ≤ I'.2.2.1 := by exact Nat.le_of_ble_eq_true rfl) (hw : (rest.map fun v => v.category).sum ≤ 20 := by exact Nat.le_of_ble_eq_true rfl) (hm : I'.2.2.1 ≤ 33 := by exact Nat.le_of_ble_eq_true rfl) : GO E I (d + 1) (rc + mc) (rs + ms) pc lv st h Q :=
  g_call ⟨_, hd⟩ (gInv.staticN hd hlink hstat hg hn hst) hg hf hw hm hq call (fun w k' z => by obtain ⟨z1, z2⟩ := z; cases z1; exact kk k' z2) (fun x k' z => by cases z.1)
end Calls
