/-! MY LOGIC, part 5: calls -/
set_option maxRecDepth 100000
/-- the locals at a method's entry -/
def gEnt : Nat → List Value → List (Option Value)
  | 0, _ => []
  | n + 1, [] => none :: gEnt n []
  | 1, v :: _ => [some v]
  | n + 2, .long x :: vs => some (.long x) :: none :: gEnt n vs
  | n + 2, .double x :: vs => some (.double x) :: none :: gEnt n vs
  | n + 2, v :: vs => some v :: gEnt (n + 1) vs
theorem gEnt_len : ∀ (n : Nat) (vs : List Value), (gEnt n vs).length = n
  | 0, _ => by simp [gEnt]
  | n + 1, [] => by simp [gEnt, gEnt_len n []]
  | 1, v :: _ => by simp [gEnt]
  | n + 2, v :: vs => by
    cases v <;> simp [gEnt, gEnt_len n vs, gEnt_len (n + 1) vs]
theorem gEnt_nil : ∀ (n : Nat) (i : Nat) (v : Value), (gEnt n [])[i]? = some (some v) → False
  | 0, i, v, h => by simp [gEnt] at h
  | n + 1, i, v, h => by
    cases i with
    | zero => simp [gEnt] at h
    | succ i => simp [gEnt] at h; exact gEnt_nil n i v h
theorem gEnt_at : ∀ (n : Nat) (vs : List Value) (j i : Nat) (v : Value), (gEnt n vs)[i]? = some (some v) → (j + i, v) ∈ lv_args j vs
  | 0, _, j, i, v, h => by simp [gEnt] at h
  | n + 1, [], j, i, v, h => (gEnt_nil (n + 1) i v h).elim
  | 1, w :: ws, j, i, v, h => by
    cases i with
    | zero => simp [gEnt] at h; subst h; exact List.mem_cons_self
    | succ i => simp [gEnt] at h
  | n + 2, w :: ws, j, i, v, h => by
    by_cases hw : w.category = 2
    · have e : gEnt (n + 2) (w :: ws) = some w :: none :: gEnt n ws := by
        cases w <;> first | rfl | (simp [Value.category] at hw)
      rw [e] at h
      match i, h with
      | 0, h => simp at h; subst h; exact List.mem_cons_self
      | 1, h => simp at h
      | i + 2, h =>
        simp at h
        have := gEnt_at n ws (j + 2) i v h
        show _ ∈ (j, w) :: lv_args (if w.category = 2 then j + 2 else j + 1) ws
        rw [if_pos hw, show j + (i + 2) = j + 2 + i by omega]
        exact List.mem_cons_of_mem _ this
    · have e : gEnt (n + 2) (w :: ws) = some w :: gEnt (n + 1) ws := by
        cases w <;> first | rfl | (simp [Value.category] at hw)
      rw [e] at h
      cases i with
      | zero => simp at h; subst h; exact List.mem_cons_self
      | succ i =>
        simp at h
        have := gEnt_at (n + 1) ws (j + 1) i v h
        show _ ∈ (j, w) :: lv_args (if w.category = 2 then j + 2 else j + 1) ws
        rw [if_neg hw, show j + (i + 1) = j + 1 + i by omega]
        exact List.mem_cons_of_mem _ this
theorem gLv_entry {As : List Value} {n : Nat} (hf : (lg_sl As).length ≤ n) : gLv ((lg_sl As ++ List.replicate (n - (lg_sl As).length) Slot.unset).toArray) n (gEnt n As) := by
  have h := lv_entry As hf
  refine ⟨⟨h.1, h.2.1, ?_⟩, gEnt_len n As⟩
  rintro ⟨i, v⟩ hq
  have := gEnt_at n As 0 i v (gA_mem.mp hq)
  rw [Nat.zero_add] at this
  exact h.2.2 (i, v) this
/-- a method's contract: GO at its entry -/
def CALL (E : gE) (I : gI) (d mc ms : Nat) (As : List Value) (h : gH) (Q : Outcome → gH → Prop) : Prop := GO E I d mc ms 0 (gEnt I.2.2.1 As) [] h Q
/-- what the tables say of a method of np parameters -/
def gCode (I : gI) (np : Nat) : Prop := plainFor I.1 = true ∧ (parseMethodDescriptor I.1.desc).map (fun s => s.parameters.length) = some np ∧ (I.1.cls ≠ "java/lang/invoke/MethodHandle" ∧ I.1.cls ≠ "java/lang/invoke/VarHandle") ∧ Cond.initialized I.1.cls ∈ lw_all ∧ ((I.2.2.2.2 = [] ∧ Cond.code I.1 I.2.1 I.2.2.1 I.2.2.2.1 ∈ lw_all) ∨ Cond.codeWith I.1 I.2.1 I.2.2.1 I.2.2.2.1 I.2.2.2.2 ∈ lw_all)
theorem gw0 {E : gE} (ok : gOK E) {U : State} (hW : (gS E).WarmedH U.vm) {args : Array Value} {w : Cond} (hw : w ∈ lw_all) : w.before args U = true :=
  word_at (s := gS E) (U := U) hW (good_of_word (List.mem_filter.mp hw).2) (ok.1 w (lw_all_tbl hw))
theorem gCode.at {E : gE} (ok : gOK E) {U : State} (hW : (gS E).WarmedH U.vm) {I : gI} {np : Nat} (hg : gCode I np) {mk : MethodId} (hn : U.methodNamed? I.1 = some mk) :
    ∃ (meth : Method) (c : Code), U.vm.method? mk = some meth ∧ meth.code = some c ∧ c.code = I.2.1 ∧ c.maxLocals = I.2.2.1 ∧ meth.sig.returnType = I.2.2.2.1 ∧ meth.locks = false ∧ c.exceptionTable.toList = tableOf I.2.2.2.2 ∧ parseMethodDescriptor I.1.desc = some meth.sig := by
  obtain ⟨-, -, -, -, hx⟩ := hg
  rcases hx with ⟨h0, hw⟩ | hw
  · obtain ⟨meth, c, h1, h2, h3, h4, h5, h6, h7, h8⟩ := Cond.code_spec hn (gw0 ok hW (args := #[]) hw)
    refine ⟨meth, c, h1, h2, h3, h4, h5, h6, ?_, h8⟩
    rw [h0]
    have : c.exceptionTable = #[] := by simpa using h7
    rw [this]; rfl
  · obtain ⟨m', meth, c, h0, h1, h2, h3, h4, h5, h6, h7, h8⟩ := Cond.codeWith_spec (gw0 ok hW (args := #[]) hw)
    cases hn.symm.trans h0
    exact ⟨meth, c, h1, h2, h3, h4, h6, h7, by rw [← h5, table_eq], h8⟩
theorem steps_weaken {tb : Tables} {e : Env} {mid below : List Frame} {a b : State} (h : Steps tb e (mid ++ below) a b) : Steps tb e below a b := by
  obtain ⟨n, hn, w⟩ := h
  exact ⟨n, hn, fun k hk => (w k hk).weaken⟩
section Calls
variable {E : gE} {I I' : gI} {d rc rs pc q mc ms np : Nat} {lv : List (Option Value)} {st rest As : List Value} {h : gH} {Q Q1 : Outcome → gH → Prop}
/-- the invoking instruction has linked and picked its method: what is left is the call itself -/
def gInv (E : gE) (I : gI) (pc : Nat) (st rest : List Value) (h : gH) (I' : gI) (As : List Value) : Prop :=
  ∀ (p : Program) (l : Launch) (e : Env) (R : Room) (s : State) (m : MethodId) (args : Array Value) (below : List Frame) (meth : Method) (c : Code) (T : State) (locs : List Loc) (k n : Nat) (ls : Array Slot),
    gCx E I p s m meth c → gRel E h T.heap → ls.size = I.2.2.1 → Stand p l e R s m args below meth c T locs k n →
    ∃ (vm₁ : Vm) (mk : MethodId), Stand p l e R s m args below meth c (T.setVm vm₁) locs k n ∧ s.methodNamed? I'.1 = some mk ∧
      ∀ target, (∀ acts, Steps p.tables e below (doInvoke e ((T.setVm vm₁).setTop (F0 m pc ls rest)) acts mk As.toArray).1 target) → Steps p.tables e below (T.setTop (F0 m pc ls st)) target
/-- an exception flies at pc -/
def FLY (E : gE) (I : gI) (d rc rs pc : Nat) (lv : List (Option Value)) (x : Addr) (h : gH) (Q : Outcome → gH → Prop) : Prop :=
  ∀ (p : Program) (l : gL) (e : Env) (R : Room) (s : State) (m : MethodId) (args : Array Value) (below : List Frame) (meth : Method) (c : Code) (T : State) (locs : List Loc) (k n : Nat) (ls : Array Slot) (st : List Value),
    gCx E I p s m meth c → d ≤ R.frames → 64 * d ≤ R.locals → k + rc ≤ R.cells → n + rs ≤ R.slots → gRel E h T.heap → (∀ q ∈ locs, gZ E ≤ q.base) → gLv ls I.2.2.1 lv → Stand p l.1 e R s m args below meth c T locs k n →
    ∃ t, Steps p.tables e below ((T.setTop (F0 m pc ls st)).pushFrame (.throwing x)) t ∧ gEnd E Q R s below t
theorem g_call (hd : ∃ ig, decode I.2.1 pc = .ok (ig, 3)) (hinv : gInv E I pc st rest h I' As) (hg : gCode I' np) (hf : (lg_sl As).length ≤ I'.2.2.1) (hw : (rest.map fun v => v.category).sum ≤ 20) (hm : I'.2.2.1 ≤ 33) (hq : pc + 3 = q)
    (call : CALL E I' d mc ms As h Q1) (k1 : ∀ v h', Q1 (.returned v) h' → GO E I (d + 1) rc rs q lv (v.toList ++ rest) h' Q) (k2 : ∀ x h', Q1 (.threw x) h' → FLY E I (d + 1) rc rs pc lv x h' Q) : GO E I (d + 1) (rc + mc) (rs + ms) pc lv st h Q := by
  subst hq
  obtain ⟨ig, hd⟩ := hd
  intro p l e R s m args below meth c H locs k n ls hc a1 a2 a3 a4 hR hL hl T hT X
  subst hT
  have hsz : ls.size = I.2.2.1 := hl.1.1
  obtain ⟨vm₁, mk, X₁, hnamed, hstep⟩ := hinv p l e R s m args below meth c T locs k n ls hc hR hsz X
  generalize hT1 : T.setVm vm₁ = T₁ at X₁ hstep
  have hR1 : gRel E h T₁.heap := by rw [← hT1]; exact hR
  have hcW : (gS E).WarmedH s.vm := hc.2.2.2.2.2.2.2.2.1
  have ok : gOK E := hc.2.2.2.2.2.2.2.2.2
  have hW1 : (gS E).WarmedH T₁.vm := State.WarmedH.trans hcW X₁.warmed
  have hn1 : T₁.methodNamed? I'.1 = some mk := X₁.named hnamed
  obtain ⟨methk, ck, b1, b2, b3, b4, b5, b6, b7, b8⟩ := gCode.at ok hW1 hg hn1
  have hpk : T₁.plainMethod mk := State.plainMethod.of_named hg.1 hn1 b1
  have hdg : decode c.code (F0 m pc ls rest).pc = .ok (ig, 3) := by rw [hc.2.1]; exact hd
  have hsize : (F0 m pc ls rest).locals.size = c.maxLocals := hsz.trans hc.2.2.1.symm
  have hmr : (F0 m pc ls rest).monitorRoom = 0 := rfl
  obtain ⟨Y₀, hin⟩ := X₁.into (g := F0 m pc ls rest) rfl hsize hdg As.toArray (R' := { frames := d, cells := mc, slots := ms, locals := 64 * d }) b1 b2 b6 hpk (by show d + 1 ≤ R.frames; exact a1)
    (by rw [hmr, b4]; show 2 * 0 + (rest.map fun v => v.category).sum + (I'.2.2.1 + 11) + 64 * d ≤ R.locals; omega) (by show k + mc ≤ R.cells; omega) (by show n + ms ≤ R.slots; omega)
  generalize hU : (T₁.setTop (F0 m pc ls rest)).pushFrame (.java (entryFrame mk As.toArray ck.maxLocals)) = U at Y₀ hin
  have hUh : U.heap = T₁.heap := by rw [← hU]; rfl
  have hcx' : gCx E I' p (T₁.calling (F0 m pc ls rest) mk As.toArray) mk methk ck :=
    ⟨hc.1, b3, b4, b5, b6, b7, findClass_of_methodNamed hn1, (name_of_methodNamed hn1 b1).1, hW1, ok⟩
  obtain ⟨t, hst, o, h', L, k', n', hq1, hRt, hrun, hend, hWt, hsame, hLt, hk', hn'⟩ := call p l e { frames := d, cells := mc, slots := ms, locals := 64 * d } (T₁.calling (F0 m pc ls rest) mk As.toArray) mk As.toArray (.java (F0 m pc ls rest) :: below) methk ck U.heap [] 0 0 _ hcx' (Nat.le_refl _) (Nat.le_refl _) (by show 0 + mc ≤ mc; omega) (by show 0 + ms ≤ ms; omega) (by rw [hUh]; exact hR1) (fun _ z => by cases z) (gLv_entry hf) U rfl Y₀
  rw [← lg_entry_eq, ← b4] at hst
  have hst' : ∀ acts, Steps p.tables e below (doInvoke e (T₁.setTop (F0 m pc ls rest)) acts mk As.toArray).1 t := by
    intro acts
    rw [hin acts]
    exact steps_weaken (mid := [.java (F0 m pc ls rest)]) hst
  have hLL : ∀ z ∈ locs ++ L, gZ E ≤ z.base := by
    intro z hz
    rcases List.mem_append.mp hz with w | w
    · exact hL z w
    · exact hLt z w
  cases o with
  | returned v =>
    obtain ⟨T', X', hW', hsm, ht⟩ := X₁.outOf (g := F0 m pc ls rest) rfl hdg hend hWt hsame
    have hT'h : t.heap = T'.heap := by rw [ht]; rfl
    obtain ⟨t2, s2, e2⟩ := k1 v h' hq1 p l e R s m args below meth c T'.heap (locs ++ L) (k + k') (n + n') ls hc a1 a2 (by have : k' ≤ mc := hk'; omega) (by have : n' ≤ ms := hn'; omega) (hT'h ▸ hRt) hLL hl T' rfl X'
    refine ⟨t2, hstep t2 (fun acts => (hst' acts).trans ?_), e2⟩
    rw [ht]
    exact s2
  | threw x =>
    obtain ⟨T', X', hW', hsm, ht⟩ := X₁.outOfThrown (g := F0 m pc ls rest) rfl hend hWt hsame
    have hT'h : t.heap = T'.heap := by rw [ht]; exact throwing_heap _ _ _
    obtain ⟨t2, s2, e2⟩ := k2 x h' hq1 p l e R s m args below meth c T' (locs ++ L) (k + k') (n + n') ls rest hc a1 a2 (by have : k' ≤ mc := hk'; omega) (by have : n' ≤ ms := hn'; omega) (hT'h ▸ hRt) hLL hl X'
    refine ⟨t2, hstep t2 (fun acts => (hst' acts).trans ?_), e2⟩
    rw [ht]
    exact s2
/-- no handler stands over pc: the exception leaves the method -/
theorem FLY.out {x : Addr} (hh : (tableOf I.2.2.2.2).all (fun y => !covers y pc) = true) (hq : Q (.threw x) h) : FLY E I d rc rs pc lv x h Q := by
  intro p l e R s m args below meth c T locs k n ls st hc a1 a2 a3 a4 hR hL hl X
  obtain ⟨hs, hrun, hend, hW, hsame⟩ := X.leaveThrown (g := F0 m pc ls st) x rfl rfl rfl (outside_of_table hc.2.2.2.2.2.1 hh) hc.2.2.2.2.1
  exact ⟨_, hs, .threw x, h, locs, k, n, hq, hR, hrun, hend, hW, hsame, hL, by omega, by omega⟩
/-! which method is called -/
theorem gInv.static {idx : Nat} (hd : decode I.2.1 pc = .ok (.invokestatic idx, 3)) (hlink : Cond.methodLink I.1.cls idx I'.1 ∈ lw_all) (hstat : Cond.static I'.1 ∈ lw_all) (hg : gCode I' np) (hn : As.length = np) (hst : st = As.reverse ++ rest) : gInv E I pc st rest h I' As := by
  intro p l e R s m args below meth c T locs k n ls hc hR hsz X
  have hsp := hg.2.1
  obtain ⟨mk, hnamed⟩ : ∃ mk, s.methodNamed? I'.1 = some mk := by
    rcases hg.2.2.2.2 with ⟨-, hw⟩ | hw
    · exact Cond.code_named (gw hc (args := args) hw)
    · obtain ⟨m', _, _, h0, _⟩ := Cond.codeWith_spec (gw hc (args := args) hw)
      exact ⟨m', h0⟩
  obtain ⟨methM, cM, hmethM, -, -, -, -, -, -, hsigM⟩ := gCode.at hc.2.2.2.2.2.2.2.2.2 hc.2.2.2.2.2.2.2.2.1 hg hnamed
  have hstatic : methM.isStatic = true := Cond.static_spec hnamed hmethM (gw hc (args := args) hstat)
  obtain ⟨kP, hkP, -⟩ := className_of_methodNamed hnamed
  have hinitP : kP.init = .initialized := Cond.initialized_spec (findClass_of_methodNamed hnamed) hkP (gw hc (args := args) hg.2.2.2.1)
  have hlen : As.length = methM.sig.parameters.length := by
    rw [hsigM] at hsp
    simpa [hn] using hsp.symm
  obtain ⟨vm₁, X₁, hstep₁⟩ := X.invokestatic hc.1 hc.2.2.2.2.2.2.1 (gw hc hlink) hnamed hmethM hstatic hkP hinitP hg.2.2.1 (g := F0 m pc ls st) rfl (argsL := As) (rest := rest) hlen hst (by rw [hc.2.1]; exact hd)
  exact ⟨vm₁, mk, X₁, hnamed, hstep₁⟩
theorem gInv.virtual {idx b ci : Nat} {r : vw_C} {fs As : List Value} (hd : decode I.2.1 pc = .ok (.invokevirtual idx, 3)) (hlink : Cond.methodLink I.1.cls idx I'.1 ∈ lw_all) (hinst : Cond.instanceMethod I'.1 ∈ lw_all) (hcl : vwCl[ci]? = some r) (hsel : Cond.selects r.1 I'.1 I'.1 ∈ lw_all) (hg : gCode I' np) (hb : h.1 b = some (oB ci fs)) (hn : As.length = np) (hst : st = As.reverse ++ .ref b :: rest) : gInv E I pc st rest h I' (.ref b :: As) := by
  intro p l e R s m args below meth c T locs k n ls hc hR hsz X
  have hsp := hg.2.1
  obtain ⟨mk, methM, hnamed, hmethM, hstM, habM⟩ := Cond.instanceMethod_spec (gw hc (args := args) hinst)
  obtain ⟨methM', cM, hmethM', -, -, -, -, -, -, hsigM⟩ := gCode.at hc.2.2.2.2.2.2.2.2.2 hc.2.2.2.2.2.2.2.2.1 hg hnamed
  cases hmethM.symm.trans hmethM'
  obtain ⟨cellB, hcell, hobj, hcls⟩ := va_recv (gK hc) (hR.P hb) hcl (q0 := 0) rfl
  obtain ⟨c2, r2, m2, q1, q2, q3, q4, kP, hkP, hkPi⟩ := Cond.selects_spec (gw hc (args := args) hsel)
  cases hcls.symm.trans q1
  cases (State.methodFound?_of_named hnamed hg.2.2.1).symm.trans q2
  cases hnamed.symm.trans q3
  have hselP : selectMethod e.platform s.vm cellB.cls mk = .method mk := by rw [Launch.admits_selectMethod X.admits]; exact q4
  have hlen : As.length = methM.sig.parameters.length := by
    rw [hsigM] at hsp
    simpa [hn] using hsp.symm
  obtain ⟨vm₁, X₁, hstep₁⟩ := X.invokevirtual hc.1 hc.2.2.2.2.2.2.1 (gw hc hlink) hnamed hmethM hstM hkP hkPi hg.2.2.1 (a := b) (cell := cellB) hcell
    (fun z w => by rw [w] at hobj; cases hobj) hselP hmethM habM hkP hkPi (g := F0 m pc ls st) rfl (argsL := As) (rest := rest) hlen hst (by rw [hc.2.1]; exact hd)
  exact ⟨vm₁, mk, X₁, hnamed, hstep₁⟩
theorem gInv.init {idx b : Nat} {As : List Value} (hd : decode I.2.1 pc = .ok (.invokespecial idx, 3)) (hlink : Cond.methodLink I.1.cls idx I'.1 ∈ lw_all) (hinst : Cond.instanceMethod I'.1 ∈ lw_all) (hy1 : I'.1.name = "<init>") (hcode : Cond.code I'.1 I'.2.1 I'.2.2.1 none ∈ lw_all) (hg : gCode I' np) (hn : As.length = np) (hst : st = As.reverse ++ .ref b :: rest) : gInv E I pc st rest h I' (.ref b :: As) := by
  intro p l e R s m args below meth c T locs k n ls hc hR hsz X
  have hsp := hg.2.1
  have hpl : e.platform.magicAccessors = ({} : Platform).magicAccessors := by rw [X.admits.platform]
  obtain ⟨mk, methM, cM, kP, vm₁, hnamed, hmethM, hcodeM, -, hlocalsM, -, hkP, -, hW₁, hstep₁⟩ := Steps.initColdArgs (e := e) X.here hc.1 X.warmed hpl hc.2.2.2.2.2.2.1 hy1 hg.2.2.1 (gw hc (args := args) hlink) (gw hc (args := args) hinst) (gw hc (args := args) hcode) (f := F0 m pc ls st) rfl (argsL := As) (rest := rest) (a := b)
    (fun sig hs => by rw [hs] at hsp; simpa [hn] using hsp.symm) hst (by rw [hc.2.1]; exact hd)
  exact ⟨vm₁, mk, X.noted hW₁, hnamed, hstep₁⟩
end Calls
