/-! MY LOGIC, part 24: an exception is made over any frames (a native's) -/
set_option maxRecDepth 100000
section
variable {e : Env} {below base mid : List Frame} {s₀ W : State}
/-- the constructor of an exception runs over the note that throws it -/
theorem ovr_ctor (p : Program) (hb : base = mid ++ below) (hrun : W.status = .running) (hrb : W.curStatus? = some .runnable) (hal : W.alone = true) (hcur : W.cur < W.threads.size) (hexec : p.tables.exec = Jvm.exec) (P1 : PassC) (L1 : P1.LinksS e.platform s₀) (hW : s₀.WarmedH W.vm) (a str : Addr) (cF : Cell)
    (hroom : e.platform.stackFull (((W.setFrames (.thenThrow a :: base)).threads[(W.setFrames (.thenThrow a :: base)).cur]?).getD { frames := [] }) (W.setFrames (.thenThrow a :: base)).frames 2 = false)
    (hsup : ∀ vm1, s₀.WarmedH vm1 → At (((W.setFrames (.thenThrow a :: base)).pushFrame (.java (passJ P1.m a (.ref str) 0 []))).setVm vm1) P1.m P1.code below →
      (((W.setFrames (.thenThrow a :: base)).pushFrame (.java (passJ P1.m a (.ref str) 0 []))).setVm vm1).frames = .java (passJ P1.m a (.ref str) 0 []) :: .thenThrow a :: base →
      ∃ vm2, s₀.WarmedH vm2 ∧ ∀ t' : State, Steps p.tables e below (((((W.setFrames (.thenThrow a :: base)).pushFrame (.java (passJ P1.m a (.ref str) 0 []))).setVm vm2).setCell a cF).setTop (passJ P1.m a (.ref str) 5 [])) t' →
        Steps p.tables e below (doInvoke e ((((W.setFrames (.thenThrow a :: base)).pushFrame (.java (passJ P1.m a (.ref str) 0 []))).setVm vm1).setTop (passJ P1.m a (.ref str) 2 [])) [] P1.sup #[.ref a, .ref str]).1 t') :
    ∃ vm', s₀.WarmedH vm' ∧ ∀ target, Steps p.tables e below (((W.setVm vm').setCell a cF).setFrames (.throwing a :: base)) target →
      Steps p.tables e below (doInvoke e (W.setFrames (.thenThrow a :: base)) [] P1.m #[.ref a, .ref str]).1 target := by
  have hmW := hW.methodAt L1.method
  have hfN : (W.setFrames (.thenThrow a :: base)).frames = .thenThrow a :: base := State.frames_setFrames _ hcur
  have hcurN : (W.setFrames (.thenThrow a :: base)).cur < (W.setFrames (.thenThrow a :: base)).threads.size := State.cur_lt_of_frames hfN
  have hgoN : (W.setFrames (.thenThrow a :: base)).goesOn := ⟨hrun, by simpa using hrb, by simpa using hal⟩
  have hI : At ((W.setFrames (.thenThrow a :: base)).pushFrame (.java (passJ P1.m a (.ref str) 0 []))) P1.m P1.code below :=
    At.pushOn _ hgoN hcurN ⟨.thenThrow a :: mid, by rw [hfN, hb]; rfl⟩ hmW L1.code (hW.plainAt L1.plain)
  have hfI : ((W.setFrames (.thenThrow a :: base)).pushFrame (.java (passJ P1.m a (.ref str) 0 []))).frames = .java (passJ P1.m a (.ref str) 0 []) :: .thenThrow a :: base := by
    rw [show ((W.setFrames (.thenThrow a :: base)).pushFrame (.java (passJ P1.m a (.ref str) 0 []))).frames = .java (passJ P1.m a (.ref str) 0 []) :: (W.setFrames (.thenThrow a :: base)).frames from State.frames_setFrames _ hcurN, hfN]
  have hFW : ∀ vm2 F, ((((W.setFrames (.thenThrow a :: base)).pushFrame (.java (passJ P1.m a (.ref str) 0 []))).setVm vm2).setCell a cF).setFrames F = ((W.setVm vm2).setCell a cF).setFrames F := by
    intro vm2 F
    have hH : HeapOnly (fun u : State => u.setCell a cF) := heapOnly_id.thenSetCell a cF
    have e1 : ((W.setFrames (.thenThrow a :: base)).pushFrame (.java (passJ P1.m a (.ref str) 0 []))).setVm vm2 = ((W.setVm vm2).setFrames (.thenThrow a :: base)).setFrames (.java (passJ P1.m a (.ref str) 0 []) :: (W.setFrames (.thenThrow a :: base)).frames) := rfl
    rw [e1, hH.setFrames, hH.setFrames, State.setFrames_setFrames, State.setFrames_setFrames]
  obtain ⟨vm1, hW1, st1⟩ := Steps.invokeInitCold (tb := p.tables) (s₀ := s₀) (U := ((W.setFrames (.thenThrow a :: base)).pushFrame (.java (passJ P1.m a (.ref str) 0 [])))) (f := passJ P1.m a (.ref str) 2 [.ref str, .ref a]) (args := [.ref str]) (rest := []) (a := a) hI hexec L1.at2 hW L1.links L1.right L1.notHandle L1.cls L1.file L1.pool
    L1.supClass L1.supMethod L1.supName L1.supStatic L1.supAbstract L1.supFound L1.supParams.symm rfl
  obtain ⟨vm2, hW2, st2⟩ := hsup vm1 hW1 (hI.setVm (hW.alike.symm.trans hW1.alike)) hfI
  refine ⟨vm2, hW2, fun target hrest => ?_⟩
  rw [(doInvoke_java (s := (W.setFrames (.thenThrow a :: base))) (e := e) (acts := []) (args := #[.ref a, .ref str]) (meth := P1.meth) (code := P1.code) hmW L1.code L1.locks (by rw [L1.locals]; exact hroom)).1, L1.locals]
  show Steps p.tables e below ((W.setFrames (.thenThrow a :: base)).pushFrame (.java (passJ P1.m a (.ref str) 0 []))) target
  rw [← State.setTop_self (s := ((W.setFrames (.thenThrow a :: base)).pushFrame (.java (passJ P1.m a (.ref str) 0 [])))) (State.topJava?_of_frames hfI)]
  jvm_step hI [hexec, L1.at0, Value.isRef]
  jvm_step hI [hexec, L1.at1, Value.isRef]
  refine st1 target (st2 target ?_)
  have hI2 : At (((W.setFrames (.thenThrow a :: base)).pushFrame (.java (passJ P1.m a (.ref str) 0 []))).setVm vm2) P1.m P1.code below := hI.setVm (hW.alike.symm.trans hW2.alike)
  have hB : At ((((W.setFrames (.thenThrow a :: base)).pushFrame (.java (passJ P1.m a (.ref str) 0 []))).setVm vm2).setCell a cF) P1.m P1.code below := (heapOnly_id.thenSetCell a cF).at_ hI2
  have hF := hFW vm2
  have hfH : ((((W.setFrames (.thenThrow a :: base)).pushFrame (.java (passJ P1.m a (.ref str) 0 []))).setVm vm2).setCell a cF).frames = .java (passJ P1.m a (.ref str) 0 []) :: .thenThrow a :: base := hfI
  have hm2 : ((((W.setFrames (.thenThrow a :: base)).pushFrame (.java (passJ P1.m a (.ref str) 0 []))).setVm vm2).setCell a cF).vm.method? P1.m = some P1.meth := hW2.methodAt L1.method
  generalize ((((W.setFrames (.thenThrow a :: base)).pushFrame (.java (passJ P1.m a (.ref str) 0 []))).setVm vm2).setCell a cF) = Y at hB hF hfH hm2 ⊢
  jvm_step hB [hexec, L1.at5, return_.wp_sem]
  intro acts2
  rw [ret_to (t := Y) (f := passJ P1.m a (.ref str) 5 []) (f₀ := passJ P1.m a (.ref str) 0 []) (below := .thenThrow a :: base) (fs := .thenThrow a :: base) (meth := P1.meth) hfH hm2 L1.locks rfl rfl rfl acts2]
  have hf1 : (Y.setFrames (.thenThrow a :: base)).frames = .thenThrow a :: base := State.frames_setFrames _ (State.cur_lt_of_frames hfH)
  refine Steps.head ⟨hB.running, by simpa using hB.runnable, by simpa using hB.alone⟩ ⟨.thenThrow a :: mid, by rw [hf1, hb]; rfl, by simp, by simp⟩ ?_
  rw [stepThread_thenThrow hf1]
  show Steps p.tables e below ((Y.setFrames (.thenThrow a :: base)).setFrames (.throwing a :: base)) target
  rw [State.setFrames_setFrames, hF]
  exact hrest
end
section
variable {e : Env} {below base mid : List Frame} {s₀ S : State}
theorem ovr_msg (p : Program) (hb : base = mid ++ below) (hrun : S.status = .running) (hrb : S.curStatus? = some .runnable) (hal : S.alone = true) (hcur : S.cur < S.threads.size) (hexec : p.tables.exec = Jvm.exec)
    (T : ThrowableC) (L : T.Links e.platform s₀) (Z : Init0T) (LZ : Z.LaidS T.toThrowableT) (M : MsgC) (LM : M.Links T e.platform s₀) (hvm : s₀.vm = S.vm) (hfs : S.fitsSlot = s₀.fitsSlot) (Zs : StringT) (LZs : Zs.Laid s₀.vm)
    (P1 : PassC) (L1 : P1.LinksS e.platform s₀) (Ps : List PassC) (hL : ∀ P, P ∈ Ps → P.LinksS e.platform s₀) (hlink1 : P1.sup = firstOf (Z.m T.toThrowableT) (Ps.map (·.toPassT))) (hlink : PassesOn (Z.m T.toThrowableT) (Ps.map (·.toPassT)))
    {cls m : String} {kX : Class} (hsoe : (cls == "java/lang/StackOverflowError") = false) (hoom : (cls == "java/lang/OutOfMemoryError") = false)
    (hfound : s₀.vm.findClass cls = some P1.m.cls) (hk : s₀.vm.classes[P1.m.cls]? = some kX) (hinit : kX.init = .initialized) (hord : kX.kind = .ordinary)
    (hctor : kX.findMethod "<init>" "(Ljava/lang/String;)V" = some P1.m.idx) (hhot : e.platform.hotImplicitExceptions = false)
    (hbeyond : e.platform.stackBeyond ((((S.setFrames (.throwNew cls (some m) none :: base)).threads[S.cur]?).map (·.stackBytes)).getD 0) (S.setFrames (.throwNew cls (some m) none :: base)).frames = false)
    (hfreeW : e.platform.vmThrowRoom ≤ e.platform.stackFree ((((S.setFrames (.throwNew cls (some m) none :: base)).threads[S.cur]?).map (·.stackBytes)).getD 0) (S.setFrames (.throwNew cls (some m) none :: base)).frames)
    (hm : (m == notModelled) = false)
    (hlimit : ¬ (stringBytes (stringToUtf16 m)).size > e.platform.arrayLengthLimit) (hheap : ¬ (stringBytes (stringToUtf16 m)).size * componentBytes .byte > e.platform.maxHeapBytes)
    (hcells : S.heap.size + 3 ≤ e.platform.maxCells) (hslots : S.slotsUsed + (stringBytes (stringToUtf16 m)).size + Zs.kS.instanceTypes.size + kX.instanceTypes.size ≤ e.platform.maxSlots)
    (hfitv : s₀.fitsSlot Zs.cS .none Zs.fv.slot (.ref S.heap.size) = true) (hfitc : s₀.fitsSlot Zs.cS .none Zs.fc.slot (.int (stringCoder (stringToUtf16 m))) = true)
    {u0 sen : RefV} {cellS : Cell} (hsel0 : selectMethod e.platform s₀.vm P1.m.cls T.fill0 = .method T.fill0)
    (hcellS : S.heap[T.aS]? = some cellS) (hknownS : cellS.vm ≠ .unknown) (hvU : cellS.slots[T.fUnassigned.slot]? = some u0.v)
    (htS : Takes s₀ (freshCell P1.m.cls kX) T.fStack u0.v)
    (hskip : SkipFacts T e.platform s₀ (fun u => u) u0 ((preparedCellV T.toThrowableT (freshCell P1.m.cls kX) (S.heap.size + 2) u0 sen).withEntry S.cur))
    (hnat : u0.v ≠ .null → ∀ u : State, At u T.fill T.codeFill below → s₀.WarmedH u.vm → u.heap[(S.heap.size + 2)]? = some ((preparedCellV T.toThrowableT (freshCell P1.m.cls kX) (S.heap.size + 2) u0 sen).withEntry S.cur) →
      e.platform.stackFull (((u.setTop (fillJ T.fill (S.heap.size + 2) 16 [])).threads[(u.setTop (fillJ T.fill (S.heap.size + 2) 16 [])).cur]?).getD { frames := [] }) (u.setTop (fillJ T.fill (S.heap.size + 2) 16 [])).frames (nativeFrameWords "java/lang/Throwable" "fillInStackTrace" 2) = false → ∀ t' : State,
      Steps p.tables e below (u.setTop (fillJ T.fill (S.heap.size + 2) 19 [.ref (S.heap.size + 2)])) t' →
      Steps p.tables e below (doInvoke e (u.setTop (fillJ T.fill (S.heap.size + 2) 16 [])) [] T.fill0 #[.ref (S.heap.size + 2), .int 0]).1 t')
    (hselF : selectMethod e.platform s₀.vm P1.m.cls T.fill = .method T.fill) (hvSen : cellS.slots[T.fSentinel.slot]? = some sen.v)
    (htC : Takes s₀ (freshCell P1.m.cls kX) T.fCause (.ref (S.heap.size + 2))) (htP : Takes s₀ (freshCell P1.m.cls kX) T.fSupp sen.v) (htM : Takes s₀ (freshCell P1.m.cls kX) T.fMsg (.ref (S.heap.size + 1))) (hobjLocals : T.codeObj.maxLocals = 1)
    {lim : Nat × Nat} (hlim : e.platform.stackLimits S.me = lim) (hframes : base.length + Ps.length + 4 < lim.1) (hwords : (stackUse base).2 + 13 * Ps.length + 55 ≤ lim.2) :
    ∃ vm', s₀.WarmedH vm' ∧ ∀ target, Steps p.tables e below ((((withThrown S Zs m P1.m.cls kX).setVm vm').setCell (S.heap.size + 2) ((((preparedCellV T.toThrowableT (freshCell P1.m.cls kX) (S.heap.size + 2) u0 sen).withEntry S.cur).setSlot T.fStack.slot u0.v).left.setSlot T.fMsg.slot (.ref (S.heap.size + 1)))).setFrames (.throwing (S.heap.size + 2) :: base)) target →
      Steps p.tables e below (S.setFrames (.throwNew cls (some m) none :: base)) target := by
  obtain ⟨w1, w2, -, w4, w5, -, w7⟩ := withThrown_facts e.platform S Zs m P1.m.cls kX
  have hW : s₀.WarmedH (withThrown S Zs m P1.m.cls kX).vm := by rw [w1, ← hvm]; exact State.WarmedH.refl s₀
  have hltS : T.aS < S.heap.size := (Array.getElem?_eq_some_iff.mp hcellS).1
  have hWrun : (withThrown S Zs m P1.m.cls kX).status = .running := hrun
  have hWrb : (withThrown S Zs m P1.m.cls kX).curStatus? = some .runnable := by simpa [withThrown, withString] using hrb
  have hWal : (withThrown S Zs m P1.m.cls kX).alone = true := by simpa [withThrown, withString] using hal
  have hWcur : (withThrown S Zs m P1.m.cls kX).cur < (withThrown S Zs m P1.m.cls kX).threads.size := hcur
  have hWc : (withThrown S Zs m P1.m.cls kX).cur = S.cur := by simp [withThrown, withString]
  have hfN : ((withThrown S Zs m P1.m.cls kX).setFrames (.thenThrow (S.heap.size + 2) :: base)).frames = .thenThrow (S.heap.size + 2) :: base := State.frames_setFrames _ hWcur
  have hlimN : e.platform.stackLimits ((withThrown S Zs m P1.m.cls kX).setFrames (.thenThrow (S.heap.size + 2) :: base)).me = lim := by rw [State.stackLimits_setFrames, w7]; exact hlim
  have hroom := roomAbove (pl := e.platform) (u := (withThrown S Zs m P1.m.cls kX).setFrames (.thenThrow (S.heap.size + 2) :: base)) (vars := 2) (pushed := [.thenThrow (S.heap.size + 2)]) (base := base) (free := 13 * Ps.length + 55) (lim := lim) hfN hlimN
    (by simp only [List.length_cons, List.length_nil]; omega) (by omega) (by rw [stackUse_light _ _ (fun f hf => by cases hf) rfl, stackUse_nil]; show 0 + 2 + 11 ≤ _; omega)
  obtain ⟨vm', hW', st⟩ := ovr_ctor p hb hWrun hWrb hWal hWcur hexec P1 L1 hW (S.heap.size + 2) (S.heap.size + 1) ((((preparedCellV T.toThrowableT (freshCell P1.m.cls kX) (S.heap.size + 2) u0 sen).withEntry S.cur).setSlot T.fStack.slot u0.v).left.setSlot T.fMsg.slot (.ref (S.heap.size + 1))) hroom (fun vm1 hW1 hI1 hXfr => by
    rw [hlink1]
    have hXc : ((((withThrown S Zs m P1.m.cls kX).setFrames (.thenThrow (S.heap.size + 2) :: base)).pushFrame (.java (passJ P1.m (S.heap.size + 2) (.ref (S.heap.size + 1)) 0 []))).setVm vm1).heap[S.heap.size + 2]? = some (freshCell P1.m.cls kX) := w4
    have hXS : ((((withThrown S Zs m P1.m.cls kX).setFrames (.thenThrow (S.heap.size + 2) :: base)).pushFrame (.java (passJ P1.m (S.heap.size + 2) (.ref (S.heap.size + 1)) 0 []))).setVm vm1).heap[T.aS]? = some cellS := (w5 _ hltS).trans hcellS
    have hXcur : ((((withThrown S Zs m P1.m.cls kX).setFrames (.thenThrow (S.heap.size + 2) :: base)).pushFrame (.java (passJ P1.m (S.heap.size + 2) (.ref (S.heap.size + 1)) 0 []))).setVm vm1).cur = S.cur := hWc
    have hXlim : e.platform.stackLimits ((((withThrown S Zs m P1.m.cls kX).setFrames (.thenThrow (S.heap.size + 2) :: base)).pushFrame (.java (passJ P1.m (S.heap.size + 2) (.ref (S.heap.size + 1)) 0 []))).setVm vm1).me = lim := by
      show e.platform.stackLimits (((withThrown S Zs m P1.m.cls kX).setFrames (.thenThrow (S.heap.size + 2) :: base)).pushFrame (.java (passJ P1.m (S.heap.size + 2) (.ref (S.heap.size + 1)) 0 []))).me = lim
      rw [State.stackLimits_pushFrame, State.stackLimits_setFrames, w7]; exact hlim
    have hXtw : ∀ vm2, ((((withThrown S Zs m P1.m.cls kX).setFrames (.thenThrow (S.heap.size + 2) :: base)).pushFrame (.java (passJ P1.m (S.heap.size + 2) (.ref (S.heap.size + 1)) 0 []))).setVm vm2) = ((((withThrown S Zs m P1.m.cls kX).setFrames (.thenThrow (S.heap.size + 2) :: base)).pushFrame (.java (passJ P1.m (S.heap.size + 2) (.ref (S.heap.size + 1)) 0 []))).setVm vm1).setVm vm2 := fun vm2 => by rw [State.setVm_twice]
    obtain ⟨vm2, hW2, st2⟩ := Steps.initThrowableSColdByV p (V := (((withThrown S Zs m P1.m.cls kX).setFrames (.thenThrow (S.heap.size + 2) :: base)).pushFrame (.java (passJ P1.m (S.heap.size + 2) (.ref (S.heap.size + 1)) 0 []))).setVm vm1) (g := passJ P1.m (S.heap.size + 2) (.ref (S.heap.size + 1)) 2 []) (c := P1.code) (self := S.heap.size + 2) hI1 hexec T L Z LZ M LM hW1 (t := S.cur) hXcur heapOnly_id (fun _ _ => rfl) (fun _ => rfl) (fun u x y => setCell_twice _ _ _ _) (fun _ => Nat.le_refl _) (msg := .ref (S.heap.size + 1)) rfl hXc
      (by intro k hk'; cases hk') (by intro hk'; cases hk') rfl hsel0 hXS (Nat.ne_of_lt (Nat.lt_of_lt_of_le hltS (Nat.le_add_right _ 2))) hknownS hvU htS
      (cN := (preparedCellV T.toThrowableT (freshCell P1.m.cls kX) (S.heap.size + 2) u0 sen).withEntry S.cur) (fun _ hu => hu) (fun _ hu => hu) rfl rfl rfl (by simp [preparedCellV, Cell.setSlot, Cell.withEntry]) hskip hnat hselF hvSen htC htP htM hobjLocals Ps hL hlink (ig := .invokespecial P1.index) (len := 3) [] hXlim
      (by rw [hXfr]; simp only [List.length_cons]; omega)
      (by
        rw [hXfr, List.tail_cons, stackUse_java, stackUse_light _ _ (fun f hf => by cases hf) rfl]
        show (stackUse base).2 + (2 + 11 + 2 * 0 + operandWords []) + 13 * Ps.length + 42 ≤ lim.2
        simp only [operandWords, List.foldl_nil]
        omega)
      L1.at2
    exact ⟨vm2, hW2, fun t' h' => st2 t' (by rw [← hXtw]; exact h')⟩)
  refine ⟨vm', hW', fun target hrest => ?_⟩
  have hv1 : S.fitsSlot Zs.cS .none Zs.fv.slot (.ref S.heap.size) = true := by rw [hfs]; exact hfitv
  have hv2 : S.fitsSlot Zs.cS .none Zs.fc.slot (.int (stringCoder (stringToUtf16 m))) = true := by rw [hfs]; exact hfitc
  have hf0 : (S.setFrames (.throwNew cls (some m) none :: base)).frames = .throwNew cls (some m) none :: base := State.frames_setFrames _ hcur
  refine Steps.head ⟨hrun, by simpa using hrb, by simpa using hal⟩ ⟨.throwNew cls (some m) none :: mid, by rw [hf0, hb]; rfl, by simp, by simp⟩ ?_
  rw [stepThread_throwNew hf0, stepThrowNew_message (s := S.setFrames (.throwNew cls (some m) none :: base)) (c := P1.m.cls) (k := kX) (i := P1.m.idx) Zs (by show Zs.Laid S.vm; rw [← hvm]; exact LZs) hsoe hoom (by show S.vm.findClass cls = _; rw [← hvm]; exact hfound) (by show S.vm.classes[P1.m.cls]? = _; rw [← hvm]; exact hk) hinit hord hhot hbeyond hfreeW hm hctor hlimit hheap hcells hslots hv1 hv2]
  have hN : (withThrown (S.setFrames (.throwNew cls (some m) none :: base)) Zs m P1.m.cls kX).setFrames (.thenThrow ((S.setFrames (.throwNew cls (some m) none :: base)).heap.size + 2) :: base) = (withThrown S Zs m P1.m.cls kX).setFrames (.thenThrow (S.heap.size + 2) :: base) := by
    rw [withThrown_setFrames, State.setFrames_setFrames]
    rfl
  rw [hN]
  exact st target hrest
end
