/-! MY LOGIC, part 26: System.arraycopy out of bounds -/
set_option maxRecDepth 100000
theorem int_print {z : Int} (h0 : 0 ≤ z) (h1 : z < 10000000000) : (toString z).toList.length ≤ 10 := by
  obtain ⟨m, rfl⟩ := Int.eq_ofNat_of_zero_le h0
  show (toString m).toList.length ≤ 10
  exact nat_print (by omega)
theorem kind_len (ty : FieldType) : (Native.java_lang_System.arraycopy.kindName ty).toList.length ≤ 12 := by
  cases ty <;> first | exact Nat.le_of_ble_eq_true rfl | (show "object array".toList.length ≤ 12; decide)
/-- what the machine says begins with the method's name -/
theorem copy_text (what : String) : (("arraycopy: " ++ what) == notModelled) = false := by
  rw [beq_eq_false_iff_ne]
  intro h
  have h2 := congrArg String.toList h
  have h3 : ("arraycopy: " ++ what).toList = 'a' :: ("rraycopy: ".toList ++ what.toList) := by
    rw [String.toList_append]
    rfl
  rw [h3] at h2
  have h4 : notModelled.toList = '\u0000' :: " a message that is not modelled".toList := by decide
  rw [h4] at h2
  simp at h2
section
variable {Q : Option Value → Pre} {E : CtlPost} {e : Env} {d : Bool} {acts : List Action} {s : State}
theorem copy_out {src dst : Addr} {srcPos destPos len : Int32} {cs cd : Cell} {ks kd : Class} {sComp dComp : ClassId} {ty : FieldType}
    (hs : s.heap[src]? = some cs) (hd : s.heap[dst]? = some cd) (hsobj : ∀ k, cs.vm ≠ .statics k) (hdobj : ∀ k, cd.vm ≠ .statics k)
    (hks : s.vm.classes[cs.cls]? = some ks) (hkd : s.vm.classes[cd.cls]? = some kd) (hsk : ks.kind = .array sComp ty) (hdk : kd.kind = .array dComp ty) (hty : refKind ty = false) (hz0 : cs.slots.size < 1000) (hz1 : cd.slots.size < 1000)
    (hout : srcPos < 0 ∨ destPos < 0 ∨ len < 0 ∨ srcPos.toInt + len.toInt > cs.slots.size ∨ destPos.toInt + len.toInt > cd.slots.size)
    (hE : ∀ what : String, what.toList.length ≤ 200 → E (.throwNew "java/lang/ArrayIndexOutOfBoundsException" (some ("arraycopy: " ++ what))) acts s) :
    wp (Native.java_lang_System.arraycopy.sem #[.ref src, .int srcPos, .ref dst, .int destPos, .int len]) Q E e d acts s := by
  have hts : ∀ x : String, toString x = x := fun _ => rfl
  have a1 : "source index ".toList.length ≤ 20 := Nat.le_of_ble_eq_true rfl
  have a2 : " out of bounds for ".toList.length ≤ 20 := Nat.le_of_ble_eq_true rfl
  have a3 : "[".toList.length ≤ 20 := Nat.le_of_ble_eq_true rfl
  have a4 : "]".toList.length ≤ 20 := Nat.le_of_ble_eq_true rfl
  have a5 : "destination index ".toList.length ≤ 20 := Nat.le_of_ble_eq_true rfl
  have a6 : "length ".toList.length ≤ 20 := Nat.le_of_ble_eq_true rfl
  have a7 : " is negative".toList.length ≤ 20 := Nat.le_of_ble_eq_true rfl
  have a8 : "last source index ".toList.length ≤ 20 := Nat.le_of_ble_eq_true rfl
  have a9 : "last destination index ".toList.length ≤ 25 := Nat.le_of_ble_eq_true rfl
  have b1 := int32_print srcPos
  have b2 := int32_print destPos
  have b3 := int32_print len
  have b4 := kind_len ty
  have b5 := nat_print (n := cs.slots.size) (by omega)
  have b6 := nat_print (n := cd.slots.size) (by omega)
  have t1 := Int32.toInt_lt srcPos
  have t2 := Int32.toInt_lt destPos
  have t3 := Int32.toInt_lt len
  rw [Native.java_lang_System.arraycopy.sem_refs]
  unfold Native.java_lang_System.arraycopy.behind
  simp only [wp_bind', W.classOf, W.theClass, hs, hd, hks, hkd, Option.some.injEq, exists_eq_left', hsk, hdk]
  refine ⟨hsobj, hdobj, ?_⟩
  have hty2 : ((refKind ty != refKind ty) || (!refKind ty && ty != ty)) = false := by rw [hty]; simp
  unfold refKind at hty2
  simp only [hty2, Bool.false_eq_true, if_false]
  simp only [wp_bind', W.sizeOf, hs, hd, Option.some.injEq, exists_eq_left']
  by_cases c1 : srcPos < 0
  · simp only [c1, if_true, wp_bind', W.mark, W.throwNew]
    exact hE _ (by simp only [hts, String.toList_append, List.length_append]; omega)
  by_cases c2 : destPos < 0
  · simp only [c1, c2, if_true, if_false, wp_bind', W.mark, W.throwNew]
    exact hE _ (by simp only [hts, String.toList_append, List.length_append]; omega)
  by_cases c3 : len < 0
  · simp only [c1, c2, c3, if_true, if_false, wp_bind', W.mark, W.throwNew]
    exact hE _ (by simp only [hts, String.toList_append, List.length_append]; omega)
  have n1 := toNatClampNeg_of_not_neg32 srcPos c1
  have n2 := toNatClampNeg_of_not_neg32 destPos c2
  have n3 := toNatClampNeg_of_not_neg32 len c3
  by_cases c4 : srcPos.toInt + len.toInt > cs.slots.size
  · have b7 := int_print (z := srcPos.toInt + len.toInt) (by omega) (by omega)
    simp only [c1, c2, c3, c4, if_true, if_false, wp_bind', W.mark, W.throwNew]
    exact hE _ (by simp only [hts, String.toList_append, List.length_append]; omega)
  by_cases c5 : destPos.toInt + len.toInt > cd.slots.size
  · have b7 := int_print (z := destPos.toInt + len.toInt) (by omega) (by omega)
    simp only [c1, c2, c3, c4, c5, if_true, if_false, wp_bind', W.mark, W.throwNew]
    exact hE _ (by simp only [hts, String.toList_append, List.length_append]; omega)
  rcases hout with q | q | q | q | q
  · exact absurd q c1
  · exact absurd q c2
  · exact absurd q c3
  · exact absurd q c4
  · exact absurd q c5
end
/-- a native that ends by raising -/
theorem nat_throws {tb : Tables} {e : Env} {below : List Frame} {s target : State} {g : JFrame} {c : Code} (h : At s g.method c below)
    {m : MethodId} {meth : Method} {k : Class} {row : NativeRow} {args : Array Value} (acts : List Action) {cls text : String} {acts1 : List Action}
    (hk : s.vm.classes[m.cls]? = some k) (hx : k.methods[m.idx]? = some meth) (hboot : k.loader = none)
    (hnat : meth.isNative = true) (hc : meth.code = none) (hl : meth.locks = false)
    (hrow : NativeRow.find? tb.natives k.name meth.name meth.desc = some row)
    (hroom : e.platform.stackFull (((s.setTop g).threads[(s.setTop g).cur]?).getD { frames := [] }) (s.setTop g).frames (nativeFrameWords k.name meth.name (operandWords args.toList)) = false)
    (hr : (row.sem (seenByNative meth args)).run e ((s.setTop g).pushFrame (.native { method := m, args := seenByNative meth args, locked := none })) = .ctl (.throwNew cls (some text)) ((s.setTop g).pushFrame (.native { method := m, args := seenByNative meth args, locked := none })) acts1)
    (hrest : Steps tb e below (((s.setTop g).pushFrame (.native { method := m, args := seenByNative meth args, locked := none })).pushFrame (.throwNew cls (some text) none)) target) : Steps tb e below (doInvoke e (s.setTop g) acts m args).1 target := by
  have hm : (s.setTop g).vm.method? m = some meth := by
    show s.vm.method? m = some meth
    simp [Vm.method?, hk, hx]
  have hroom' : e.platform.stackFull (((s.setTop g).threads[(s.setTop g).cur]?).getD { frames := [] }) (s.setTop g).frames
      (nativeFrameWords ((((s.setTop g).vm.classes[m.cls]?).map (·.name)).getD "") meth.name (operandWords args.toList)) = false := by
    have q : (((s.setTop g).vm.classes[m.cls]?).map (·.name)).getD "" = k.name := by
      show ((s.vm.classes[m.cls]?).map (·.name)).getD "" = k.name
      simp [hk]
    rw [q]; exact hroom
  rw [(Fast.doInvoke_native (s := s.setTop g) (e := e) (acts := acts) (args := args) hm hnat hc hl hroom').1]
  have hfe := frames_entered (g := g) h.top (.native { method := m, args := seenByNative meth args, locked := none })
  obtain ⟨mid, hmid⟩ := h.above
  refine Steps.head ⟨h.running, by simpa using h.runnable, by simpa using h.alone⟩
    ⟨.native { method := m, args := seenByNative meth args, locked := none } :: .java g :: mid, by rw [hfe, hmid]; rfl, by simp, by simp⟩ ?_
  rw [stepThread_native (f := { method := m, args := seenByNative meth args, locked := none }) (k := k) (x := meth) (row := row) hfe hk hx hboot hrow rfl, hr]
  exact hrest
section
variable {E : gE} {I : gI} {d rc rs pc q a a0 n0 n1 idx : Nat} {lv : List (Option Value)} {st rest : List Value} {h : gH} {Q : Outcome → gH → Prop} {f g : Int → Int} {sp dp n : Int}
/-- System.arraycopy out of bounds raises -/
theorem r_copy {ty : FieldType} {C0 C1 : Cell} (hd : decode I.2.1 pc = .ok (.invokestatic idx, 3)) (hlink : Cond.methodLink I.1.cls idx arraycopyName ∈ lw_all)
    (hc0 : ∀ H, gRel E h H → H[a0]? = some C0) (hc1 : ∀ H, gRel E h H → H[a]? = some C1) (hK : ∀ s, va_K E.1 vwCl (gTys E) s → s.isArrayOf C0 ty ∧ s.isArrayOf C1 ty) (hz0 : C0.slots.size = n0) (hz1 : C1.slots.size = n1) (hty : refKind ty = false)
    (i1 : in32 sp) (i2 : in32 dp) (i3 : in32 n) (hout : ¬ (0 ≤ sp ∧ 0 ≤ dp ∧ 0 ≤ n ∧ sp + n ≤ n0 ∧ dp + n ≤ n1)) (hn0 : n0 < 1000) (hn1 : n1 < 1000) (hdd : 170 ≤ d) (hw : (rest.map fun v => v.category).sum ≤ 20)
    (kk : ∀ fs, FLY E I d rc rs pc lv (h.2 + 2) (hexc h 20 fs) Q) : GO E I d (rc + 3) (rs + 1010) pc lv (vI n :: vI dp :: .ref a :: vI sp :: .ref a0 :: rest) h Q := by
  intro p l e R s m args below meth c H locs k n' ls hc b1 b2 b3 b4 hR hL hl T hT X
  subst hT
  have hsz : ls.size = I.2.2.1 := hl.1.1
  have hN : nativeFrameWords "java/lang/System" "arraycopy" 5 ≤ 30 := by decide
  have hnat : Cond.native arraycopyName ∈ lw_all := q322
  have hsta : Cond.static arraycopyName ∈ lw_all := q321
  obtain ⟨⟨o0, k0, hk0, cm0, hkk0⟩, o1, k1, hk1, cm1, hkk1⟩ := hK s (gK hc)
  obtain ⟨r, kS, methS, hnS, hmS, hkS, N⟩ := NativeOf.of_static (gw hc (args := args) hnat) (gw hc (args := args) hsta) (ps := [.object "java/lang/Object", .int, .object "java/lang/Object", .int, .int]) (ret := none) (by decide +kernel)
  have hinitS : kS.init = .initialized := Cond.initialized_spec (findClass_of_methodNamed hnS) hkS (gw hc (args := args) q110)
  have hsize : (F0 m pc ls rest).locals.size = c.maxLocals := hsz.trans hc.2.2.1.symm
  obtain ⟨vm', X', step⟩ := X.invokestatic hc.1 hc.2.2.2.2.2.2.1 (gw hc hlink) hnS hmS N.static hkS hinitS (by decide) (g := F0 m pc ls (vI n :: vI dp :: .ref a :: vI sp :: .ref a0 :: rest)) rfl (argsL := [.ref a0, vI sp, .ref a, vI dp, vI n]) (rest := rest) (by rw [N.sig]; rfl) rfl (by rw [hc.2.1]; exact hd)
  have hA' : s.vm.Alike vm' := X'.warmed.alike
  obtain ⟨kS', N'⟩ := N.alike hA'
  obtain ⟨k0', hk0', he0⟩ := hA'.2.2 _ _ hk0
  obtain ⟨k1', hk1', he1⟩ := hA'.2.2 _ _ hk1
  have hseen : seenByNative methS #[.ref a0, vI sp, .ref a, vI dp, vI n] = #[.ref a0, vI sp, .ref a, vI dp, vI n] := by
    simp [seenByNative, N'.static, N'.sig, narrow, vI]
  have hne : ∀ z : Int, in32 z → (Int32.ofInt z < 0 ↔ z < 0) := fun z hz => by rw [o32_0, o32_lt hz in32_0]
  have hw1 : wpRun (arraycopyRow.sem (seenByNative methS #[.ref a0, vI sp, .ref a, vI dp, vI n])) (fun _ _ _ => False) (fun x s₁ _ => ∃ text, x = .throwNew "java/lang/ArrayIndexOutOfBoundsException" (some text) ∧ ((text == notModelled) = false ∧ (stringBytes (stringToUtf16 text)).size ≤ 1000) ∧ s₁ = ((T.setVm vm').setTop (F0 m pc ls rest)).pushFrame (.native { method := r, args := seenByNative methS #[.ref a0, vI sp, .ref a, vI dp, vI n], locked := none })) e
      (((T.setVm vm').setTop (F0 m pc ls rest)).pushFrame (.native { method := r, args := seenByNative methS #[.ref a0, vI sp, .ref a, vI dp, vI n], locked := none })) := by
    rw [hseen, arraycopyRow_sem]
    refine copy_out (cs := C0) (cd := C1) (ks := k0') (kd := k1') (sComp := cm0) (dComp := cm1) (ty := ty) (hc0 _ hR) (hc1 _ hR) o0 o1 hk0' hk1' (by rw [he0]; exact hkk0) (by rw [he1]; exact hkk1) hty (by omega) (by omega) ?_ (fun what hwl => ⟨_, rfl, ⟨copy_text what, ?_⟩, rfl⟩)
    · rw [hne sp i1, hne dp i2, hne n i3, o32 i1, o32 i2, o32 i3, hz0, hz1]
      omega
    · have q1 := text_small (x := "arraycopy: " ++ what) (N := 220) (by
        rw [String.toList_append, List.length_append]
        have : "arraycopy: ".toList.length = 11 := by decide
        omega)
      omega
  have hst : ∃ text, ((text == notModelled) = false ∧ (stringBytes (stringToUtf16 text)).size ≤ 1000) ∧ ∀ target, Steps p.tables e below ((T.setVm vm').setFrames (.throwNew "java/lang/ArrayIndexOutOfBoundsException" (some text) none :: .native { method := r, args := seenByNative methS #[.ref a0, vI sp, .ref a, vI dp, vI n], locked := none } :: .java (F0 m pc ls rest) :: below)) target → Steps p.tables e below (T.setTop (F0 m pc ls (vI n :: vI dp :: .ref a :: vI sp :: .ref a0 :: rest))) target := by
    obtain ⟨g1, hfr1⟩ := X'.frames_eq
    have hcur : (T.setVm vm').cur < (T.setVm vm').threads.size := State.cur_lt_of_frames hfr1
    have e1 : ∀ x y : Frame, (((T.setVm vm').setTop (F0 m pc ls rest)).pushFrame x).pushFrame y = (T.setVm vm').setFrames (y :: x :: .java (F0 m pc ls rest) :: below) := fun x y => by
      have e0 : ((T.setVm vm').setTop (F0 m pc ls rest)).pushFrame x = (T.setVm vm').setFrames (x :: .java (F0 m pc ls rest) :: below) := by
        rw [State.pushFrame, State.frames_setTop _ hfr1, State.setTop_of_frames _ hfr1, State.setFrames_setFrames]
      rw [e0, State.pushFrame, State.frames_setFrames _ hcur, State.setFrames_setFrames]
    have hw2 := (wpRun_iff_run _ _ _ _ _).mp hw1
    cases hr : (arraycopyRow.sem (seenByNative methS #[.ref a0, vI sp, .ref a, vI dp, vI n])).run e (((T.setVm vm').setTop (F0 m pc ls rest)).pushFrame (.native { method := r, args := seenByNative methS #[.ref a0, vI sp, .ref a, vI dp, vI n], locked := none })) with
    | ok v s₁ acts₁ => rw [hr] at hw2; exact hw2.elim
    | ctl x s₁ acts₁ =>
      rw [hr] at hw2
      have hx : ∃ text, x = .throwNew "java/lang/ArrayIndexOutOfBoundsException" (some text) ∧ ((text == notModelled) = false ∧ (stringBytes (stringToUtf16 text)).size ≤ 1000) ∧ s₁ = ((T.setVm vm').setTop (F0 m pc ls rest)).pushFrame (.native { method := r, args := seenByNative methS #[.ref a0, vI sp, .ref a, vI dp, vI n], locked := none }) := by
        cases x <;> first | exact hw2 | exact hw2.elim
      obtain ⟨text, rfl, hP, rfl⟩ := hx
      refine ⟨text, hP, fun target hrest => step target fun acts => ?_⟩
      exact nat_throws (tb := p.tables) (target := target) (s := T.setVm vm') (g := F0 m pc ls rest) (c := c) (below := below) X'.here acts N'.cls N'.meth N'.boot N'.native N'.noCode N'.noLock (row := arraycopyRow) (by rw [N'.className, N'.name, N'.desc]; exact arraycopy_row p)
        (by rw [N'.className, N'.name]; exact X'.notFull (g := F0 m pc ls rest) hsize (vars := nativeFrameWords "java/lang/System" "arraycopy" 5) (by omega) (by show 2 * 0 + (rest.map fun v => v.category).sum + _ ≤ _; omega)) hr (by rw [e1]; exact hrest)
  obtain ⟨text, ⟨ht1, ht2⟩, hst⟩ := hst
  obtain ⟨fs, U, locs', n'', hn', XU, hRU, hLU, hstU⟩ := msgN_at (pc := pc) (ls := ls) (st := rest) (T := T.setVm vm') (ci := 20) (nf := { method := r, args := seenByNative methS #[.ref a0, vI sp, .ref a, vI dp, vI n], locked := none }) (fun vm hW => at_J18 hc.2.2.2.2.2.2.2.2.2 hW) rfl in_J18 tyJ18_ok (by decide +kernel) (by decide +kernel) (by decide +kernel) (by decide +kernel) ⟨rfl, rfl, rfl⟩ hc X' hR hL hl.1.1 ht1 ht2 (by show 3 + 5 < R.frames; omega) (by omega) (by show 13 * 3 + 55 ≤ 10240; omega) (by omega) (by omega)
  obtain ⟨t, st1, en⟩ := kk fs p l e R s m args below meth c U locs' (k + 3) n'' ls rest hc b1 b2 (by omega) (by omega) hRU hLU hl XU
  exact ⟨t, hst t (hstU t st1), en⟩
end
