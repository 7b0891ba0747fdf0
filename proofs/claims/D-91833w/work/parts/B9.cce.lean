/-! MY LOGIC, part 23: checkcast that fails; a store into no row -/
set_option maxRecDepth 100000
theorem find_more {vm : Vm} {name : String} {c : ClassId} (h : vm.findClass name = some c) : ∃ k, vm.classes[c]? = some k ∧ k.name = name ∧ k.hidden = none ∧ k.loader = none := by
  obtain ⟨hlt, hp, _⟩ := Array.findIdx?_eq_some_iff_getElem.mp h
  refine ⟨vm.classes[c], by simp [hlt], ?_⟩
  simp only [Bool.and_eq_true, beq_iff_eq] at hp
  exact ⟨hp.1.1.1, Option.isNone_iff_eq_none.mp hp.1.1.2, Option.isNone_iff_eq_none.mp hp.2⟩
theorem prim_mod {vm : Vm} {k : Class} {c : ClassId} {t : FieldType} (hk : k.kind = .array c t) (hn : (withoutBrackets k.name).length = 1) : vm.moduleOf k = vm.modules.find? (fun m => m.name == "java.base") := by
  unfold Vm.moduleOf Class.ofPrimitives
  rw [hk]
  simp [hn]
theorem cce_text {vm : Vm} {ks kt : Class} {c1 c2 : ClassId} {t1 t2 : FieldType} (n1 : ks.name = "[J") (h1 : ks.hidden = none) (l1 : ks.loader = none) (k1 : ks.kind = .array c1 t1) (n2 : kt.name = "[I") (h2 : kt.hidden = none) (l2 : kt.loader = none) (k2 : kt.kind = .array c2 t2) :
    (Op.checkcast.message vm ks kt == notModelled) = false ∧ (stringBytes (stringToUtf16 (Op.checkcast.message vm ks kt))).size ≤ 1000 := by
  have m1 := prim_mod (vm := vm) k1 (by rw [n1]; decide)
  have m2 := prim_mod (vm := vm) k2 (by rw [n2]; decide)
  have s1 : ks.shown = "[J" := by unfold Class.shown; rw [h1, n1]; show dotted "[J" = "[J"; decide
  have s2 : kt.shown = "[I" := by unfold Class.shown; rw [h2, n2]; show dotted "[I" = "[I"; decide
  have hsm : vm.sameModule ks kt = true := by
    unfold Vm.sameModule
    rw [m1, m2]
    cases vm.modules.find? (fun m => m.name == "java.base") with
    | none => rw [l1, l2]; rfl
    | some x => simp
  have hms : Op.checkcast.message vm ks kt = "class [J cannot be cast to class [I ([J and [I are in module java.base of loader 'bootstrap')" ∨ Op.checkcast.message vm ks kt = "class [J cannot be cast to class [I ([J and [I are in unnamed module of loader 'bootstrap')" := by
    unfold Op.checkcast.message Vm.homes
    rw [if_pos hsm, s1, s2]
    unfold Vm.home
    rw [m1, l1]
    cases hf : vm.modules.find? (fun m => m.name == "java.base") with
    | none => right; rfl
    | some x =>
      left
      have hx := List.find?_some hf
      rw [beq_iff_eq] at hx
      simp only [hx]
      rfl
  rcases hms with e | e <;> rw [e] <;> decide +kernel
section
variable {E : gE} {I : gI} {d rc rs pc q a idx : Nat} {lv : List (Option Value)} {st rest : List Value} {h : gH} {Q : Outcome → gH → Prop} {i x : Int} {y : vp_A}
theorem RAI.castL (hd : decode I.2.1 pc = .ok (.checkcast idx, 3)) (hlink : Cond.classLink I.1.cls idx "[I" ∈ lw_all) (ha : h.1 a = some (.inl (E.2.1 3, y))) (hca : Cond.not (.castable "[J" "[I") ∈ cjs narrow_1) : RAI E I pc (.ref a :: st) (.ref a :: st) h "java/lang/ClassCastException" := by
  intro p l e R s m args below meth c T locs k n' ls hc hR X
  have hpl : e.platform.magicAccessors = ({} : Platform).magicAccessors := by rw [X.admits.platform]
  obtain ⟨c', hc', hcl⟩ := Cond.classLink_spec hc.2.2.2.2.2.2.1 (gw hc (args := args) hlink) e.platform hpl
  obtain ⟨dk, _, _, kt0, hdk, _, _, _, _, hkt0, _, hopen⟩ := hcl.here
  obtain ⟨cell, g1, g2, g3⟩ := arr_cell hR ha
  have hfs : s.vm.findClass "[J" = some cell.cls := by rw [g3]; exact anm3 s (gK hc)
  obtain ⟨c0, t0, f1, f2, f3⟩ := va_Nc.moved hc.2.2.2.2.2.2.2.2.1.alike (va_Nc.of (gNw hc.2.2.2.2.2.2.2.2.2 _ hca))
  cases hfs.symm.trans f1
  cases hc'.symm.trans f2
  have hW' : s.WarmedH (T.vm.noted m.cls idx (.cls c')) := X.warmed.noted hdk hopen (State.rightAt_cls hcl)
  have hcl0 := X.warmed.classLinks hcl
  have al := hW'.alike
  obtain ⟨ks, y1, y2, y3, y4⟩ := find_more ((al.findClass _ _).trans hfs)
  obtain ⟨kt, z1, z2, z3, z4⟩ := find_more ((al.findClass _ _).trans hc')
  have hk3 : ∃ cc tt, ks.kind = .array cc tt := by
    obtain ⟨-, k0, hk0, cm0, hkk0⟩ := ((gK hc).2 3 _ rfl).1 0 (fun _ => .long 0)
    obtain ⟨k0', hk0', he⟩ := al.2.2 _ _ hk0
    have e1 : k0' = ks := Option.some.inj (hk0'.symm.trans (by rw [← g3]; exact y1))
    exact ⟨cm0, .long, by rw [← e1, he]; exact hkk0⟩
  have hk0 : ∃ cc tt, kt.kind = .array cc tt := by
    obtain ⟨-, k0, hk0, cm0, hkk0⟩ := ((gK hc).2 0 _ rfl).1 0 (fun _ => .int 0)
    have ec : c' = E.2.1 0 := Option.some.inj (hc'.symm.trans (anm0 s (gK hc)))
    obtain ⟨k0', hk0', he⟩ := al.2.2 _ _ hk0
    have e1 : k0' = kt := Option.some.inj (hk0'.symm.trans (by rw [← ec]; exact z1))
    exact ⟨cm0, .int, by rw [← e1, he]; exact hkk0⟩
  obtain ⟨cc1, tt1, hk3⟩ := hk3
  obtain ⟨cc2, tt2, hk0⟩ := hk0
  obtain ⟨u1, u2⟩ := cce_text (vm := T.vm.noted m.cls idx (.cls c')) y2 y3 y4 hk3 z2 z3 z4 hk0
  refine ⟨_, Op.checkcast.message (T.vm.noted m.cls idx (.cls c')) ks kt, X.noted hW', u1, u2, fun target hs => ?_⟩
  have hexec := hc.1
  have hdg : decode c.code (F0 m pc ls (.ref a :: st)).pc = .ok (.checkcast idx, 3) := by rw [hc.2.1]; exact hd
  have hf : (T.vm.noted m.cls idx (.cls c')).assignable cell.cls c' = false := by rw [al.assignable]; exact f3
  jvm_step X.here [hexec, hdg, Op.checkcast.wp_cold (e := e) (s := T) (f := F0 m pc ls (.ref a :: st)) X.here.top rfl (resolveClass_links e.toSetting hcl0) hcl0.ready, Op.checkcast.wp_ready (e := e) (s := T.setVm (T.vm.noted m.cls idx (.cls c'))) (f := F0 m pc ls (.ref a :: st)) X.here.top hcl0.ready rfl]
  refine ⟨cell, g1, VmData.noStatics_of g2, ks, y1, kt, z1, ?_⟩
  simp only [hf]
  exact hs
/-- a store into no row -/
theorem g_iastN (hd : decode I.2.1 pc = .ok (.iastore, 1)) (h170 : 170 ≤ d) (hw : (rest.map fun v => v.category).sum ≤ 20) (kk : ∀ fs, FLY E I d rc rs pc lv h.2 (hnew h (oB 19 fs)) Q) : GO E I d (rc + 1) (rs + 8) pc lv (vI x :: vI i :: .null :: rest) h Q := by
  intro p l e R s m args below meth c H locs k n ls hc a1 a2 a3 a4 hR hL hl T hT X
  subst hT
  obtain ⟨fs, U, locs', XU, hRU, hLU, hstU⟩ := npe_at (pc := pc) (ls := ls) (st := rest) hc X hR hL hl.1.1 (by omega) (by omega) (by omega) (by omega)
  obtain ⟨t, st1, en⟩ := kk fs p l e R s m args below meth c U locs' (k + 1) (n + 8) ls rest hc a1 a2 (by omega) (by omega) hRU hLU hl XU
  exact ⟨t, X.iastoreNull hc.1 (g := F0 m pc ls (vI x :: vI i :: .null :: rest)) rfl rfl (by rw [hc.2.1]; exact hd) t (hstU t st1), en⟩
end
