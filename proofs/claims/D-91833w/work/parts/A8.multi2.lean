/-! MY LOGIC, part 16: multianewarray -/
set_option maxRecDepth 100000
theorem arrV_congr {c : ClassId} {N : Nat} {f g : Nat → Value} (h : ∀ j, j < N → f j = g j) : arrV c N f = arrV c N g := by
  unfold arrV
  congr 1
  congr 1
  funext j
  exact h j.1 j.2
/-- a class of arrays, by the law's start -/
def KIN (E : gE) (c comp : ClassId) (ty : FieldType) : Prop := ∃ k, (gS E).vm.classes[c]? = some k ∧ k.kind = .array comp ty
def KOF (E : gE) (vm : Vm) : Prop := ∀ c comp ty, KIN E c comp ty → ∃ k, vm.classes[c]? = some k ∧ k.kind = .array comp ty
theorem KOF.of {E : gE} {vm : Vm} (h : (gS E).vm.Alike vm) : KOF E vm := by
  rintro c comp ty ⟨k, h1, h2⟩
  obtain ⟨k', hk', he⟩ := h.2.2 _ _ h1
  exact ⟨k', hk', by rw [he]; exact h2⟩
theorem overA {A : Array Value} {s : State} {t : FieldType} (h : (Cond.arrayOver (.array t)).before A s = true) : ∃ comp c k, s.vm.findClass (FieldType.array t).toString = some comp ∧ s.vm.classes[c]? = some k ∧ k.kind = .array comp (.array t) ∧ s.vm.findClass ("[" ++ (FieldType.array t).toString) = some c := by
  simp only [Cond.before, Cond.holds, Cond.value, beq_iff_eq] at h
  cases hc : s.vm.findClass (FieldType.array t).toString with
  | none => simp [hc] at h
  | some comp =>
    simp only [hc, Option.bind_some, Option.bind_eq_some_iff, Option.map_eq_some_iff] at h
    obtain ⟨c, hi, k, hk, hb⟩ := h
    obtain ⟨hlt, hp, -⟩ := Array.findIdx?_eq_some_iff_getElem.mp hi
    rw [Array.getElem?_eq_getElem hlt] at hk
    cases Option.some.inj hk
    cases hkind : s.vm.classes[c].kind with
    | array comp' ty =>
      simp only [hkind, beq_iff_eq] at hp
      simp only [hkind, Bool.and_eq_true, decide_eq_true_eq] at hb
      exact ⟨comp, c, s.vm.classes[c], rfl, Array.getElem?_eq_getElem hlt, by rw [hkind, hp, hb.1], hb.2⟩
    | _ => simp [hkind] at hb
theorem KIN.arr {E : gE} (ok : gOK E) {t0 t1 : Nat} {t : FieldType} (h0 : (gTys E)[t0]? = some (E.2.1 t0, .array t)) (hov : Cond.arrayOver (.array t) ∈ lw_tbl) (h1 : (gS E).vm.findClass (FieldType.array t).toString = some (E.2.1 t1)) : KIN E (E.2.1 t0) (E.2.1 t1) (.array t) := by
  obtain ⟨comp, c, k, e1, e2, e3, e4⟩ := overA (ok.1 _ hov)
  have e5 : (gS E).vm.findClass ("[" ++ (FieldType.array t).toString) = some (E.2.1 t0) := (ok.2.1.2 t0 _ h0).2
  cases e1.symm.trans h1
  cases e4.symm.trans e5
  exact ⟨k, e2, e3⟩
theorem kin6 {E : gE} (ok : gOK E) : KIN E (E.2.1 6) (E.2.1 5) (.array (.array .int)) := KIN.arr ok rfl q420 (ok.2.1.2 5 _ rfl).2
theorem kin5 {E : gE} (ok : gOK E) : KIN E (E.2.1 5) (E.2.1 0) (.array .int) := KIN.arr ok rfl q421 (ok.2.1.2 0 _ rfl).2
theorem kin9 {E : gE} (ok : gOK E) : KIN E (E.2.1 9) (E.2.1 8) (.array (.object "NonsenseRows$Sum")) := by
  obtain ⟨kA, comp, k1, k2, k3, k4⟩ := (ok.2.1.2 8 _ rfl).2
  exact KIN.arr ok rfl q344 k4
theorem kin8 {E : gE} (ok : gOK E) : ∃ comp, KIN E (E.2.1 8) comp (.object "NonsenseRows$Sum") := by
  obtain ⟨kA, comp, k1, k2, k3, k4⟩ := (ok.2.1.2 8 _ rfl).2
  exact ⟨comp, kA, k1, k2⟩
theorem kin0 {E : gE} (ok : gOK E) : ∃ comp, KIN E (E.2.1 0) comp .int := by
  obtain ⟨-, k, hk, comp, hkind⟩ := (ok.2.1.2 0 _ rfl).1 default (fun _ => default)
  exact ⟨comp, k, hk, hkind⟩
section Rows
variable {E : gE} {I : gI} {d rc rs pc q idx : Nat} {lv : List (Option Value)} {st rest : List Value} {h : gH} {Q : Outcome → gH → Prop}
theorem g_multi {D t0 P S : Nat} {cn : String} {ns : List Int} {cont : Nat → Nat → Cell} {G : State → State} {F : Nat → va_E} (hd : decode I.2.1 pc = .ok (.multianewarray idx D, 4)) (hlink : Cond.classLink I.1.cls idx cn ∈ lw_all) (hcn : gOK E → (gS E).vm.findClass cn = some (E.2.1 t0)) (hD : ns.length = D) (hD0 : D ≠ 0) (hst : st = (ns.map vI).reverse ++ rest)
    (hS : ∀ s, MKS P S cont G s) (hX : ∀ e, MKX e P S G) (hW : ∀ (e : Env) (vm : Vm), gOK E → KOF E vm → e.platform.arrayLengthLimit = ({} : Platform).arrayLengthLimit → e.platform.maxHeapBytes = ({} : Platform).maxHeapBytes → MKW e vm (E.2.1 t0) (ns.map Int32.ofInt) P S G)
    (hF : ∀ j, j < P → ∃ a, F j = .inl a ∧ cont h.2 j = vp_cell a.1 a.2) (hq : pc + 4 = q) (kk : GO E I d rc rs q lv (.ref h.2 :: rest) (blk (h.1, h.2 + P) h.2 P F) Q) : GO E I d (rc + P) (rs + S) pc lv st h Q := by
  subst hq
  intro p l e R s m args below meth c H locs k n ls hc a1 a2 a3 a4 hR hL hl T hT X
  subst hT
  have hpl : e.platform.magicAccessors = ({} : Platform).magicAccessors := by rw [X.admits.platform]
  obtain ⟨c0, hfc0, hcl⟩ := Cond.classLink_spec hc.2.2.2.2.2.2.1 (gw hc (args := args) hlink) e.platform hpl
  have ok : gOK E := hc.2.2.2.2.2.2.2.2.2
  have al : (gS E).vm.Alike s.vm := hc.2.2.2.2.2.2.2.2.1.alike
  have ec : c0 = E.2.1 t0 := by
    have := hcn ok
    rw [← al.findClass] at this
    exact Option.some.inj (hfc0.symm.trans this)
  subst ec
  obtain ⟨hg₁, hwarm₁, hready₁⟩ := State.classEntry (e := e) X.warmed hcl
  generalize T.vm.noted m.cls idx (.cls (E.2.1 t0)) = vm₁ at hg₁ hwarm₁ hready₁
  have X₁ := X.noted hwarm₁
  obtain ⟨locs', X2, hL2⟩ := hX e p l R s m args below meth c (T.setVm vm₁) locs k n X₁
  obtain ⟨m1, m2, m3, m4, m5, m6⟩ := hS (T.setVm vm₁)
  obtain ⟨hr1, hr2⟩ := X.roomAbove (show k + P ≤ R.cells by omega) (show n + S ≤ R.slots by omega)
  have hs := hR.1
  have hRel : gRel E (blk (h.1, h.2 + P) h.2 P F) (G (T.setVm vm₁)).heap := by
    refine ⟨by rw [m1]; show T.heap.size + P = h.2 + P; rw [hs], by show gZ E ≤ h.2 + P; have := hR.2.1; omega, fun q hq => ?_, fun b z hb => ?_⟩
    · have := hR.2.1
      rw [m4 q (by show q < T.heap.size; omega)]; exact hR.2.2.1 q hq
    · by_cases cb : h.2 ≤ b ∧ b < h.2 + P
      · have e1 : F (b - h.2) = z := by
          have := hb
          unfold blk at this
          simp only [if_pos cb] at this
          exact Option.some.inj this
        obtain ⟨a, ea, eb⟩ := hF (b - h.2) (by omega)
        refine ⟨by have := hR.2.1; omega, ?_⟩
        rw [← e1, ea]
        show (G (T.setVm vm₁)).heap[b]? = some (vp_cell a.1 a.2)
        have m7 := m5 (b - h.2) (by omega)
        rw [← eb, ← hs]
        rw [← hs] at m7
        rw [show (T.setVm vm₁).heap.size = T.heap.size from rfl, show T.heap.size + (b - T.heap.size) = b by omega] at m7
        exact m7
      · have hb' : h.1 b = some z := by
          have := hb
          unfold blk at this
          simpa only [if_neg cb] using this
        have h7 := hR.2.2.2 b z hb'
        exact ⟨h7.1, h7.2.kept (m4 b (by have := hR.lt hb'; show b < T.heap.size; omega))⟩
  obtain ⟨t, st1, en⟩ := kk p l e R s m args below meth c _ locs' (k + P) (n + S) ls hc a1 a2 (by omega) (by omega) hRel (fun q hq => by
    rcases hL2 q hq with w | w
    · exact hL q w
    · have := hR.2.1
      have w' : T.heap.size ≤ q.base := w
      omega) hl _ rfl X2
  refine ⟨t, ?_, en⟩
  have hexec := hc.1
  have hdg : decode c.code (F0 m pc ls st).pc = .ok (.multianewarray idx D, 4) := by rw [hc.2.1]; exact hd
  jvm_step X.here [hexec, hdg]
  simp only [Jvm.Op.multianewarray.sem, wp_bind', W.resolveClassAt_links (State.method?_setTop (F0 m pc ls st) X.here.top) hg₁]
  rw [W.popN, if_neg hD0]
  refine ⟨F0 m pc ls st, State.topJava?_setTop' (s := T.setVm vm₁) (F0 m pc ls st) X.here.top, ns.map vI, rest, by simp [hD], hst, ?_⟩
  have hmap : ∀ (L : List Int) (Q : List Int32 → Pre) (E0 : CtlPost) (d0 : Bool) (acts0 : List Action) (s0 : State), Q (L.map Int32.ofInt) d0 acts0 s0 → wp ((L.map vI).mapM fun | Value.int n => (Pure.pure n : Sem Int32) | _ => illTyped "multianewarray: an int count was expected") Q E0 e d0 acts0 s0 := by
    intro L
    induction L with
    | nil => intro Q E0 d0 acts0 s0 hq; simpa using hq
    | cons y ys ih =>
      intro Q E0 d0 acts0 s0 hq
      simp only [List.map_cons, List.mapM_cons, wp_bind', vI, wp_pure']
      refine ih _ _ _ _ _ ?_
      exact hq
  rw [wp_bind']
  refine hmap ns _ _ _ _ _ ?_
  have eS : ((T.setTop (F0 m pc ls st)).setVm vm₁).setTop { F0 m pc ls st with stack := rest } = (T.setVm vm₁).setTop { F0 m pc ls st with stack := rest } := by
    show ((T.setVm vm₁).setTop (F0 m pc ls st)).setTop _ = _
    rw [State.setTop_setTop]
  rw [wp_bind', eS]
  refine hW e vm₁ ok (KOF.of (al.trans hwarm₁.alike)) (Launch.admits_arrayLengthLimit X.admits) (Launch.admits_maxHeapBytes X.admits) _ _ _ ((T.setVm vm₁).setTop { F0 m pc ls st with stack := rest }) _ rfl (by show T.heap.size + P ≤ _; omega) (by show T.slotsUsed + S ≤ _; omega) (fun d' acts' => ?_)
  rw [m6]
  simp only [wp_bind', W.mark, W.pushRef, State.topJava?_setTop' _ X2.here.top, Option.some.injEq, exists_eq_left', State.setTop_setTop, State.heap_setTop]
  intro acts
  simp [jvm, X2.here.top]
  rw [← hs] at st1
  exact st1
end Rows
