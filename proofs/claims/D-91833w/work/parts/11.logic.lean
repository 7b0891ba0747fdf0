/-! MY LOGIC, part 1: the judgement GO and the rows that touch no heap -/
set_option maxRecDepth 100000
/-- the launch-wide names: class numbers and slots; array classes; the law's first state; the script's address -/
abbrev gE : Type := va_G × (Nat → ClassId) × State × Nat
/-- a method: its name, code, number of locals, answer, handlers -/
abbrev gI : Type := MethodName × ByteArray × Nat × Option FieldType × List (Nat × Nat × Nat × Nat)
/-- a heap: what is known at an address; its size -/
abbrev gH : Type := (Nat → Option va_E) × Nat
abbrev gS (E : gE) : State := E.2.2.1
abbrev gZ (E : gE) : Nat := E.2.2.1.heap.size
def gTys (E : gE) : List (ClassId × FieldType) := [(E.2.1 0, .int), (E.2.1 1, .byte), (E.2.1 2, .short), (E.2.1 3, .long), (E.2.1 4, .boolean), (E.2.1 5, .array .int), (E.2.1 6, .array (.array .int)), (E.2.1 7, .object "NonsenseRows$Slot"), (E.2.1 8, .object "NonsenseRows$Sum"), (E.2.1 9, .array (.object "NonsenseRows$Sum")), (E.2.1 10, .object "NonsenseRows$State"), (E.2.1 11, .object "java/lang/String"), (E.2.1 12, .object "java/lang/Object")]
/-- what holds of the names at the law's start -/
def gOK (E : gE) : Prop := (∀ w ∈ lw_tbl, w.before #[Value.ref E.2.2.2] (gS E) = true) ∧ va_K E.1 vwCl (gTys E) (gS E) ∧ (Jvm.Cond.and given_1 narrow_1).before #[Value.ref E.2.2.2] (gS E) = true ∧ E.2.2.2 < gZ E
/-- the real heap holds h, and below the law's start it is as it was -/
def gRel (E : gE) (h : gH) (H : Heap) : Prop := H.size = h.2 ∧ gZ E ≤ h.2 ∧ (∀ q : Nat, q < gZ E → H[q]? = (gS E).heap[q]?) ∧ ∀ (a : Nat) (x : va_E), h.1 a = some x → gZ E ≤ a ∧ va_at E.1 vwCl (a, x) H
def gA (lv : List (Option Value)) : List (Nat × Value) := (List.range lv.length).filterMap (fun i => (lv.getD i none).map (fun v => (i, v)))
theorem gA_mem {lv : List (Option Value)} {i : Nat} {v : Value} : (i, v) ∈ gA lv ↔ lv[i]? = some (some v) := by
  unfold gA
  simp only [List.mem_filterMap, List.mem_range, Option.map_eq_some_iff, Prod.mk.injEq]
  constructor
  · rintro ⟨j, hj, w, hw, rfl, rfl⟩
    rw [List.getD_eq_getElem?_getD, List.getElem?_eq_getElem hj] at hw
    rw [List.getElem?_eq_getElem hj]
    simpa using hw
  · intro h
    obtain ⟨hj, e⟩ := List.getElem?_eq_some_iff.mp h
    exact ⟨i, hj, v, by rw [List.getD_eq_getElem?_getD, h]; rfl, rfl, rfl⟩
/-- the locals: what is known of each -/
def gLv (ls : Array Slot) (n : Nat) (lv : List (Option Value)) : Prop := lv_has ls n (gA lv) ∧ lv.length = n
/-- the walk's surroundings -/
def gCx (E : gE) (I : gI) (p : Program) (s : State) (m : MethodId) (meth : Method) (c : Code) : Prop :=
  p.tables.exec = Jvm.exec ∧ c.code = I.2.1 ∧ c.maxLocals = I.2.2.1 ∧ meth.sig.returnType = I.2.2.2.1 ∧ meth.locks = false ∧ c.exceptionTable.toList = tableOf I.2.2.2.2 ∧ s.vm.findClass I.1.cls = some m.cls ∧ meth.name = I.1.name ∧ (gS E).WarmedH s.vm ∧ gOK E
/-- how a walk ends -/
def gEnd (E : gE) (Q : Outcome → gH → Prop) (R : Room) (s : State) (below : List Frame) (t : State) : Prop :=
  ∃ (o : Outcome) (h : gH) (L : List Loc) (k n : Nat), Q o h ∧ gRel E h t.heap ∧ t.status = .running ∧ Ended t below o ∧ s.WarmedH t.vm ∧ s.sameButNew ({ t with vm := s.vm } : State) L k n ∧ (∀ q ∈ L, gZ E ≤ q.base) ∧ k ≤ R.cells ∧ n ≤ R.slots
/-- a launch without stack traces -/
abbrev gL : Type := { l : Launch // l.flags = flags0 }
/-- THE JUDGEMENT: from here the method comes to an end with Q -/
def GO (E : gE) (I : gI) (d rc rs pc : Nat) (lv : List (Option Value)) (st : List Value) (h : gH) (Q : Outcome → gH → Prop) : Prop :=
  ∀ (p : Program) (l : gL) (e : Env) (R : Room) (s : State) (m : MethodId) (args : Array Value) (below : List Frame) (meth : Method) (c : Code) (H : Heap) (locs : List Loc) (k n : Nat) (ls : Array Slot),
    gCx E I p s m meth c → d ≤ R.frames → 64 * d ≤ R.locals → k + rc ≤ R.cells → n + rs ≤ R.slots → gRel E h H → (∀ q ∈ locs, gZ E ≤ q.base) → gLv ls I.2.2.1 lv →
    W p l.1 e R s m args below meth c H locs k n (gEnd E Q R s below) (F0 m pc ls st)
def vI (e : Int) : Value := .int (Int32.ofInt e)
def vL (e : Int) : Value := .long (Int64.ofInt e)
def in32 (a : Int) : Prop := -2147483648 ≤ a ∧ a < 2147483648
def in64 (a : Int) : Prop := -9223372036854775808 ≤ a ∧ a < 9223372036854775808
/-- a reference -/
def gR (v : Value) : Prop := v = .null ∨ ∃ a, v = .ref a
theorem gR_ref {a : Nat} : gR (.ref a) := Or.inr ⟨a, rfl⟩
theorem gR_null : gR .null := Or.inl rfl
theorem gR_rf {r : Option Nat} : gR (va_rf r) := by
  cases r with
  | none => exact Or.inl rfl
  | some a => exact Or.inr ⟨a, rfl⟩
def gN (v : Value) : Prop := ∃ x, v = .int x
def gNL (v : Value) : Prop := ∃ x, v = .long x
/-- what the tables say, here -/
theorem gw {E : gE} {I : gI} {p : Program} {s : State} {m : MethodId} {meth : Method} {c : Code} (hc : gCx E I p s m meth c) {args : Array Value} {w : Cond} (hw : w ∈ lw_all) : w.before args s = true :=
  word_at (s := gS E) (U := s) hc.2.2.2.2.2.2.2.2.1 (good_of_word (List.mem_filter.mp hw).2) (hc.2.2.2.2.2.2.2.2.2.1 w (lw_all_tbl hw))
theorem gK {E : gE} {I : gI} {p : Program} {s : State} {m : MethodId} {meth : Method} {c : Code} (hc : gCx E I p s m meth c) : va_K E.1 vwCl (gTys E) s :=
  va_K.moved hc.2.2.2.2.2.2.2.2.1.alike hc.2.2.2.2.2.2.2.2.2.2.1
section Rows
variable {E : gE} {I : gI} {d rc rs pc q : Nat} {lv : List (Option Value)} {st : List Value} {h : gH} {Q : Outcome → gH → Prop}
theorem GO.mono {Q' : Outcome → gH → Prop} (h1 : GO E I d rc rs pc lv st h Q) (h2 : ∀ o k, Q o k → Q' o k) : GO E I d rc rs pc lv st h Q' := by
  intro p l e R s m args below meth c H locs k n ls hc a1 a2 a3 a4 hR hL hl T hT X
  obtain ⟨t, b1, o, h', L, k', n', hq, hr⟩ := h1 p l e R s m args below meth c H locs k n ls hc a1 a2 a3 a4 hR hL hl T hT X
  exact ⟨t, b1, o, h', L, k', n', h2 _ _ hq, hr⟩
theorem GO.room {rc' rs' : Nat} (h1 : GO E I d rc rs pc lv st h Q) (h2 : rc ≤ rc') (h3 : rs ≤ rs') : GO E I d rc' rs' pc lv st h Q := by
  intro p l e R s m args below meth c H locs k n ls hc a1 a2 a3 a4 hR hL hl
  exact h1 p l e R s m args below meth c H locs k n ls hc a1 a2 (by omega) (by omega) hR hL hl
theorem GO.deep {d' : Nat} (h1 : GO E I d rc rs pc lv st h Q) (h2 : d ≤ d') : GO E I d' rc rs pc lv st h Q := by
  intro p l e R s m args below meth c H locs k n ls hc a1 a2 a3 a4 hR hL hl
  exact h1 p l e R s m args below meth c H locs k n ls hc (by omega) (by omega) a3 a4 hR hL hl
theorem GO.pure {pc' : Nat} {st' : List Value}
    (hW : ∀ {p : Program} {l : Launch} {e : Env} {R : Room} {s : State} {m : MethodId} {args : Array Value} {below : List Frame} {meth : Method} {c : Code} {H : Heap} {locs : List Loc} {k n : Nat} {ls : Array Slot} {Qs : State → Prop},
      gCx E I p s m meth c → gLv ls I.2.2.1 lv → W p l e R s m args below meth c H locs k n Qs (F0 m pc' ls st') → W p l e R s m args below meth c H locs k n Qs (F0 m pc ls st))
    (kk : GO E I d rc rs pc' lv st' h Q) : GO E I d rc rs pc lv st h Q := by
  intro p l e R s m args below meth c H locs k n ls hc a1 a2 a3 a4 hR hL hl
  exact hW hc hl (kk p l e R s m args below meth c H locs k n ls hc a1 a2 a3 a4 hR hL hl)
theorem g_iconst {a : Int} (hd : decode I.2.1 pc = .ok (.iconst a, 1)) (hq : pc + 1 = q) (kk : GO E I d rc rs q lv (vI a :: st) h Q) : GO E I d rc rs pc lv st h Q := by
  subst hq; exact GO.pure (fun hc _ k => lv_iconst hc.1 hc.2.1 hd rfl k) kk
theorem g_bipush {a : Int} (hd : decode I.2.1 pc = .ok (.bipush a, 2)) (hq : pc + 2 = q) (kk : GO E I d rc rs q lv (vI a :: st) h Q) (hv : (Int8.ofInt a).toInt32 = Int32.ofInt a := by decide) : GO E I d rc rs pc lv st h Q := by
  subst hq; exact GO.pure (fun hc _ k => lv_bipush hc.1 hc.2.1 hd hv k) kk
theorem g_sipush {a : Int} (hd : decode I.2.1 pc = .ok (.sipush a, 3)) (hq : pc + 3 = q) (kk : GO E I d rc rs q lv (vI a :: st) h Q) (hv : (Int16.ofInt a).toInt32 = Int32.ofInt a := by decide) : GO E I d rc rs pc lv st h Q := by
  subst hq; exact GO.pure (fun hc _ k => lv_sipush hc.1 hc.2.1 hd hv k) kk
theorem g_lconst0 (hd : decode I.2.1 pc = .ok (.lconst 0, 1)) (hq : pc + 1 = q) (kk : GO E I d rc rs q lv (vL 0 :: st) h Q) : GO E I d rc rs pc lv st h Q := by
  subst hq; exact GO.pure (fun hc _ k => lv_lconst hc.1 hc.2.1 hd (by decide) k) kk
theorem g_lconst1 (hd : decode I.2.1 pc = .ok (.lconst 1, 1)) (hq : pc + 1 = q) (kk : GO E I d rc rs q lv (vL 1 :: st) h Q) : GO E I d rc rs pc lv st h Q := by
  subst hq; exact GO.pure (fun hc _ k => lv_lconst hc.1 hc.2.1 hd (by decide) k) kk
theorem g_null (hd : decode I.2.1 pc = .ok (.aconst_null, 1)) (hq : pc + 1 = q) (kk : GO E I d rc rs q lv (.null :: st) h Q) : GO E I d rc rs pc lv st h Q := by
  subst hq; exact GO.pure (fun hc _ k => lv_null hc.1 hc.2.1 hd k) kk
theorem g_ldc {i : Nat} {v : Int32} {a : Int} (hd : decode I.2.1 pc = .ok (.ldc i, 2)) (hw : Jvm.Cond.constant I.1.cls i v ∈ lw_all) (ha : v = Int32.ofInt a) (hq : pc + 2 = q) (kk : GO E I d rc rs q lv (vI a :: st) h Q) : GO E I d rc rs pc lv st h Q := by
  subst hq; subst ha; exact GO.pure (fun hc _ k => lv_ldc hc.1 hc.2.1 hc.2.2.2.2.2.2.1 (gw hc hw) hd k) kk
theorem g_ldcw {i : Nat} {v : Int32} {a : Int} (hd : decode I.2.1 pc = .ok (.ldc_w i, 3)) (hw : Jvm.Cond.constant I.1.cls i v ∈ lw_all) (ha : v = Int32.ofInt a) (hq : pc + 3 = q) (kk : GO E I d rc rs q lv (vI a :: st) h Q) : GO E I d rc rs pc lv st h Q := by
  subst hq; subst ha; exact GO.pure (fun hc _ k => lv_ldcw hc.1 hc.2.1 hc.2.2.2.2.2.2.1 (gw hc hw) hd k) kk
theorem g_ldc2 {i : Nat} {v : Int64} {a : Int} (hd : decode I.2.1 pc = .ok (.ldc2_w i, 3)) (hw : Jvm.Cond.constantLong I.1.cls i v ∈ lw_all) (ha : v = Int64.ofInt a) (hq : pc + 3 = q) (kk : GO E I d rc rs q lv (vL a :: st) h Q) : GO E I d rc rs pc lv st h Q := by
  subst hq; subst ha; exact GO.pure (fun hc _ k => lv_ldc2 hc.1 hc.2.1 hc.2.2.2.2.2.2.1 (gw hc hw) hd k) kk
theorem gLv.at {ls : Array Slot} {n i : Nat} {v : Value} (hl : gLv ls n lv) (hi : lv[i]? = some (some v)) : ls[i]? = some (.val v) := hl.1.2.2 (i, v) (gA_mem.mpr hi)
theorem g_iload_n {k : Fin 4} {v : Value} (hd : decode I.2.1 pc = .ok (.iload_n k, 1)) (hi : lv[(k : Nat)]? = some (some v)) (hq : pc + 1 = q) (kk : GO E I d rc rs q lv (v :: st) h Q) (hv : gN v := by exact ⟨_, rfl⟩) : GO E I d rc rs pc lv st h Q := by
  subst hq; obtain ⟨x, rfl⟩ := hv; exact GO.pure (fun hc hl k => lv_iload_n hc.1 hc.2.1 hd rfl (hl.at hi) k) kk
theorem g_iload {i : Nat} {v : Value} (hd : decode I.2.1 pc = .ok (.iload i, 2)) (hi : lv[i]? = some (some v)) (hq : pc + 2 = q) (kk : GO E I d rc rs q lv (v :: st) h Q) (hv : gN v := by exact ⟨_, rfl⟩) : GO E I d rc rs pc lv st h Q := by
  subst hq; obtain ⟨x, rfl⟩ := hv; exact GO.pure (fun hc hl k => lv_iload hc.1 hc.2.1 hd (hl.at hi) k) kk
theorem g_lload_n {k : Fin 4} {v : Value} (hd : decode I.2.1 pc = .ok (.lload_n k, 1)) (hi : lv[(k : Nat)]? = some (some v)) (hq : pc + 1 = q) (kk : GO E I d rc rs q lv (v :: st) h Q) (hv : gNL v := by exact ⟨_, rfl⟩) : GO E I d rc rs pc lv st h Q := by
  subst hq; obtain ⟨x, rfl⟩ := hv; exact GO.pure (fun hc hl k => lv_lload_n hc.1 hc.2.1 hd rfl (hl.at hi) k) kk
theorem g_lload {i : Nat} {v : Value} (hd : decode I.2.1 pc = .ok (.lload i, 2)) (hi : lv[i]? = some (some v)) (hq : pc + 2 = q) (kk : GO E I d rc rs q lv (v :: st) h Q) (hv : gNL v := by exact ⟨_, rfl⟩) : GO E I d rc rs pc lv st h Q := by
  subst hq; obtain ⟨x, rfl⟩ := hv; exact GO.pure (fun hc hl k => lv_lload hc.1 hc.2.1 hd (hl.at hi) k) kk
theorem g_aload_n {k : Fin 4} {v : Value} (hd : decode I.2.1 pc = .ok (.aload_n k, 1)) (hi : lv[(k : Nat)]? = some (some v)) (hq : pc + 1 = q) (kk : GO E I d rc rs q lv (v :: st) h Q) (hv : gR v := by first | exact gR_ref | exact gR_null | exact gR_rf) : GO E I d rc rs pc lv st h Q := by
  subst hq
  rcases hv with rfl | ⟨a, rfl⟩
  · exact GO.pure (fun hc hl k => lv_aload_nN hc.1 hc.2.1 hd rfl (hl.at hi) k) kk
  · exact GO.pure (fun hc hl k => lv_aload_n hc.1 hc.2.1 hd rfl (hl.at hi) k) kk
theorem g_aload {i : Nat} {v : Value} (hd : decode I.2.1 pc = .ok (.aload i, 2)) (hi : lv[i]? = some (some v)) (hq : pc + 2 = q) (kk : GO E I d rc rs q lv (v :: st) h Q) (hv : gR v := by first | exact gR_ref | exact gR_null | exact gR_rf) : GO E I d rc rs pc lv st h Q := by
  subst hq
  rcases hv with rfl | ⟨a, rfl⟩
  · exact GO.pure (fun hc hl k => lv_aloadN hc.1 hc.2.1 hd (hl.at hi) k) kk
  · exact GO.pure (fun hc hl k => lv_aload hc.1 hc.2.1 hd (hl.at hi) k) kk
/-- the list of locals with a new value of one word at a place -/
def gSet1 : List (Option Value) → Nat → Value → List (Option Value) → Prop
  | [], _, _, _ => False
  | _ :: t, 0, v, l => l = some v :: t
  | a :: t, 1, v, l => (∀ w, a = some w → w.category = 1) ∧ ∃ t', l = a :: t' ∧ gSet1 t 0 v t'
  | a :: t, i + 2, v, l => ∃ t', l = a :: t' ∧ gSet1 t (i + 1) v t'
theorem gSet1.len : ∀ {lv : List (Option Value)} {i : Nat} {v : Value} {l : List (Option Value)}, gSet1 lv i v l → l.length = lv.length ∧ i < lv.length
  | [], _, _, _, h => h.elim
  | _ :: t, 0, v, l, h => by
    have h : l = some v :: t := h
    subst h; simp
  | a :: t, 1, v, l, h => by
    obtain ⟨-, t', rfl, h⟩ := h
    have := gSet1.len h
    simp; omega
  | a :: t, i + 2, v, l, h => by
    obtain ⟨t', rfl, h⟩ := h
    have := gSet1.len h
    simp; omega
theorem gSet1.at : ∀ {lv : List (Option Value)} {i : Nat} {v : Value} {l : List (Option Value)}, gSet1 lv i v l → ∀ (j : Nat) (w : Value), l[j]? = some (some w) → (j = i ∧ w = v) ∨ (j ≠ i ∧ lv[j]? = some (some w) ∧ (j + 1 = i → w.category = 1))
  | [], _, _, _, h => h.elim
  | _ :: t, 0, v, l, h => by
    have h : l = some v :: t := h
    subst h
    intro j w hj
    cases j with
    | zero => left; simp at hj; exact ⟨rfl, hj.symm⟩
    | succ j => right; simp at hj; exact ⟨by omega, by simpa using hj, by omega⟩
  | a :: t, 1, v, l, h => by
    obtain ⟨h0, t', rfl, h⟩ := h
    intro j w hj
    cases j with
    | zero => right; simp at hj; exact ⟨by omega, by simp [hj], fun _ => h0 w hj⟩
    | succ j =>
      simp at hj
      rcases gSet1.at h j w hj with ⟨r1, r2⟩ | ⟨r1, r2, r3⟩
      · left; exact ⟨by omega, r2⟩
      · right; exact ⟨by omega, by simpa using r2, fun q => r3 (by omega)⟩
  | a :: t, i + 2, v, l, h => by
    obtain ⟨t', rfl, h⟩ := h
    intro j w hj
    cases j with
    | zero => right; simp at hj; exact ⟨by omega, by simp [hj], by omega⟩
    | succ j =>
      simp at hj
      rcases gSet1.at h j w hj with ⟨r1, r2⟩ | ⟨r1, r2, r3⟩
      · left; exact ⟨by omega, r2⟩
      · right; exact ⟨by omega, by simpa using r2, fun q => r3 (by omega)⟩
/-- a long at a place (and the next) -/
def gSet2 : List (Option Value) → Nat → Value → List (Option Value) → Prop
  | [], _, _, _ => False
  | [_], _, _, _ => False
  | _ :: _ :: t, 0, v, l => l = some v :: none :: t
  | a :: b :: t, 1, v, l => (∀ w, a = some w → w.category = 1) ∧ ∃ t', l = a :: t' ∧ gSet2 (b :: t) 0 v t'
  | a :: b :: t, i + 2, v, l => ∃ t', l = a :: t' ∧ gSet2 (b :: t) (i + 1) v t'
theorem gSet2.len : ∀ {lv : List (Option Value)} {i : Nat} {v : Value} {l : List (Option Value)}, gSet2 lv i v l → l.length = lv.length ∧ i + 1 < lv.length
  | [], _, _, _, h => h.elim
  | [_], _, _, _, h => h.elim
  | _ :: _ :: t, 0, v, l, h => by
    have h : l = some v :: none :: t := h
    subst h; simp
  | a :: b :: t, 1, v, l, h => by
    obtain ⟨-, t', rfl, h⟩ := h
    have := gSet2.len h
    simp at this ⊢; omega
  | a :: b :: t, i + 2, v, l, h => by
    obtain ⟨t', rfl, h⟩ := h
    have := gSet2.len h
    simp at this ⊢; omega
theorem gSet2.at : ∀ {lv : List (Option Value)} {i : Nat} {v : Value} {l : List (Option Value)}, gSet2 lv i v l → ∀ (j : Nat) (w : Value), l[j]? = some (some w) → (j = i ∧ w = v) ∨ (j ≠ i ∧ j ≠ i + 1 ∧ lv[j]? = some (some w) ∧ (j + 1 = i → w.category = 1))
  | [], _, _, _, h => h.elim
  | [_], _, _, _, h => h.elim
  | _ :: _ :: t, 0, v, l, h => by
    have h : l = some v :: none :: t := h
    subst h
    intro j w hj
    match j, hj with
    | 0, hj => left; simp at hj; exact ⟨rfl, hj.symm⟩
    | 1, hj => simp at hj
    | j + 2, hj => right; simp at hj; exact ⟨by omega, by omega, by simpa using hj, by omega⟩
  | a :: b :: t, 1, v, l, h => by
    obtain ⟨h0, t', rfl, h⟩ := h
    intro j w hj
    cases j with
    | zero => right; simp at hj; exact ⟨by omega, by omega, by simp [hj], fun _ => h0 w hj⟩
    | succ j =>
      simp at hj
      rcases gSet2.at h j w hj with ⟨r1, r2⟩ | ⟨r1, r4, r2, r3⟩
      · left; exact ⟨by omega, r2⟩
      · right; exact ⟨by omega, by omega, by simpa using r2, fun q => r3 (by omega)⟩
  | a :: b :: t, i + 2, v, l, h => by
    obtain ⟨t', rfl, h⟩ := h
    intro j w hj
    cases j with
    | zero => right; simp at hj; exact ⟨by omega, by omega, by simp [hj], by omega⟩
    | succ j =>
      simp at hj
      rcases gSet2.at h j w hj with ⟨r1, r2⟩ | ⟨r1, r4, r2, r3⟩
      · left; exact ⟨by omega, r2⟩
      · right; exact ⟨by omega, by omega, by simpa using r2, fun q => r3 (by omega)⟩
theorem gLv.set1 {lv' : List (Option Value)} {ls' : Array Slot} {n i : Nat} {v : Value} (hs : gSet1 lv i v lv') (hn : lv.length = n) (h' : lv_has ls' n ((i, v) :: (gA lv).filter (fun q => !(q.1 == i) && !(q.1 + 1 == i && q.2.category == 2)))) : gLv ls' n lv' := by
  refine ⟨⟨h'.1, h'.2.1, ?_⟩, hs.len.1.trans hn⟩
  rintro ⟨j, w⟩ hq
  refine h'.2.2 (j, w) ?_
  rcases hs.at j w (gA_mem.mp hq) with ⟨rfl, rfl⟩ | ⟨r1, r2, r3⟩
  · exact List.mem_cons_self
  · refine List.mem_cons_of_mem _ (List.mem_filter.mpr ⟨gA_mem.mpr r2, ?_⟩)
    simp only [Bool.and_eq_true, Bool.not_eq_true', beq_eq_false_iff_ne, ne_eq, Bool.and_eq_false_iff]
    refine ⟨r1, ?_⟩
    by_cases e : j + 1 = i
    · right; rw [r3 e]; decide
    · left; exact e
theorem gLv.set2 {lv' : List (Option Value)} {ls' : Array Slot} {n i : Nat} {v : Value} (hs : gSet2 lv i v lv') (hn : lv.length = n) (h' : lv_has ls' n ((i, v) :: (gA lv).filter (fun q => !(q.1 == i) && (!(q.1 == i + 1) && !(q.1 + 1 == i && q.2.category == 2))))) : gLv ls' n lv' := by
  refine ⟨⟨h'.1, h'.2.1, ?_⟩, hs.len.1.trans hn⟩
  rintro ⟨j, w⟩ hq
  refine h'.2.2 (j, w) ?_
  rcases hs.at j w (gA_mem.mp hq) with ⟨rfl, rfl⟩ | ⟨r1, r4, r2, r3⟩
  · exact List.mem_cons_self
  · refine List.mem_cons_of_mem _ (List.mem_filter.mpr ⟨gA_mem.mpr r2, ?_⟩)
    simp only [Bool.and_eq_true, Bool.not_eq_true', beq_eq_false_iff_ne, ne_eq, Bool.and_eq_false_iff]
    refine ⟨r1, r4, ?_⟩
    by_cases e : j + 1 = i
    · right; rw [r3 e]; decide
    · left; exact e
theorem gs0 {a0 : Option Value} {t : List (Option Value)} {v : Value} : gSet1 (a0 :: t) 0 v (some v :: t) := rfl
theorem gs1 {a0 a1 : Option Value} {t : List (Option Value)} {v : Value} (hc : ∀ w, a0 = some w → w.category = 1 := by first | exact fun _ h => by cases h; rfl | exact fun _ h => by cases h) : gSet1 (a0 :: a1 :: t) 1 v (a0 :: some v :: t) := ⟨hc, _, rfl, rfl⟩
theorem gs2 {a0 a1 a2 : Option Value} {t : List (Option Value)} {v : Value} (hc : ∀ w, a1 = some w → w.category = 1 := by first | exact fun _ h => by cases h; rfl | exact fun _ h => by cases h) : gSet1 (a0 :: a1 :: a2 :: t) 2 v (a0 :: a1 :: some v :: t) := ⟨_, rfl, ⟨hc, _, rfl, rfl⟩⟩
theorem gs3 {a0 a1 a2 a3 : Option Value} {t : List (Option Value)} {v : Value} (hc : ∀ w, a2 = some w → w.category = 1 := by first | exact fun _ h => by cases h; rfl | exact fun _ h => by cases h) : gSet1 (a0 :: a1 :: a2 :: a3 :: t) 3 v (a0 :: a1 :: a2 :: some v :: t) := ⟨_, rfl, ⟨_, rfl, ⟨hc, _, rfl, rfl⟩⟩⟩
theorem gs4 {a0 a1 a2 a3 a4 : Option Value} {t : List (Option Value)} {v : Value} (hc : ∀ w, a3 = some w → w.category = 1 := by first | exact fun _ h => by cases h; rfl | exact fun _ h => by cases h) : gSet1 (a0 :: a1 :: a2 :: a3 :: a4 :: t) 4 v (a0 :: a1 :: a2 :: a3 :: some v :: t) := ⟨_, rfl, ⟨_, rfl, ⟨_, rfl, ⟨hc, _, rfl, rfl⟩⟩⟩⟩
theorem gs5 {a0 a1 a2 a3 a4 a5 : Option Value} {t : List (Option Value)} {v : Value} (hc : ∀ w, a4 = some w → w.category = 1 := by first | exact fun _ h => by cases h; rfl | exact fun _ h => by cases h) : gSet1 (a0 :: a1 :: a2 :: a3 :: a4 :: a5 :: t) 5 v (a0 :: a1 :: a2 :: a3 :: a4 :: some v :: t) := ⟨_, rfl, ⟨_, rfl, ⟨_, rfl, ⟨_, rfl, ⟨hc, _, rfl, rfl⟩⟩⟩⟩⟩
theorem gs6 {a0 a1 a2 a3 a4 a5 a6 : Option Value} {t : List (Option Value)} {v : Value} (hc : ∀ w, a5 = some w → w.category = 1 := by first | exact fun _ h => by cases h; rfl | exact fun _ h => by cases h) : gSet1 (a0 :: a1 :: a2 :: a3 :: a4 :: a5 :: a6 :: t) 6 v (a0 :: a1 :: a2 :: a3 :: a4 :: a5 :: some v :: t) := ⟨_, rfl, ⟨_, rfl, ⟨_, rfl, ⟨_, rfl, ⟨_, rfl, ⟨hc, _, rfl, rfl⟩⟩⟩⟩⟩⟩
theorem gs7 {a0 a1 a2 a3 a4 a5 a6 a7 : Option Value} {t : List (Option Value)} {v : Value} (hc : ∀ w, a6 = some w → w.category = 1 := by first | exact fun _ h => by cases h; rfl | exact fun _ h => by cases h) : gSet1 (a0 :: a1 :: a2 :: a3 :: a4 :: a5 :: a6 :: a7 :: t) 7 v (a0 :: a1 :: a2 :: a3 :: a4 :: a5 :: a6 :: some v :: t) := ⟨_, rfl, ⟨_, rfl, ⟨_, rfl, ⟨_, rfl, ⟨_, rfl, ⟨_, rfl, ⟨hc, _, rfl, rfl⟩⟩⟩⟩⟩⟩⟩
theorem gs8 {a0 a1 a2 a3 a4 a5 a6 a7 a8 : Option Value} {t : List (Option Value)} {v : Value} (hc : ∀ w, a7 = some w → w.category = 1 := by first | exact fun _ h => by cases h; rfl | exact fun _ h => by cases h) : gSet1 (a0 :: a1 :: a2 :: a3 :: a4 :: a5 :: a6 :: a7 :: a8 :: t) 8 v (a0 :: a1 :: a2 :: a3 :: a4 :: a5 :: a6 :: a7 :: some v :: t) := ⟨_, rfl, ⟨_, rfl, ⟨_, rfl, ⟨_, rfl, ⟨_, rfl, ⟨_, rfl, ⟨_, rfl, ⟨hc, _, rfl, rfl⟩⟩⟩⟩⟩⟩⟩⟩
theorem gs9 {a0 a1 a2 a3 a4 a5 a6 a7 a8 a9 : Option Value} {t : List (Option Value)} {v : Value} (hc : ∀ w, a8 = some w → w.category = 1 := by first | exact fun _ h => by cases h; rfl | exact fun _ h => by cases h) : gSet1 (a0 :: a1 :: a2 :: a3 :: a4 :: a5 :: a6 :: a7 :: a8 :: a9 :: t) 9 v (a0 :: a1 :: a2 :: a3 :: a4 :: a5 :: a6 :: a7 :: a8 :: some v :: t) := ⟨_, rfl, ⟨_, rfl, ⟨_, rfl, ⟨_, rfl, ⟨_, rfl, ⟨_, rfl, ⟨_, rfl, ⟨_, rfl, ⟨hc, _, rfl, rfl⟩⟩⟩⟩⟩⟩⟩⟩⟩
theorem gs10 {a0 a1 a2 a3 a4 a5 a6 a7 a8 a9 a10 : Option Value} {t : List (Option Value)} {v : Value} (hc : ∀ w, a9 = some w → w.category = 1 := by first | exact fun _ h => by cases h; rfl | exact fun _ h => by cases h) : gSet1 (a0 :: a1 :: a2 :: a3 :: a4 :: a5 :: a6 :: a7 :: a8 :: a9 :: a10 :: t) 10 v (a0 :: a1 :: a2 :: a3 :: a4 :: a5 :: a6 :: a7 :: a8 :: a9 :: some v :: t) := ⟨_, rfl, ⟨_, rfl, ⟨_, rfl, ⟨_, rfl, ⟨_, rfl, ⟨_, rfl, ⟨_, rfl, ⟨_, rfl, ⟨_, rfl, ⟨hc, _, rfl, rfl⟩⟩⟩⟩⟩⟩⟩⟩⟩⟩
theorem gs11 {a0 a1 a2 a3 a4 a5 a6 a7 a8 a9 a10 a11 : Option Value} {t : List (Option Value)} {v : Value} (hc : ∀ w, a10 = some w → w.category = 1 := by first | exact fun _ h => by cases h; rfl | exact fun _ h => by cases h) : gSet1 (a0 :: a1 :: a2 :: a3 :: a4 :: a5 :: a6 :: a7 :: a8 :: a9 :: a10 :: a11 :: t) 11 v (a0 :: a1 :: a2 :: a3 :: a4 :: a5 :: a6 :: a7 :: a8 :: a9 :: a10 :: some v :: t) := ⟨_, rfl, ⟨_, rfl, ⟨_, rfl, ⟨_, rfl, ⟨_, rfl, ⟨_, rfl, ⟨_, rfl, ⟨_, rfl, ⟨_, rfl, ⟨_, rfl, ⟨hc, _, rfl, rfl⟩⟩⟩⟩⟩⟩⟩⟩⟩⟩⟩
theorem gs12 {a0 a1 a2 a3 a4 a5 a6 a7 a8 a9 a10 a11 a12 : Option Value} {t : List (Option Value)} {v : Value} (hc : ∀ w, a11 = some w → w.category = 1 := by first | exact fun _ h => by cases h; rfl | exact fun _ h => by cases h) : gSet1 (a0 :: a1 :: a2 :: a3 :: a4 :: a5 :: a6 :: a7 :: a8 :: a9 :: a10 :: a11 :: a12 :: t) 12 v (a0 :: a1 :: a2 :: a3 :: a4 :: a5 :: a6 :: a7 :: a8 :: a9 :: a10 :: a11 :: some v :: t) := ⟨_, rfl, ⟨_, rfl, ⟨_, rfl, ⟨_, rfl, ⟨_, rfl, ⟨_, rfl, ⟨_, rfl, ⟨_, rfl, ⟨_, rfl, ⟨_, rfl, ⟨_, rfl, ⟨hc, _, rfl, rfl⟩⟩⟩⟩⟩⟩⟩⟩⟩⟩⟩⟩
theorem gs13 {a0 a1 a2 a3 a4 a5 a6 a7 a8 a9 a10 a11 a12 a13 : Option Value} {t : List (Option Value)} {v : Value} (hc : ∀ w, a12 = some w → w.category = 1 := by first | exact fun _ h => by cases h; rfl | exact fun _ h => by cases h) : gSet1 (a0 :: a1 :: a2 :: a3 :: a4 :: a5 :: a6 :: a7 :: a8 :: a9 :: a10 :: a11 :: a12 :: a13 :: t) 13 v (a0 :: a1 :: a2 :: a3 :: a4 :: a5 :: a6 :: a7 :: a8 :: a9 :: a10 :: a11 :: a12 :: some v :: t) := ⟨_, rfl, ⟨_, rfl, ⟨_, rfl, ⟨_, rfl, ⟨_, rfl, ⟨_, rfl, ⟨_, rfl, ⟨_, rfl, ⟨_, rfl, ⟨_, rfl, ⟨_, rfl, ⟨_, rfl, ⟨hc, _, rfl, rfl⟩⟩⟩⟩⟩⟩⟩⟩⟩⟩⟩⟩⟩
theorem gs14 {a0 a1 a2 a3 a4 a5 a6 a7 a8 a9 a10 a11 a12 a13 a14 : Option Value} {t : List (Option Value)} {v : Value} (hc : ∀ w, a13 = some w → w.category = 1 := by first | exact fun _ h => by cases h; rfl | exact fun _ h => by cases h) : gSet1 (a0 :: a1 :: a2 :: a3 :: a4 :: a5 :: a6 :: a7 :: a8 :: a9 :: a10 :: a11 :: a12 :: a13 :: a14 :: t) 14 v (a0 :: a1 :: a2 :: a3 :: a4 :: a5 :: a6 :: a7 :: a8 :: a9 :: a10 :: a11 :: a12 :: a13 :: some v :: t) := ⟨_, rfl, ⟨_, rfl, ⟨_, rfl, ⟨_, rfl, ⟨_, rfl, ⟨_, rfl, ⟨_, rfl, ⟨_, rfl, ⟨_, rfl, ⟨_, rfl, ⟨_, rfl, ⟨_, rfl, ⟨_, rfl, ⟨hc, _, rfl, rfl⟩⟩⟩⟩⟩⟩⟩⟩⟩⟩⟩⟩⟩⟩
theorem gs15 {a0 a1 a2 a3 a4 a5 a6 a7 a8 a9 a10 a11 a12 a13 a14 a15 : Option Value} {t : List (Option Value)} {v : Value} (hc : ∀ w, a14 = some w → w.category = 1 := by first | exact fun _ h => by cases h; rfl | exact fun _ h => by cases h) : gSet1 (a0 :: a1 :: a2 :: a3 :: a4 :: a5 :: a6 :: a7 :: a8 :: a9 :: a10 :: a11 :: a12 :: a13 :: a14 :: a15 :: t) 15 v (a0 :: a1 :: a2 :: a3 :: a4 :: a5 :: a6 :: a7 :: a8 :: a9 :: a10 :: a11 :: a12 :: a13 :: a14 :: some v :: t) := ⟨_, rfl, ⟨_, rfl, ⟨_, rfl, ⟨_, rfl, ⟨_, rfl, ⟨_, rfl, ⟨_, rfl, ⟨_, rfl, ⟨_, rfl, ⟨_, rfl, ⟨_, rfl, ⟨_, rfl, ⟨_, rfl, ⟨_, rfl, ⟨hc, _, rfl, rfl⟩⟩⟩⟩⟩⟩⟩⟩⟩⟩⟩⟩⟩⟩⟩
theorem gt0 {a0 a1 : Option Value} {t : List (Option Value)} {v : Value} : gSet2 (a0 :: a1 :: t) 0 v (some v :: none :: t) := rfl
theorem gt1 {a0 a1 a2 : Option Value} {t : List (Option Value)} {v : Value} (hc : ∀ w, a0 = some w → w.category = 1 := by first | exact fun _ h => by cases h; rfl | exact fun _ h => by cases h) : gSet2 (a0 :: a1 :: a2 :: t) 1 v (a0 :: some v :: none :: t) := ⟨hc, _, rfl, rfl⟩
theorem gt2 {a0 a1 a2 a3 : Option Value} {t : List (Option Value)} {v : Value} (hc : ∀ w, a1 = some w → w.category = 1 := by first | exact fun _ h => by cases h; rfl | exact fun _ h => by cases h) : gSet2 (a0 :: a1 :: a2 :: a3 :: t) 2 v (a0 :: a1 :: some v :: none :: t) := ⟨_, rfl, ⟨hc, _, rfl, rfl⟩⟩
theorem gt3 {a0 a1 a2 a3 a4 : Option Value} {t : List (Option Value)} {v : Value} (hc : ∀ w, a2 = some w → w.category = 1 := by first | exact fun _ h => by cases h; rfl | exact fun _ h => by cases h) : gSet2 (a0 :: a1 :: a2 :: a3 :: a4 :: t) 3 v (a0 :: a1 :: a2 :: some v :: none :: t) := ⟨_, rfl, ⟨_, rfl, ⟨hc, _, rfl, rfl⟩⟩⟩
theorem gt4 {a0 a1 a2 a3 a4 a5 : Option Value} {t : List (Option Value)} {v : Value} (hc : ∀ w, a3 = some w → w.category = 1 := by first | exact fun _ h => by cases h; rfl | exact fun _ h => by cases h) : gSet2 (a0 :: a1 :: a2 :: a3 :: a4 :: a5 :: t) 4 v (a0 :: a1 :: a2 :: a3 :: some v :: none :: t) := ⟨_, rfl, ⟨_, rfl, ⟨_, rfl, ⟨hc, _, rfl, rfl⟩⟩⟩⟩
theorem gt5 {a0 a1 a2 a3 a4 a5 a6 : Option Value} {t : List (Option Value)} {v : Value} (hc : ∀ w, a4 = some w → w.category = 1 := by first | exact fun _ h => by cases h; rfl | exact fun _ h => by cases h) : gSet2 (a0 :: a1 :: a2 :: a3 :: a4 :: a5 :: a6 :: t) 5 v (a0 :: a1 :: a2 :: a3 :: a4 :: some v :: none :: t) := ⟨_, rfl, ⟨_, rfl, ⟨_, rfl, ⟨_, rfl, ⟨hc, _, rfl, rfl⟩⟩⟩⟩⟩
theorem gt6 {a0 a1 a2 a3 a4 a5 a6 a7 : Option Value} {t : List (Option Value)} {v : Value} (hc : ∀ w, a5 = some w → w.category = 1 := by first | exact fun _ h => by cases h; rfl | exact fun _ h => by cases h) : gSet2 (a0 :: a1 :: a2 :: a3 :: a4 :: a5 :: a6 :: a7 :: t) 6 v (a0 :: a1 :: a2 :: a3 :: a4 :: a5 :: some v :: none :: t) := ⟨_, rfl, ⟨_, rfl, ⟨_, rfl, ⟨_, rfl, ⟨_, rfl, ⟨hc, _, rfl, rfl⟩⟩⟩⟩⟩⟩
theorem gt7 {a0 a1 a2 a3 a4 a5 a6 a7 a8 : Option Value} {t : List (Option Value)} {v : Value} (hc : ∀ w, a6 = some w → w.category = 1 := by first | exact fun _ h => by cases h; rfl | exact fun _ h => by cases h) : gSet2 (a0 :: a1 :: a2 :: a3 :: a4 :: a5 :: a6 :: a7 :: a8 :: t) 7 v (a0 :: a1 :: a2 :: a3 :: a4 :: a5 :: a6 :: some v :: none :: t) := ⟨_, rfl, ⟨_, rfl, ⟨_, rfl, ⟨_, rfl, ⟨_, rfl, ⟨_, rfl, ⟨hc, _, rfl, rfl⟩⟩⟩⟩⟩⟩⟩
theorem gt8 {a0 a1 a2 a3 a4 a5 a6 a7 a8 a9 : Option Value} {t : List (Option Value)} {v : Value} (hc : ∀ w, a7 = some w → w.category = 1 := by first | exact fun _ h => by cases h; rfl | exact fun _ h => by cases h) : gSet2 (a0 :: a1 :: a2 :: a3 :: a4 :: a5 :: a6 :: a7 :: a8 :: a9 :: t) 8 v (a0 :: a1 :: a2 :: a3 :: a4 :: a5 :: a6 :: a7 :: some v :: none :: t) := ⟨_, rfl, ⟨_, rfl, ⟨_, rfl, ⟨_, rfl, ⟨_, rfl, ⟨_, rfl, ⟨_, rfl, ⟨hc, _, rfl, rfl⟩⟩⟩⟩⟩⟩⟩⟩
theorem gt9 {a0 a1 a2 a3 a4 a5 a6 a7 a8 a9 a10 : Option Value} {t : List (Option Value)} {v : Value} (hc : ∀ w, a8 = some w → w.category = 1 := by first | exact fun _ h => by cases h; rfl | exact fun _ h => by cases h) : gSet2 (a0 :: a1 :: a2 :: a3 :: a4 :: a5 :: a6 :: a7 :: a8 :: a9 :: a10 :: t) 9 v (a0 :: a1 :: a2 :: a3 :: a4 :: a5 :: a6 :: a7 :: a8 :: some v :: none :: t) := ⟨_, rfl, ⟨_, rfl, ⟨_, rfl, ⟨_, rfl, ⟨_, rfl, ⟨_, rfl, ⟨_, rfl, ⟨_, rfl, ⟨hc, _, rfl, rfl⟩⟩⟩⟩⟩⟩⟩⟩⟩
theorem gt10 {a0 a1 a2 a3 a4 a5 a6 a7 a8 a9 a10 a11 : Option Value} {t : List (Option Value)} {v : Value} (hc : ∀ w, a9 = some w → w.category = 1 := by first | exact fun _ h => by cases h; rfl | exact fun _ h => by cases h) : gSet2 (a0 :: a1 :: a2 :: a3 :: a4 :: a5 :: a6 :: a7 :: a8 :: a9 :: a10 :: a11 :: t) 10 v (a0 :: a1 :: a2 :: a3 :: a4 :: a5 :: a6 :: a7 :: a8 :: a9 :: some v :: none :: t) := ⟨_, rfl, ⟨_, rfl, ⟨_, rfl, ⟨_, rfl, ⟨_, rfl, ⟨_, rfl, ⟨_, rfl, ⟨_, rfl, ⟨_, rfl, ⟨hc, _, rfl, rfl⟩⟩⟩⟩⟩⟩⟩⟩⟩⟩
theorem gt11 {a0 a1 a2 a3 a4 a5 a6 a7 a8 a9 a10 a11 a12 : Option Value} {t : List (Option Value)} {v : Value} (hc : ∀ w, a10 = some w → w.category = 1 := by first | exact fun _ h => by cases h; rfl | exact fun _ h => by cases h) : gSet2 (a0 :: a1 :: a2 :: a3 :: a4 :: a5 :: a6 :: a7 :: a8 :: a9 :: a10 :: a11 :: a12 :: t) 11 v (a0 :: a1 :: a2 :: a3 :: a4 :: a5 :: a6 :: a7 :: a8 :: a9 :: a10 :: some v :: none :: t) := ⟨_, rfl, ⟨_, rfl, ⟨_, rfl, ⟨_, rfl, ⟨_, rfl, ⟨_, rfl, ⟨_, rfl, ⟨_, rfl, ⟨_, rfl, ⟨_, rfl, ⟨hc, _, rfl, rfl⟩⟩⟩⟩⟩⟩⟩⟩⟩⟩⟩
theorem gt12 {a0 a1 a2 a3 a4 a5 a6 a7 a8 a9 a10 a11 a12 a13 : Option Value} {t : List (Option Value)} {v : Value} (hc : ∀ w, a11 = some w → w.category = 1 := by first | exact fun _ h => by cases h; rfl | exact fun _ h => by cases h) : gSet2 (a0 :: a1 :: a2 :: a3 :: a4 :: a5 :: a6 :: a7 :: a8 :: a9 :: a10 :: a11 :: a12 :: a13 :: t) 12 v (a0 :: a1 :: a2 :: a3 :: a4 :: a5 :: a6 :: a7 :: a8 :: a9 :: a10 :: a11 :: some v :: none :: t) := ⟨_, rfl, ⟨_, rfl, ⟨_, rfl, ⟨_, rfl, ⟨_, rfl, ⟨_, rfl, ⟨_, rfl, ⟨_, rfl, ⟨_, rfl, ⟨_, rfl, ⟨_, rfl, ⟨hc, _, rfl, rfl⟩⟩⟩⟩⟩⟩⟩⟩⟩⟩⟩⟩
theorem gt13 {a0 a1 a2 a3 a4 a5 a6 a7 a8 a9 a10 a11 a12 a13 a14 : Option Value} {t : List (Option Value)} {v : Value} (hc : ∀ w, a12 = some w → w.category = 1 := by first | exact fun _ h => by cases h; rfl | exact fun _ h => by cases h) : gSet2 (a0 :: a1 :: a2 :: a3 :: a4 :: a5 :: a6 :: a7 :: a8 :: a9 :: a10 :: a11 :: a12 :: a13 :: a14 :: t) 13 v (a0 :: a1 :: a2 :: a3 :: a4 :: a5 :: a6 :: a7 :: a8 :: a9 :: a10 :: a11 :: a12 :: some v :: none :: t) := ⟨_, rfl, ⟨_, rfl, ⟨_, rfl, ⟨_, rfl, ⟨_, rfl, ⟨_, rfl, ⟨_, rfl, ⟨_, rfl, ⟨_, rfl, ⟨_, rfl, ⟨_, rfl, ⟨_, rfl, ⟨hc, _, rfl, rfl⟩⟩⟩⟩⟩⟩⟩⟩⟩⟩⟩⟩⟩
theorem g_istore_n {k : Fin 4} {v : Value} {lv' : List (Option Value)} (hd : decode I.2.1 pc = .ok (.istore_n k, 1)) (hs : gSet1 lv (k : Nat) v lv') (hq : pc + 1 = q) (kk : GO E I d rc rs q lv' st h Q) (hv : gN v := by exact ⟨_, rfl⟩) : GO E I d rc rs pc lv (v :: st) h Q := by
  subst hq
  obtain ⟨x, rfl⟩ := hv
  intro p l e R s m args below meth c H locs k n ls hc a1 a2 a3 a4 hR hL hl
  exact lv_istore_n hc.1 hc.2.1 hd rfl hl.1 (by rw [← hl.2]; exact hs.len.2) rfl fun ls' h' => kk p l e R s m args below meth c H locs k n ls' hc a1 a2 a3 a4 hR hL (gLv.set1 hs hl.2 h')
theorem g_istore {i : Nat} {v : Value} {lv' : List (Option Value)} (hd : decode I.2.1 pc = .ok (.istore i, 2)) (hs : gSet1 lv i v lv') (hq : pc + 2 = q) (kk : GO E I d rc rs q lv' st h Q) (hv : gN v := by exact ⟨_, rfl⟩) : GO E I d rc rs pc lv (v :: st) h Q := by
  subst hq
  obtain ⟨x, rfl⟩ := hv
  intro p l e R s m args below meth c H locs k n ls hc a1 a2 a3 a4 hR hL hl
  exact lv_istore hc.1 hc.2.1 hd hl.1 (by rw [← hl.2]; exact hs.len.2) rfl fun ls' h' => kk p l e R s m args below meth c H locs k n ls' hc a1 a2 a3 a4 hR hL (gLv.set1 hs hl.2 h')
theorem g_lstore_n {k : Fin 4} {v : Value} {lv' : List (Option Value)} (hd : decode I.2.1 pc = .ok (.lstore_n k, 1)) (hs : gSet2 lv (k : Nat) v lv') (hq : pc + 1 = q) (kk : GO E I d rc rs q lv' st h Q) (hv : gNL v := by exact ⟨_, rfl⟩) : GO E I d rc rs pc lv (v :: st) h Q := by
  subst hq
  obtain ⟨x, rfl⟩ := hv
  intro p l e R s m args below meth c H locs k n ls hc a1 a2 a3 a4 hR hL hl
  exact lv_lstore_n hc.1 hc.2.1 hd rfl hl.1 (by rw [← hl.2]; exact hs.len.2) rfl fun ls' h' => kk p l e R s m args below meth c H locs k n ls' hc a1 a2 a3 a4 hR hL (gLv.set2 hs hl.2 h')
theorem g_lstore {i : Nat} {v : Value} {lv' : List (Option Value)} (hd : decode I.2.1 pc = .ok (.lstore i, 2)) (hs : gSet2 lv i v lv') (hq : pc + 2 = q) (kk : GO E I d rc rs q lv' st h Q) (hv : gNL v := by exact ⟨_, rfl⟩) : GO E I d rc rs pc lv (v :: st) h Q := by
  subst hq
  obtain ⟨x, rfl⟩ := hv
  intro p l e R s m args below meth c H locs k n ls hc a1 a2 a3 a4 hR hL hl
  exact lv_lstore hc.1 hc.2.1 hd hl.1 (by rw [← hl.2]; exact hs.len.2) rfl fun ls' h' => kk p l e R s m args below meth c H locs k n ls' hc a1 a2 a3 a4 hR hL (gLv.set2 hs hl.2 h')
theorem g_astore_n {k : Fin 4} {v : Value} {lv' : List (Option Value)} (hd : decode I.2.1 pc = .ok (.astore_n k, 1)) (hs : gSet1 lv (k : Nat) v lv') (hq : pc + 1 = q) (kk : GO E I d rc rs q lv' st h Q) (hv : gR v := by first | exact gR_ref | exact gR_null | exact gR_rf) : GO E I d rc rs pc lv (v :: st) h Q := by
  subst hq
  intro p l e R s m args below meth c H locs k n ls hc a1 a2 a3 a4 hR hL hl
  rcases hv with rfl | ⟨a, rfl⟩
  · exact lv_astore_nN hc.1 hc.2.1 hd rfl hl.1 (by rw [← hl.2]; exact hs.len.2) rfl fun ls' h' => kk p l e R s m args below meth c H locs k n ls' hc a1 a2 a3 a4 hR hL (gLv.set1 hs hl.2 h')
  · exact lv_astore_n hc.1 hc.2.1 hd rfl hl.1 (by rw [← hl.2]; exact hs.len.2) rfl fun ls' h' => kk p l e R s m args below meth c H locs k n ls' hc a1 a2 a3 a4 hR hL (gLv.set1 hs hl.2 h')
theorem g_astore {i : Nat} {v : Value} {lv' : List (Option Value)} (hd : decode I.2.1 pc = .ok (.astore i, 2)) (hs : gSet1 lv i v lv') (hq : pc + 2 = q) (kk : GO E I d rc rs q lv' st h Q) (hv : gR v := by first | exact gR_ref | exact gR_null | exact gR_rf) : GO E I d rc rs pc lv (v :: st) h Q := by
  subst hq
  intro p l e R s m args below meth c H locs k n ls hc a1 a2 a3 a4 hR hL hl
  rcases hv with rfl | ⟨a, rfl⟩
  · exact lv_astoreN hc.1 hc.2.1 hd hl.1 (by rw [← hl.2]; exact hs.len.2) rfl fun ls' h' => kk p l e R s m args below meth c H locs k n ls' hc a1 a2 a3 a4 hR hL (gLv.set1 hs hl.2 h')
  · exact lv_astore hc.1 hc.2.1 hd hl.1 (by rw [← hl.2]; exact hs.len.2) rfl fun ls' h' => kk p l e R s m args below meth c H locs k n ls' hc a1 a2 a3 a4 hR hL (gLv.set1 hs hl.2 h')
theorem g_iinc {i : Nat} {b a : Int} {lv' : List (Option Value)} (hd : decode I.2.1 pc = .ok (.iinc i b, 3)) (hi : lv[i]? = some (some (vI a))) (hs : gSet1 lv i (vI (a + b)) lv') (hq : pc + 3 = q) (kk : GO E I d rc rs q lv' st h Q) : GO E I d rc rs pc lv st h Q := by
  subst hq
  intro p l e R s m args below meth c H locs k n ls hc a1 a2 a3 a4 hR hL hl
  obtain ⟨kx, hk⟩ := List.getElem?_of_mem (gA_mem.mpr hi)
  exact lv_iinc (x := Int32.ofInt a) (v := Int32.ofInt (a + b)) hc.1 hc.2.1 hd hl.1 hk (Int32.ofInt_add a b).symm (by rw [← hl.2]; exact hs.len.2) rfl fun ls' h' => kk p l e R s m args below meth c H locs k n ls' hc a1 a2 a3 a4 hR hL (gLv.set1 hs hl.2 h')
end Rows
