/-! MY LOGIC, part 15: rows of rows made at once -/
set_option maxRecDepth 100000
/-- the outer row, i of its places filled; an inner block has P cells -/
def mOut (c : ClassId) (N h0 P i : Nat) : Cell := arrV c N (fun j => if j < i then .ref (h0 + 1 + j * P) else .null)
/-- i blocks are made -/
def mLoop (G : State → State) (c : ClassId) (N P : Nat) (s : State) : Nat → State
  | 0 => s.pushCell (mOut c N s.heap.size P 0)
  | i + 1 => (G (mLoop G c N P s i)).setCell s.heap.size (mOut c N s.heap.size P (i + 1))
/-- what a maker of a row does -/
def MKS (P S : Nat) (cont : Nat → Nat → Cell) (G : State → State) (s : State) : Prop :=
  (G s).heap.size = s.heap.size + P ∧ (G s).vm = s.vm ∧ (G s).slotsUsed = s.slotsUsed + S ∧ (∀ a, a < s.heap.size → (G s).heap[a]? = s.heap[a]?) ∧ (∀ j, j < P → (G s).heap[s.heap.size + j]? = some (cont s.heap.size j)) ∧ ∀ f : JFrame, G (s.setTop f) = (G s).setTop f
def MKW (e : Env) (vm : Vm) (c : ClassId) (ns : List Int32) (P S : Nat) (G : State → State) : Prop :=
  ∀ (E : CtlPost) (d : Bool) (acts : List Action) (s : State) (Q : Addr → Pre), s.vm = vm → s.heap.size + P ≤ e.platform.maxCells → s.slotsUsed + S ≤ e.platform.maxSlots → (∀ d' acts', Q s.heap.size d' acts' (G s)) → wp (Jvm.Op.multianewarray.make c ns) Q E e d acts s
def MKX (e : Env) (P S : Nat) (G : State → State) : Prop :=
  ∀ (p : Program) (l : Launch) (R : Room) (s0 : State) (m : MethodId) (args : Array Value) (below : List Frame) (meth : Method) (cd : Code) (T : State) (locs : List Loc) (cells slots : Nat), Stand p l e R s0 m args below meth cd T locs cells slots → ∃ locs', Stand p l e R s0 m args below meth cd (G T) locs' (cells + P) (slots + S) ∧ ∀ q ∈ locs', q ∈ locs ∨ T.heap.size ≤ q.base
section
variable {e : Env} {vm : Vm} {c comp : ClassId} {k : Class} {ty : FieldType} {n : Int32}
theorem mOut_0 {N h0 P : Nat} : mOut c N h0 P 0 = ({ cls := c, slots := Array.replicate N .null, vm := .none } : Cell) := by
  unfold mOut
  rw [arrV_new]
  congr 1
theorem mOut_s {N h0 P i : Nat} : (mOut c N h0 P i).setSlot i (.ref (h0 + 1 + i * P)) = mOut c N h0 P (i + 1) := by
  unfold mOut
  rw [arrV_store]
  congr 1
  funext j
  unfold updV
  by_cases z : j = i
  · subst z; rw [if_pos rfl, if_pos (by omega)]
  · rw [if_neg z]
    show (if j < i then Value.ref (h0 + 1 + j * P) else Value.null) = _
    by_cases y : j < i
    · rw [if_pos y, if_pos (by omega)]
    · rw [if_neg y, if_neg (by omega)]
def mOne (c : ClassId) (n : Nat) (v : Value) : Cell := { cls := c, slots := Array.replicate n v, vm := .none }
theorem MKW.one (hk : vm.classes[c]? = some k) (hkind : k.kind = .array comp ty) (hn : ¬ n < 0) (h1 : ¬ n.toNatClampNeg > e.platform.arrayLengthLimit) (h2 : ¬ n.toNatClampNeg * componentBytes ty > e.platform.maxHeapBytes) (hf : fits ty (defaultValue ty) = true) : MKW e vm c [n] 1 n.toNatClampNeg (fun s => s.pushCell (mOne c n.toNatClampNeg (defaultValue ty))) := by
  intro E d acts s Q hv hc hs hq
  subst hv
  rw [Jvm.Op.multianewarray.make]
  simp only [wp_bind', W.ite, hn, if_false, wp_pure', W.theClass, hk, hkind, Option.some.injEq, exists_eq_left']
  exact W.newArray_of hk hkind h1 h2 (by omega) hs hf (fun acts' => hq _ _)
theorem MKS.one {m : Nat} {v : Value} {s : State} : MKS 1 m (fun _ _ => mOne c m v) (fun s => s.pushCell (mOne c m v)) s := by
  refine ⟨by simp, rfl, by simp [mOne], fun a ha => State.heap_pushCell_of_lt _ _ ha, fun j hj => ?_, fun f => rfl⟩
  obtain rfl : j = 0 := by omega
  exact State.heap_pushCell_size _ _
theorem MKX.one {m : Nat} {v : Value} : MKX e 1 m (fun s => s.pushCell (mOne c m v)) := by
  intro p l R s0 mm args below meth cd T locs cells slots X
  have h := X.pushed (mOne c m v)
  rw [show (mOne c m v).slots.size = m by simp [mOne]] at h
  exact ⟨locs, h, fun q hq => Or.inl hq⟩
theorem div_at {i P q : Nat} (hq : q < P) : (i * P + q) / P = i ∧ (i * P + q) % P = q := by
  rw [Nat.mul_comm]
  exact ⟨by rw [Nat.mul_add_div (by omega), Nat.div_eq_of_lt hq, Nat.add_zero], by rw [Nat.mul_add_mod, Nat.mod_eq_of_lt hq]⟩
/-- the loop, place by place -/
theorem mLoop_ok {N P S : Nat} {cont : Nat → Nat → Cell} {G : State → State} (hG : ∀ s, MKS P S cont G s) (hP : 0 < P) (s : State) : ∀ i, (mLoop G c N P s i).heap.size = s.heap.size + 1 + i * P ∧ (mLoop G c N P s i).heap[s.heap.size]? = some (mOut c N s.heap.size P i) ∧ (mLoop G c N P s i).vm = s.vm ∧ (mLoop G c N P s i).slotsUsed = s.slotsUsed + N + i * S ∧
    (∀ a, a < s.heap.size → (mLoop G c N P s i).heap[a]? = s.heap[a]?) ∧ (∀ j, j < i * P → (mLoop G c N P s i).heap[s.heap.size + 1 + j]? = some (cont (s.heap.size + 1 + j / P * P) (j % P))) ∧ ∀ f : JFrame, mLoop G c N P (s.setTop f) i = (mLoop G c N P s i).setTop f := by
  intro i
  induction i with
  | zero =>
    refine ⟨by simp [mLoop], State.heap_pushCell_size _ _, rfl, by simp [mLoop, mOut, arrV_size], fun a ha => State.heap_pushCell_of_lt _ _ ha, fun j hj => by omega, fun f => rfl⟩
  | succ i ih =>
    obtain ⟨l1, l2, l3, l4, l5, l6, l7⟩ := ih
    obtain ⟨g1, g2, g3, g4, g5, g6⟩ := hG (mLoop G c N P s i)
    have e0 : (i + 1) * P = i * P + P := Nat.succ_mul i P
    have e1 : (i + 1) * S = i * S + S := Nat.succ_mul i S
    have h0 : (G (mLoop G c N P s i)).heap[s.heap.size]? = some (mOut c N s.heap.size P i) := (g4 _ (by omega)).trans l2
    refine ⟨?_, State.heap_setCell_self h0, g2.trans l3, ?_, fun a ha => ?_, fun j hj => ?_, fun f => ?_⟩
    · show ((G (mLoop G c N P s i)).heap.setIfInBounds _ _).size = _
      rw [Array.size_setIfInBounds, g1, l1]; omega
    · show (G (mLoop G c N P s i)).slotsUsed = _
      rw [g3, l4]; omega
    · show ((G (mLoop G c N P s i)).setCell s.heap.size _).heap[a]? = _
      rw [State.heap_setCell_other (show s.heap.size ≠ a by omega), g4 _ (by omega)]
      exact l5 a ha
    · show ((G (mLoop G c N P s i)).setCell s.heap.size _).heap[s.heap.size + 1 + j]? = _
      rw [State.heap_setCell_other (show s.heap.size ≠ s.heap.size + 1 + j by omega)]
      by_cases z : j < i * P
      · rw [g4 _ (by omega)]; exact l6 j z
      · obtain ⟨q, rfl⟩ : ∃ q, j = i * P + q := ⟨j - i * P, by omega⟩
        have hq : q < P := by omega
        obtain ⟨d1, d2⟩ := div_at (i := i) hq
        rw [d1, d2]
        have := g5 q hq
        rw [l1] at this
        rw [show s.heap.size + 1 + (i * P + q) = s.heap.size + 1 + i * P + q by omega]
        exact this
    · show (G (mLoop G c N P (s.setTop f) i)).setCell _ _ = _
      rw [l7 f, g6 f]
      rfl
def mCont (c : ClassId) (N P : Nat) (cont : Nat → Nat → Cell) : Nat → Nat → Cell := fun h0 j => if j = 0 then mOut c N h0 P N else cont (h0 + 1 + (j - 1) / P * P) ((j - 1) % P)
theorem MKS.step {N P S : Nat} {cont : Nat → Nat → Cell} {G : State → State} (hG : ∀ s, MKS P S cont G s) (hP : 0 < P) (s : State) : MKS (1 + N * P) (N + N * S) (mCont c N P cont) (fun s => mLoop G c N P s N) s := by
  obtain ⟨l1, l2, l3, l4, l5, l6, l7⟩ := mLoop_ok (c := c) (N := N) hG hP s N
  refine ⟨by rw [l1]; omega, l3, by rw [l4]; omega, l5, fun j hj => ?_, l7⟩
  unfold mCont
  by_cases z : j = 0
  · subst z; rw [if_pos rfl]; exact l2
  · rw [if_neg z]
    have := l6 (j - 1) (by omega)
    rw [show s.heap.size + 1 + (j - 1) = s.heap.size + j by omega] at this
    exact this
theorem MKX.step {N P S : Nat} {cont : Nat → Nat → Cell} {G : State → State} (hG : ∀ s, MKS P S cont G s) (hP : 0 < P) (hX : MKX e P S G) : MKX e (1 + N * P) (N + N * S) (fun s => mLoop G c N P s N) := by
  intro p l R s0 mm args below meth cd T locs cells slots X
  have key : ∀ i, ∃ locs', Stand p l e R s0 mm args below meth cd (mLoop G c N P T i) locs' (cells + (1 + i * P)) (slots + (N + i * S)) ∧ ∀ q ∈ locs', q ∈ locs ∨ T.heap.size ≤ q.base := by
    intro i
    induction i with
    | zero =>
      have h := X.pushed (mOut c N T.heap.size P 0)
      rw [show (mOut c N T.heap.size P 0).slots.size = N by simp [mOut, arrV_size]] at h
      refine ⟨locs, ?_, fun q hq => Or.inl hq⟩
      rw [Nat.zero_mul, Nat.zero_mul]
      exact h
    | succ i ih =>
      obtain ⟨locs1, X1, h1⟩ := ih
      obtain ⟨l1, l2, -, -, -, -, -⟩ := mLoop_ok (c := c) (N := N) hG hP T i
      obtain ⟨g1, -, -, g4, -, -⟩ := hG (mLoop G c N P T i)
      obtain ⟨locs2, X2, h2⟩ := hX _ _ _ _ _ _ _ _ _ _ _ _ _ X1
      have hc : (G (mLoop G c N P T i)).heap[T.heap.size]? = some (mOut c N T.heap.size P i) := (g4 _ (by omega)).trans l2
      have X3 := X2.stored hc i (.ref (T.heap.size + 1 + i * P))
      rw [mOut_s] at X3
      refine ⟨locs2 ++ [⟨T.heap.size, i⟩], ?_, fun q hq => ?_⟩
      · have e0 : cells + (1 + (i + 1) * P) = cells + (1 + i * P) + P := by rw [Nat.succ_mul]; omega
        have e1 : slots + (N + (i + 1) * S) = slots + (N + i * S) + S := by rw [Nat.succ_mul]; omega
        rw [e0, e1]
        exact X3
      · rcases List.mem_append.mp hq with w | w
        · rcases h2 q w with y | y
          · exact h1 q y
          · right; omega
        · right; rw [List.mem_singleton.mp w]; exact Nat.le_refl _
  exact key N
theorem isRef_fits {t : FieldType} (h : t.isReference = true) (a : Nat) : fits t (.ref a) = true ∧ fits t .null = true := by
  cases t <;> simp [FieldType.isReference] at h <;> exact ⟨rfl, rfl⟩
theorem MKW.step {P S : Nat} {cont : Nat → Nat → Cell} {G : State → State} {rest : List Int32} (hk : vm.classes[c]? = some k) (hkind : k.kind = .array comp ty) (href : ty.isReference = true) (hn : ¬ n < 0) (h1 : ¬ n.toNatClampNeg > e.platform.arrayLengthLimit) (h2 : ¬ n.toNatClampNeg * componentBytes ty > e.platform.maxHeapBytes) (hr0 : rest ≠ []) (hr : rest.find? (· < 0) = none)
    (hG : ∀ s, MKS P S cont G s) (hP : 0 < P) (hW : MKW e vm comp rest P S G) : MKW e vm c (n :: rest) (1 + n.toNatClampNeg * P) (n.toNatClampNeg + n.toNatClampNeg * S) (fun s => mLoop G c n.toNatClampNeg P s n.toNatClampNeg) := by
  intro E d acts s Q hv hc hs hq
  subst hv
  obtain ⟨r0, rs, rfl⟩ : ∃ r0 rs, rest = r0 :: rs := by
    cases rest with
    | nil => exact absurd rfl hr0
    | cons a b => exact ⟨a, b, rfl⟩
  rw [Jvm.Op.multianewarray.make]
  simp only [wp_bind', W.ite, hn, if_false, wp_pure', W.theClass, hk, hkind, Option.some.injEq, exists_eq_left']
  have hNP : 0 ≤ n.toNatClampNeg * P := Nat.zero_le _
  have hNS : 0 ≤ n.toNatClampNeg * S := Nat.zero_le _
  refine W.newArray_of hk hkind h1 h2 (by omega) (by omega) (isRef_fits href 0).2 (fun acts0 => ?_)
  simp only [hr]
  rw [ite_self, wp_bind', Std.Legacy.Range.forIn_eq_forIn_range']
  have hsz : ([:n.toNatClampNeg] : Std.Legacy.Range).size = n.toNatClampNeg := by simp [Std.Legacy.Range.size]
  rw [hsz]
  show wp (forIn (List.range' 0 n.toNatClampNeg 1) PUnit.unit _) _ E e d acts0 _
  refine wp_forIn_inv (fun rest s' => ∃ i, i ≤ n.toNatClampNeg ∧ rest = List.range' i (n.toNatClampNeg - i) ∧ s' = mLoop G c n.toNatClampNeg P s i) _ _ ⟨0, Nat.zero_le _, rfl, by show s.pushCell _ = s.pushCell _; rw [mOut_0]⟩ ?_ ?_
  · rintro y tail s' d' acts' Q' ⟨i, hi, hl, rfl⟩ hnext
    have hlt : i < n.toNatClampNeg := by
      rcases Nat.lt_or_ge i n.toNatClampNeg with h | h
      · exact h
      · rw [show n.toNatClampNeg - i = 0 by omega] at hl; cases hl
    obtain ⟨rfl, hrest⟩ : y = i ∧ tail = List.range' (i + 1) (n.toNatClampNeg - (i + 1)) := by
      rw [show n.toNatClampNeg - i = (n.toNatClampNeg - (i + 1)) + 1 by omega, List.range'_succ] at hl
      exact ⟨(List.cons.inj hl).1, (List.cons.inj hl).2⟩
    obtain ⟨l1, l2, l3, l4, -, -, -⟩ := mLoop_ok (c := c) (N := n.toNatClampNeg) hG hP s y
    obtain ⟨g1, g2, g3, g4, -, -⟩ := hG (mLoop G c n.toNatClampNeg P s y)
    have m1 : y * P + P ≤ n.toNatClampNeg * P := by have := Nat.mul_le_mul_right P (show y + 1 ≤ n.toNatClampNeg from hlt); rw [Nat.succ_mul] at this; exact this
    have m2 : y * S + S ≤ n.toNatClampNeg * S := by have := Nat.mul_le_mul_right S (show y + 1 ≤ n.toNatClampNeg from hlt); rw [Nat.succ_mul] at this; exact this
    simp only [wp_bind']
    refine hW E _ _ _ _ l3 (by rw [l1]; omega) (by rw [l4]; omega) (fun d2 acts2 => ?_)
    have hc0 : (G (mLoop G c n.toNatClampNeg P s y)).heap[s.heap.size]? = some (mOut c n.toNatClampNeg s.heap.size P y) := (g4 _ (by omega)).trans l2
    simp only [wp_bind', W.writeLoc, wp_pure']
    refine ⟨mOut c n.toNatClampNeg s.heap.size P y, hc0, (fun h => by cases h), by unfold mOut; rw [arrV_size]; exact hlt, ?_, hnext _ _ _ ⟨y + 1, hlt, hrest, ?_⟩⟩
    · have e2 : (G (mLoop G c n.toNatClampNeg P s y)).vm = s.vm := g2.trans l3
      show State.fitsSlot _ c .none y _ = true
      simp [State.fitsSlot, State.slotType?, e2, hk, hkind, (isRef_fits href _).1]
    · rw [l1, mOut_s]; rfl
  · rintro s' d' acts' ⟨i, hi, hl, rfl⟩
    have hiN : i = n.toNatClampNeg := by
      rcases Nat.lt_or_ge i n.toNatClampNeg with h | h
      · rw [show n.toNatClampNeg - i = (n.toNatClampNeg - (i + 1)) + 1 by omega, List.range'_succ] at hl; cases hl
      · omega
    rw [hiN]
    simp only [wp_pure']
    exact hq _ _
end
