/-! MY LOGIC, part 18: instanceof, checkcast of arrays -/
set_option maxRecDepth 100000
section Rows
variable {E : gE} {I : gI} {d rc rs pc q a t idx : Nat} {lv : List (Option Value)} {st : List Value} {h : gH} {Q : Outcome → gH → Prop} {y : vp_A} {nm C : String}
theorem arr_cell {H : Heap} {c : ClassId} (hR : gRel E h H) (ha : h.1 a = some (.inl (c, y))) : ∃ cell : Cell, H[a]? = some cell ∧ cell.vm.isStatics = false ∧ cell.cls = c := by
  have hcell : H[a]? = some (vp_cell c y) := (hR.2.2.2 a _ ha).2
  refine ⟨_, hcell, ?_, ?_⟩
  · obtain ⟨n, f | f | f | f | f⟩ := y <;> rfl
  · obtain ⟨n, f | f | f | f | f⟩ := y <;> rfl
/-- the name of an array's class -/
def ANM (E : gE) (t : Nat) (nm : String) : Prop := ∀ s, va_K E.1 vwCl (gTys E) s → s.vm.findClass nm = some (E.2.1 t)
theorem anm0 : ANM E 0 "[I" := fun s hK => (hK.2 0 _ rfl).2
theorem anm1 : ANM E 1 "[B" := fun s hK => (hK.2 1 _ rfl).2
theorem anm2 : ANM E 2 "[S" := fun s hK => (hK.2 2 _ rfl).2
theorem anm3 : ANM E 3 "[J" := fun s hK => (hK.2 3 _ rfl).2
theorem g_inst1 (hd : decode I.2.1 pc = .ok (.instanceof idx, 3)) (hlink : Cond.classLink I.1.cls idx nm ∈ lw_all) (ha : h.1 a = some (.inl (E.2.1 t, y))) (hn : ANM E t nm) (hq : pc + 3 = q) (kk : GO E I d rc rs q lv (vI 1 :: st) h Q) : GO E I d rc rs pc lv (.ref a :: st) h Q := by
  subst hq
  intro p l e R s m args below meth c H locs k n' ls hc a1 a2 a3 a4 hR hL hl
  obtain ⟨cell, g1, g2, g3⟩ := arr_cell hR ha
  exact va_instE hc.1 hc.2.1 hc.2.2.2.2.2.2.1 (gw hc hlink) ⟨cell, g1, g2, by rw [g3]; exact hn s (gK hc)⟩ hd (kk p l e R s m args below meth c H locs k n' ls hc a1 a2 a3 a4 hR hL hl)
theorem g_inst0 (hd : decode I.2.1 pc = .ok (.instanceof idx, 3)) (hlink : Cond.classLink I.1.cls idx nm ∈ lw_all) (ha : h.1 a = some (.inl (E.2.1 t, y))) (hn : ANM E t C) (hca : Cond.not (.castable C nm) ∈ cjs narrow_1) (hq : pc + 3 = q) (kk : GO E I d rc rs q lv (vI 0 :: st) h Q) : GO E I d rc rs pc lv (.ref a :: st) h Q := by
  subst hq
  intro p l e R s m args below meth c H locs k n' ls hc a1 a2 a3 a4 hR hL hl
  obtain ⟨cell, g1, g2, g3⟩ := arr_cell hR ha
  exact va_instNo hc.1 hc.2.1 hc.2.2.2.2.2.2.1 (gw hc hlink) (va_Nc.moved hc.2.2.2.2.2.2.2.2.1.alike (va_Nc.of (gNw hc.2.2.2.2.2.2.2.2.2 _ hca))) ⟨cell, g1, g2, by rw [g3]; exact hn s (gK hc)⟩ hd (kk p l e R s m args below meth c H locs k n' ls hc a1 a2 a3 a4 hR hL hl)
theorem g_instN (hd : decode I.2.1 pc = .ok (.instanceof idx, 3)) (hq : pc + 3 = q) (kk : GO E I d rc rs q lv (vI 0 :: st) h Q) : GO E I d rc rs pc lv (.null :: st) h Q := by
  subst hq
  intro p l e R s m args below meth c H locs k n' ls hc a1 a2 a3 a4 hR hL hl
  exact lv_instN hc.1 hc.2.1 hd (kk p l e R s m args below meth c H locs k n' ls hc a1 a2 a3 a4 hR hL hl)
theorem g_castN (hd : decode I.2.1 pc = .ok (.checkcast idx, 3)) (hq : pc + 3 = q) (kk : GO E I d rc rs q lv (.null :: st) h Q) : GO E I d rc rs pc lv (.null :: st) h Q := by
  subst hq
  intro p l e R s m args below meth c H locs k n' ls hc a1 a2 a3 a4 hR hL hl
  exact lv_castN hc.1 hc.2.1 hd (kk p l e R s m args below meth c H locs k n' ls hc a1 a2 a3 a4 hR hL hl)
theorem g_castR (hd : decode I.2.1 pc = .ok (.checkcast idx, 3)) (hlink : Cond.classLink I.1.cls idx nm ∈ lw_all) (ha : h.1 a = some (.inl (E.2.1 t, y))) (hn : ANM E t nm) (hq : pc + 3 = q) (kk : GO E I d rc rs q lv (.ref a :: st) h Q) : GO E I d rc rs pc lv (.ref a :: st) h Q := by
  subst hq
  intro p l e R s m args below meth c H locs k n' ls hc a1 a2 a3 a4 hR hL hl
  exact va_castA hc.1 hc.2.1 hc.2.2.2.2.2.2.1 (gw hc hlink) (hR.P ha) 0 rfl (hn s (gK hc)) hd (kk p l e R s m args below meth c H locs k n' ls hc a1 a2 a3 a4 hR hL hl)
end Rows
/-- which class a row of a width is of -/
def wT (c : Int) : Nat := if c = 0 then 1 else if c = 1 then 2 else if c = 2 then 0 else 3
theorem arrW_inl {E : gE} {c : Int} {n : Nat} {g : Int → Int} : ∃ y : vp_A, arrW E c n g = .inl (E.2.1 (wT c), y) := by
  unfold arrW wT
  by_cases h0 : c = 0
  · exact ⟨_, by rw [if_pos h0, if_pos h0]; rfl⟩
  · by_cases h1 : c = 1
    · exact ⟨_, by rw [if_neg h0, if_pos h1, if_neg h0, if_pos h1]; rfl⟩
    · by_cases h2 : c = 2
      · exact ⟨_, by rw [if_neg h0, if_neg h1, if_pos h2, if_neg h0, if_neg h1, if_pos h2]; rfl⟩
      · exact ⟨_, by rw [if_neg h0, if_neg h1, if_neg h2, if_neg h0, if_neg h1, if_neg h2]; rfl⟩
