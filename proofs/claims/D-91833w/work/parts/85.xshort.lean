/-! THE COMPONENT: shortened -/
set_option maxRecDepth 100000
theorem hset_hnew {h : gH} {x y : va_E} : hset (hnew h x) h.2 y = hnew h y := by
  refine Prod.ext (funext fun b => ?_) rfl
  by_cases c : b = h.2
  · subst c; simp [hset, hnew]
  · simp [hset, hnew, c]
section
variable {E : gE} {d ra m : Nat} {h : gH} {n : Int} {g : Int → Int}
theorem c_shortened (hn : 0 ≤ n ∧ n ≤ m) (hm : m < 60000) (hlt : ra < h.2) (hr : h.1 ra = some (aI E m g)) : CALL E iX0_shortened (d + 1) 1 (0 + n.toNat) [.ref ra, vI n] h (qR (.ref h.2) (hnew h (aI E n.toNat (cpyI (fun _ => 0) g 0 0 n)))) := by
  have hne : (hnew h (aI E n.toNat (fun _ => 0))).1 ra = some (aI E m g) := (hnew_ne (by omega)).trans hr
  show GO E iX0_shortened _ _ _ 0 [some (.ref ra), some (vI n), none] [] _ _
  refine g_iload_n (q := 1) dX0_shortened_0 rfl rfl ?_
  refine g_newaI (q := 3) (rc := 0) (rs := 0) dX0_shortened_1 q226 (by omega) (by omega) rfl ?_
  refine g_astore_n (q := 4) dX0_shortened_3 gs2 rfl ?_
  refine g_aload_n (q := 5) dX0_shortened_4 rfl rfl ?_
  refine g_iconst (q := 6) dX0_shortened_5 rfl ?_
  refine g_aload_n (q := 7) dX0_shortened_6 rfl rfl ?_
  refine g_iconst (q := 8) dX0_shortened_7 rfl ?_
  refine g_iload_n (q := 9) dX0_shortened_8 rfl rfl ?_
  refine g_copyI (q := 12) (n := n) (dp := 0) (sp := 0) (n0 := m) (n1 := n.toNat) dX0_shortened_9 q855 hne hnew_at (by omega) (by omega) (by omega) (by omega) (by omega) (by omega) (by omega) rfl ?_
  refine GO.cast hset_hnew ?_
  refine g_aload_n (q := 13) dX0_shortened_12 rfl rfl ?_
  exact g_aret dX0_shortened_13 rfl (by first | exact Or.inl ⟨_, rfl⟩ | exact Or.inr ⟨_, rfl⟩) ⟨rfl, rfl⟩
end
