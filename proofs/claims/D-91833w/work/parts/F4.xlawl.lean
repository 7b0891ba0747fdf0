/-! THE COMPONENT: the Reader's law line -/
set_option maxRecDepth 100000
theorem lawN_inj {k s k' s' : Int} (hk : 0 ≤ k ∧ k < 3) (hs : 0 ≤ s ∧ s < 4) (hk' : 0 ≤ k' ∧ k' < 3) (hs' : 0 ≤ s' ∧ s' < 4) (h : k = 2 → s = 0) (h' : k' = 2 → s' = 0) (e : lawN k s = lawN k' s') : k = k' ∧ s = s' := by
  unfold lawN at e
  split at e <;> split at e <;> omega
section
variable {E : gE} {ow : OW} {h : gH} {g lt : Int → Int} {hd v s b : Int} {t a N : Nat} {f : SF}
/-- a law was told -/
theorem RTX.law (hT : RTX E ow h t g hd lt) (h3 : LB g) (hw : WFw g) (hv : 0 ≤ v ∧ v < 3) (hs : 0 ≤ s ∧ s < 4) (hvs : v = 2 → s = 0) (hS : SUMg (imm ow) h.1 N a f) (hN : (N : Int) ≤ g 3 - b) (hM : SMS g b (g 3) f) : ∃ lw : Int → Int → Option Nat, h.1 (t + 4 + v.toNat) = some (aR E 8 4 (lw v)) ∧ RTX E ow (hset h (t + 4 + v.toNat) (aR E 8 4 (upI (lw v) s (some a)))) t (upI (upI g (202 + 2 * lawN v s) b) (202 + 2 * lawN v s + 1) (g 3 - b)) hd lt := by
  obtain ⟨o, lw, ge, gl, gz, c0, ⟨c1, r1⟩, ⟨c2, r2⟩, c3, c4, ⟨c7, r7⟩, hl⟩ := hT
  have hln : 0 ≤ lawN v s ∧ lawN v s < 9 := by unfold lawN; split <;> omega
  have hb := hM.2.1
  have hw3 := hw.2.2.1
  have hF : FR ow ow h (hset h (t + 4 + v.toNat) (aR E 8 4 (upI (lw v) s (some a)))) (fun o => o ≠ 14) := FR.set (by have := o (4 + v.toNat) (by omega); rwa [← Nat.add_assoc] at this)
  have gy : ∀ y, y < 202 ∨ 220 ≤ y → upI (upI g (202 + 2 * lawN v s) b) (202 + 2 * lawN v s + 1) (g 3 - b) y = g y := fun y q => by rw [upI_ne (by omega), upI_ne (by omega)]
  refine ⟨lw, c4 v hv.1 hv.2, o, fun k => if k = v then upI (lw v) s (some a) else lw k, ge, gl, gz, ?_, ⟨(hset_ne (by omega)).trans c1, fun j j1 j2 => ?_⟩, ⟨(hset_ne (by omega)).trans c2, fun j j1 j2 => ?_⟩, (hset_ne (by omega)).trans c3, fun k k1 k2 => ?_, ⟨(hset_ne (by omega)).trans c7, r7⟩, fun k s' a1 a2 a3 a4 => ?_⟩
  · rw [gy 1 (by decide), gy 4 (by decide), gy 0 (by decide)]; exact (hset_ne (by omega)).trans c0
  · rw [gy _ (by omega)]; exact r1 j j1 j2
  · rw [gy _ (by omega)]; exact r2 j j1 j2
  · by_cases e : k = v
    · subst e; show _ = some (aR E 8 4 (if k = k then _ else _)); rw [if_pos rfl]; exact hset_at
    · show _ = some (aR E 8 4 (if k = v then _ else _)); rw [if_neg e]; exact (hset_ne (by omega)).trans (c4 k k1 k2)
  · have old : ¬ (k = v ∧ s' = s) → LAWR (imm ow) (hset h (t + 4 + v.toNat) (aR E 8 4 (upI (lw v) s (some a)))).1 (upI (upI g (202 + 2 * lawN v s) b) (202 + 2 * lawN v s + 1) (g 3 - b)) k s' (lw k s') := by
      intro ne
      have z := LAWR.fr hF (by decide) _ (hl k s' a1 a2 a3 a4)
      by_cases q : k = 2 → s' = 0
      · have nl : lawN k s' ≠ lawN v s := fun e => ne (lawN_inj ⟨a1, a2⟩ ⟨a3, a4⟩ hv hs q hvs e)
        have hlk : 0 ≤ lawN k s' ∧ lawN k s' < 9 := by unfold lawN; split <;> omega
        have y1 : upI (upI g (202 + 2 * lawN v s) b) (202 + 2 * lawN v s + 1) (g 3 - b) (202 + 2 * lawN k s' + 1) = g (202 + 2 * lawN k s' + 1) := by rw [upI_ne (by omega), upI_ne (by omega)]
        have y0 : upI (upI g (202 + 2 * lawN v s) b) (202 + 2 * lawN v s + 1) (g 3 - b) (202 + 2 * lawN k s') = g (202 + 2 * lawN k s') := by rw [upI_ne (by omega), upI_ne (by omega)]
        cases hx : lw k s' with
        | none => rw [hx] at z; intro q2; rw [y1]; exact z q2
        | some a' =>
          rw [hx] at z
          obtain ⟨z1, z2, N', f', z3, z4, z5⟩ := z
          refine ⟨z1, by rw [y1]; exact z2, N', f', z3, z4, fun hs B has ea kn w1 w2 w3 w4 => ?_⟩
          have b2 := hw.law hlk.1 hlk.2
          rw [comes_ext hlk.1 y0 y1 (fun k q1 q2 => ⟨gy _ (by omega), gy _ (by omega), gy _ (by omega)⟩)]
          exact z5 hs B has ea kn w1 w2 w3 w4
      · cases hx : lw k s' with
        | none => exact fun q2 => absurd q2 q
        | some a' => rw [hx] at z; exact absurd z.1 q
    by_cases e : k = v
    · subst e
      show LAWR _ _ _ k s' ((if k = k then upI (lw k) s (some a) else lw k) s')
      rw [if_pos rfl]
      by_cases e2 : s' = s
      · subst e2
        rw [upI_at]
        refine ⟨hvs, by rw [upI_at]; omega, N, f, by omega, SUMg.fr hF (by decide) N a f hS, fun hs B has ea kn w1 w2 w3 w4 => ?_⟩
        exact hM.lawV hln.1 (by rw [upI_ne (by omega), upI_at]) upI_at (fun k q1 q2 => ⟨gy _ (by omega), gy _ (by omega), gy _ (by omega)⟩) w1 w2 w3 w4
      · rw [upI_ne e2]; exact old (fun q => e2 q.2)
    · show LAWR _ _ _ k s' ((if k = v then upI (lw v) s (some a) else lw k) s')
      rw [if_neg e]; exact old (fun q => e q.1)
end
