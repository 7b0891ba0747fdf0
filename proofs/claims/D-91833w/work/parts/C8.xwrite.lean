/-! THE COMPONENT: write -/
set_option maxRecDepth 100000
theorem o32_bmod {v : Int} : Int32.ofInt (v.bmod 4294967296) = Int32.ofInt v := by
  apply Int32.toInt_inj.mp
  rw [Int32.toInt_ofInt, Int32.toInt_ofInt]
  exact Int.bmod_bmod
theorem aI_cut {E : gE} {n : Nat} {g : Int → Int} {i v : Int} : aI E n (upI g i (v.bmod 4294967296)) = aI E n (upI g i v) := by
  unfold aI
  have e : (fun j : Nat => Int32.ofInt (upI g i (v.bmod 4294967296) (j : Int))) = fun j : Nat => Int32.ofInt (upI g i v (j : Int)) := by
    funext j
    unfold upI
    by_cases c : (j : Int) = i
    · rw [if_pos c, if_pos c, o32_bmod]
    · rw [if_neg c, if_neg c]
  rw [e]
