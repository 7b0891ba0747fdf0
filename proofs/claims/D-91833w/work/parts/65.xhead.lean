/-! THE COMPONENT: a head's cells -/
set_option maxRecDepth 100000
/-- a row of a head's table, by sort and thing -/
def xl (hs : Int → Int) (s a b : Int) : Int := if s = 3 then (if 0 ≤ b ∧ b < 12 then hs (1728 + 12 * a + b) else 0) else (if 0 ≤ b ∧ b < 24 then hs (576 * s + 24 * a + b) else 0)
theorem xl_in {hs : Int → Int} {s a b : Int} (h0 : 0 ≤ b) (h1 : b < (if s = 3 then 12 else 24)) : xl hs s a b = hs (lkA s a b) := by
  unfold xl lkA
  by_cases c : s = 3
  · rw [if_pos c] at h1; rw [if_pos c, if_pos c, if_pos ⟨h0, h1⟩]
  · rw [if_neg c] at h1; rw [if_neg c, if_neg c, if_pos ⟨h0, h1⟩]
/-- a write elsewhere -/
theorem xl_ne {hs : Int → Int} {s a k x : Int} (hs0 : 0 ≤ s ∧ s < 4) (ha : 0 ≤ a ∧ a < 24) (h : ∀ b, 0 ≤ b → b < (if s = 3 then 12 else 24) → lkA s a b ≠ k) : xl (upI hs k x) s a = xl hs s a := by
  funext b
  unfold xl
  by_cases c : s = 3
  · rw [if_pos c, if_pos c]
    by_cases r : 0 ≤ b ∧ b < 12
    · have := h b r.1 (by rw [if_pos c]; exact r.2)
      unfold lkA at this
      rw [if_pos c] at this
      rw [if_pos r, if_pos r, upI_ne this]
    · rw [if_neg r, if_neg r]
  · rw [if_neg c, if_neg c]
    by_cases r : 0 ≤ b ∧ b < 24
    · have := h b r.1 (by rw [if_neg c]; exact r.2)
      unfold lkA at this
      rw [if_neg c] at this
      rw [if_pos r, if_pos r, upI_ne this]
    · rw [if_neg r, if_neg r]
theorem lk_inj {s a b s2 a2 b2 : Int} (h1 : 0 ≤ s ∧ s < 4) (h2 : 0 ≤ a ∧ a < 24) (h3 : 0 ≤ b ∧ b < (if s = 3 then 12 else 24)) (g1 : 0 ≤ s2 ∧ s2 < 4) (g2 : 0 ≤ a2 ∧ a2 < 24) (g3 : 0 ≤ b2 ∧ b2 < (if s2 = 3 then 12 else 24)) (e : lkA s a b = lkA s2 a2 b2) : s = s2 ∧ a = a2 ∧ b = b2 := by
  unfold lkA at e
  by_cases c : s = 3 <;> by_cases c2 : s2 = 3
  · rw [if_pos c] at h3 e; rw [if_pos c2] at g3 e; omega
  · rw [if_pos c] at h3 e; rw [if_neg c2] at g3 e; omega
  · rw [if_neg c] at h3 e; rw [if_pos c2] at g3 e; omega
  · rw [if_neg c] at h3 e; rw [if_neg c2] at g3 e; omega
theorem lk_lt {s a b : Int} (h1 : 0 ≤ s ∧ s < 4) (h2 : 0 ≤ a ∧ a < 24) (h3 : 0 ≤ b ∧ b < (if s = 3 then 12 else 24)) : 0 ≤ lkA s a b ∧ lkA s a b < 2016 := by
  unfold lkA
  by_cases c : s = 3
  · rw [if_pos c] at h3 ⊢; omega
  · rw [if_neg c] at h3 ⊢; omega
/-- the written row -/
theorem xl_up {hs : Int → Int} {s a b x : Int} (hb : 0 ≤ b ∧ b < (if s = 3 then 12 else 24)) : xl (upI hs (lkA s a b) x) s a = upI (xl hs s a) b x := by
  funext c
  by_cases e : c = b
  · subst e; rw [upI_at, xl_in hb.1 hb.2, upI_at]
  · rw [upI_ne e]
    unfold xl
    by_cases z : s = 3
    · rw [if_pos z, if_pos z]
      by_cases r : 0 ≤ c ∧ c < 12
      · rw [if_pos r, if_pos r, upI_ne]; unfold lkA; rw [if_pos z]; omega
      · rw [if_neg r, if_neg r]
    · rw [if_neg z, if_neg z]
      by_cases r : 0 ≤ c ∧ c < 24
      · rw [if_pos r, if_pos r, upI_ne]; unfold lkA; rw [if_neg z]; omega
      · rw [if_neg r, if_neg r]
def hdO (p : Nat) (tx : Option Nat) (ho ti : Int) : va_E := oB 4 [.ref (p + 1), .ref (p + 102), va_rf tx, vI ho, vI ti]
def hdF (E : gE) (p : Nat) (tx : Option Nat) (hs : Int → Int) (ak : va_E) : Nat → va_E := fun j =>
  if j = 0 then hdO p tx (hs 2016) (hs 2017) else if j = 1 then aR E 6 4 (fun s => some (p + 2 + 25 * s.toNat)) else if j = 102 then ak
  else if (j - 2) % 25 = 0 then aR E 5 24 (fun a => some (p + j + 1 + a.toNat)) else aI E 24 (xl hs (((j - 2) / 25 : Nat) : Int) ((((j - 2) % 25 : Nat) : Int) - 1))
/-- a head at p: its text, its strengths, hour, tiredness; its asked -/
def hH (E : gE) (G : gH) (p : Nat) (tx : Option Nat) (hs : Int → Int) (ak : va_E) : gH := blk G p 103 (hdF E p tx hs ak)
section
variable {E : gE} {G : gH} {p : Nat} {tx : Option Nat} {hs : Int → Int} {ak : va_E} {s a b x k : Int}
theorem hO : (hH E G p tx hs ak).1 p = some (hdO p tx (hs 2016) (hs 2017)) := blk_at0 (by decide)
theorem hL : (hH E G p tx hs ak).1 (p + 1) = some (aR E 6 4 (fun s => some (p + 2 + 25 * s.toNat))) := blk_at 1 (by decide)
theorem hK : (hH E G p tx hs ak).1 (p + 102) = some ak := blk_at 102 (by decide)
theorem hM (h0 : 0 ≤ s) (h1 : s < 4) : (hH E G p tx hs ak).1 (p + 2 + 25 * s.toNat) = some (aR E 5 24 (fun a => some (p + 3 + 25 * s.toNat + a.toNat))) := by
  have e := blk_at (h0 := G) (a := p) (n := 103) (f := hdF E p tx hs ak) (2 + 25 * s.toNat) (by omega)
  rw [← Nat.add_assoc] at e
  refine e.trans ?_
  unfold hdF
  rw [if_neg (by omega), if_neg (by omega), if_neg (by omega), if_pos (by omega)]
  congr 2
  funext a
  congr 1
  omega
theorem hI (h0 : 0 ≤ s) (h1 : s < 4) (g0 : 0 ≤ a) (g1 : a < 24) : (hH E G p tx hs ak).1 (p + 3 + 25 * s.toNat + a.toNat) = some (aI E 24 (xl hs s a)) := by
  have e := blk_at (h0 := G) (a := p) (n := 103) (f := hdF E p tx hs ak) (3 + 25 * s.toNat + a.toNat) (by omega)
  rw [show p + (3 + 25 * s.toNat + a.toNat) = p + 3 + 25 * s.toNat + a.toNat by omega] at e
  refine e.trans ?_
  unfold hdF
  rw [if_neg (by omega), if_neg (by omega), if_neg (by omega), if_neg (by omega)]
  have e1 : (((3 + 25 * s.toNat + a.toNat - 2) / 25 : Nat) : Int) = s := by omega
  have e2 : (((3 + 25 * s.toNat + a.toNat - 2) % 25 : Nat) : Int) - 1 = a := by omega
  rw [e1, e2]
/-- the cells that a write of strengths leaves -/
theorem hdF_ne {hs' : Int → Int} (j : Nat) (hj : j < 103) (h0 : j ≠ 0) (hx : ∀ s a : Int, 0 ≤ s ∧ s < 4 → 0 ≤ a ∧ a < 24 → j = 3 + 25 * s.toNat + a.toNat → xl hs' s a = xl hs s a) : hdF E p tx hs' ak j = hdF E p tx hs ak j := by
  unfold hdF
  rw [if_neg h0, if_neg h0]
  by_cases c1 : j = 1
  · rw [if_pos c1, if_pos c1]
  · rw [if_neg c1, if_neg c1]
    by_cases c2 : j = 102
    · rw [if_pos c2, if_pos c2]
    · rw [if_neg c2, if_neg c2]
      by_cases c3 : (j - 2) % 25 = 0
      · rw [if_pos c3, if_pos c3]
      · rw [if_neg c3, if_neg c3, hx (((j - 2) / 25 : Nat) : Int) ((((j - 2) % 25 : Nat) : Int) - 1) (by omega) (by omega) (by omega)]
/-- a new strength -/
theorem hU (h0 : 0 ≤ s) (h1 : s < 4) (g0 : 0 ≤ a) (g1 : a < 24) (hb : 0 ≤ b ∧ b < (if s = 3 then 12 else 24)) : hset (hH E G p tx hs ak) (p + 3 + 25 * s.toNat + a.toNat) (aI E 24 (upI (xl hs s a) b x)) = hH E G p tx (upI hs (lkA s a b) x) ak := by
  rw [show p + 3 + 25 * s.toNat + a.toNat = p + (3 + 25 * s.toNat + a.toNat) by omega]
  have hlt := lk_lt ⟨h0, h1⟩ ⟨g0, g1⟩ hb
  refine blk_set (3 + 25 * s.toNat + a.toNat) (by omega) ?_ (fun j hj hne => ?_)
  · unfold hdF
    rw [if_neg (by omega), if_neg (by omega), if_neg (by omega), if_neg (by omega)]
    have e1 : (((3 + 25 * s.toNat + a.toNat - 2) / 25 : Nat) : Int) = s := by omega
    have e2 : (((3 + 25 * s.toNat + a.toNat - 2) % 25 : Nat) : Int) - 1 = a := by omega
    rw [e1, e2, xl_up hb]
  · by_cases c : j = 0
    · subst c
      show hdO p tx (upI hs (lkA s a b) x 2016) (upI hs (lkA s a b) x 2017) = hdO p tx (hs 2016) (hs 2017)
      rw [upI_ne (by omega), upI_ne (by omega)]
    · refine hdF_ne j hj c (fun s2 a2 q1 q2 q3 => xl_ne q1 q2 (fun b2 r1 r2 e => ?_))
      have := lk_inj q1 q2 ⟨r1, r2⟩ ⟨h0, h1⟩ ⟨g0, g1⟩ hb e
      omega
theorem hUk {ak' : va_E} : hset (hH E G p tx hs ak) (p + 102) ak' = hH E G p tx hs ak' := by
  refine blk_set 102 (by decide) rfl (fun j hj hne => ?_)
  unfold hdF
  by_cases c0 : j = 0
  · rw [if_pos c0, if_pos c0]
  · rw [if_neg c0, if_neg c0]
    by_cases c1 : j = 1
    · rw [if_pos c1, if_pos c1]
    · rw [if_neg c1, if_neg c1, if_neg hne, if_neg hne]
theorem hUo {hs' : Int → Int} {tx' : Option Nat} (hx : ∀ k, 0 ≤ k → k < 2016 → hs' k = hs k) : hset (hH E G p tx hs ak) p (hdO p tx' (hs' 2016) (hs' 2017)) = hH E G p tx' hs' ak := by
  refine blk_set0 (by decide) rfl (fun j hj hne => ?_)
  refine Eq.trans ?_ (hdF_ne (tx := tx) (hs' := hs') j hj hne (fun s a q1 q2 q3 => ?_))
  · unfold hdF; rw [if_neg hne, if_neg hne]
  · funext b
    unfold xl
    by_cases z : s = 3
    · rw [if_pos z, if_pos z]
      by_cases r : 0 ≤ b ∧ b < 12
      · rw [if_pos r, if_pos r, hx _ (by omega) (by omega)]
      · rw [if_neg r, if_neg r]
    · rw [if_neg z, if_neg z]
      by_cases r : 0 ≤ b ∧ b < 24
      · rw [if_pos r, if_pos r, hx _ (by omega) (by omega)]
      · rw [if_neg r, if_neg r]
end
