/-! THE COMPONENT: sums -/
set_option maxRecDepth 100000
abbrev nSumOf : MethodName := ⟨"NonsenseRows$Sum", "of", "(LNonsenseRows$Asked;)J"⟩
/-- what a sum comes to: of has, easy, tired, hour, broken: a number, broken -/
abbrev SF : Type := Int → Int → Int → Int → Int → Int × Int
def akO (ha ea ti ho br : Int) : va_E := oB 5 [vI ha, vI ea, vI ti, vI ho, vI br]
def sAmt (c : Int) : SF := fun _ _ _ _ br => (c, br)
def sPart (w : Int) : SF := fun ha ea ti ho br => (if w = 0 then ha else if w = 1 then 1000 - ha else if w = 2 then ea else if w = 3 then ti else ho, br)
def wthn (v br : Int) : Int × Int := if br = 1 ∨ 1000000000 < v ∨ v < -1000000000 then (0, 1) else (v, 0)
def sBoth (op : Int → Int → Int → Int × Int) (f g : SF) : SF := fun ha ea ti ho br =>
  wthn (op (f ha ea ti ho br).1 (g ha ea ti ho (f ha ea ti ho br).2).1 (g ha ea ti ho (f ha ea ti ho br).2).2).1 (op (f ha ea ti ho br).1 (g ha ea ti ho (f ha ea ti ho br).2).1 (g ha ea ti ho (f ha ea ti ho br).2).2).2
def oTimes (x y br : Int) : Int × Int := (x * y, br)
def oOver (x y br : Int) : Int × Int := (if y = 0 then 0 else x.tdiv y, if br = 1 ∨ y = 0 then 1 else 0)
def oAdd (l x y br : Int) : Int × Int := (if l = 0 then x + y else x - y, br)
/-- a tree of sums at a, of depth n; the asked is at q -/
def SUM (q : Nat) (h : Nat → Option va_E) : Nat → Nat → SF → Prop
  | 0, _, _ => False
  | n + 1, a, f => a ≠ q ∧ ((∃ c : Int, h a = some (oB 12 [vI c]) ∧ (0 ≤ c ∧ c ≤ 1000) ∧ f = sAmt c) ∨ (∃ w : Int, h a = some (oB 13 [vI w]) ∧ (0 ≤ w ∧ w ≤ 4) ∧ f = sPart w) ∨
      ∃ (x y : Nat) (f1 f2 : SF), SUM q h n x f1 ∧ SUM q h n y f2 ∧ ((h a = some (oB 14 [.ref x, .ref y]) ∧ f = sBoth oTimes f1 f2) ∨ (h a = some (oB 15 [.ref x, .ref y]) ∧ f = sBoth oOver f1 f2) ∨ ∃ l : Int, (l = 0 ∨ l = 1) ∧ h a = some (oB 16 [.ref x, .ref y, vI l]) ∧ f = sBoth (oAdd l) f1 f2))
abbrev akIn (ha ea ti ho br : Int) : Prop := (0 ≤ ha ∧ ha ≤ 1000) ∧ (0 ≤ ea ∧ ea ≤ 9) ∧ (0 ≤ ti ∧ ti ≤ 1000000000) ∧ (0 ≤ ho ∧ ho ≤ 23) ∧ (br = 0 ∨ br = 1)
abbrev sfIn (f : SF) : Prop := ∀ ha ea ti ho br : Int, akIn ha ea ti ho br → (-1000000000 ≤ (f ha ea ti ho br).1 ∧ (f ha ea ti ho br).1 ≤ 1000000000) ∧ ((f ha ea ti ho br).2 = 0 ∨ (f ha ea ti ho br).2 = 1)
theorem wthn_in {v br : Int} : (-1000000000 ≤ (wthn v br).1 ∧ (wthn v br).1 ≤ 1000000000) ∧ ((wthn v br).2 = 0 ∨ (wthn v br).2 = 1) := by
  unfold wthn
  split
  · exact ⟨(by decide : (-1000000000 : Int) ≤ 0 ∧ (0 : Int) ≤ 1000000000), Or.inr rfl⟩
  · rename_i z; exact ⟨by show -1000000000 ≤ v ∧ v ≤ 1000000000; omega, Or.inl rfl⟩
theorem SUM_in {q : Nat} {h : Nat → Option va_E} : ∀ (n a : Nat) (f : SF), SUM q h n a f → sfIn f := by
  intro n a f hS ha ea ti ho br hb
  cases n with
  | zero => exact hS.elim
  | succ n =>
    obtain ⟨-, ⟨c, -, hc, rfl⟩ | ⟨w, -, hw, rfl⟩ | ⟨x, y, f1, f2, -, -, h3⟩⟩ := hS
    · exact ⟨by show -1000000000 ≤ c ∧ c ≤ 1000000000; omega, hb.2.2.2.2⟩
    · refine ⟨?_, hb.2.2.2.2⟩
      show -1000000000 ≤ (if w = 0 then ha else if w = 1 then 1000 - ha else if w = 2 then ea else if w = 3 then ti else ho) ∧ (if w = 0 then ha else if w = 1 then 1000 - ha else if w = 2 then ea else if w = 3 then ti else ho) ≤ 1000000000
      split
      · omega
      · split
        · omega
        · split
          · omega
          · split <;> omega
    · rcases h3 with ⟨-, rfl⟩ | ⟨-, rfl⟩ | ⟨l, -, -, rfl⟩ <;> exact wthn_in
theorem mul_in64 {x y : Int} (hx : -1000000000 ≤ x ∧ x ≤ 1000000000) (hy : -1000000000 ≤ y ∧ y ≤ 1000000000) : in64 (x * y) := by
  have h1 : (x * y).natAbs ≤ 1000000000 * 1000000000 := by
    rw [Int.natAbs_mul]
    exact Nat.mul_le_mul (by omega) (by omega)
  unfold in64
  omega
section
variable {E : gE} {d rc rs q a x y : Nat} {h : gH} {ha ea ti ho br v c w l : Int} {n : Nat} {f f1 f2 : SF} {Q : Outcome → gH → Prop}
theorem ak_hs {X Y : va_E} : hset (hset h q X) q Y = hset h q Y := hset_hset
theorem c_within (hv : in64 v) (hb : br = 0 ∨ br = 1) : CALL E iX4_within d 0 0 [.ref q, vL v] (hset h q (akO ha ea ti ho br)) (qR (vL (wthn v br).1) (hset h q (akO ha ea ti ho (wthn v br).2))) := by
  have h64 := hv.1
  have h65 := hv.2
  by_cases z : br = 1 ∨ 1000000000 < v ∨ v < -1000000000
  · rw [show wthn v br = (0, 1) from if_pos z]
    show GO E iX4_within _ _ _ 0 [some (.ref q), some (vL v), none] [] _ _
    refine g_aload_n (q := 1) dX4_within_0 rfl rfl ?_
    refine g_aload_n (q := 2) dX4_within_1 rfl rfl ?_
    refine g_get (C := RX4) (T := TX4) (ci := 5) (k := 4) (q := 5) dX4_within_2 q436 rfl in_X4 (by decide) hset_at rfl rfl ?_
    refine g_if_ne (t := 24) (q := 8) dX4_within_5 (by decide) rfl (by first | assumption | exact in32_gB | exact in32_gCmp | (unfold in32; omega)) (fun c5 => ?_) (fun c5 => ?_)
    · refine g_iconst (q := 25) dX4_within_24 rfl ?_
      refine g_goto (t := 29) dX4_within_25 (by decide) ?_
      refine g_put (C := RX4) (T := TX4) (ci := 5) (k := 4) (q := 32) dX4_within_29 q436 rfl in_X4 tyX4_ok nmX4 (by decide) rfl gFit_1 hset_at (Nat.le_of_ble_eq_true rfl) rfl ?_
      refine GO.cast hset_hset ?_
      refine g_aload_n (q := 33) dX4_within_32 rfl rfl ?_
      refine g_get (C := RX4) (T := TX4) (ci := 5) (k := 4) (q := 36) dX4_within_33 q436 rfl in_X4 (by decide) hset_at rfl rfl ?_
      refine g_if_eq (t := 43) (q := 39) dX4_within_36 (by decide) rfl (by first | assumption | exact in32_gB | exact in32_gCmp | (unfold in32; omega)) (fun c36 => ?_) (fun c36 => ?_)
      · exact absurd c36 (by decide)
      · refine g_lconst0 (q := 40) dX4_within_39 rfl ?_
        refine g_goto (t := 44) dX4_within_40 (by decide) ?_
        exact g_lret dX4_within_44 rfl ⟨rfl, rfl⟩
    · refine g_lload_n (q := 9) dX4_within_8 rfl rfl ?_
      refine g_ldc2 (a := 1000000000) (q := 12) dX4_within_9 q1064 (by decide) rfl ?_
      refine g_lcmp (q := 13) dX4_within_12 (by first | assumption | (unfold in64; omega)) (by first | assumption | (unfold in64; omega)) rfl ?_
      refine g_cif_gt (t := 24) (q := 16) dX4_within_13 (by decide) rfl (fun c13 => ?_) (fun c13 => ?_)
      · refine g_iconst (q := 25) dX4_within_24 rfl ?_
        refine g_goto (t := 29) dX4_within_25 (by decide) ?_
        refine g_put (C := RX4) (T := TX4) (ci := 5) (k := 4) (q := 32) dX4_within_29 q436 rfl in_X4 tyX4_ok nmX4 (by decide) rfl gFit_1 hset_at (Nat.le_of_ble_eq_true rfl) rfl ?_
        refine GO.cast hset_hset ?_
        refine g_aload_n (q := 33) dX4_within_32 rfl rfl ?_
        refine g_get (C := RX4) (T := TX4) (ci := 5) (k := 4) (q := 36) dX4_within_33 q436 rfl in_X4 (by decide) hset_at rfl rfl ?_
        refine g_if_eq (t := 43) (q := 39) dX4_within_36 (by decide) rfl (by first | assumption | exact in32_gB | exact in32_gCmp | (unfold in32; omega)) (fun c36 => ?_) (fun c36 => ?_)
        · exact absurd c36 (by decide)
        · refine g_lconst0 (q := 40) dX4_within_39 rfl ?_
          refine g_goto (t := 44) dX4_within_40 (by decide) ?_
          exact g_lret dX4_within_44 rfl ⟨rfl, rfl⟩
      · refine g_lload_n (q := 17) dX4_within_16 rfl rfl ?_
        refine g_ldc2 (a := -1000000000) (q := 20) dX4_within_17 q1065 (by decide) rfl ?_
        refine g_lcmp (q := 21) dX4_within_20 (by first | assumption | (unfold in64; omega)) (by first | assumption | (unfold in64; omega)) rfl ?_
        refine g_cif_ge (t := 28) (q := 24) dX4_within_21 (by decide) rfl (fun c21 => ?_) (fun c21 => ?_)
        · exact absurd z (by omega)
        · refine g_iconst (q := 25) dX4_within_24 rfl ?_
          refine g_goto (t := 29) dX4_within_25 (by decide) ?_
          refine g_put (C := RX4) (T := TX4) (ci := 5) (k := 4) (q := 32) dX4_within_29 q436 rfl in_X4 tyX4_ok nmX4 (by decide) rfl gFit_1 hset_at (Nat.le_of_ble_eq_true rfl) rfl ?_
          refine GO.cast hset_hset ?_
          refine g_aload_n (q := 33) dX4_within_32 rfl rfl ?_
          refine g_get (C := RX4) (T := TX4) (ci := 5) (k := 4) (q := 36) dX4_within_33 q436 rfl in_X4 (by decide) hset_at rfl rfl ?_
          refine g_if_eq (t := 43) (q := 39) dX4_within_36 (by decide) rfl (by first | assumption | exact in32_gB | exact in32_gCmp | (unfold in32; omega)) (fun c36 => ?_) (fun c36 => ?_)
          · exact absurd c36 (by decide)
          · refine g_lconst0 (q := 40) dX4_within_39 rfl ?_
            refine g_goto (t := 44) dX4_within_40 (by decide) ?_
            exact g_lret dX4_within_44 rfl ⟨rfl, rfl⟩
  · rw [show wthn v br = (v, 0) from if_neg z]
    show GO E iX4_within _ _ _ 0 [some (.ref q), some (vL v), none] [] _ _
    refine g_aload_n (q := 1) dX4_within_0 rfl rfl ?_
    refine g_aload_n (q := 2) dX4_within_1 rfl rfl ?_
    refine g_get (C := RX4) (T := TX4) (ci := 5) (k := 4) (q := 5) dX4_within_2 q436 rfl in_X4 (by decide) hset_at rfl rfl ?_
    refine g_if_ne (t := 24) (q := 8) dX4_within_5 (by decide) rfl (by first | assumption | exact in32_gB | exact in32_gCmp | (unfold in32; omega)) (fun c5 => ?_) (fun c5 => ?_)
    · exact absurd z (by omega)
    · refine g_lload_n (q := 9) dX4_within_8 rfl rfl ?_
      refine g_ldc2 (a := 1000000000) (q := 12) dX4_within_9 q1064 (by decide) rfl ?_
      refine g_lcmp (q := 13) dX4_within_12 (by first | assumption | (unfold in64; omega)) (by first | assumption | (unfold in64; omega)) rfl ?_
      refine g_cif_gt (t := 24) (q := 16) dX4_within_13 (by decide) rfl (fun c13 => ?_) (fun c13 => ?_)
      · exact absurd z (by omega)
      · refine g_lload_n (q := 17) dX4_within_16 rfl rfl ?_
        refine g_ldc2 (a := -1000000000) (q := 20) dX4_within_17 q1065 (by decide) rfl ?_
        refine g_lcmp (q := 21) dX4_within_20 (by first | assumption | (unfold in64; omega)) (by first | assumption | (unfold in64; omega)) rfl ?_
        refine g_cif_ge (t := 28) (q := 24) dX4_within_21 (by decide) rfl (fun c21 => ?_) (fun c21 => ?_)
        · refine g_iconst (q := 29) dX4_within_28 rfl ?_
          refine g_put (C := RX4) (T := TX4) (ci := 5) (k := 4) (q := 32) dX4_within_29 q436 rfl in_X4 tyX4_ok nmX4 (by decide) rfl gFit_0 hset_at (Nat.le_of_ble_eq_true rfl) rfl ?_
          refine GO.cast hset_hset ?_
          refine g_aload_n (q := 33) dX4_within_32 rfl rfl ?_
          refine g_get (C := RX4) (T := TX4) (ci := 5) (k := 4) (q := 36) dX4_within_33 q436 rfl in_X4 (by decide) hset_at rfl rfl ?_
          refine g_if_eq (t := 43) (q := 39) dX4_within_36 (by decide) rfl (by first | assumption | exact in32_gB | exact in32_gCmp | (unfold in32; omega)) (fun c36 => ?_) (fun c36 => ?_)
          · refine g_lload_n (q := 44) dX4_within_43 rfl rfl ?_
            exact g_lret dX4_within_44 rfl ⟨rfl, rfl⟩
          · exact absurd rfl c36
        · exact absurd z (by omega)
theorem c_of13 (h1 : in64 v) (h2 : in64 w) : CALL E iX13_of d 0 0 [.ref a, vL v, vL w, .ref q] h (qR (vL (v * w)) h) := by
  show GO E iX13_of _ _ _ 0 [some (.ref a), some (vL v), none, some (vL w), none, some (.ref q)] [] _ _
  refine g_lload_n (q := 1) dX13_of_0 rfl rfl ?_
  refine g_lload_n (q := 2) dX13_of_1 rfl rfl ?_
  refine g_lmul (q := 3) dX13_of_2 rfl ?_
  exact g_lret dX13_of_3 rfl ⟨rfl, rfl⟩
theorem c_of14 (h1 : -1000000000 ≤ v ∧ v ≤ 1000000000) (h2 : -1000000000 ≤ w ∧ w ≤ 1000000000) (hb : br = 0 ∨ br = 1) : CALL E iX14_of d 0 0 [.ref a, vL v, vL w, .ref q] (hset h q (akO ha ea ti ho br)) (qR (vL (oOver v w br).1) (hset h q (akO ha ea ti ho (oOver v w br).2))) := by
  by_cases y : w = 0
  · rw [show oOver v w br = (0, 1) by unfold oOver; rw [if_pos y, if_pos (Or.inr y)]]
    show GO E iX14_of _ _ _ 0 [some (.ref a), some (vL v), none, some (vL w), none, some (.ref q)] [] _ _
    refine g_aload (q := 2) dX14_of_0 rfl rfl ?_
    refine g_aload (q := 4) dX14_of_2 rfl rfl ?_
    refine g_getN (C := RX4) (T := TX4) (ci := 5) (k := 4) (q := 7) dX14_of_4 q437 rfl in_X4 (by decide) hset_at rfl rfl ?_
    refine g_if_ne (t := 16) (q := 10) dX14_of_7 (by decide) rfl (by first | assumption | exact in32_gB | exact in32_gCmp | (unfold in32; omega)) (fun c7 => ?_) (fun c7 => ?_)
    · refine g_iconst (q := 17) dX14_of_16 rfl ?_
      refine g_goto (t := 21) dX14_of_17 (by decide) ?_
      refine g_putN (C := RX4) (T := TX4) (ci := 5) (k := 4) (q := 24) dX14_of_21 q437 rfl in_X4 tyX4_ok nmX4 (by decide) rfl gFit_1 hset_at (Nat.le_of_ble_eq_true rfl) rfl ?_
      refine GO.cast hset_hset ?_
      refine g_lload_n (q := 25) dX14_of_24 rfl rfl ?_
      refine g_lconst0 (q := 26) dX14_of_25 rfl ?_
      refine g_lcmp (q := 27) dX14_of_26 (by first | assumption | (unfold in64; omega)) (by first | assumption | (unfold in64; omega)) rfl ?_
      refine g_cif_ne (t := 34) (q := 30) dX14_of_27 (by decide) rfl (fun c27 => ?_) (fun c27 => ?_)
      · exact absurd y c27
      · refine g_lconst0 (q := 31) dX14_of_30 rfl ?_
        refine g_goto (t := 37) dX14_of_31 (by decide) ?_
        exact g_lret dX14_of_37 rfl ⟨rfl, rfl⟩
    · refine g_lload_n (q := 11) dX14_of_10 rfl rfl ?_
      refine g_lconst0 (q := 12) dX14_of_11 rfl ?_
      refine g_lcmp (q := 13) dX14_of_12 (by first | assumption | (unfold in64; omega)) (by first | assumption | (unfold in64; omega)) rfl ?_
      refine g_cif_ne (t := 20) (q := 16) dX14_of_13 (by decide) rfl (fun c13 => ?_) (fun c13 => ?_)
      · exact absurd y c13
      · refine g_iconst (q := 17) dX14_of_16 rfl ?_
        refine g_goto (t := 21) dX14_of_17 (by decide) ?_
        refine g_putN (C := RX4) (T := TX4) (ci := 5) (k := 4) (q := 24) dX14_of_21 q437 rfl in_X4 tyX4_ok nmX4 (by decide) rfl gFit_1 hset_at (Nat.le_of_ble_eq_true rfl) rfl ?_
        refine GO.cast hset_hset ?_
        refine g_lload_n (q := 25) dX14_of_24 rfl rfl ?_
        refine g_lconst0 (q := 26) dX14_of_25 rfl ?_
        refine g_lcmp (q := 27) dX14_of_26 (by first | assumption | (unfold in64; omega)) (by first | assumption | (unfold in64; omega)) rfl ?_
        refine g_cif_ne (t := 34) (q := 30) dX14_of_27 (by decide) rfl (fun c27 => ?_) (fun c27 => ?_)
        · exact absurd y c27
        · refine g_lconst0 (q := 31) dX14_of_30 rfl ?_
          refine g_goto (t := 37) dX14_of_31 (by decide) ?_
          exact g_lret dX14_of_37 rfl ⟨rfl, rfl⟩
  · by_cases z : br = 1
    · rw [show oOver v w br = (v.tdiv w, 1) by unfold oOver; rw [if_neg y, if_pos (Or.inl z)]]
      show GO E iX14_of _ _ _ 0 [some (.ref a), some (vL v), none, some (vL w), none, some (.ref q)] [] _ _
      refine g_aload (q := 2) dX14_of_0 rfl rfl ?_
      refine g_aload (q := 4) dX14_of_2 rfl rfl ?_
      refine g_getN (C := RX4) (T := TX4) (ci := 5) (k := 4) (q := 7) dX14_of_4 q437 rfl in_X4 (by decide) hset_at rfl rfl ?_
      refine g_if_ne (t := 16) (q := 10) dX14_of_7 (by decide) rfl (by first | assumption | exact in32_gB | exact in32_gCmp | (unfold in32; omega)) (fun c7 => ?_) (fun c7 => ?_)
      · refine g_iconst (q := 17) dX14_of_16 rfl ?_
        refine g_goto (t := 21) dX14_of_17 (by decide) ?_
        refine g_putN (C := RX4) (T := TX4) (ci := 5) (k := 4) (q := 24) dX14_of_21 q437 rfl in_X4 tyX4_ok nmX4 (by decide) rfl gFit_1 hset_at (Nat.le_of_ble_eq_true rfl) rfl ?_
        refine GO.cast hset_hset ?_
        refine g_lload_n (q := 25) dX14_of_24 rfl rfl ?_
        refine g_lconst0 (q := 26) dX14_of_25 rfl ?_
        refine g_lcmp (q := 27) dX14_of_26 (by first | assumption | (unfold in64; omega)) (by first | assumption | (unfold in64; omega)) rfl ?_
        refine g_cif_ne (t := 34) (q := 30) dX14_of_27 (by decide) rfl (fun c27 => ?_) (fun c27 => ?_)
        · refine g_lload_n (q := 35) dX14_of_34 rfl rfl ?_
          refine g_lload_n (q := 36) dX14_of_35 rfl rfl ?_
          refine g_ldiv (q := 37) dX14_of_36 (by first | assumption | (unfold in64; omega)) (by first | assumption | (unfold in64; omega)) (by omega) rfl ?_
          exact g_lret dX14_of_37 rfl ⟨rfl, rfl⟩
        · exact absurd c27 y
      · exact absurd c7 (by omega)
    · rw [show oOver v w br = (v.tdiv w, 0) by unfold oOver; rw [if_neg y, if_neg (by omega)]]
      show GO E iX14_of _ _ _ 0 [some (.ref a), some (vL v), none, some (vL w), none, some (.ref q)] [] _ _
      refine g_aload (q := 2) dX14_of_0 rfl rfl ?_
      refine g_aload (q := 4) dX14_of_2 rfl rfl ?_
      refine g_getN (C := RX4) (T := TX4) (ci := 5) (k := 4) (q := 7) dX14_of_4 q437 rfl in_X4 (by decide) hset_at rfl rfl ?_
      refine g_if_ne (t := 16) (q := 10) dX14_of_7 (by decide) rfl (by first | assumption | exact in32_gB | exact in32_gCmp | (unfold in32; omega)) (fun c7 => ?_) (fun c7 => ?_)
      · exact absurd (show br = 0 by omega) c7
      · refine g_lload_n (q := 11) dX14_of_10 rfl rfl ?_
        refine g_lconst0 (q := 12) dX14_of_11 rfl ?_
        refine g_lcmp (q := 13) dX14_of_12 (by first | assumption | (unfold in64; omega)) (by first | assumption | (unfold in64; omega)) rfl ?_
        refine g_cif_ne (t := 20) (q := 16) dX14_of_13 (by decide) rfl (fun c13 => ?_) (fun c13 => ?_)
        · refine g_iconst (q := 21) dX14_of_20 rfl ?_
          refine g_putN (C := RX4) (T := TX4) (ci := 5) (k := 4) (q := 24) dX14_of_21 q437 rfl in_X4 tyX4_ok nmX4 (by decide) rfl gFit_0 hset_at (Nat.le_of_ble_eq_true rfl) rfl ?_
          refine GO.cast hset_hset ?_
          refine g_lload_n (q := 25) dX14_of_24 rfl rfl ?_
          refine g_lconst0 (q := 26) dX14_of_25 rfl ?_
          refine g_lcmp (q := 27) dX14_of_26 (by first | assumption | (unfold in64; omega)) (by first | assumption | (unfold in64; omega)) rfl ?_
          refine g_cif_ne (t := 34) (q := 30) dX14_of_27 (by decide) rfl (fun c27 => ?_) (fun c27 => ?_)
          · refine g_lload_n (q := 35) dX14_of_34 rfl rfl ?_
            refine g_lload_n (q := 36) dX14_of_35 rfl rfl ?_
            refine g_ldiv (q := 37) dX14_of_36 (by first | assumption | (unfold in64; omega)) (by first | assumption | (unfold in64; omega)) (by omega) rfl ?_
            exact g_lret dX14_of_37 rfl ⟨rfl, rfl⟩
          · exact absurd c27 y
        · exact absurd c13 y
theorem c_of15 (h1 : in64 v) (h2 : in64 w) (hl : l = 0 ∨ l = 1) (hc : h.1 a = some (oB 16 [.ref x, .ref y, vI l])) : CALL E iX15_of d 0 0 [.ref a, vL v, vL w, .ref q] h (qR (vL (if l = 0 then v + w else v - w)) h) := by
  show GO E iX15_of _ _ _ 0 [some (.ref a), some (vL v), none, some (vL w), none, some (.ref q)] [] _ _
  refine g_aload_n (q := 1) dX15_of_0 rfl rfl ?_
  refine g_get (C := RX15) (T := TX15) (ci := 16) (k := 2) (q := 4) dX15_of_1 q842 rfl in_X15 (by decide) hc rfl rfl ?_
  refine g_if_eq (t := 13) (q := 7) dX15_of_4 (by decide) rfl (by first | assumption | exact in32_gB | exact in32_gCmp | (unfold in32; omega)) (fun c4 => ?_) (fun c4 => ?_)
  · refine g_lload_n (q := 14) dX15_of_13 rfl rfl ?_
    refine g_lload_n (q := 15) dX15_of_14 rfl rfl ?_
    refine g_ladd (q := 16) dX15_of_15 rfl ?_
    exact g_lret dX15_of_16 rfl ⟨rL (by first | rw [if_pos c4] | rw [if_neg c4]), rfl⟩
  · refine g_lload_n (q := 8) dX15_of_7 rfl rfl ?_
    refine g_lload_n (q := 9) dX15_of_8 rfl rfl ?_
    refine g_lsub (q := 10) dX15_of_9 rfl ?_
    refine g_goto (t := 16) dX15_of_10 (by decide) ?_
    exact g_lret dX15_of_16 rfl ⟨rL (by first | rw [if_pos c4] | rw [if_neg c4]), rfl⟩
theorem c_of10 (hc : 0 ≤ c ∧ c ≤ 1000) (ha : h.1 a = some (oB 12 [vI c])) : CALL E iX10_of d 0 0 [.ref a, .ref q] h (qR (vL c) h) := by
  show GO E iX10_of _ _ _ 0 [some (.ref a), some (.ref q)] [] _ _
  refine g_aload_n (q := 1) dX10_of_0 rfl rfl ?_
  refine g_get (C := RX10) (T := TX10) (ci := 12) (k := 0) (q := 4) dX10_of_1 q793 rfl in_X10 (by decide) ha rfl rfl ?_
  refine g_i2l (q := 5) dX10_of_4 (by first | assumption | exact in32_gB | exact in32_gCmp | (unfold in32; omega)) rfl ?_
  exact g_lret dX10_of_5 rfl ⟨rfl, rfl⟩
theorem c_of11 (hw : 0 ≤ w ∧ w ≤ 4) (hb : akIn ha ea ti ho br) (hc : h.1 a = some (oB 13 [vI w])) (hq : h.1 q = some (akO ha ea ti ho br)) : CALL E iX11_of d 0 0 [.ref a, .ref q] h (qR (vL (sPart w ha ea ti ho br).1) h) := by
  show GO E iX11_of _ _ _ 0 [some (.ref a), some (.ref q)] [] _ _
  refine g_aload_n (q := 1) dX11_of_0 rfl rfl ?_
  refine g_get (C := RX11) (T := TX11) (ci := 13) (k := 0) (q := 4) dX11_of_1 q803 rfl in_X11 (by decide) hc rfl rfl ?_
  refine g_tsw dX11_of_4 (by first | assumption | exact in32_gB | exact in32_gCmp | (unfold in32; omega)) (fun c4 => ⟨64, by decide, ?_⟩) (fun j4 c4 c4h => ?_)
  · refine g_aload_n (q := 65) dX11_of_64 rfl rfl ?_
    refine g_getN (C := RX4) (T := TX4) (ci := 5) (k := 3) (q := 68) dX11_of_65 q434 rfl in_X4 (by decide) hq rfl rfl ?_
    refine g_i2l (q := 69) dX11_of_68 (by first | assumption | exact in32_gB | exact in32_gCmp | (unfold in32; omega)) rfl ?_
    exact g_lret dX11_of_69 rfl ⟨rL (by show _ = (if w = 0 then ha else if w = 1 then 1000 - ha else if w = 2 then ea else if w = 3 then ti else ho); repeat' (first | rw [if_pos (by omega)] | rw [if_neg (by omega)])), rfl⟩
  · rcases j4 with _ | _ | _ | _ | j4
    · refine ⟨32, 36, rfl, by decide, ?_⟩
      refine g_aload_n (q := 37) dX11_of_36 rfl rfl ?_
      refine g_getN (C := RX4) (T := TX4) (ci := 5) (k := 0) (q := 40) dX11_of_37 q428 rfl in_X4 (by decide) hq rfl rfl ?_
      refine g_i2l (q := 41) dX11_of_40 (by first | assumption | exact in32_gB | exact in32_gCmp | (unfold in32; omega)) rfl ?_
      exact g_lret dX11_of_41 rfl ⟨rL (by show _ = (if w = 0 then ha else if w = 1 then 1000 - ha else if w = 2 then ea else if w = 3 then ti else ho); repeat' (first | rw [if_pos (by omega)] | rw [if_neg (by omega)])), rfl⟩
    · refine ⟨38, 42, rfl, by decide, ?_⟩
      refine g_sipush (q := 45) dX11_of_42 rfl ?_
      refine g_aload_n (q := 46) dX11_of_45 rfl rfl ?_
      refine g_getN (C := RX4) (T := TX4) (ci := 5) (k := 0) (q := 49) dX11_of_46 q428 rfl in_X4 (by decide) hq rfl rfl ?_
      refine g_isub (q := 50) dX11_of_49 rfl ?_
      refine g_i2l (q := 51) dX11_of_50 (by first | assumption | exact in32_gB | exact in32_gCmp | (unfold in32; omega)) rfl ?_
      exact g_lret dX11_of_51 rfl ⟨rL (by show _ = (if w = 0 then ha else if w = 1 then 1000 - ha else if w = 2 then ea else if w = 3 then ti else ho); repeat' (first | rw [if_pos (by omega)] | rw [if_neg (by omega)])), rfl⟩
    · refine ⟨48, 52, rfl, by decide, ?_⟩
      refine g_aload_n (q := 53) dX11_of_52 rfl rfl ?_
      refine g_getN (C := RX4) (T := TX4) (ci := 5) (k := 1) (q := 56) dX11_of_53 q430 rfl in_X4 (by decide) hq rfl rfl ?_
      refine g_i2l (q := 57) dX11_of_56 (by first | assumption | exact in32_gB | exact in32_gCmp | (unfold in32; omega)) rfl ?_
      exact g_lret dX11_of_57 rfl ⟨rL (by show _ = (if w = 0 then ha else if w = 1 then 1000 - ha else if w = 2 then ea else if w = 3 then ti else ho); repeat' (first | rw [if_pos (by omega)] | rw [if_neg (by omega)])), rfl⟩
    · refine ⟨54, 58, rfl, by decide, ?_⟩
      refine g_aload_n (q := 59) dX11_of_58 rfl rfl ?_
      refine g_getN (C := RX4) (T := TX4) (ci := 5) (k := 2) (q := 62) dX11_of_59 q432 rfl in_X4 (by decide) hq rfl rfl ?_
      refine g_i2l (q := 63) dX11_of_62 (by first | assumption | exact in32_gB | exact in32_gCmp | (unfold in32; omega)) rfl ?_
      exact g_lret dX11_of_63 rfl ⟨rL (by show _ = (if w = 0 then ha else if w = 1 then 1000 - ha else if w = 2 then ea else if w = 3 then ti else ho); repeat' (first | rw [if_pos (by omega)] | rw [if_neg (by omega)])), rfl⟩
    · exact absurd c4h (by omega)
/-- a sum is asked, from anywhere -/
def OFR (E : gE) (q : Nat) (h : gH) (n a : Nat) (f : SF) : Prop := ∀ (d : Nat) (I : gI) (idx pc rc rs : Nat) (lv : List (Option Value)) (rest : List Value) (Q : Outcome → gH → Prop) (ha ea ti ho br : Int),
  decode I.2.1 pc = .ok (.invokevirtual idx, 3) → Cond.methodLink I.1.cls idx nSumOf ∈ lw_all → akIn ha ea ti ho br → (rest.map fun v => v.category).sum ≤ 20 →
  GO E I (d + 3 * n + 3) rc rs (pc + 3) lv (vL (f ha ea ti ho br).1 :: rest) (hset h q (akO ha ea ti ho (f ha ea ti ho br).2)) Q →
  GO E I (d + 3 * n + 3) rc rs pc lv (.ref q :: .ref a :: rest) (hset h q (akO ha ea ti ho br)) Q
theorem oOver_in {v w br : Int} (h : -1000000000 ≤ v ∧ v ≤ 1000000000) : in64 (oOver v w br).1 ∧ ((oOver v w br).2 = 0 ∨ (oOver v w br).2 = 1) := by
  unfold oOver in64
  refine ⟨?_, ?_⟩
  · show -9223372036854775808 ≤ (if w = 0 then 0 else v.tdiv w) ∧ (if w = 0 then 0 else v.tdiv w) < 9223372036854775808
    split
    · decide
    · have := Int.natAbs_tdiv_le_natAbs v w
      omega
  · show (if br = 1 ∨ w = 0 then (1 : Int) else 0) = 0 ∨ (if br = 1 ∨ w = 0 then (1 : Int) else 0) = 1
    split
    · exact Or.inr rfl
    · exact Or.inl rfl
theorem c_both13 (hx : OFR E q h n x f1) (hy : OFR E q h n y f2) (i1 : sfIn f1) (i2 : sfIn f2) (hne : a ≠ q) (hc : h.1 a = some (oB 14 [.ref x, .ref y])) (hb : akIn ha ea ti ho br) : CALL E iX12_of (d + 2 + 3 * n + 3) 0 0 [.ref a, .ref q] (hset h q (akO ha ea ti ho br)) (qR (vL (sBoth oTimes f1 f2 ha ea ti ho br).1) (hset h q (akO ha ea ti ho (sBoth oTimes f1 f2 ha ea ti ho br).2))) := by
  have ca : ∀ X : va_E, (hset h q X).1 a = some (oB 14 [.ref x, .ref y]) := fun X => (hset_ne hne).trans hc
  have b1 := i1 ha ea ti ho br hb
  have hb2 : akIn ha ea ti ho (f1 ha ea ti ho br).2 := ⟨hb.1, hb.2.1, hb.2.2.1, hb.2.2.2.1, b1.2⟩
  have b2 := i2 ha ea ti ho (f1 ha ea ti ho br).2 hb2
  show GO E iX12_of _ _ _ 0 [some (.ref a), some (.ref q), none, none] [] _ _
  refine g_aload_n (q := 1) dX12_of_0 rfl rfl ?_
  refine g_get (C := RX13) (T := TX13) (ci := 14) (k := 0) (q := 4) dX12_of_1 q821 rfl in_X13 (by decide) (ca _) rfl rfl ?_
  refine g_aload_n (q := 5) dX12_of_4 rfl rfl ?_
  refine hx (d + 2) iX12_of 16 5 0 0 _ _ _ _ _ _ _ _ dX12_of_5 q1043 hb (Nat.le_of_ble_eq_true rfl) ?_
  refine g_lstore_n (q := 9) dX12_of_8 gt2 rfl ?_
  refine g_aload_n (q := 10) dX12_of_9 rfl rfl ?_
  refine g_aload_n (q := 11) dX12_of_10 rfl rfl ?_
  refine g_lload_n (q := 12) dX12_of_11 rfl rfl ?_
  refine g_aload_n (q := 13) dX12_of_12 rfl rfl ?_
  refine g_get (C := RX13) (T := TX13) (ci := 14) (k := 1) (q := 16) dX12_of_13 q822 rfl in_X13 (by decide) (ca _) rfl rfl ?_
  refine g_aload_n (q := 17) dX12_of_16 rfl rfl ?_
  refine hy (d + 2) iX12_of 16 17 0 0 _ _ _ _ _ _ _ _ dX12_of_17 q1043 hb2 (Nat.le_of_ble_eq_true rfl) ?_
  refine g_aload_n (q := 21) dX12_of_20 rfl rfl ?_
  refine g_cx (I' := iX13_of) (mc := 0) (ms := 0) (rc := 0) (rs := 0) (ci := 14) (q := 24) dX12_of_21 q1048 q1050 (Or.inl q1049) (by decide) gcX13_of.2.1 q1058 rfl q1057 gcX13_of (ca _) (c_of13 (by unfold in64; omega) (by unfold in64; omega)) rfl rfl ?_
  refine g_cv (I' := iX4_within) (mc := 0) (ms := 0) (rc := 0) (rs := 0) (ci := 5) (q := 27) dX12_of_24 q1060 q1061 rfl q1062 gcX4_within hset_at (c_within (mul_in64 b1.1 b2.1) b2.2) rfl rfl ?_
  exact g_lret dX12_of_27 rfl ⟨rfl, rfl⟩
theorem c_both14 (hx : OFR E q h n x f1) (hy : OFR E q h n y f2) (i1 : sfIn f1) (i2 : sfIn f2) (hne : a ≠ q) (hc : h.1 a = some (oB 15 [.ref x, .ref y])) (hb : akIn ha ea ti ho br) : CALL E iX12_of (d + 2 + 3 * n + 3) 0 0 [.ref a, .ref q] (hset h q (akO ha ea ti ho br)) (qR (vL (sBoth oOver f1 f2 ha ea ti ho br).1) (hset h q (akO ha ea ti ho (sBoth oOver f1 f2 ha ea ti ho br).2))) := by
  have ca : ∀ X : va_E, (hset h q X).1 a = some (oB 15 [.ref x, .ref y]) := fun X => (hset_ne hne).trans hc
  have b1 := i1 ha ea ti ho br hb
  have hb2 : akIn ha ea ti ho (f1 ha ea ti ho br).2 := ⟨hb.1, hb.2.1, hb.2.2.1, hb.2.2.2.1, b1.2⟩
  have b2 := i2 ha ea ti ho (f1 ha ea ti ho br).2 hb2
  have ov : in64 (oOver (f1 ha ea ti ho br).1 (f2 ha ea ti ho (f1 ha ea ti ho br).2).1 (f2 ha ea ti ho (f1 ha ea ti ho br).2).2).1 ∧ ((oOver (f1 ha ea ti ho br).1 (f2 ha ea ti ho (f1 ha ea ti ho br).2).1 (f2 ha ea ti ho (f1 ha ea ti ho br).2).2).2 = 0 ∨ (oOver (f1 ha ea ti ho br).1 (f2 ha ea ti ho (f1 ha ea ti ho br).2).1 (f2 ha ea ti ho (f1 ha ea ti ho br).2).2).2 = 1) := oOver_in b1.1
  show GO E iX12_of _ _ _ 0 [some (.ref a), some (.ref q), none, none] [] _ _
  refine g_aload_n (q := 1) dX12_of_0 rfl rfl ?_
  refine g_get (C := RX14) (T := TX14) (ci := 15) (k := 0) (q := 4) dX12_of_1 q821 rfl in_X14 (by decide) (ca _) rfl rfl ?_
  refine g_aload_n (q := 5) dX12_of_4 rfl rfl ?_
  refine hx (d + 2) iX12_of 16 5 0 0 _ _ _ _ _ _ _ _ dX12_of_5 q1043 hb (Nat.le_of_ble_eq_true rfl) ?_
  refine g_lstore_n (q := 9) dX12_of_8 gt2 rfl ?_
  refine g_aload_n (q := 10) dX12_of_9 rfl rfl ?_
  refine g_aload_n (q := 11) dX12_of_10 rfl rfl ?_
  refine g_lload_n (q := 12) dX12_of_11 rfl rfl ?_
  refine g_aload_n (q := 13) dX12_of_12 rfl rfl ?_
  refine g_get (C := RX14) (T := TX14) (ci := 15) (k := 1) (q := 16) dX12_of_13 q822 rfl in_X14 (by decide) (ca _) rfl rfl ?_
  refine g_aload_n (q := 17) dX12_of_16 rfl rfl ?_
  refine hy (d + 2) iX12_of 16 17 0 0 _ _ _ _ _ _ _ _ dX12_of_17 q1043 hb2 (Nat.le_of_ble_eq_true rfl) ?_
  refine g_aload_n (q := 21) dX12_of_20 rfl rfl ?_
  refine g_cx (I' := iX14_of) (mc := 0) (ms := 0) (rc := 0) (rs := 0) (ci := 15) (q := 24) dX12_of_21 q1048 q1050 (Or.inl q1049) (by decide) gcX14_of.2.1 q1055 rfl q1054 gcX14_of (ca _) (c_of14 b1.1 b2.1 b2.2) rfl rfl ?_
  refine g_cv (I' := iX4_within) (mc := 0) (ms := 0) (rc := 0) (rs := 0) (ci := 5) (q := 27) dX12_of_24 q1060 q1061 rfl q1062 gcX4_within hset_at (c_within ov.1 ov.2) rfl rfl ?_
  exact g_lret dX12_of_27 rfl ⟨rfl, rfl⟩
theorem c_both15 (hl : l = 0 ∨ l = 1) (hx : OFR E q h n x f1) (hy : OFR E q h n y f2) (i1 : sfIn f1) (i2 : sfIn f2) (hne : a ≠ q) (hc : h.1 a = some (oB 16 [.ref x, .ref y, vI l])) (hb : akIn ha ea ti ho br) : CALL E iX12_of (d + 2 + 3 * n + 3) 0 0 [.ref a, .ref q] (hset h q (akO ha ea ti ho br)) (qR (vL (sBoth (oAdd l) f1 f2 ha ea ti ho br).1) (hset h q (akO ha ea ti ho (sBoth (oAdd l) f1 f2 ha ea ti ho br).2))) := by
  have ca : ∀ X : va_E, (hset h q X).1 a = some (oB 16 [.ref x, .ref y, vI l]) := fun X => (hset_ne hne).trans hc
  have b1 := i1 ha ea ti ho br hb
  have hb2 : akIn ha ea ti ho (f1 ha ea ti ho br).2 := ⟨hb.1, hb.2.1, hb.2.2.1, hb.2.2.2.1, b1.2⟩
  have b2 := i2 ha ea ti ho (f1 ha ea ti ho br).2 hb2
  have ad : in64 (if l = 0 then (f1 ha ea ti ho br).1 + (f2 ha ea ti ho (f1 ha ea ti ho br).2).1 else (f1 ha ea ti ho br).1 - (f2 ha ea ti ho (f1 ha ea ti ho br).2).1) := by
    unfold in64
    split <;> omega
  show GO E iX12_of _ _ _ 0 [some (.ref a), some (.ref q), none, none] [] _ _
  refine g_aload_n (q := 1) dX12_of_0 rfl rfl ?_
  refine g_get (C := RX15) (T := TX15) (ci := 16) (k := 0) (q := 4) dX12_of_1 q821 rfl in_X15 (by decide) (ca _) rfl rfl ?_
  refine g_aload_n (q := 5) dX12_of_4 rfl rfl ?_
  refine hx (d + 2) iX12_of 16 5 0 0 _ _ _ _ _ _ _ _ dX12_of_5 q1043 hb (Nat.le_of_ble_eq_true rfl) ?_
  refine g_lstore_n (q := 9) dX12_of_8 gt2 rfl ?_
  refine g_aload_n (q := 10) dX12_of_9 rfl rfl ?_
  refine g_aload_n (q := 11) dX12_of_10 rfl rfl ?_
  refine g_lload_n (q := 12) dX12_of_11 rfl rfl ?_
  refine g_aload_n (q := 13) dX12_of_12 rfl rfl ?_
  refine g_get (C := RX15) (T := TX15) (ci := 16) (k := 1) (q := 16) dX12_of_13 q822 rfl in_X15 (by decide) (ca _) rfl rfl ?_
  refine g_aload_n (q := 17) dX12_of_16 rfl rfl ?_
  refine hy (d + 2) iX12_of 16 17 0 0 _ _ _ _ _ _ _ _ dX12_of_17 q1043 hb2 (Nat.le_of_ble_eq_true rfl) ?_
  refine g_aload_n (q := 21) dX12_of_20 rfl rfl ?_
  refine g_cx (I' := iX15_of) (mc := 0) (ms := 0) (rc := 0) (rs := 0) (ci := 16) (q := 24) dX12_of_21 q1048 q1050 (Or.inl q1049) (by decide) gcX15_of.2.1 q1052 rfl q1051 gcX15_of (ca _) (c_of15 (by unfold in64; omega) (by unfold in64; omega) hl (ca _)) rfl rfl ?_
  refine g_cv (I' := iX4_within) (mc := 0) (ms := 0) (rc := 0) (rs := 0) (ci := 5) (q := 27) dX12_of_24 q1060 q1061 rfl q1062 gcX4_within hset_at (c_within ad b2.2) rfl rfl ?_
  exact g_lret dX12_of_27 rfl ⟨rfl, rfl⟩
theorem OFR_of {q : Nat} {h : gH} : ∀ (n a : Nat) (f : SF), SUM q h.1 n a f → OFR E q h n a f := by
  intro n
  induction n with
  | zero => intro a f hS; exact hS.elim
  | succ n ih =>
    intro a f hS d I idx pc rc rs lv rest Q ha ea ti ho br hd hlink hb hw kk
    obtain ⟨hne, hS⟩ := hS
    have e : d + 3 * (n + 1) + 3 = (d + 2 + 3 * n + 3) + 1 := by omega
    rw [e] at kk ⊢
    rcases hS with ⟨c, hc, hc1, rfl⟩ | ⟨w, hc, hw1, rfl⟩ | ⟨x, y, f1, f2, s1, s2, h3⟩
    · exact g_cx (I' := iX10_of) (mc := 0) (ms := 0) (rc := rc) (rs := rs) (ci := 12) (As := [.ref q]) hd hlink q1039 (Or.inl q1038) (by decide) gcX10_of.2.1 q1044 rfl q1066 gcX10_of ((hset_ne hne).trans hc) (c_of10 hc1 ((hset_ne hne).trans hc)) rfl rfl kk rfl (Nat.le_of_ble_eq_true rfl) hw (Nat.le_of_ble_eq_true rfl)
    · exact g_cx (I' := iX11_of) (mc := 0) (ms := 0) (rc := rc) (rs := rs) (ci := 13) (As := [.ref q]) hd hlink q1039 (Or.inl q1038) (by decide) gcX11_of.2.1 q1046 rfl q1068 gcX11_of ((hset_ne hne).trans hc) (c_of11 hw1 hb ((hset_ne hne).trans hc) hset_at) rfl rfl kk rfl (Nat.le_of_ble_eq_true rfl) hw (Nat.le_of_ble_eq_true rfl)
    · have o1 := ih x f1 s1
      have o2 := ih y f2 s2
      have i1 := SUM_in n x f1 s1
      have i2 := SUM_in n y f2 s2
      rcases h3 with ⟨hc, rfl⟩ | ⟨hc, rfl⟩ | ⟨l, hl, hc, rfl⟩
      · exact g_cx (I' := iX12_of) (mc := 0) (ms := 0) (rc := rc) (rs := rs) (ci := 14) (As := [.ref q]) hd hlink q1039 (Or.inl q1038) (by decide) gcX12_of.2.1 q1041 rfl q1069 gcX12_of ((hset_ne hne).trans hc) (c_both13 o1 o2 i1 i2 hne hc hb) rfl rfl kk rfl (Nat.le_of_ble_eq_true rfl) hw (Nat.le_of_ble_eq_true rfl)
      · exact g_cx (I' := iX12_of) (mc := 0) (ms := 0) (rc := rc) (rs := rs) (ci := 15) (As := [.ref q]) hd hlink q1039 (Or.inl q1038) (by decide) gcX12_of.2.1 q1041 rfl q1067 gcX12_of ((hset_ne hne).trans hc) (c_both14 o1 o2 i1 i2 hne hc hb) rfl rfl kk rfl (Nat.le_of_ble_eq_true rfl) hw (Nat.le_of_ble_eq_true rfl)
      · exact g_cx (I' := iX12_of) (mc := 0) (ms := 0) (rc := rc) (rs := rs) (ci := 16) (As := [.ref q]) hd hlink q1039 (Or.inl q1038) (by decide) gcX12_of.2.1 q1041 rfl q1040 gcX12_of ((hset_ne hne).trans hc) (c_both15 hl o1 o2 i1 i2 hne hc hb) rfl rfl kk rfl (Nat.le_of_ble_eq_true rfl) hw (Nat.le_of_ble_eq_true rfl)
/-- what a law comes to: 0 if it is broken -/
def sVal (f : SF) (ha ea ti ho : Int) : Int := if (f ha ea ti ho 0).2 = 0 then (f ha ea ti ho 0).1 else 0
theorem c_comes (hS : SUM q h.1 n a f) (hb : akIn ha ea ti ho 0) : CALL E iX9_comes (d + 3 * n + 3) 0 0 [.ref a, .ref q] (hset h q (akO ha ea ti ho br)) (qP fun v k => v = vL (sVal f ha ea ti ho) ∧ ∃ b2 : Int, k = hset h q (akO ha ea ti ho b2)) := by
  have i1 := SUM_in n a f hS ha ea ti ho 0 hb
  show GO E iX9_comes _ _ _ 0 [some (.ref a), some (.ref q), none, none] [] _ _
  refine g_aload_n (q := 1) dX9_comes_0 rfl rfl ?_
  refine g_iconst (q := 2) dX9_comes_1 rfl ?_
  refine g_putN (C := RX4) (T := TX4) (ci := 5) (k := 4) (q := 5) dX9_comes_2 q438 rfl in_X4 tyX4_ok nmX4 (by decide) rfl gFit_0 hset_at (Nat.le_of_ble_eq_true rfl) rfl ?_
  refine GO.cast hset_hset ?_
  refine g_aload_n (q := 6) dX9_comes_5 rfl rfl ?_
  refine g_aload_n (q := 7) dX9_comes_6 rfl rfl ?_
  refine OFR_of n a f hS d iX9_comes 13 7 0 0 _ _ _ _ _ _ _ _ dX9_comes_7 q1037 hb (Nat.le_of_ble_eq_true rfl) ?_
  refine g_lstore_n (q := 11) dX9_comes_10 gt2 rfl ?_
  refine g_aload_n (q := 12) dX9_comes_11 rfl rfl ?_
  refine g_getN (C := RX4) (T := TX4) (ci := 5) (k := 4) (q := 15) dX9_comes_12 q438 rfl in_X4 (by decide) hset_at rfl rfl ?_
  refine g_if_eq (t := 22) (q := 18) dX9_comes_15 (by decide) rfl (by first | assumption | exact in32_gB | exact in32_gCmp | (unfold in32; omega)) (fun c15 => ?_) (fun c15 => ?_)
  · refine g_lload_n (q := 23) dX9_comes_22 rfl rfl ?_
    exact g_lret dX9_comes_23 rfl ⟨_, rfl, by unfold sVal; first | rw [if_pos c15] | rw [if_neg c15], _, rfl⟩
  · refine g_lconst0 (q := 19) dX9_comes_18 rfl ?_
    refine g_goto (t := 23) dX9_comes_19 (by decide) ?_
    exact g_lret dX9_comes_23 rfl ⟨_, rfl, by unfold sVal; first | rw [if_pos c15] | rw [if_neg c15], _, rfl⟩
end
