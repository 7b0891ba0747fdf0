/-! THE COMPONENT: the Reader reads a part -/
set_option maxRecDepth 100000
theorem hnew_hset {h : gH} {r : Nat} {x y : va_E} (hr : r ≠ h.2) : hnew (hset h r x) y = hset (hnew h y) r x := by
  refine Prod.ext (funext fun b => ?_) rfl
  show (if b = h.2 then some y else if b = r then some x else h.1 b) = if b = r then some x else if b = h.2 then some y else h.1 b
  by_cases c1 : b = h.2
  · rw [if_pos c1, if_neg (by omega), if_pos c1]
  · rw [if_neg c1, if_neg c1]
/-- cells were added, no more -/
def XT (ow ow' : OW) (h h' : gH) : Prop := FR ow ow' h h' (fun _ => True) ∧ HW h' ∧ h.2 ≤ h'.2
section
variable {ow ow' ow2 : OW} {h h' h2 : gH} {v : va_E} {o : Nat}
theorem XT.refl (hh : HW h) : XT ow ow h h := ⟨FR.same, hh, Nat.le_refl _⟩
theorem XT.trans (a : XT ow ow' h h') (b : XT ow' ow2 h' h2) : XT ow ow2 h h2 := ⟨a.1.trans b.1, b.2.1, Nat.le_trans a.2.2 b.2.2⟩
theorem XT.new (hh : HW h) : XT ow (upO ow h.2 o) h (hnew h v) := ⟨FR.new hh (fun b hb => upO_lt hb), hh.new, Nat.le_succ _⟩
theorem XT.at {b : Nat} (a : XT ow ow' h h') (e : h.1 b = some v) : h'.1 b = some v := (a.1 b v e trivial).1
theorem XT.own {b : Nat} (a : XT ow ow' h h') (e : h.1 b = some v) : ow' b = ow b := (a.1 b v e trivial).2
end
theorem WRD.xt {E : gE} {ow ow' : OW} {h h' : gH} {a : Nat} {L : List (List Int)} (hW : WRD E h a L) (hX : XT ow ow' h h') : WRD E h' a L := by
  obtain ⟨f, c1, hx⟩ := hW
  exact ⟨f, hX.at c1, hx⟩
/-- what the Reader stands on -/
def RCX (E : gE) (ow : OW) (h : gH) (r so la ak ta : Nat) (tp : Int → Int) : Prop :=
  gOK E ∧ (HW h ∧ ow r = 9 ∧ ∃ v, h.1 r = some v) ∧ ta ≠ r ∧ (∃ tq, h.1 ta = some (aB E 900 tq) ∧ ∀ j, 0 ≤ j → j < 900 → tq j = tp j) ∧ TPok tp ∧ (WRD E h so lSorts ∧ so ≠ r) ∧ (WRD E h la lLaws ∧ la ≠ r) ∧ WRD E h ak lAsks ∧ ak ≠ r
/-- it threw a Wrong, as X says -/
def excQ (ow : OW) (h : gH) (r so la ak ta tx rl : Nat) (sz : Int) (X : PS) : Nat → gH → Prop := fun y k => X.2.2.2.2.1 ≠ 0 ∧ ∃ ow' h' P', XT ow ow' h h' ∧ k = hset h' r (rdO so la ak ta tx rl sz P') ∧ h'.1 y = some (wrO X.2.2.2.2.1 X.2.2.2.2.2.1) ∧ y ≠ r
section
variable {E : gE} {d r so la ak ta tx rl x : Nat} {ow ow' : OW} {h h' : gH} {tp : Int → Int} {sz k lw hi j : Int} {P X : PS} {bs : List Int} {Q : Outcome → gH → Prop} {L : List (List Int)} {v : va_E}
theorem RCX.lt (hC : RCX E ow h r so la ak ta tp) : r < h.2 := by
  obtain ⟨-, ⟨hh, -, v, e⟩, -⟩ := hC
  exact hh _ _ e
theorem RCX.xt (hC : RCX E ow h r so la ak ta tp) (hX : XT ow ow' h h') : RCX E ow' h' r so la ak ta tp := by
  obtain ⟨ok, ⟨hh, o9, v, e⟩, nt, ⟨tq, ct, ht⟩, hT, ⟨w1, n1⟩, ⟨w2, n2⟩, w3, n3⟩ := hC
  exact ⟨ok, ⟨hX.2.1, (hX.own e).trans o9, v, hX.at e⟩, nt, ⟨tq, hX.at ct, ht⟩, hT, ⟨w1.xt hX, n1⟩, ⟨w2.xt hX, n2⟩, w3.xt hX, n3⟩
theorem excQ.xt (a : XT ow ow' h h') {y : Nat} {k : gH} (z : excQ ow' h' r so la ak ta tx rl sz X y k) : excQ ow h r so la ak ta tx rl sz X y k := by
  obtain ⟨z1, ow2, h2, P', z2, z3⟩ := z
  exact ⟨z1, ow2, h2, P', a.trans z2, z3⟩
/-- a Wrong was made right here -/
theorem excQ.here (hC : RCX E ow h r so la ak ta tp) {y : Nat} {k : gH} {kd pl : Int} (hX : X.2.2.2.2.1 ≠ 0) (e1 : X.2.2.2.2.1 = kd) (e2 : X.2.2.2.2.2.1 = pl) (z : y = h.2 ∧ k = hnew (hset h r (rdO so la ak ta tx rl sz P)) (wrO kd pl)) : excQ ow h r so la ak ta tx rl sz X y k := by
  have hl := hC.lt
  obtain ⟨rfl, rfl⟩ := z
  refine ⟨hX, upO ow h.2 0, hnew h (wrO kd pl), P, XT.new hC.2.1.1, hnew_hset (by omega), ?_, by omega⟩
  rw [e1, e2]
  exact hnew_at
theorem c_nextC (hC : RCX E ow h r so la ak ta tp) (hz : sz ≤ 900) (hP : PSt sz P) : CALL E iX7_next (d + 1) 0 0 [.ref r] (hset h r (rdO so la ak ta tx rl sz P)) (qV (hset h r (rdO so la ak ta tx rl sz (PSadv tp sz P)))) := by
  obtain ⟨ok, -, nt, ⟨tq, ct, ht⟩, hT, -⟩ := hC
  exact c_next nt ct ht hT hz ⟨by have := hP.1; omega, hP.1.2.2⟩
theorem c_isC (hC : RCX E ow h r so la ak ta tp) (hS : STR E x bs) (hP : PSt sz P) (hf : P.2.2.2.2.1 = 0) (hz : sz ≤ 900) : CALL E iX7_is (d + 4) 0 0 [.ref r, .ref x] (hset h r (rdO so la ak ta tx rl sz P)) (qR (vI (gB (isW tp bs P))) (hset h r (rdO so la ak ta tx rl sz P))) := by
  obtain ⟨ok, -, nt, ⟨tq, ct, ht⟩, hT, -⟩ := hC
  exact c_isR nt ct ht hT hS hP hf hz
theorem c_takesC (hC : RCX E ow h r so la ak ta tp) (hS : STR E x bs) (hP : PSt sz P) (hf : P.2.2.2.2.1 = 0) (hz : sz ≤ 900) : CALL E iX7_takes (d + 5) 0 0 [.ref r, .ref x] (hset h r (rdO so la ak ta tx rl sz P)) (qR (vI (gB (isW tp bs P))) (hset h r (rdO so la ak ta tx rl sz (if isW tp bs P then PSadv tp sz P else P)))) := by
  obtain ⟨ok, -, nt, ⟨tq, ct, ht⟩, hT, -⟩ := hC
  exact c_takesR nt ct ht hT hS hP hf hz
theorem c_wordC (hC : RCX E ow h r so la ak ta tp) (hS : STR E x bs) (hP : PSt sz P) (hf : P.2.2.2.2.1 = 0) (hz : sz ≤ 900) : CALL E iX7_word (d + 6) 1 8 [.ref r, .ref x] (hset h r (rdO so la ak ta tx rl sz P)) (qVE (fun k => (nwP tp sz bs P).2.2.2.2.1 = 0 ∧ k = hset h r (rdO so la ak ta tx rl sz (nwP tp sz bs P))) (excQ ow h r so la ak ta tx rl sz (nwP tp sz bs P))) := by
  have hC' := hC
  have hl := hC.lt
  obtain ⟨ok, -, nt, ⟨tq, ct, ht⟩, hT, -⟩ := hC
  refine GO.mono (c_wordR ok nt hl ct ht hT hS hP hf hz) (fun o k z => ?_)
  cases o with
  | returned v =>
    cases v with
    | none => exact z
    | some v => exact z
  | threw y => exact excQ.here hC' z.1 rfl rfl z.2
theorem c_numberC (hC : RCX E ow h r so la ak ta tp) (hP : PSt sz P) (hf : P.2.2.2.2.1 = 0) (hz : sz ≤ 900) (hl : 0 ≤ lw ∧ lw ≤ 5000) (hh : -1 ≤ hi ∧ hi ≤ 5000) : CALL E iX7_number (d + 5) 1 8 [.ref r, vI lw, vI hi] (hset h r (rdO so la ak ta tx rl sz P)) (qE (fun v k => (nuP tp sz lw hi P).2.2.2.2.2.1 = 0 ∧ v = vI (nuP tp sz lw hi P).1 ∧ k = hset h r (rdO so la ak ta tx rl sz (nuP tp sz lw hi P).2)) (excQ ow h r so la ak ta tx rl sz (nuP tp sz lw hi P).2)) := by
  have hC' := hC
  have hlt := hC.lt
  obtain ⟨ok, -, nt, ⟨tq, ct, ht⟩, hT, -⟩ := hC
  refine GO.mono (c_numberR ok nt hlt ct ht hT hP hf hz hl hh) (fun o k z => ?_)
  cases o with
  | returned v =>
    cases v with
    | none => exact z
    | some v => exact z
  | threw y => exact excQ.here hC' z.1 rfl rfl z.2
theorem c_sortC (hC : RCX E ow h r so la ak ta tp) (hP : PSt sz P) (hf : P.2.2.2.2.1 = 0) (hz : sz ≤ 900) : CALL E iX7_sort (d + 6) 1 8 [.ref r] (hset h r (rdO so la ak ta tx rl sz P)) (qE (fun v k => srP tp P ≠ -1 ∧ v = vI (srP tp P) ∧ k = hset h r (rdO so la ak ta tx rl sz P)) (fun y k => srP tp P = -1 ∧ excQ ow h r so la ak ta tx rl sz (PSerr 1 P) y k)) := by
  have hC' := hC
  have hlt := hC.lt
  obtain ⟨ok, -, nt, ⟨tq, ct, ht⟩, hT, ⟨w1, n1⟩, -⟩ := hC
  refine GO.mono (c_sortR ok nt hlt ct ht hT w1 n1 hP hf hz) (fun o k z => ?_)
  cases o with
  | returned v =>
    cases v with
    | none => exact z
    | some v => exact z
  | threw y => exact ⟨z.1, excQ.here (X := PSerr 1 P) hC' (show (1 : Int) ≠ 0 by decide) rfl rfl z.2⟩
/-- fails, as an error of kind k here -/
theorem c_failsC (hC : RCX E ow h r so la ak ta tp) (hk : k ≠ 0) : CALL E iX7_fails (d + 4) 1 8 [.ref r, vI k] (hset h r (rdO so la ak ta tx rl sz P)) (qVE (fun _ => False) (excQ ow h r so la ak ta tx rl sz (PSerr k P))) := by
  have hC' := hC
  have hlt := hC.lt
  refine GO.mono (c_failsE hC.1 hlt) (fun o k' z => ?_)
  cases o with
  | returned v =>
    cases v with
    | none => exact z
    | some v => exact z
  | threw y => exact excQ.here (X := PSerr k P) hC' hk rfl rfl z
theorem pgF_at {g : Int → Int} {j kd n : Int} (h : 0 ≤ g 3) : pgF g j kd n (220 + 3 * g 3) = j ∧ pgF g j kd n (220 + 3 * g 3 + 1) = kd ∧ pgF g j kd n (220 + 3 * g 3 + 2) = n ∧ pgF g j kd n 3 = g 3 + 1 := by
  have e3 : upI (upI (upI g (220 + 3 * g 3) j) (220 + 3 * g 3 + 1) kd) (220 + 3 * g 3 + 2) n 3 = g 3 := by rw [upI_ne (by omega), upI_ne (by omega), upI_ne (by omega)]
  unfold pgF
  refine ⟨?_, ?_, ?_, ?_⟩
  · rw [upI_ne (by omega), upI_ne (by omega), upI_ne (by omega), upI_at]
  · rw [upI_ne (by omega), upI_ne (by omega), upI_at]
  · rw [upI_ne (by omega), upI_at]
  · rw [upI_at, e3]
theorem pgF_ne {g : Int → Int} {j kd n y : Int} (h3 : y ≠ 3) (h : y < 220 + 3 * g 3 ∨ 220 + 3 * g 3 + 2 < y) : pgF g j kd n y = g y := by
  unfold pgF
  rw [upI_ne h3, upI_ne (by omega), upI_ne (by omega), upI_ne (by omega)]
/-- a part was read: its tree -/
def prtQ (ow : OW) (h : gH) (r so la ak ta tx rl : Nat) (sz : Int) (g X : PS) : Value → gH → Prop := fun v k => X.2.2.2.2.1 = 0 ∧ ∃ a f ow' h', v = .ref a ∧ XT ow ow' h h' ∧ k = hset h' r (rdO so la ak ta tx rl sz X) ∧ SUMg (imm ow') h'.1 1 a f ∧ PRT X.2.2.2.2.2.2.1 (g.2.2.2.2.2.2.1 3) f
theorem c_partC (hC : RCX E ow h r so la ak ta tp) (hP : PSt sz P) (hf : P.2.2.2.2.1 = 0) (hz : sz ≤ 900) (h3 : 0 ≤ P.2.2.2.2.2.2.1 3) : CALL E iX7_part (d + 6) 2 9 [.ref r] (hset h r (rdO so la ak ta tx rl sz P)) (qE (prtQ ow h r so la ak ta tx rl sz P (rpP tp sz j P)) (excQ ow h r so la ak ta tx rl sz (rpP tp sz j P))) := by
  have hl := hC.lt
  have ht := hP.2.1
  by_cases w : P.2.2.1 = 2
  · have ea : askP tp P = 0 := Decidable.byContradiction fun q => absurd (askP_tk q) (by omega)
    have eX : rpP tp sz j P = rpN j (nuP tp sz 0 1000 P) := by unfold rpP; rw [if_pos hf, if_pos ea]
    have eN : ((nuP tp sz 0 1000 P).2.2.2.2.2.1 ≠ 0 → rpN j (nuP tp sz 0 1000 P) = (nuP tp sz 0 1000 P).2) := fun q => if_neg q
    rw [eX]
    have hC1 := hC.xt (XT.new (v := oB 12 [vI 0]) (o := 0) hC.2.1.1)
    show GO E iX7_part _ _ _ 0 [some (.ref r), none] [] _ _
    refine g_aload_n (q := 1) dX7_part_0 rfl rfl ?_
    refine g_get (C := RX7) (T := TX7) (ci := 8) (k := 9) (q := 4) dX7_part_1 q603 rfl in_X7 (by decide) rd_at rfl rfl ?_
    refine g_iconst (q := 5) dX7_part_4 rfl ?_
    refine g_icmp_ne (t := 24) (q := 8) dX7_part_5 (by decide) rfl (by unfold in32; omega) (by unfold in32; omega) (fun c5 => ?_) (fun c5 => ?_)
    · exact absurd w c5
    · refine g_new (C := RX10) (T := TX10) (N := 1) (ci := 12) (fs := [vI 0]) (q := 11) dX7_part_8 q779 q780 q104 rfl in_X10 tyX10_ok (by decide) rfl ?_
      refine GO.cast (hnew_hset (by omega)) ?_
      refine g_dup (q := 12) dX7_part_11 rfl ?_
      refine g_aload_n (q := 13) dX7_part_12 rfl rfl ?_
      refine g_iconst (q := 14) dX7_part_13 rfl ?_
      refine g_sipush (q := 17) dX7_part_14 rfl ?_
      refine g_cvE (I' := iX7_number) (mc := 1) (ms := 8) (rc := 0) (rs := 0) (ci := 8) (q := 20) dX7_part_17 q781 q783 rfl qs19 gcX7_number rd_at (GO.deep (c_numberC (d := 0) hC1 hP hf hz (by decide) (by decide)) (by omega)) rfl rfl (fun x17 e17 y17 => by have q := y17.1; rw [eN q]; exact excQ.xt (XT.new hC.2.1.1) y17) (fun v17 k17 z17 => ?_)
      obtain ⟨q1, rfl, rfl⟩ := z17
      refine g_ci (I' := iX10_init) (mc := 0) (ms := 0) (rc := 0) (rs := 0) (q := 23) dX7_part_20 q786 q787 rfl q788 gcX10_init (c_amount ((hset_ne (show h.2 ≠ r by omega)).trans hnew_at)) rfl rfl ?_
      refine g_aret dX7_part_23 rfl (Or.inl ⟨_, rfl⟩) ?_
      have hv := nu_val (tp := tp) (sz := sz) (P := P) (show (0 : Int) ≤ 0 by decide) (show (0 : Int) ≤ 1000 by decide)
      have eR : rpN j (nuP tp sz 0 1000 P) = PSf (pgF (nuP tp sz 0 1000 P).2.2.2.2.2.2.2.1 j 0 (nuP tp sz 0 1000 P).1) (nuP tp sz 0 1000 P).2 := if_pos q1
      have eF : (nuP tp sz 0 1000 P).2.2.2.2.2.2.2.1 = P.2.2.2.2.2.2.1 := by unfold nuP; rw [if_pos hf, if_pos w]; split <;> rfl
      rw [eR, eF]
      have hg := pgF_at (j := j) (kd := 0) (n := (nuP tp sz 0 1000 P).1) h3
      refine ⟨q1, h.2, sAmt (nuP tp sz 0 1000 P).1, upO ow h.2 0, hnew h (oB 12 [vI (nuP tp sz 0 1000 P).1]), rfl, XT.new hC.2.1.1, ?_, ⟨imm_n upO_at, Or.inl ⟨_, hnew_at, hv, rfl⟩⟩, PRT.amt hv hg.2.1 hg.2.2.1⟩
      rw [hset_comm (by omega), hnew_set]
      rfl
  · have hb := whP_in (tp := tp) (P := P) lAsks
    replace hb : 0 ≤ whP tp P lAsks ∧ whP tp P lAsks ≤ 5 := hb
    have ew := ask_wh (tp := tp) (P := P)
    obtain ⟨ok, -, nt, ⟨tq, ct, htq⟩, hT, -, -, w3, n3⟩ := id hC
    obtain ⟨fa, c3, -⟩ := id w3
    have c3' : (hset h r (rdO so la ak ta tx rl sz P)).1 ak = some (aR E 11 5 fa) := (hset_ne n3).trans c3
    by_cases q : whP tp P lAsks = 5
    · rw [if_pos q] at ew
      have eX : rpP tp sz j P = PSerr 1 P := by
        unfold rpP
        rw [if_pos hf, if_pos ew]
        have en : nuP tp sz 0 1000 P = (0, PSerr 1 P) := by unfold nuP; rw [if_pos hf, if_neg w]
        rw [en]
        exact if_neg (show ¬ (1 : Int) = 0 by decide)
      rw [eX]
      show GO E iX7_part _ _ _ 0 [some (.ref r), none] [] _ _
      refine g_aload_n (q := 1) dX7_part_0 rfl rfl ?_
      refine g_get (C := RX7) (T := TX7) (ci := 8) (k := 9) (q := 4) dX7_part_1 q603 rfl in_X7 (by decide) rd_at rfl rfl ?_
      refine g_iconst (q := 5) dX7_part_4 rfl ?_
      refine g_icmp_ne (t := 24) (q := 8) dX7_part_5 (by decide) rfl (by unfold in32; omega) (by unfold in32; omega) (fun c5 => ?_) (fun c5 => ?_)
      · refine g_aload_n (q := 25) dX7_part_24 rfl rfl ?_
        refine g_aload_n (q := 26) dX7_part_25 rfl rfl ?_
        refine g_get (C := RX7) (T := TX7) (ci := 8) (k := 2) (q := 29) dX7_part_26 q595 rfl in_X7 (by decide) rd_at rfl rfl ?_
        refine g_cv (I' := iX7_which) (mc := 0) (ms := 0) (rc := 2) (rs := 9) (ci := 8) (q := 32) dX7_part_29 q650 q652 rfl qs9 gcX7_which rd_at (c_whichR (d := d) nt ct htq hT w3 n3 (by decide) hP hf hz) rfl rfl ?_
        refine g_istore_n (q := 33) dX7_part_32 gs1 rfl ?_
        refine g_iload_n (q := 34) dX7_part_33 rfl rfl ?_
        refine g_aload_n (q := 35) dX7_part_34 rfl rfl ?_
        refine g_get (C := RX7) (T := TX7) (ci := 8) (k := 2) (q := 38) dX7_part_35 q595 rfl in_X7 (by decide) rd_at rfl rfl ?_
        refine g_alen 11 (q := 39) dX7_part_38 c3' rfl rfl rfl ?_
        refine g_icmp_ne (t := 47) (q := 42) dX7_part_39 (by decide) rfl (by unfold in32; omega) (by unfold in32; omega) (fun c39 => ?_) (fun c39 => ?_)
        · exact absurd q c39
        · refine g_aload_n (q := 43) dX7_part_42 rfl rfl ?_
          refine g_iconst (q := 44) dX7_part_43 rfl ?_
          exact g_cvX (I' := iX7_fails) (mc := 1) (ms := 8) (rc := 1) (rs := 1) (ci := 8) dX7_part_44 q718 q720 rfl qs11 gcX7_fails rd_at (GO.deep (c_failsC (d := 0) hC (by decide)) (by omega)) rfl (fun x44 e44 y44 => y44)
      · exact absurd c5 w
    · rw [if_neg q] at ew
      have hne : askP tp P ≠ 0 := by omega
      have eX : rpP tp sz j P = PSf (pgF P.2.2.2.2.2.2.1 j (askP tp P) 0) (PSadv tp sz P) := by unfold rpP; rw [if_pos hf, if_neg hne]
      rw [eX]
      show GO E iX7_part _ _ _ 0 [some (.ref r), none] [] _ _
      refine g_aload_n (q := 1) dX7_part_0 rfl rfl ?_
      refine g_get (C := RX7) (T := TX7) (ci := 8) (k := 9) (q := 4) dX7_part_1 q603 rfl in_X7 (by decide) rd_at rfl rfl ?_
      refine g_iconst (q := 5) dX7_part_4 rfl ?_
      refine g_icmp_ne (t := 24) (q := 8) dX7_part_5 (by decide) rfl (by unfold in32; omega) (by unfold in32; omega) (fun c5 => ?_) (fun c5 => ?_)
      · refine g_aload_n (q := 25) dX7_part_24 rfl rfl ?_
        refine g_aload_n (q := 26) dX7_part_25 rfl rfl ?_
        refine g_get (C := RX7) (T := TX7) (ci := 8) (k := 2) (q := 29) dX7_part_26 q595 rfl in_X7 (by decide) rd_at rfl rfl ?_
        refine g_cv (I' := iX7_which) (mc := 0) (ms := 0) (rc := 2) (rs := 9) (ci := 8) (q := 32) dX7_part_29 q650 q652 rfl qs9 gcX7_which rd_at (c_whichR (d := d) nt ct htq hT w3 n3 (by decide) hP hf hz) rfl rfl ?_
        refine g_istore_n (q := 33) dX7_part_32 gs1 rfl ?_
        refine g_iload_n (q := 34) dX7_part_33 rfl rfl ?_
        refine g_aload_n (q := 35) dX7_part_34 rfl rfl ?_
        refine g_get (C := RX7) (T := TX7) (ci := 8) (k := 2) (q := 38) dX7_part_35 q595 rfl in_X7 (by decide) rd_at rfl rfl ?_
        refine g_alen 11 (q := 39) dX7_part_38 c3' rfl rfl rfl ?_
        refine g_icmp_ne (t := 47) (q := 42) dX7_part_39 (by decide) rfl (by unfold in32; omega) (by unfold in32; omega) (fun c39 => ?_) (fun c39 => ?_)
        · refine g_aload_n (q := 48) dX7_part_47 rfl rfl ?_
          refine g_cvV (I' := iX7_next) (mc := 0) (ms := 0) (rc := 2) (rs := 9) (ci := 8) (q := 51) dX7_part_48 q635 q637 rfl qs6 gcX7_next rd_at (GO.deep (c_nextC (d := 0) hC hz hP) (by omega)) rfl rfl ?_
          refine g_new (C := RX11) (T := TX11) (N := 1) (ci := 13) (fs := [vI 0]) (q := 54) dX7_part_51 q797 q798 q105 rfl in_X11 tyX11_ok (by decide) rfl ?_
          refine g_dup (q := 55) dX7_part_54 rfl ?_
          refine g_iload_n (q := 56) dX7_part_55 rfl rfl ?_
          refine g_ci (I' := iX11_init) (mc := 0) (ms := 0) (rc := 1) (rs := 8) (q := 59) dX7_part_56 q799 q800 rfl q801 gcX11_init (c_part hnew_at) rfl rfl ?_
          refine g_aret dX7_part_59 rfl (Or.inl ⟨_, rfl⟩) ?_
          have hg := pgF_at (j := j) (kd := askP tp P) (n := 0) h3
          have hk := askP_in (tp := tp) (P := P)
          refine ⟨hf, h.2, sPart (askP tp P - 1), upO ow h.2 0, hnew h (oB 13 [vI (whP tp P lAsks)]), rfl, XT.new hC.2.1.1, ?_, ⟨imm_n upO_at, Or.inr (Or.inl ⟨_, hnew_at, by omega, by rw [ew, show whP tp P lAsks + 1 - 1 = whP tp P lAsks by omega]⟩)⟩, PRT.ask (by omega) hg.2.1⟩
          rw [hnew_set]
          exact hnew_hset (by omega)
        · exact absurd c39 q
      · exact absurd c5 w
end
