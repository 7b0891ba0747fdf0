/-! THE COMPONENT: the text that is read -/
set_option maxRecDepth 100000
/-- a law's tree, or none -/
def LAWR (av : Nat → Prop) (h : Nat → Option va_E) (g : Int → Int) (k s : Int) : Option Nat → Prop
  | none => (k = 2 → s = 0) → g (202 + 2 * lawN k s + 1) = 0
  | some a => (k = 2 → s = 0) ∧ 0 < g (202 + 2 * lawN k s + 1) ∧ ∃ (N : Nat) (f : SF), N ≤ 300 ∧ SUMg av h N a f ∧ ∀ (hs : Int → Int) (B has ea kn : Int), HSok B hs → B ≤ 1000000000 → (0 ≤ has ∧ has ≤ 1000) → (0 ≤ ea ∧ ea ≤ 9) → comes g hs (-1) kn (lawN k s) has ea = sVal f has ea (hs 2017) ((hs 2016).tmod 24)
/-- the text at t: g what it says, hd whether hold was told, lt the leans told -/
def RTX (E : gE) (ow : OW) (h : gH) (t : Nat) (g : Int → Int) (hd : Int) (lt : Int → Int) : Prop :=
  OWN ow t 8 14 ∧ ∃ (lw : Int → Int → Option Nat) (ge gl gz : Int → Int), h.1 t = some (oB 2 [.ref (t + 1), .ref (t + 2), .ref (t + 3), .ref (t + 7), vI (g 1), vI (g 4), vI (g 0), vI hd]) ∧ (h.1 (t + 1) = some (aI E 24 ge) ∧ ∀ j, 0 ≤ j → j < 24 → ge j = g (10 + j)) ∧ (h.1 (t + 2) = some (aI E 4 gl) ∧ ∀ j, 0 ≤ j → j < 4 → gl j = g (5 + j)) ∧ h.1 (t + 3) = some (aR E 9 3 (fun k => some (t + 4 + k.toNat))) ∧ (∀ k : Int, 0 ≤ k → k < 3 → h.1 (t + 4 + k.toNat) = some (aR E 8 4 (lw k))) ∧ (h.1 (t + 7) = some (aZ E 4 gz) ∧ ∀ j, 0 ≤ j → j < 4 → gz j = lt j) ∧ ∀ k s, 0 ≤ k → k < 3 → 0 ≤ s → s < 4 → LAWR (imm ow) h.1 g k s (lw k s)
/-- the rows that were read -/
def RRW (E : gE) (ow : OW) (h : gH) (rl : Nat) (g : Int → Int) : Prop := ∃ rr : Int → Nat, LST E ow h 15 rl (g 2) rr ∧ ∀ r, 0 ≤ r → r < g 2 → ROWc E (imm ow) h.1 g r (rr r)
/-- what else was there is as it was -/
def XF (ow ow' : OW) (h h' : gH) : Prop := FR ow ow' h h' (fun o => o ≠ 9 ∧ o ≠ 14 ∧ o ≠ 15) ∧ h.2 ≤ h'.2
/-- laws end before the parts do -/
def LB (g : Int → Int) : Prop := ∀ l, 0 ≤ l → l < 9 → g (202 + 2 * l) + g (202 + 2 * l + 1) ≤ g 3
section
variable {E : gE} {ow ow' ow2 : OW} {h h' h2 : gH} {g g' lt : Int → Int} {hd k s : Int} {t rl : Nat} {q : Nat → Prop}
theorem XF.refl : XF ow ow h h := ⟨FR.same, Nat.le_refl _⟩
theorem XF.trans (a : XF ow ow' h h') (b : XF ow' ow2 h' h2) : XF ow ow2 h h2 := ⟨a.1.trans b.1, Nat.le_trans a.2 b.2⟩
theorem LAWR.fr (hF : FR ow ow' h h' q) (h0 : q 0) : ∀ x : Option Nat, LAWR (imm ow) h.1 g k s x → LAWR (imm ow') h'.1 g k s x
  | none, hL => hL
  | some a, hL => by
    obtain ⟨a1, a2, N, f, hN, hS, hc⟩ := hL
    exact ⟨a1, a2, N, f, hN, SUMg.fr hF h0 N a f hS, hc⟩
theorem RTX.fr (hT : RTX E ow h t g hd lt) (hF : FR ow ow' h h' q) (h0 : q 0) (h14 : q 14) : RTX E ow' h' t g hd lt := by
  obtain ⟨o, lw, ge, gl, gz, c0, ⟨c1, r1⟩, ⟨c2, r2⟩, c3, c4, ⟨c7, r7⟩, hl⟩ := hT
  have m : ∀ j v, j < 8 → h.1 (t + j) = some v → ow' (t + j) = 14 ∧ h'.1 (t + j) = some v := fun j v hj e => hF.at (o j hj) h14 e
  refine ⟨fun j hj => ?_, lw, ge, gl, gz, (m 0 _ (by decide) c0).2, ⟨(m 1 _ (by decide) c1).2, r1⟩, ⟨(m 2 _ (by decide) c2).2, r2⟩, (m 3 _ (by decide) c3).2, fun k k1 k2 => ?_, ⟨(m 7 _ (by decide) c7).2, r7⟩, fun k s a1 a2 a3 a4 => LAWR.fr hF h0 _ (hl k s a1 a2 a3 a4)⟩
  · have q : j = 0 ∨ j = 1 ∨ j = 2 ∨ j = 3 ∨ j = 4 ∨ j = 5 ∨ j = 6 ∨ j = 7 := by omega
    rcases q with rfl | rfl | rfl | rfl | rfl | rfl | rfl | rfl
    · exact (m 0 _ (by decide) c0).1
    · exact (m 1 _ (by decide) c1).1
    · exact (m 2 _ (by decide) c2).1
    · exact (m 3 _ (by decide) c3).1
    · exact (m 4 _ (by decide) (c4 0 (by decide) (by decide))).1
    · exact (m 5 _ (by decide) (c4 1 (by decide) (by decide))).1
    · exact (m 6 _ (by decide) (c4 2 (by decide) (by decide))).1
    · exact (m 7 _ (by decide) c7).1
  · have z := m (4 + k.toNat) _ (by omega) (by rw [← Nat.add_assoc]; exact c4 k k1 k2)
    rw [← Nat.add_assoc] at z
    exact z.2
theorem RRW.fr (hR : RRW E ow h rl g) (hF : FR ow ow' h h' q) (h0 : q 0) (h15 : q 15) : RRW E ow' h' rl g := by
  obtain ⟨rr, hL, hr⟩ := hR
  exact ⟨rr, hL.fr hF h15, fun r r1 r2 => (hr r r1 r2).fr hF h0⟩
/-- parts were added -/
theorem LAWR.gx (h3 : LB g) (hk : 0 ≤ k ∧ k < 3) (hs : 0 ≤ s ∧ s < 4) (hg : ∀ y, 202 ≤ y → y < 220 + 3 * g 3 → g' y = g y) (hw : WFw g) {av : Nat → Prop} {H : Nat → Option va_E} : ∀ x : Option Nat, LAWR av H g k s x → LAWR av H g' k s x := by
  have hl : (k = 2 → s = 0) → 0 ≤ lawN k s ∧ lawN k s < 9 := fun q => by unfold lawN; split <;> omega
  have h03 := hw.2.2.1.1
  intro x
  cases x with
  | none =>
    intro hL q
    have := hl q
    rw [hg _ (by omega) (by omega)]
    exact hL q
  | some a =>
    intro hL
    obtain ⟨a1, a2, N, f, hN, hS, hc⟩ := hL
    have b := hl a1
    have lb := h3 _ b.1 b.2
    have b2 := hw.law b.1 b.2
    refine ⟨a1, by rw [hg _ (by omega) (by omega)]; exact a2, N, f, hN, hS, fun hs B has ea kn z1 z2 z3 z4 => ?_⟩
    rw [comes_ext b.1 (hg _ (by omega) (by omega)) (hg _ (by omega) (by omega)) (fun k q1 q2 => ⟨hg _ (by omega) (by omega), hg _ (by omega) (by omega), hg _ (by omega) (by omega)⟩)]
    exact hc hs B has ea kn z1 z2 z3 z4
theorem RTX.gx (hT : RTX E ow h t g hd lt) (h3 : LB g) (hw : WFw g) (hg : ∀ y, y ≠ 3 → (y < 34 ∨ 202 ≤ y) → y < 220 + 3 * g 3 → g' y = g y) : RTX E ow h t g' hd lt := by
  have h03 := hw.2.2.1.1
  obtain ⟨o, lw, ge, gl, gz, c0, ⟨c1, r1⟩, ⟨c2, r2⟩, c3, c4, c7, hl⟩ := hT
  refine ⟨o, lw, ge, gl, gz, ?_, ⟨c1, fun j j1 j2 => ?_⟩, ⟨c2, fun j j1 j2 => ?_⟩, c3, c4, c7, fun k s a1 a2 a3 a4 => LAWR.gx h3 ⟨a1, a2⟩ ⟨a3, a4⟩ (fun y y1 y2 => hg y (by omega) (Or.inr y1) y2) hw _ (hl k s a1 a2 a3 a4)⟩
  · rw [hg 1 (by decide) (Or.inl (by decide)) (by omega), hg 4 (by decide) (Or.inl (by decide)) (by omega), hg 0 (by decide) (Or.inl (by decide)) (by omega)]; exact c0
  · rw [hg _ (by omega) (Or.inl (by omega)) (by omega)]; exact r1 j j1 j2
  · rw [hg _ (by omega) (Or.inl (by omega)) (by omega)]; exact r2 j j1 j2
theorem RRW.gx (hR : RRW E ow h rl g) (hw : WFw g) (h2 : g' 2 = g 2) (hg : ∀ y, 34 ≤ y → y < 202 → g' y = g y) : RRW E ow h rl g' := by
  obtain ⟨rr, hL, hr⟩ := hR
  have b2 := hw.2.1
  refine ⟨rr, by rw [h2]; exact hL, fun r r1 r2 => ?_⟩
  rw [h2] at r2
  obtain ⟨n1, gg, c, hgg⟩ := hr r r1 r2
  have br := hw.row r1 r2
  refine ⟨n1, gg, by rw [hg _ (by omega) (by omega)]; exact c, fun i i1 i2 => ?_⟩
  rw [hg _ (by omega) (by omega)] at i2
  rw [hg _ (by omega) (by omega)]
  exact hgg i i1 i2
end
/-- no cell of the Reader's -/
def RON (ow : OW) (b : Nat) : Prop := ow b ≠ 9 ∧ ow b ≠ 14 ∧ ow b ≠ 15
/-- the Reader as it stands between its steps -/
def RST (E : gE) (ow : OW) (h : gH) (r so la ak ta tx rl : Nat) (sz : Int) (tp : Int → Int) (P : PS) : Prop :=
  (RCX E ow h r so la ak ta tp ∧ RON ow ta ∧ RON ow so ∧ RON ow la ∧ RON ow ak) ∧ h.1 r = some (rdO so la ak ta tx rl sz P) ∧ RTX E ow h tx P.2.2.2.2.2.2.1 P.2.2.2.2.2.2.2.1 P.2.2.2.2.2.2.2.2 ∧ RRW E ow h rl P.2.2.2.2.2.2.1 ∧ LB P.2.2.2.2.2.2.1
/-- it threw a Wrong, as X says -/
def excL (ow : OW) (h : gH) (X : PS) : Nat → gH → Prop := fun y k => X.2.2.2.2.1 ≠ 0 ∧ ∃ ow', XF ow ow' h k ∧ HW k ∧ k.1 y = some (wrO X.2.2.2.2.1 X.2.2.2.2.2.1)
/-- it went on, as X says -/
def okL (E : gE) (ow : OW) (h : gH) (r so la ak ta tx rl : Nat) (sz : Int) (tp : Int → Int) (X : PS) : gH → Prop := fun k => X.2.2.2.2.1 = 0 ∧ ∃ ow', XF ow ow' h k ∧ RST E ow' k r so la ak ta tx rl sz tp X
section
variable {E : gE} {d r so la ak ta tx rl : Nat} {ow ow' : OW} {h h' : gH} {tp : Int → Int} {sz : Int} {P X : PS}
theorem RST.self (hR : RST E ow h r so la ak ta tx rl sz tp P) : h = hset h r (rdO so la ak ta tx rl sz P) := (hset_self hR.2.1).symm
theorem XT.xf (hC : RCX E ow h r so la ak ta tp) (hX : XT ow ow' h h') {v : va_E} : FR ow ow' h (hset h' r v) (fun o => o ≠ 9) := fun b x e z => by
  have c := hX.1 b x e trivial
  have hne : b ≠ r := fun q => z (by rw [q]; exact hC.2.1.2.1)
  exact ⟨(hset_ne hne).trans c.1, c.2⟩
theorem RCX.st (hC : RCX E ow h r so la ak ta tp) {v : va_E} : RCX E ow (hset h r v) r so la ak ta tp := by
  obtain ⟨ok, ⟨hh, o9, v0, e⟩, nt, ⟨tq, ct, ht⟩, hT, ⟨w1, n1⟩, ⟨w2, n2⟩, w3, n3⟩ := hC
  have mv : ∀ {a L}, WRD E h a L → a ≠ r → WRD E (hset h r v) a L := fun {a L} w n => by
    obtain ⟨f, c1, hx⟩ := w
    exact ⟨f, (hset_ne n).trans c1, hx⟩
  exact ⟨ok, ⟨hh.set e, o9, v, hset_at⟩, nt, ⟨tq, (hset_ne nt).trans ct, ht⟩, hT, ⟨mv w1 n1, n1⟩, ⟨mv w2 n2, n2⟩, mv w3 n3, n3⟩
theorem RCX.own (hC : RCX E ow h r so la ak ta tp) (hX : ∀ b v, h.1 b = some v → ow' b = ow b) (z : RON ow ta ∧ RON ow so ∧ RON ow la ∧ RON ow ak) : RON ow' ta ∧ RON ow' so ∧ RON ow' la ∧ RON ow' ak := by
  obtain ⟨ok, -, -, ⟨tq, ct, ht⟩, -, ⟨⟨f1, c1, -⟩, -⟩, ⟨⟨f2, c2, -⟩, -⟩, ⟨f3, c3, -⟩, -⟩ := hC
  unfold RON
  rw [hX _ _ ct, hX _ _ c1, hX _ _ c2, hX _ _ c3]
  exact z
/-- the Reader's own cells moved -/
theorem RST.go (hR : RST E ow h r so la ak ta tx rl sz tp P) (hX : XF ow ow' h h') (hh : HW h') (o9 : ow' r = 9) (hr : h'.1 r = some (rdO so la ak ta tx rl sz X)) (hT : RTX E ow' h' tx X.2.2.2.2.2.2.1 X.2.2.2.2.2.2.2.1 X.2.2.2.2.2.2.2.2) (hW : RRW E ow' h' rl X.2.2.2.2.2.2.1) (hb : LB X.2.2.2.2.2.2.1) : RST E ow' h' r so la ak ta tx rl sz tp X := by
  obtain ⟨⟨⟨ok, -, nt, ⟨tq, ct, ht⟩, hTp, ⟨⟨f1, c1, w1⟩, n1⟩, ⟨⟨f2, c2, w2⟩, n2⟩, ⟨f3, c3, w3⟩, n3⟩, z1, z2, z3, z4⟩, -⟩ := hR
  have m1 := hX.1 _ _ ct z1
  have m2 := hX.1 _ _ c1 z2
  have m3 := hX.1 _ _ c2 z3
  have m4 := hX.1 _ _ c3 z4
  refine ⟨⟨⟨ok, ⟨hh, o9, _, hr⟩, nt, ⟨tq, m1.1, ht⟩, hTp, ⟨⟨f1, m2.1, w1⟩, n1⟩, ⟨⟨f2, m3.1, w2⟩, n2⟩, ⟨f3, m4.1, w3⟩, n3⟩, ?_⟩, hr, hT, hW, hb⟩
  unfold RON
  rw [m1.2, m2.2, m3.2, m4.2]
  exact ⟨z1, z2, z3, z4⟩
/-- only the Reader itself moved, cells were added -/
theorem RST.mv (hR : RST E ow h r so la ak ta tx rl sz tp P) (hX : XT ow ow' h h') (e : X.2.2.2.2.2.2 = P.2.2.2.2.2.2) : RST E ow' (hset h' r (rdO so la ak ta tx rl sz X)) r so la ak ta tx rl sz tp X ∧ XF ow ow' h (hset h' r (rdO so la ak ta tx rl sz X)) := by
  have hF := XT.xf (v := rdO so la ak ta tx rl sz X) hR.1.1 hX
  have e1 : X.2.2.2.2.2.2.1 = P.2.2.2.2.2.2.1 := congrArg Prod.fst e
  have e2 : X.2.2.2.2.2.2.2.1 = P.2.2.2.2.2.2.2.1 := congrArg (fun z => z.2.1) e
  have e3 : X.2.2.2.2.2.2.2.2 = P.2.2.2.2.2.2.2.2 := congrArg (fun z => z.2.2) e
  refine ⟨⟨⟨(hR.1.1.xt hX).st, hR.1.1.own (fun b v q => hX.own q) hR.1.2⟩, hset_at, ?_, ?_, ?_⟩, ⟨hF.sub (fun i z => z.1), hX.2.2⟩⟩
  · rw [e1, e2, e3]; exact hR.2.2.1.fr hF (by decide) (by decide)
  · rw [e1]; exact hR.2.2.2.1.fr hF (by decide) (by decide)
  · rw [e1]; exact hR.2.2.2.2
theorem excQ.l (hR : RST E ow h r so la ak ta tx rl sz tp P) {y : Nat} {k : gH} (z : excQ ow h r so la ak ta tx rl sz X y k) : excL ow h X y k := by
  obtain ⟨z1, ow', h', P', z2, rfl, z3, z4⟩ := z
  have hF := XT.xf (v := rdO so la ak ta tx rl sz P') hR.1.1 z2
  obtain ⟨ok, ⟨hh, o9, v0, e⟩, -⟩ := hR.1.1
  exact ⟨z1, ow', ⟨hF.sub (fun i z => z.1), z2.2.2⟩, z2.2.1.set (z2.at e), (hset_ne z4).trans z3⟩
theorem excL.xf (a : XF ow ow' h h') {y : Nat} {k : gH} (z : excL ow' h' X y k) : excL ow h X y k := by
  obtain ⟨z1, ow2, z2, z3⟩ := z
  exact ⟨z1, ow2, a.trans z2, z3⟩
theorem okL.xf (a : XF ow ow' h h') {k : gH} (z : okL E ow' h' r so la ak ta tx rl sz tp X k) : okL E ow h r so la ak ta tx rl sz tp X k := by
  obtain ⟨z1, ow2, z2, z3⟩ := z
  exact ⟨z1, ow2, a.trans z2, z3⟩
end
