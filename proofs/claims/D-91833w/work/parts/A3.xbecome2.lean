/-! THE COMPONENT: a state becomes as another -/
set_option maxRecDepth 100000
section
variable {E : gE} {d a b q1 q2 t R S : Nat} {h : gH} {ow : OW} {w : Int → Int} {n lo iw im : Int} {rr : Int → Nat} {Q : Outcome → gH → Prop}
theorem l_bS1 (h12 : q1 ≠ q2) (hn : n ≤ 60) (oa : ow a = 10 + 10 * q1) (ob : ow b = 10 + 10 * q2) (ca : h.1 a = some (oB 1 [.ref t, .ref (a + 9), .ref (a + 11), .ref (a + 13), .ref (a + 14), vI iw, vI im])) (cb : h.1 b = some (stO b t w lo)) (hL2 : LST E ow h (11 + 10 * q2) (b + 9) n rr) (hR : ∀ r, 0 ≤ r → r < n → ow (rr r) = 0 ∧ ∃ (N : Nat) (g : Int → Int), h.1 (rr r) = some (aI E N g))
    (kk : ∀ k ow1, LST E ow1 k (11 + 10 * q1) (a + 9) n rr → HW k → FR ow ow1 h k (fun i => i ≠ 11 + 10 * q1) → GO E iX1_becomes (d + 8) R S 61 [some (.ref a), some (.ref b), some (vI n)] [] k Q) :
    ∀ (f : Nat) (i : Int) (k : gH) (ow1 : OW), 0 ≤ i → i + f = n → LST E ow1 k (11 + 10 * q1) (a + 9) i rr → HW k → FR ow ow1 h k (fun i => i ≠ 11 + 10 * q1) →
    GO E iX1_becomes (d + 8) (f + R) (200 * f + S) 19 [some (.ref a), some (.ref b), some (vI i)] [] k Q := by
  intro f
  induction f with
  | zero =>
    intro i k ow1 h0 h1 hL hh hF
    obtain rfl : i = n := by omega
    obtain ⟨o2, c2⟩ := hF.at ob (by omega) cb
    obtain ⟨ar, cap, mo, g, -, hl, -⟩ := hL2.fr hF (by omega)
    rw [Nat.zero_add, Nat.mul_zero, Nat.zero_add]
    refine g_iload_n (q := 20) dX1_becomes_19 rfl rfl ?_
    refine g_aload_n (q := 21) dX1_becomes_20 rfl rfl ?_
    refine g_get (C := RX1) (T := TX1) (ci := 1) (k := 1) (q := 24) dX1_becomes_21 q479 rfl in_X1 (by decide) c2 rfl rfl ?_
    refine g_cf (I' := iJ2_size) (mc := 0) (ms := 0) (rc := R) (rs := S) (ci := 3) (q := 29) dX1_becomes_24 q948 q711 q710 q716 q714 q712 (by decide) gcJ2_size.2.1 q715 rfl q713 gcJ2_size hl (c_lsize hl) rfl rfl ?_
    refine g_icmp_ge (t := 61) (q := 32) dX1_becomes_29 (by decide) rfl (by first | assumption | exact in32_gB | exact in32_gCmp | (unfold in32; omega)) (by first | assumption | exact in32_gB | exact in32_gCmp | (unfold in32; omega)) (fun c29 => ?_) (fun c29 => ?_)
    · exact kk k ow1 hL hh hF
    · exact absurd c29 (by omega)
  | succ f ih =>
    intro i k ow1 h0 h1 hL hh hF
    obtain ⟨o1, c1⟩ := hF.at oa (by omega) ca
    obtain ⟨o2, c2⟩ := hF.at ob (by omega) cb
    obtain ⟨ar, cap, mo, g, -, hl, hla, hnn, hcap, hg⟩ := hL2.fr hF (by omega)
    obtain ⟨ar1, cap1, mo1, g1, -, hl1, -⟩ := id hL
    have hRi := hR i h0 (by omega)
    obtain ⟨N, g3, hg3⟩ := hRi.2
    obtain ⟨o3, c3⟩ := hF.at hRi.1 (by omega) hg3
    have cA := c_LAdd (d := d + 1) (v := rr i) hL hh (by omega) (Or.inl ⟨_, _, c3⟩) o3 (fun j q1 q2 => by
      have hRj := hR j q1 (by omega)
      obtain ⟨N, g4, hg4⟩ := hRj.2
      obtain ⟨o4, c4⟩ := hF.at hRj.1 (by omega) hg4
      exact ⟨Or.inl ⟨_, _, c4⟩, o4⟩) (by omega)
    rw [show upI rr i (rr i) = rr from funext fun j => by by_cases z : j = i; (subst z; rw [upI_at]); rw [upI_ne z]] at cA
    refine GO.room (rc := f + R + 1) (rs := 200 * f + S + 200) ?_ (by omega) (by omega)
    refine g_iload_n (q := 20) dX1_becomes_19 rfl rfl ?_
    refine g_aload_n (q := 21) dX1_becomes_20 rfl rfl ?_
    refine g_get (C := RX1) (T := TX1) (ci := 1) (k := 1) (q := 24) dX1_becomes_21 q479 rfl in_X1 (by decide) c2 rfl rfl ?_
    refine g_cf (I' := iJ2_size) (mc := 0) (ms := 0) (rc := (f+R+1)) (rs := (200*f+S+200)) (ci := 3) (q := 29) dX1_becomes_24 q948 q711 q710 q716 q714 q712 (by decide) gcJ2_size.2.1 q715 rfl q713 gcJ2_size hl (c_lsize hl) rfl rfl ?_
    refine g_icmp_ge (t := 61) (q := 32) dX1_becomes_29 (by decide) rfl (by first | assumption | exact in32_gB | exact in32_gCmp | (unfold in32; omega)) (by first | assumption | exact in32_gB | exact in32_gCmp | (unfold in32; omega)) (fun c29 => ?_) (fun c29 => ?_)
    · exact absurd c29 (by omega)
    · refine g_aload_n (q := 33) dX1_becomes_32 rfl rfl ?_
      refine g_get (C := RX1) (T := TX1) (ci := 1) (k := 1) (q := 36) dX1_becomes_33 q479 rfl in_X1 (by decide) c1 rfl rfl ?_
      refine g_aload_n (q := 37) dX1_becomes_36 rfl rfl ?_
      refine g_get (C := RX1) (T := TX1) (ci := 1) (k := 1) (q := 40) dX1_becomes_37 q479 rfl in_X1 (by decide) c2 rfl rfl ?_
      refine g_iload_n (q := 41) dX1_becomes_40 rfl rfl ?_
      refine g_cf (I' := iJ2_get) (mc := 0) (ms := 0) (rc := (f+R+1)) (rs := (200*f+S+200)) (ci := 3) (q := 46) dX1_becomes_41 q950 q952 q951 q956 q954 q712 (by decide) gcJ2_get.2.1 q955 rfl q953 gcJ2_get hl (GO.deep (c_lget (d := 0) hl hla h0 (by omega) hnn.2 (by omega)) (by omega)) rfl rfl ?_
      rw [hg i h0 (by omega)]
      refine g_castI (q := 49) dX1_becomes_46 q966 (c3) rfl ?_
      refine g_cfP (I' := iJ2_add) (mc := 1) (ms := 200) (rc := (f+R)) (rs := (200*f+S)) (ci := 3) (q := 54) dX1_becomes_49 q968 q859 q858 q863 q861 q712 (by decide) gcJ2_add.2.1 q862 rfl q860 gcJ2_add hl1 (cA) rfl rfl (fun v49 k49 z49 => ?_)
      obtain ⟨rfl, ow2, hL3, hh3, hF3, -⟩ := z49
      refine g_pop (q := 55) dX1_becomes_54 rfl ?_
      refine g_iinc (q := 58) dX1_becomes_55 rfl gs2 rfl ?_
      refine g_goto (t := 19) dX1_becomes_58 (by decide) ?_
      exact ih (i + 1) _ ow2 (by omega) (by omega) hL3 hh3 (hF.trans hF3)
theorem l_bS2 (h12 : q1 ≠ q2) (hn : n ≤ 60) (oa : ow a = 10 + 10 * q1) (ob : ow b = 10 + 10 * q2) (ca : h.1 a = some (oB 1 [.ref t, .ref (a + 9), .ref (a + 11), .ref (a + 13), .ref (a + 14), vI iw, vI im])) (cb : h.1 b = some (stO b t w lo)) (hL2 : LST E ow h (12 + 10 * q2) (b + 11) n rr) (hR : ∀ r, 0 ≤ r → r < n → ow (rr r) = 0 ∧ ∃ fs : List Value, h.1 (rr r) = some (oB 17 fs))
    (kk : ∀ k ow1, LST E ow1 k (12 + 10 * q1) (a + 11) n rr → HW k → FR ow ow1 h k (fun i => i ≠ 12 + 10 * q1) → GO E iX1_becomes (d + 8) R S 114 [some (.ref a), some (.ref b), some (vI n)] [] k Q) :
    ∀ (f : Nat) (i : Int) (k : gH) (ow1 : OW), 0 ≤ i → i + f = n → LST E ow1 k (12 + 10 * q1) (a + 11) i rr → HW k → FR ow ow1 h k (fun i => i ≠ 12 + 10 * q1) →
    GO E iX1_becomes (d + 8) (f + R) (200 * f + S) 72 [some (.ref a), some (.ref b), some (vI i)] [] k Q := by
  intro f
  induction f with
  | zero =>
    intro i k ow1 h0 h1 hL hh hF
    obtain rfl : i = n := by omega
    obtain ⟨o2, c2⟩ := hF.at ob (by omega) cb
    obtain ⟨ar, cap, mo, g, -, hl, -⟩ := hL2.fr hF (by omega)
    rw [Nat.zero_add, Nat.mul_zero, Nat.zero_add]
    refine g_iload_n (q := 73) dX1_becomes_72 rfl rfl ?_
    refine g_aload_n (q := 74) dX1_becomes_73 rfl rfl ?_
    refine g_get (C := RX1) (T := TX1) (ci := 1) (k := 2) (q := 77) dX1_becomes_74 q481 rfl in_X1 (by decide) c2 rfl rfl ?_
    refine g_cf (I' := iJ2_size) (mc := 0) (ms := 0) (rc := R) (rs := S) (ci := 3) (q := 82) dX1_becomes_77 q948 q711 q710 q716 q714 q712 (by decide) gcJ2_size.2.1 q715 rfl q713 gcJ2_size hl (c_lsize hl) rfl rfl ?_
    refine g_icmp_ge (t := 114) (q := 85) dX1_becomes_82 (by decide) rfl (by first | assumption | exact in32_gB | exact in32_gCmp | (unfold in32; omega)) (by first | assumption | exact in32_gB | exact in32_gCmp | (unfold in32; omega)) (fun c82 => ?_) (fun c82 => ?_)
    · exact kk k ow1 hL hh hF
    · exact absurd c82 (by omega)
  | succ f ih =>
    intro i k ow1 h0 h1 hL hh hF
    obtain ⟨o1, c1⟩ := hF.at oa (by omega) ca
    obtain ⟨o2, c2⟩ := hF.at ob (by omega) cb
    obtain ⟨ar, cap, mo, g, -, hl, hla, hnn, hcap, hg⟩ := hL2.fr hF (by omega)
    obtain ⟨ar1, cap1, mo1, g1, -, hl1, -⟩ := id hL
    have hRi := hR i h0 (by omega)
    obtain ⟨fs, hg3⟩ := hRi.2
    obtain ⟨o3, c3⟩ := hF.at hRi.1 (by omega) hg3
    have cA := c_LAdd (d := d + 1) (v := rr i) hL hh (by omega) (Or.inr ⟨_, c3⟩) o3 (fun j q1 q2 => by
      have hRj := hR j q1 (by omega)
      obtain ⟨fs4, hg4⟩ := hRj.2
      obtain ⟨o4, c4⟩ := hF.at hRj.1 (by omega) hg4
      exact ⟨Or.inr ⟨_, c4⟩, o4⟩) (by omega)
    rw [show upI rr i (rr i) = rr from funext fun j => by by_cases z : j = i; (subst z; rw [upI_at]); rw [upI_ne z]] at cA
    refine GO.room (rc := f + R + 1) (rs := 200 * f + S + 200) ?_ (by omega) (by omega)
    refine g_iload_n (q := 73) dX1_becomes_72 rfl rfl ?_
    refine g_aload_n (q := 74) dX1_becomes_73 rfl rfl ?_
    refine g_get (C := RX1) (T := TX1) (ci := 1) (k := 2) (q := 77) dX1_becomes_74 q481 rfl in_X1 (by decide) c2 rfl rfl ?_
    refine g_cf (I' := iJ2_size) (mc := 0) (ms := 0) (rc := (f+R+1)) (rs := (200*f+S+200)) (ci := 3) (q := 82) dX1_becomes_77 q948 q711 q710 q716 q714 q712 (by decide) gcJ2_size.2.1 q715 rfl q713 gcJ2_size hl (c_lsize hl) rfl rfl ?_
    refine g_icmp_ge (t := 114) (q := 85) dX1_becomes_82 (by decide) rfl (by first | assumption | exact in32_gB | exact in32_gCmp | (unfold in32; omega)) (by first | assumption | exact in32_gB | exact in32_gCmp | (unfold in32; omega)) (fun c82 => ?_) (fun c82 => ?_)
    · exact absurd c82 (by omega)
    · refine g_aload_n (q := 86) dX1_becomes_85 rfl rfl ?_
      refine g_get (C := RX1) (T := TX1) (ci := 1) (k := 2) (q := 89) dX1_becomes_86 q481 rfl in_X1 (by decide) c1 rfl rfl ?_
      refine g_aload_n (q := 90) dX1_becomes_89 rfl rfl ?_
      refine g_get (C := RX1) (T := TX1) (ci := 1) (k := 2) (q := 93) dX1_becomes_90 q481 rfl in_X1 (by decide) c2 rfl rfl ?_
      refine g_iload_n (q := 94) dX1_becomes_93 rfl rfl ?_
      refine g_cf (I' := iJ2_get) (mc := 0) (ms := 0) (rc := (f+R+1)) (rs := (200*f+S+200)) (ci := 3) (q := 99) dX1_becomes_94 q950 q952 q951 q956 q954 q712 (by decide) gcJ2_get.2.1 q955 rfl q953 gcJ2_get hl (GO.deep (c_lget (d := 0) hl hla h0 (by omega) hnn.2 (by omega)) (by omega)) rfl rfl ?_
      rw [hg i h0 (by omega)]
      refine g_castO (ci := 17) (q := 102) dX1_becomes_99 rfl q1382 (c3) rfl ?_
      refine g_cfP (I' := iJ2_add) (mc := 1) (ms := 200) (rc := (f+R)) (rs := (200*f+S)) (ci := 3) (q := 107) dX1_becomes_102 q968 q859 q858 q863 q861 q712 (by decide) gcJ2_add.2.1 q862 rfl q860 gcJ2_add hl1 (cA) rfl rfl (fun v102 k102 z102 => ?_)
      obtain ⟨rfl, ow2, hL3, hh3, hF3, -⟩ := z102
      refine g_pop (q := 108) dX1_becomes_107 rfl ?_
      refine g_iinc (q := 111) dX1_becomes_108 rfl gs2 rfl ?_
      refine g_goto (t := 72) dX1_becomes_111 (by decide) ?_
      exact ih (i + 1) _ ow2 (by omega) (by omega) hL3 hh3 (hF.trans hF3)
end
/-- what is read of a state -/
def SRC (E : gE) (ow : OW) (h : gH) (q b t : Nat) (w hs : Int → Int) (si lo : Int) (bk : Int → Int) (rr bb : Int → Nat) : Prop :=
  S_O E ow h q b t w lo ∧ S_T E ow h t w ∧ LST E ow h (11 + 10 * q) (b + 9) (w 2) rr ∧ (∀ r, 0 ≤ r → r < w 2 → ROWc E (imm ow) h.1 w r (rr r)) ∧ LST E ow h (12 + 10 * q) (b + 11) si bb ∧ (∀ i, 0 ≤ i → i < si → ow (bb i) = 0 ∧ h.1 (bb i) = some (sitO bk i)) ∧ S_H E ow h q b t hs
theorem SRC.fr {E : gE} {ow ow' : OW} {h h' : gH} {q b t : Nat} {w hs bk : Int → Int} {si lo : Int} {rr bb : Int → Nat} {p : Nat → Prop} (hS : SRC E ow h q b t w hs si lo bk rr bb) (hF : FR ow ow' h h' p) (h0 : p 0) (hp : ∀ i, 10 + 10 * q ≤ i → i < 14 + 10 * q → p i) : SRC E ow' h' q b t w hs si lo bk rr bb := by
  obtain ⟨s1, s2, s3, s4, s5, s6, s7⟩ := hS
  exact ⟨s1.fr hF (hp _ (by omega) (by omega)), s2.fr hF h0, s3.fr hF (hp _ (by omega) (by omega)), fun r z1 z2 => (s4 r z1 z2).fr hF h0, s5.fr hF (hp _ (by omega) (by omega)), fun i z1 z2 => hF.at (s6 i z1 z2).1 h0 (s6 i z1 z2).2, s7.fr hF (hp _ (by omega) (by omega))⟩
section
variable {E : gE} {d a b q1 q2 t : Nat} {h : gH} {ow : OW} {w hs bk w2 hs2 bk2 gu : Int → Int} {si lo si2 lo2 iw im m n : Int} {rr bb : Int → Nat} {tx : Option Nat} {Q : Outcome → gH → Prop} {bb0 rr0 : Int → Nat}
/-- the last of it, from 114 on -/
theorem l_bS3 (h12 : q1 ≠ q2) (hS : SRC E ow h q2 b t w2 hs2 si2 lo2 bk2 rr bb) (hh : HW h) (oa : ow a = 10 + 10 * q1) (ou : ow (a + 13) = 10 + 10 * q1) (ca : h.1 a = some (oB 1 [.ref t, .ref (a + 9), .ref (a + 11), .ref (a + 13), .ref (a + 14), vI iw, vI im])) (cu : h.1 (a + 13) = some (aI E 12 gu)) (hL : LST E ow h (11 + 10 * q1) (a + 9) (w2 2) rr) (hB : LST E ow h (12 + 10 * q1) (a + 11) si2 bb) (oH : OWN ow (a + 14) 103 (13 + 10 * q1)) (hH1 : HD E h (a + 14) tx hs)
    (hQ : ∀ k, STT E ow k q1 a w2 hs2 si2 lo2 bk2 → HW k → FR ow ow h k (fun i => ¬ (10 + 10 * q1 ≤ i ∧ i < 14 + 10 * q1)) → Q (.returned none) k) :
    GO E iX1_becomes (d + 8) 0 0 114 [some (.ref a), some (.ref b), some (vI m)] [] h Q := by
  obtain ⟨⟨⟨p1, p2⟩, e1, gu2, e2, hgu2⟩, -⟩ := id hS
  have hF1 : FR ow ow h (hset h (a + 13) (aI E 12 (cpyI gu gu2 0 0 12))) (fun i => i ≠ 10 + 10 * q1) := FR.set ou
  have hne : a ≠ b := fun z => by rw [z] at oa; have := oa.symm.trans p1; omega
  have hne2 : b ≠ a + 13 := fun z => by rw [z] at p1; have := p1.symm.trans ou; omega
  have ca1 : (hset h (a + 13) (aI E 12 (cpyI gu gu2 0 0 12))).1 a = some (oB 1 [.ref t, .ref (a + 9), .ref (a + 11), .ref (a + 13), .ref (a + 14), vI iw, vI im]) := (hset_ne (by omega)).trans ca
  have hF2 : FR ow ow (hset h (a + 13) (aI E 12 (cpyI gu gu2 0 0 12))) (hset (hset h (a + 13) (aI E 12 (cpyI gu gu2 0 0 12))) a (stO a t w2 lo2)) (fun i => i ≠ 10 + 10 * q1) := FR.set oa
  have hF := hF1.trans hF2
  generalize ek : hset (hset h (a + 13) (aI E 12 (cpyI gu gu2 0 0 12))) a (stO a t w2 lo2) = k at hF
  have hhk : HW k := by rw [← ek]; exact (hh.set cu).set ca1
  have hS2 := hS.fr hF (by omega) (fun i z1 z2 => by omega)
  obtain ⟨r1, r2, r3, r4, r5, r6, r7⟩ := hS2
  obtain ⟨oH2, hH2⟩ := hH1.fr oH hF (by omega)
  obtain ⟨h1, e1', t1, o1', b1', eh⟩ := hH2.self
  have ha := OWN.two r7.1 oH2 (by omega) (by decide) (by decide)
  have cD := c_becomesX (E := E) (d := d + 6) (ak := akO h1 e1' t1 o1' b1') (tx := tx) (hs := hs) (p := a + 14) (o := b + 14) (G := k) r7.2.s ha
  rw [← eh] at cD
  have cak : k.1 a = some (stO a t w2 lo2) := by rw [← ek]; exact hset_at
  have cuk : k.1 (a + 13) = some (aI E 12 (cpyI gu gu2 0 0 12)) := by rw [← ek]; exact (hset_ne (by omega)).trans hset_at
  refine g_aload_n (q := 115) dX1_becomes_114 rfl rfl ?_
  refine g_get (C := RX1) (T := TX1) (ci := 1) (k := 3) (q := 118) dX1_becomes_115 q483 rfl in_X1 (by decide) e1 rfl rfl ?_
  refine g_iconst (q := 119) dX1_becomes_118 rfl ?_
  refine g_aload_n (q := 120) dX1_becomes_119 rfl rfl ?_
  refine g_get (C := RX1) (T := TX1) (ci := 1) (k := 3) (q := 123) dX1_becomes_120 q483 rfl in_X1 (by decide) ca rfl rfl ?_
  refine g_iconst (q := 124) dX1_becomes_123 rfl ?_
  refine g_bipush (q := 126) dX1_becomes_124 rfl ?_
  refine g_copyI (q := 129) (n := 12) (dp := 0) (sp := 0) (n0 := 12) (n1 := 12) dX1_becomes_126 q1383 e2 cu (by decide) (by decide) (by decide) (by decide) (by decide) (by decide) (by decide) rfl ?_
  refine g_aload_n (q := 130) dX1_becomes_129 rfl rfl ?_
  refine g_aload_n (q := 131) dX1_becomes_130 rfl rfl ?_
  refine g_get (C := RX1) (T := TX1) (ci := 1) (k := 5) (q := 134) dX1_becomes_131 q487 rfl in_X1 (by decide) ((hset_ne hne2).trans e1) rfl rfl ?_
  refine g_put (C := RX1) (T := TX1) (ci := 1) (k := 5) (q := 137) dX1_becomes_134 q487 rfl in_X1 tyX1_ok nmX1 (by decide) rfl (gFit_01 gB_01) ca1 (Nat.le_of_ble_eq_true rfl) rfl ?_
  refine g_aload_n (q := 138) dX1_becomes_137 rfl rfl ?_
  refine g_aload_n (q := 139) dX1_becomes_138 rfl rfl ?_
  refine g_get (C := RX1) (T := TX1) (ci := 1) (k := 6) (q := 142) dX1_becomes_139 q489 rfl in_X1 (by decide) ((hset_ne (Ne.symm hne)).trans ((hset_ne hne2).trans e1)) rfl rfl ?_
  refine g_put (C := RX1) (T := TX1) (ci := 1) (k := 6) (q := 145) dX1_becomes_142 q489 rfl in_X1 tyX1_ok nmX1 (by decide) rfl (gFit_01 gB_01) hset_at (Nat.le_of_ble_eq_true rfl) rfl ?_
  refine GO.cast (h' := k) (by rw [hset_hset]; exact ek) ?_
  refine g_aload_n (q := 146) dX1_becomes_145 rfl rfl ?_
  refine g_get (C := RX1) (T := TX1) (ci := 1) (k := 4) (q := 149) dX1_becomes_146 q485 rfl in_X1 (by decide) cak rfl rfl ?_
  refine g_aload_n (q := 150) dX1_becomes_149 rfl rfl ?_
  refine g_get (C := RX1) (T := TX1) (ci := 1) (k := 4) (q := 153) dX1_becomes_150 q485 rfl in_X1 (by decide) r1.2.1 rfl rfl ?_
  refine g_cvV (I' := iX3_becomes) (mc := 0) (ms := 0) (rc := 0) (rs := 0) (ci := 4) (q := 156) dX1_becomes_153 q1384 q1209 rfl q1210 gcX3_becomes hH2.ob (cD) rfl rfl ?_
  exact g_vret dX1_becomes_156 rfl (by
have hF3 : FR ow ow k (hH E k (a + 14) (some t) hs2 (akO h1 e1' t1 o1' b1')) (fun i => i ≠ 13 + 10 * q1) := FR.bl oH2
refine hQ _ ⟨t, S_O.fr ⟨⟨oa, ou⟩, cak, _, cuk, fun r z1 z2 => ?_⟩ hF3 (by omega), r2.fr hF3 (by omega), ⟨rr, (hL.fr hF (by omega)).fr hF3 (by omega), fun r z1 z2 => (r4 r z1 z2).fr hF3 (by omega)⟩, ⟨bb, (hB.fr hF (by omega)).fr hF3 (by omega), fun i z1 z2 => hF3.at (r6 i z1 z2).1 (by omega) (r6 i z1 z2).2⟩, oH2, HD.of⟩ (hhk.bl (hH2.le hhk)) ((hF.sub (fun i q => by omega)).trans (hF3.sub (fun i q => by omega)))
exact (cpyI_in (by omega) (by omega)).trans ((congrArg gu2 (by omega)).trans (hgu2 r z1 z2)))
/-- from 61 on -/
theorem l_bS4 (h12 : q1 ≠ q2) (hS : SRC E ow h q2 b t w2 hs2 si2 lo2 bk2 rr bb) (hh : HW h) (hsi : 0 ≤ si2 ∧ si2 ≤ 60) (oa : ow a = 10 + 10 * q1) (ou : ow (a + 13) = 10 + 10 * q1) (ca : h.1 a = some (oB 1 [.ref t, .ref (a + 9), .ref (a + 11), .ref (a + 13), .ref (a + 14), vI iw, vI im])) (cu : h.1 (a + 13) = some (aI E 12 gu)) (hL : LST E ow h (11 + 10 * q1) (a + 9) (w2 2) rr) (hB : LST E ow h (12 + 10 * q1) (a + 11) si bb0) (oH : OWN ow (a + 14) 103 (13 + 10 * q1)) (hH1 : HD E h (a + 14) tx hs)
    (hQ : ∀ k ow', STT E ow' k q1 a w2 hs2 si2 lo2 bk2 → HW k → FR ow ow' h k (fun i => ¬ (10 + 10 * q1 ≤ i ∧ i < 14 + 10 * q1)) → Q (.returned none) k) :
    GO E iX1_becomes (d + 8) 60 12000 61 [some (.ref a), some (.ref b), some (vI m)] [] h Q := by
  obtain ⟨ar5, cap5, mo5, g5, -, hl5, -⟩ := id hB
  have cC5 := c_LClear (d := d + 7) hB hh
  refine g_aload_n (q := 62) dX1_becomes_61 rfl rfl ?_
  refine g_get (C := RX1) (T := TX1) (ci := 1) (k := 2) (q := 65) dX1_becomes_62 q481 rfl in_X1 (by decide) ca rfl rfl ?_
  refine g_cfVP (I' := iJ2_clear) (mc := 0) (ms := 0) (rc := 60) (rs := 12000) (ci := 3) (q := 70) dX1_becomes_65 q939 q941 q940 q945 q943 q712 (by decide) gcJ2_clear.2.1 q944 rfl q942 gcJ2_clear hl5 (cC5) rfl rfl (fun k65 z65 => ?_)
  obtain ⟨hL6, hh6, hF6, -⟩ := z65
  obtain ⟨oa6, ca6⟩ := hF6.at oa (by omega) ca
  obtain ⟨r1, r2, r3, r4, r5, r6, r7⟩ := hS.fr hF6 (by omega) (fun i z1 z2 => by omega)
  refine g_iconst (q := 71) dX1_becomes_70 rfl ?_
  refine g_istore_n (q := 72) dX1_becomes_71 gs2 rfl ?_
  refine GO.room (rc := si2.toNat + 0) (rs := 200 * si2.toNat + 0) ?_ (by omega) (by omega)
  refine l_bS2 (d := d) (R := 0) (S := 0) h12 (by omega) oa6 r1.1.1 ca6 r1.2.1 r5 (fun r z1 z2 => ⟨(r6 r z1 z2).1, _, (r6 r z1 z2).2⟩) (fun k7 ow7 hL7 hh7 hF7 => ?_) si2.toNat 0 _ ow (by omega) (by omega) (hL6 bb) hh6 FR.same
  obtain ⟨oa7, ca7⟩ := hF7.at oa6 (by omega) ca6
  obtain ⟨ou6, cu6⟩ := hF6.at ou (by omega) cu
  obtain ⟨ou7, cu7⟩ := hF7.at ou6 (by omega) cu6
  obtain ⟨oH6, hH6⟩ := hH1.fr oH hF6 (by omega)
  obtain ⟨oH7, hH7⟩ := hH6.fr oH6 hF7 (by omega)
  refine l_bS3 (d := d) h12 ((hS.fr hF6 (by omega) (fun i z1 z2 => by omega)).fr hF7 (by omega) (fun i z1 z2 => by omega)) hh7 oa7 ou7 ca7 cu7 ((hL.fr hF6 (by omega)).fr hF7 (by omega)) hL7 oH7 hH7 (fun k hk1 hk2 hk3 => hQ k ow7 hk1 hk2 (((hF6.sub (fun i q => by omega)).trans (hF7.sub (fun i q => by omega))).trans hk3))
theorem c_becomesS (h12 : q1 ≠ q2) (hD : STT E ow h q1 a w hs si lo bk) (hS : STT E ow h q2 b w2 hs2 si2 lo2 bk2) (hh : HW h) (hn : 0 ≤ w2 2 ∧ w2 2 ≤ 12) (hsi : 0 ≤ si2 ∧ si2 ≤ 60) :
    CALL E iX1_becomes (d + 8) 72 14400 [.ref a, .ref b] h (qVP fun k => ∃ ow', STT E ow' k q1 a w2 hs2 si2 lo2 bk2 ∧ HW k ∧ FR ow ow' h k (fun i => ¬ (10 + 10 * q1 ≤ i ∧ i < 14 + 10 * q1))) := by
  obtain ⟨t0, ⟨⟨o1, o2⟩, c1, gu, c2, hgu⟩, -, ⟨rr0, hL, -⟩, ⟨bb0, hB, -⟩, ⟨oH, hH1⟩⟩ := hD
  obtain ⟨t, r1, r2, ⟨rr, hLr, hRr⟩, ⟨bb, hLb, hRb⟩, r5⟩ := hS
  have hSR : SRC E ow h q2 b t w2 hs2 si2 lo2 bk2 rr bb := ⟨r1, r2, hLr, hRr, hLb, hRb, r5⟩
  have hF1 : FR ow ow h (hset h a (oB 1 [.ref t, .ref (a + 9), .ref (a + 11), .ref (a + 13), .ref (a + 14), vI (gB (lo = 0)), vI (gB (¬ w 2 = w 9))])) (fun i => i ≠ 10 + 10 * q1) := FR.set o1
  generalize ek : hset h a (oB 1 [.ref t, .ref (a + 9), .ref (a + 11), .ref (a + 13), .ref (a + 14), vI (gB (lo = 0)), vI (gB (¬ w 2 = w 9))]) = k1 at hF1
  have hh1 : HW k1 := by rw [← ek]; exact hh.set c1
  have ca1 : k1.1 a = some (oB 1 [.ref t, .ref (a + 9), .ref (a + 11), .ref (a + 13), .ref (a + 14), vI (gB (lo = 0)), vI (gB (¬ w 2 = w 9))]) := by rw [← ek]; exact hset_at
  have cu1 : k1.1 (a + 13) = some (aI E 12 gu) := by rw [← ek]; exact (hset_ne (by omega)).trans c2
  obtain ⟨ar, cap, mo, g, -, hl, -⟩ := hL.fr hF1 (by omega)
  have cC := c_LClear (d := d + 7) (hL.fr hF1 (by omega)) hh1
  show GO E iX1_becomes _ _ _ 0 [some (.ref a), some (.ref b), none] [] _ _
  refine g_aload_n (q := 1) dX1_becomes_0 rfl rfl ?_
  refine g_aload_n (q := 2) dX1_becomes_1 rfl rfl ?_
  refine g_get (C := RX1) (T := TX1) (ci := 1) (k := 0) (q := 5) dX1_becomes_2 q477 rfl in_X1 (by decide) r1.2.1 rfl rfl ?_
  refine g_put (C := RX1) (T := TX1) (ci := 1) (k := 0) (q := 8) dX1_becomes_5 q477 rfl in_X1 tyX1_ok nmX1 (by decide) rfl gFit_o c1 (Nat.le_of_ble_eq_true rfl) rfl ?_
  refine GO.cast (h' := k1) ek ?_
  refine g_aload_n (q := 9) dX1_becomes_8 rfl rfl ?_
  refine g_get (C := RX1) (T := TX1) (ci := 1) (k := 1) (q := 12) dX1_becomes_9 q479 rfl in_X1 (by decide) ca1 rfl rfl ?_
  refine g_cfVP (I' := iJ2_clear) (mc := 0) (ms := 0) (rc := 72) (rs := 14400) (ci := 3) (q := 17) dX1_becomes_12 q939 q941 q940 q945 q943 q712 (by decide) gcJ2_clear.2.1 q944 rfl q942 gcJ2_clear hl (cC) rfl rfl (fun k12 z12 => ?_)
  obtain ⟨hL2, hh2, hF2, -⟩ := z12
  obtain ⟨oa2, ca2⟩ := hF2.at (o := 10 + 10 * q1) o1 (by omega) ca1
  have hF12 := (hF1.sub (fun i (q : ¬ (10 + 10 * q1 ≤ i ∧ i < 14 + 10 * q1)) => by omega)).trans (hF2.sub (fun i q => by omega))
  have hS2 := (hSR.fr hF1 (by omega) (fun i z1 z2 => by omega)).fr hF2 (by omega) (fun i z1 z2 => by omega)
  obtain ⟨y1, y2, y3, y4, y5, y6, y7⟩ := id hS2
  refine g_iconst (q := 18) dX1_becomes_17 rfl ?_
  refine g_istore_n (q := 19) dX1_becomes_18 gs2 rfl ?_
  refine GO.room (rc := (w2 2).toNat + 60) (rs := 200 * (w2 2).toNat + 12000) ?_ (by omega) (by omega)
  refine l_bS1 (d := d) (R := 60) (S := 12000) h12 (by omega) oa2 y1.1.1 ca2 y1.2.1 y3 (fun r z1 z2 => ⟨(y4 r z1 z2).elt.2, _, (y4 r z1 z2).2.choose, (y4 r z1 z2).2.choose_spec.1⟩) (fun k3 ow3 hL3 hh3 hF3 => ?_) (w2 2).toNat 0 _ ow (by omega) (by omega) (hL2 rr) hh2 FR.same
  obtain ⟨oa3, ca3⟩ := hF3.at oa2 (by omega) ca2
  obtain ⟨ou2, cu2⟩ := hF2.at (o := 10 + 10 * q1) o2 (by omega) cu1
  obtain ⟨ou3, cu3⟩ := hF3.at ou2 (by omega) cu2
  obtain ⟨oH1, hHa⟩ := hH1.fr oH hF1 (by omega)
  obtain ⟨oH2, hHb⟩ := hHa.fr oH1 hF2 (by omega)
  obtain ⟨oH3, hHc⟩ := hHb.fr oH2 hF3 (by omega)
  exact l_bS4 (d := d) h12 (hS2.fr hF3 (by omega) (fun i z1 z2 => by omega)) hh3 hsi oa3 ou3 ca3 cu3 hL3 (((hB.fr hF1 (by omega)).fr hF2 (by omega)).fr hF3 (by omega)) oH3 hHc (fun k ow' q1' q2' q3' => ⟨rfl, ow', q1', q2', (hF12.trans (hF3.sub (fun i q => by omega))).trans q3'⟩)
end
