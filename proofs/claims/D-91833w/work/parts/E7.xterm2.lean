/-! THE COMPONENT: the Reader reads a term: the walk -/
set_option maxRecDepth 100000
section
variable {ow ow2 : OW} {h h2 : gH} {n0 n1 : va_E} {av : Nat → Prop} {H H' : Nat → Option va_E} {a c : Nat} {f : SF} {fs : List Value}
/-- a node made before its second tree was read -/
theorem XT.node (hh : HW h) (b : XT (upO ow h.2 0) ow2 (hnew h n0) h2) : XT ow ow2 h (hset h2 h.2 n1) ∧ ow2 h.2 = 0 ∧ h2.1 h.2 = some n0 := by
  have c := b.1 h.2 n0 hnew_at trivial
  refine ⟨⟨fun x v e _ => ?_, b.2.1.set c.1, Nat.le_trans (Nat.le_succ _) b.2.2⟩, c.2.trans upO_at, c.1⟩
  have hx := hh x v e
  have z := b.1 x v ((hnew_ne (by omega)).trans e) trivial
  exact ⟨(hset_ne (by omega)).trans z.1, z.2.trans (upO_lt hx)⟩
theorem SUMg.leaf (h : SUMg av H 1 a f) (e : H' a = H a) : SUMg av H' 1 a f := by
  obtain ⟨q0, hc | hc | ⟨x, y, f1, f2, s1, -⟩⟩ := h
  · exact ⟨q0, Or.inl (by rw [e]; exact hc)⟩
  · exact ⟨q0, Or.inr (Or.inl (by rw [e]; exact hc))⟩
  · exact s1.elim
theorem oB_ne {i j : Nat} {gs : List Value} (h : i ≠ j) : oB i fs ≠ oB j gs := by
  intro e
  unfold oB at e
  simp at e
  exact h e.1
theorem SUMg.leaf_ne {i : Nat} (h : SUMg av H 1 a f) (e : H c = some (oB i fs)) (h1 : i ≠ 12) (h2 : i ≠ 13) : a ≠ c := by
  rintro rfl
  obtain ⟨q0, ⟨x, hc, -⟩ | ⟨x, hc, -⟩ | ⟨x, y, f1, f2, s1, -⟩⟩ := h
  · exact oB_ne h1 (Option.some.inj (e.symm.trans hc))
  · exact oB_ne h2 (Option.some.inj (e.symm.trans hc))
  · exact s1.elim
theorem SUMg.pos {N : Nat} (h : SUMg av H N a f) : 1 ≤ N := by
  cases N with
  | zero => exact h.elim
  | succ n => omega
end
def trmQ (ow : OW) (h : gH) (r so la ak ta tx rl : Nat) (sz kt : Int) (X : PS) : Value → gH → Prop := fun v k => X.2.2.2.2.1 = 0 ∧ ∃ a f N ow' h', v = .ref a ∧ XT ow ow' h h' ∧ k = hset h' r (rdO so la ak ta tx rl sz X) ∧ SUMg (imm ow') h'.1 N a f ∧ (N : Int) ≤ X.2.2.2.2.2.2.1 3 - kt ∧ TRM X.2.2.2.2.2.2.1 kt (X.2.2.2.2.2.2.1 3) f
section
variable {E : gE} {d r so la ak ta tx rl : Nat} {ow0 : OW} {h0 : gH} {tp : Int → Int} {sz kt j : Int} {X : PS}
theorem l_term (hz : sz ≤ 900) : ∀ (n : Nat) (P : PS) (ow : OW) (h : gH) (a N : Nat) (f : SF) (x2 : Option Value), RCX E ow h r so la ak ta tp → XT ow0 ow h0 h → PSok sz P → P.2.2.2.2.1 = 0 → sz - P.1 < n → tjL tp sz n P = X → SUMg (imm ow) h.1 N a f → (N : Int) ≤ P.2.2.2.2.2.2.1 3 - kt → TRM P.2.2.2.2.2.2.1 kt (P.2.2.2.2.2.2.1 3) f →
    GO E iX7_term (d + 7) ((X.2.1 - P.2.1).toNat + 3) (3 * (X.2.1 - P.2.1).toNat + 11) 5 [some (.ref r), some (.ref a), x2] [] (hset h r (rdO so la ak ta tx rl sz P)) (qE (trmQ ow0 h0 r so la ak ta tx rl sz kt X) (excQ ow0 h0 r so la ak ta tx rl sz X)) := by
  intro n
  induction n with
  | zero => intro P ow h a N f x2 hC hXT hP hf hn; have := hP.1.1; omega
  | succ n ih =>
    intro P ow h a N f x2 hC hXT hP hf hn hX hS hN hT
    have ok := hC.1
    have hb := hP.1.1
    have hlt := hC.lt
    have h3 := hP.2.1.1.2.2.1.1
    have hN1 := hS.pos
    have pre : ∀ (bs : List Int) (j : Int), 4 ≤ bs.length → isW tp bs P → 0 ≤ j ∧ j ≤ 4 → tjL tp sz n (rpP tp sz j (PSadv tp sz P)) = X → PSok sz (PSadv tp sz P) ∧ PSok sz (rpP tp sz j (PSadv tp sz P)) ∧ KP P (rpP tp sz j (PSadv tp sz P)) ∧ ((rpP tp sz j (PSadv tp sz P)).2.2.2.2.1 = 0 → sz - (rpP tp sz j (PSadv tp sz P)).1 < n ∧ (rpP tp sz j (PSadv tp sz P)).2.2.2.2.2.2.1 (220 + 3 * P.2.2.2.2.2.2.1 3) = j ∧ (rpP tp sz j (PSadv tp sz P)).2.2.2.2.2.2.1 3 = P.2.2.2.2.2.2.1 3 + 1) ∧ ∃ RC RS : Nat, ((rpP tp sz j (PSadv tp sz P)).2.2.2.2.1 = 0 → RC = (X.2.1 - (rpP tp sz j (PSadv tp sz P)).2.1).toNat + 3 ∧ RS = 3 * (X.2.1 - (rpP tp sz j (PSadv tp sz P)).2.1).toNat + 11) ∧ RC + 2 + 1 ≤ (X.2.1 - P.2.1).toNat + 3 ∧ RS + 9 + 2 ≤ 3 * (X.2.1 - P.2.1).toNat + 11 := by
      intro bs j hb4 hi hj hX2
      obtain ⟨a1, a2, a3, a4, a5⟩ := rw_step (tp := tp) hP hz hb4 hi hj
      have r1 := rp_all (tp := tp) (j := j) a1.1 a1.2.1.1.2.2.1.1
      have tj1 := tj_from (tp := tp) hz n _ a3
      rw [hX2] at tj1
      refine ⟨a1, a3, KP.trans (show KP P (PSadv tp sz P) from KP.refl) r1.1, fun w => ⟨by have := a5 w; omega, (r1.2.2 w).2⟩, ?_⟩
      by_cases w : (rpP tp sz j (PSadv tp sz P)).2.2.2.2.1 = 0
      · have := rw_five (tp := tp) hP hz hb4 hi hj w
        exact ⟨_, _, fun _ => ⟨rfl, rfl⟩, by omega, by omega⟩
      · exact ⟨0, 0, fun q => absurd q w, by omega, by omega⟩
    by_cases z3 : isW tp wTimes P
    · have nO : ¬ isW tp wOver P := fun q => absurd (isW_inj q z3) (by decide)
      rw [show tjL tp sz (n + 1) P = tjL tp sz n (rpP tp sz 3 (PSadv tp sz P)) from if_pos z3] at hX
      obtain ⟨p1, p2, p3, p4, RC, RS, p5, p6, p7⟩ := pre _ 3 (by decide) z3 (by decide) hX
      have hC1 := hC.xt (XT.new (v := oB 14 [.null, .null]) (o := 0) hC.2.1.1)
      refine GO.room (rc := RC + 2 + 1) (rs := RS + 9 + 2) ?_ p6 p7
      refine g_aload_n (q := 6) dX7_term_5 rfl rfl ?_
      refine g_ldcS (q := 8) dX7_term_6 rfl q807 (litR_times ok) rfl ?_
      refine g_cv (I' := iX7_is) (mc := 0) (ms := 0) (rc := (RC+2+1)) (rs := (RS+9+2)) (ci := 8) (q := 11) dX7_term_8 q654 q656 rfl qs10 gcX7_is rd_at (GO.deep (c_isC (d := 0) hC (litR_times ok).2 hP.1 hf hz) (by omega)) rfl rfl ?_
      refine g_ifneB (t := 23) (q := 14) dX7_term_11 (by decide) rfl (fun c11 => ?_) (fun c11 => ?_)
      · refine g_aload_n (q := 24) dX7_term_23 rfl rfl ?_
        refine g_ldcS (q := 26) dX7_term_24 rfl q808 (litR_over ok) rfl ?_
        refine g_cv (I' := iX7_is) (mc := 0) (ms := 0) (rc := (RC+2+1)) (rs := (RS+9+2)) (ci := 8) (q := 29) dX7_term_26 q654 q656 rfl qs10 gcX7_is rd_at (GO.deep (c_isC (d := 0) hC (litR_over ok).2 hP.1 hf hz) (by omega)) rfl rfl ?_
        refine g_istore_n (q := 30) dX7_term_29 gs2 rfl ?_
        refine g_aload_n (q := 31) dX7_term_30 rfl rfl ?_
        refine g_cvV (I' := iX7_next) (mc := 0) (ms := 0) (rc := (RC+2+1)) (rs := (RS+9+2)) (ci := 8) (q := 34) dX7_term_31 q635 q637 rfl qs6 gcX7_next rd_at (GO.deep (c_nextC (d := 0) hC hz hP.1) (by omega)) rfl rfl ?_
        refine g_iload_n (q := 35) dX7_term_34 rfl rfl ?_
        refine g_ifeqB (t := 53) (q := 38) dX7_term_35 (by decide) rfl (fun c35 => ?_) (fun c35 => ?_)
        · refine g_new (C := RX13) (T := TX13) (N := 2) (ci := 14) (fs := [.null, .null]) (q := 56) dX7_term_53 q828 q829 q107 rfl in_X13 tyX13_ok (by decide) rfl ?_
          refine GO.cast (hnew_hset (by omega)) ?_
          refine g_dup (q := 57) dX7_term_56 rfl ?_
          refine g_aload_n (q := 58) dX7_term_57 rfl rfl ?_
          refine g_aload_n (q := 59) dX7_term_58 rfl rfl ?_
          refine g_cvE (I' := iX7_part) (mc := 2) (ms := 9) (rc := RC) (rs := RS) (ci := 8) (q := 62) dX7_term_59 q775 q777 rfl qs18 gcX7_part rd_at (c_partC (d := d) (j := 3) hC1 p1.1 hf hz p1.2.1.1.2.2.1.1) rfl rfl (fun x59 e59 y59 => by have q := y59.1; rw [← hX, tjL_bad q]; exact excQ.xt (hXT.trans (XT.new hC.2.1.1)) y59) (fun v59 k59 z59 => ?_)
          obtain ⟨w, a2, fp, ow2, h2, rfl, x2', rfl, t2, q2⟩ := z59
          obtain ⟨y1, y2, y3⟩ := XT.node (n1 := oB 14 [.ref a, .ref a2]) hC.2.1.1 x2'
          have a2n := t2.leaf_ne y3 (by decide) (by decide)
          refine g_ci (I' := iX13_init) (mc := 0) (ms := 0) (rc := RC) (rs := RS) (q := 65) dX7_term_62 q830 q815 rfl q816 gcX13_init (GO.deep (c_times (d := 0) ((hset_ne (show h.2 ≠ r by omega)).trans y3)) (by omega)) rfl rfl ?_
          refine GO.cast (hset_comm (by omega)) ?_
          obtain ⟨rfl, rfl⟩ := p5 w
          refine g_astore_n (q := 66) dX7_term_65 gs1 rfl ?_
          refine g_goto (t := 5) dX7_term_66 (by decide) ?_
          refine ih _ _ _ h.2 (N + 1) (sBoth oTimes f fp) _ (hC.xt y1) (hXT.trans y1) p2 w (p4 w).1 hX ⟨imm_n y2, Or.inr (Or.inr ⟨a, a2, f, fp, SUMg.fr y1.1 trivial _ _ _ hS, (t2.leaf (hset_ne a2n)).ups hN1, Or.inl ⟨hset_at, rfl⟩⟩)⟩ (by have := (p4 w).2.2; omega) ?_
          have z := TRM.snoc hT q2 (p3.same hT.2.1.1) (Or.inl (p4 w).2.1)
          rw [if_pos (p4 w).2.1] at z
          rw [(p4 w).2.2]
          exact z
        · exact absurd c35 nO
      · exact absurd z3 c11
    · by_cases z4 : isW tp wOver P
      · rw [show tjL tp sz (n + 1) P = tjL tp sz n (rpP tp sz 4 (PSadv tp sz P)) from (if_neg z3).trans (if_pos z4)] at hX
        obtain ⟨p1, p2, p3, p4, RC, RS, p5, p6, p7⟩ := pre _ 4 (by decide) z4 (by decide) hX
        have hC1 := hC.xt (XT.new (v := oB 15 [.null, .null]) (o := 0) hC.2.1.1)
        refine GO.room (rc := RC + 2 + 1) (rs := RS + 9 + 2) ?_ p6 p7
        refine g_aload_n (q := 6) dX7_term_5 rfl rfl ?_
        refine g_ldcS (q := 8) dX7_term_6 rfl q807 (litR_times ok) rfl ?_
        refine g_cv (I' := iX7_is) (mc := 0) (ms := 0) (rc := (RC+2+1)) (rs := (RS+9+2)) (ci := 8) (q := 11) dX7_term_8 q654 q656 rfl qs10 gcX7_is rd_at (GO.deep (c_isC (d := 0) hC (litR_times ok).2 hP.1 hf hz) (by omega)) rfl rfl ?_
        refine g_ifneB (t := 23) (q := 14) dX7_term_11 (by decide) rfl (fun c11 => ?_) (fun c11 => ?_)
        · exact absurd c11 z3
        · refine g_aload_n (q := 15) dX7_term_14 rfl rfl ?_
          refine g_ldcS (q := 17) dX7_term_15 rfl q808 (litR_over ok) rfl ?_
          refine g_cv (I' := iX7_is) (mc := 0) (ms := 0) (rc := (RC+2+1)) (rs := (RS+9+2)) (ci := 8) (q := 20) dX7_term_17 q654 q656 rfl qs10 gcX7_is rd_at (GO.deep (c_isC (d := 0) hC (litR_over ok).2 hP.1 hf hz) (by omega)) rfl rfl ?_
          refine g_ifeqB (t := 69) (q := 23) dX7_term_20 (by decide) rfl (fun c20 => ?_) (fun c20 => ?_)
          · exact absurd z4 c20
          · refine g_aload_n (q := 24) dX7_term_23 rfl rfl ?_
            refine g_ldcS (q := 26) dX7_term_24 rfl q808 (litR_over ok) rfl ?_
            refine g_cv (I' := iX7_is) (mc := 0) (ms := 0) (rc := (RC+2+1)) (rs := (RS+9+2)) (ci := 8) (q := 29) dX7_term_26 q654 q656 rfl qs10 gcX7_is rd_at (GO.deep (c_isC (d := 0) hC (litR_over ok).2 hP.1 hf hz) (by omega)) rfl rfl ?_
            refine g_istore_n (q := 30) dX7_term_29 gs2 rfl ?_
            refine g_aload_n (q := 31) dX7_term_30 rfl rfl ?_
            refine g_cvV (I' := iX7_next) (mc := 0) (ms := 0) (rc := (RC+2+1)) (rs := (RS+9+2)) (ci := 8) (q := 34) dX7_term_31 q635 q637 rfl qs6 gcX7_next rd_at (GO.deep (c_nextC (d := 0) hC hz hP.1) (by omega)) rfl rfl ?_
            refine g_iload_n (q := 35) dX7_term_34 rfl rfl ?_
            refine g_ifeqB (t := 53) (q := 38) dX7_term_35 (by decide) rfl (fun c35 => ?_) (fun c35 => ?_)
            · exact absurd z4 c35
            · refine g_new (C := RX14) (T := TX14) (N := 2) (ci := 15) (fs := [.null, .null]) (q := 41) dX7_term_38 q809 q810 q108 rfl in_X14 tyX14_ok (by decide) rfl ?_
              refine GO.cast (hnew_hset (by omega)) ?_
              refine g_dup (q := 42) dX7_term_41 rfl ?_
              refine g_aload_n (q := 43) dX7_term_42 rfl rfl ?_
              refine g_aload_n (q := 44) dX7_term_43 rfl rfl ?_
              refine g_cvE (I' := iX7_part) (mc := 2) (ms := 9) (rc := RC) (rs := RS) (ci := 8) (q := 47) dX7_term_44 q775 q777 rfl qs18 gcX7_part rd_at (c_partC (d := d) (j := 4) hC1 p1.1 hf hz p1.2.1.1.2.2.1.1) rfl rfl (fun x44 e44 y44 => by have q := y44.1; rw [← hX, tjL_bad q]; exact excQ.xt (hXT.trans (XT.new hC.2.1.1)) y44) (fun v44 k44 z44 => ?_)
              obtain ⟨w, a2, fp, ow2, h2, rfl, x2', rfl, t2, q2⟩ := z44
              obtain ⟨y1, y2, y3⟩ := XT.node (n1 := oB 15 [.ref a, .ref a2]) hC.2.1.1 x2'
              have a2n := t2.leaf_ne y3 (by decide) (by decide)
              refine g_ci (I' := iX14_init) (mc := 0) (ms := 0) (rc := RC) (rs := RS) (q := 50) dX7_term_47 q811 q812 rfl q813 gcX14_init (GO.deep (c_over (d := 0) ((hset_ne (show h.2 ≠ r by omega)).trans y3)) (by omega)) rfl rfl ?_
              refine GO.cast (hset_comm (by omega)) ?_
              obtain ⟨rfl, rfl⟩ := p5 w
              refine g_goto (t := 65) dX7_term_50 (by decide) ?_
              refine g_astore_n (q := 66) dX7_term_65 gs1 rfl ?_
              refine g_goto (t := 5) dX7_term_66 (by decide) ?_
              refine ih _ _ _ h.2 (N + 1) (sBoth oOver f fp) _ (hC.xt y1) (hXT.trans y1) p2 w (p4 w).1 hX ⟨imm_n y2, Or.inr (Or.inr ⟨a, a2, f, fp, SUMg.fr y1.1 trivial _ _ _ hS, (t2.leaf (hset_ne a2n)).ups hN1, Or.inr (Or.inl ⟨hset_at, rfl⟩)⟩)⟩ (by have := (p4 w).2.2; omega) ?_
              have z := TRM.snoc hT q2 (p3.same hT.2.1.1) (Or.inr (p4 w).2.1)
              rw [if_neg (by rw [(p4 w).2.1]; decide)] at z
              rw [(p4 w).2.2]
              exact z
      · rw [show tjL tp sz (n + 1) P = P from (if_neg z3).trans (if_neg z4)] at hX
        subst hX
        refine GO.room (rc := 0) (rs := 0) ?_ (by omega) (by omega)
        refine g_aload_n (q := 6) dX7_term_5 rfl rfl ?_
        refine g_ldcS (q := 8) dX7_term_6 rfl q807 (litR_times ok) rfl ?_
        refine g_cv (I' := iX7_is) (mc := 0) (ms := 0) (rc := 0) (rs := 0) (ci := 8) (q := 11) dX7_term_8 q654 q656 rfl qs10 gcX7_is rd_at (GO.deep (c_isC (d := 0) hC (litR_times ok).2 hP.1 hf hz) (by omega)) rfl rfl ?_
        refine g_ifneB (t := 23) (q := 14) dX7_term_11 (by decide) rfl (fun c11 => ?_) (fun c11 => ?_)
        · exact absurd c11 z3
        · refine g_aload_n (q := 15) dX7_term_14 rfl rfl ?_
          refine g_ldcS (q := 17) dX7_term_15 rfl q808 (litR_over ok) rfl ?_
          refine g_cv (I' := iX7_is) (mc := 0) (ms := 0) (rc := 0) (rs := 0) (ci := 8) (q := 20) dX7_term_17 q654 q656 rfl qs10 gcX7_is rd_at (GO.deep (c_isC (d := 0) hC (litR_over ok).2 hP.1 hf hz) (by omega)) rfl rfl ?_
          refine g_ifeqB (t := 69) (q := 23) dX7_term_20 (by decide) rfl (fun c20 => ?_) (fun c20 => ?_)
          · refine g_aload_n (q := 70) dX7_term_69 rfl rfl ?_
            exact g_aret dX7_term_70 rfl (by first | exact Or.inl ⟨_, rfl⟩ | exact Or.inr ⟨_, rfl⟩) ⟨hf, a, f, N, ow, h, rfl, hXT, rfl, hS, hN, hT⟩
          · exact absurd c20 z4
theorem c_termC {P : PS} {ow : OW} {h : gH} (hC : RCX E ow h r so la ak ta tp) (hP : PSok sz P) (hf : P.2.2.2.2.1 = 0) (hz : sz ≤ 900) (h3 : 3 * P.2.2.2.2.2.2.1 3 + 3 ≤ P.2.1) (hj : 0 ≤ j ∧ j ≤ 4) (hX : tjL tp sz 1000 (rpP tp sz j P) = X) :
    CALL E iX7_term (d + 7) ((X.2.1 - P.2.1).toNat + 5) (3 * (X.2.1 - P.2.1).toNat + 20) [.ref r] (hset h r (rdO so la ak ta tx rl sz P)) (qE (trmQ ow h r so la ak ta tx rl sz (P.2.2.2.2.2.2.1 3) X) (excQ ow h r so la ak ta tx rl sz X)) := by
  obtain ⟨b1, b2, b3⟩ := rpP_ok (tp := tp) (j := j) hP hz (fun _ => h3) hj
  have hg3 := hP.2.1.1.2.2.1.1
  have ra := rp_all (tp := tp) (j := j) hP.1 hg3
  have rf := rp_from (tp := tp) (j := j) hP.1
  have tj1 := tj_from (tp := tp) hz 1000 _ b1
  rw [hX] at tj1
  have hb := b1.1.1
  obtain ⟨RC, RS, p5, p6, p7⟩ : ∃ RC RS : Nat, ((rpP tp sz j P).2.2.2.2.1 = 0 → RC = (X.2.1 - (rpP tp sz j P).2.1).toNat + 3 ∧ RS = 3 * (X.2.1 - (rpP tp sz j P).2.1).toNat + 11) ∧ RC + 2 ≤ (X.2.1 - P.2.1).toNat + 5 ∧ RS + 9 ≤ 3 * (X.2.1 - P.2.1).toNat + 20 := by
    by_cases w : (rpP tp sz j P).2.2.2.2.1 = 0
    · exact ⟨_, _, fun _ => ⟨rfl, rfl⟩, by omega, by omega⟩
    · exact ⟨0, 0, fun q => absurd q w, by omega, by omega⟩
  refine GO.room (rc := RC + 2) (rs := RS + 9) ?_ p6 p7
  show GO E iX7_term _ _ _ 0 [some (.ref r), none, none] [] _ _
  refine g_aload_n (q := 1) dX7_term_0 rfl rfl ?_
  refine g_cvE (I' := iX7_part) (mc := 2) (ms := 9) (rc := RC) (rs := RS) (ci := 8) (q := 4) dX7_term_1 q775 q777 rfl qs18 gcX7_part rd_at (c_partC (d := d) (j := j) hC hP.1 hf hz hg3) rfl rfl (fun x1 e1 y1 => by have q := y1.1; rw [← hX, tjL_bad q]; exact y1) (fun v1 k1 z1 => ?_)
  obtain ⟨w, a2, fp, ow2, h2, rfl, x2', rfl, t2, q2⟩ := z1
  obtain ⟨rfl, rfl⟩ := p5 w
  refine g_astore_n (q := 5) dX7_term_4 gs1 rfl ?_
  refine l_term hz 1000 _ _ _ a2 1 fp _ (hC.xt x2') x2' b1 w (by omega) hX t2 (by have := (ra.2.2 w).2.2; omega) ?_
  rw [(ra.2.2 w).2.2]
  exact TRM.one q2 hg3
end
