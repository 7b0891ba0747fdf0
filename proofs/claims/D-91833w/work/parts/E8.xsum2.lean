/-! THE COMPONENT: the Reader reads a sum -/
set_option maxRecDepth 100000
theorem SUMg.exc {av : Nat → Prop} {H H' : Nat → Option va_E} {c : Nat} (hc : H c = some (oB 16 [.null, .null, vI 0])) (hH : ∀ b, b ≠ c → H' b = H b) : ∀ (n a : Nat) (f : SF), SUMg av H n a f → SUMg av H' n a f := by
  intro n
  induction n with
  | zero => intro a f hS; exact hS.elim
  | succ n ih =>
    intro a f hS
    obtain ⟨q0, hS⟩ := hS
    have ne : ∀ (i : Nat) (gs : List Value), H a = some (oB i gs) → (i ≠ 16 ∨ ∃ x y l, gs = [.ref x, .ref y, l]) → H' a = some (oB i gs) := fun i gs e h => by
      by_cases q : a = c
      · subst q
        have e2 := Option.some.inj (hc.symm.trans e)
        rcases h with h | ⟨x, y, l, rfl⟩
        · exact absurd e2.symm (oB_ne h)
        · unfold oB at e2
          simp at e2
      · exact (hH a q).trans e
    refine ⟨q0, ?_⟩
    rcases hS with ⟨x, hc', r⟩ | ⟨x, hc', r⟩ | ⟨x, y, f1, f2, s1, s2, ⟨hc', r⟩ | ⟨hc', r⟩ | ⟨l, hl, hc', r⟩⟩
    · exact Or.inl ⟨x, ne _ _ hc' (Or.inl (by decide)), r⟩
    · exact Or.inr (Or.inl ⟨x, ne _ _ hc' (Or.inl (by decide)), r⟩)
    · exact Or.inr (Or.inr ⟨x, y, f1, f2, ih x f1 s1, ih y f2 s2, Or.inl ⟨ne _ _ hc' (Or.inl (by decide)), r⟩⟩)
    · exact Or.inr (Or.inr ⟨x, y, f1, f2, ih x f1 s1, ih y f2 s2, Or.inr (Or.inl ⟨ne _ _ hc' (Or.inl (by decide)), r⟩)⟩)
    · exact Or.inr (Or.inr ⟨x, y, f1, f2, ih x f1 s1, ih y f2 s2, Or.inr (Or.inr ⟨l, hl, ne _ _ hc' (Or.inr ⟨x, y, _, rfl⟩), r⟩)⟩)
theorem rw_from {tp : Int → Int} {sz : Int} (hz : sz ≤ 900) : ∀ (f : Nat) (P : PS), PSok sz P → P.2.1 ≤ (rwL tp sz f P).2.1 ∧ KP P (rwL tp sz f P) := by
  intro f
  induction f with
  | zero => intro P h; exact ⟨Int.le_refl _, KP.refl⟩
  | succ f ih =>
    intro P h
    have st : ∀ (bs : List Int) (j : Int), 4 ≤ bs.length → isW tp bs P → 0 ≤ j ∧ j ≤ 4 → P.2.1 ≤ (rwL tp sz f (rpP tp sz j (PSadv tp sz P))).2.1 ∧ KP P (rwL tp sz f (rpP tp sz j (PSadv tp sz P))) := by
      intro bs j hb hi hj
      obtain ⟨a1, a2, a3, a4, a5⟩ := rw_step (tp := tp) h hz hb hi hj
      have b1 := ih _ a3
      have r1 := rp_from (tp := tp) (j := j) a1.1
      have r0 := rp_all (tp := tp) (j := j) a1.1 a1.2.1.1.2.2.1.1
      have r2 := (h.1.adv (tp := tp)).1.1
      have r3 := (h.1.adv (tp := tp)).2.1
      have r4 := h.1.1
      exact ⟨by have := b1.1; omega, KP.trans (KP.trans (show KP P (PSadv tp sz P) from KP.refl) r0.1) b1.2⟩
    rw [rwL_s]
    by_cases z1 : isW tp wPlus P
    · rw [if_pos z1]; exact st _ _ (by decide) z1 (by decide)
    · rw [if_neg z1]
      by_cases z2 : isW tp wMinus P
      · rw [if_pos z2]; exact st _ _ (by decide) z2 (by decide)
      · rw [if_neg z2]
        by_cases z3 : isW tp wTimes P
        · rw [if_pos z3]; exact st _ _ (by decide) z3 (by decide)
        · rw [if_neg z3]
          by_cases z4 : isW tp wOver P
          · rw [if_pos z4]; exact st _ _ (by decide) z4 (by decide)
          · rw [if_neg z4]; exact ⟨Int.le_refl _, KP.refl⟩
def sumQ (ow : OW) (h : gH) (r so la ak ta tx rl : Nat) (sz b : Int) (X : PS) : Value → gH → Prop := fun v k => X.2.2.2.2.1 = 0 ∧ ∃ a f N ow' h', v = .ref a ∧ XT ow ow' h h' ∧ k = hset h' r (rdO so la ak ta tx rl sz X) ∧ SUMg (imm ow') h'.1 N a f ∧ (N : Int) ≤ X.2.2.2.2.2.2.1 3 - b ∧ SMS X.2.2.2.2.2.2.1 b (X.2.2.2.2.2.2.1 3) f
section
variable {E : gE} {d r so la ak ta tx rl : Nat} {ow0 : OW} {h0 : gH} {tp : Int → Int} {sz b j : Int} {X : PS}
theorem l_sumR (hz : sz ≤ 900) : ∀ (n : Nat) (P : PS) (ow : OW) (h : gH) (a N : Nat) (f : SF) (x2 : Option Value), RCX E ow h r so la ak ta tp → XT ow0 ow h0 h → PSok sz P → P.2.2.2.2.1 = 0 → sz - P.1 < n → rwL tp sz n P = X → ¬ isW tp wTimes P → ¬ isW tp wOver P → SUMg (imm ow) h.1 N a f → (N : Int) ≤ P.2.2.2.2.2.2.1 3 - b → SMS P.2.2.2.2.2.2.1 b (P.2.2.2.2.2.2.1 3) f →
    GO E iX7_sum (d + 8) (2 * (X.2.1 - P.2.1).toNat + 6) (6 * (X.2.1 - P.2.1).toNat + 23) 5 [some (.ref r), some (.ref a), x2] [] (hset h r (rdO so la ak ta tx rl sz P)) (qE (sumQ ow0 h0 r so la ak ta tx rl sz b X) (excQ ow0 h0 r so la ak ta tx rl sz X)) := by
  intro n
  induction n with
  | zero => intro P ow h a N f x2 hC hXT hP hf hn; have := hP.1.1; omega
  | succ n ih =>
    intro P ow h a N f x2 hC hXT hP hf hn hX nT nO hS hN hM
    have ok := hC.1
    have hb := hP.1.1
    have hlt := hC.lt
    have h3 := hP.2.1.1.2.2.1.1
    have hN1 := hS.pos
    have pre : ∀ (bs : List Int) (j : Int), 4 ≤ bs.length → isW tp bs P → 0 ≤ j ∧ j ≤ 4 → rwL tp sz n (rpP tp sz j (PSadv tp sz P)) = X → ∃ X3 : PS, tjL tp sz 1000 (rpP tp sz j (PSadv tp sz P)) = X3 ∧ PSok sz (PSadv tp sz P) ∧ 3 * (PSadv tp sz P).2.2.2.2.2.2.1 3 + 3 ≤ (PSadv tp sz P).2.1 ∧ PSok sz X3 ∧ KP P X3 ∧ (X3.2.2.2.2.1 ≠ 0 → X = X3) ∧ (X3.2.2.2.2.1 = 0 → sz - X3.1 < n ∧ rwL tp sz n X3 = X ∧ ¬ isW tp wTimes X3 ∧ ¬ isW tp wOver X3 ∧ X3.2.2.2.2.2.2.1 (220 + 3 * P.2.2.2.2.2.2.1 3) = j) ∧ ∃ RC RS MC MS : Nat, (X3.2.2.2.2.1 = 0 → RC = 2 * (X.2.1 - X3.2.1).toNat + 6 ∧ RS = 6 * (X.2.1 - X3.2.1).toNat + 23) ∧ MC = (X3.2.1 - (PSadv tp sz P).2.1).toNat + 5 ∧ MS = 3 * (X3.2.1 - (PSadv tp sz P).2.1).toNat + 20 ∧ RC + MC + 1 ≤ 2 * (X.2.1 - P.2.1).toNat + 6 ∧ RS + MS + 3 ≤ 6 * (X.2.1 - P.2.1).toNat + 23 := by
      intro bs j hb4 hi hj hX2
      obtain ⟨a1, a2, a3, a4, a5⟩ := rw_step (tp := tp) hP hz hb4 hi hj
      have r1 := rp_all (tp := tp) (j := j) a1.1 a1.2.1.1.2.2.1.1
      have rf := rp_from (tp := tp) (j := j) a1.1
      have rad := (hP.1.adv (tp := tp)).2.1
      have tja := tj_all (tp := tp) hz 1000 _ a3
      have tjf := tj_from (tp := tp) hz 1000 _ a3
      have b3 := a3.1.1
      generalize e3 : tjL tp sz 1000 (rpP tp sz j (PSadv tp sz P)) = X3 at tja tjf
      have kp : KP P X3 := KP.trans (KP.trans (show KP P (PSadv tp sz P) from KP.refl) r1.1) tja.2.1
      refine ⟨X3, rfl, a1, a2, tja.1, kp, ?_⟩
      by_cases w : (rpP tp sz j (PSadv tp sz P)).2.2.2.2.1 = 0
      · have p5 := a5 w
        have five := rw_five (tp := tp) hP hz hb4 hi hj w
        have rt := rw_tj (tp := tp) hz (n + 1) n n 1000 _ a3 (by omega) (by omega) (by omega) (by omega)
        rw [e3, hX2] at rt
        refine ⟨fun q => by rw [rt.1, rwL_bad q], fun q => ⟨by have := tja.2.2.1; omega, rt.1.symm, (rt.2 q).1, (rt.2 q).2, ?_⟩, ?_⟩
        · rw [tja.2.1.2 _ (by have := h3; omega) (by rw [(r1.2.2 w).2.2]; show 220 + 3 * P.2.2.2.2.2.2.1 3 < 220 + 3 * (P.2.2.2.2.2.2.1 3 + 1); omega)]
          exact (r1.2.2 w).2.1
        · by_cases q : X3.2.2.2.2.1 = 0
          · have hXf := (rw_from (tp := tp) hz n _ tja.1).1
            rw [← rt.1] at hXf
            exact ⟨_, _, _, _, fun _ => ⟨rfl, rfl⟩, rfl, rfl, by omega, by omega⟩
          · have hXe : X = X3 := by rw [rt.1, rwL_bad q]
            exact ⟨0, 0, _, _, fun y => absurd y q, rfl, rfl, by rw [hXe]; omega, by rw [hXe]; omega⟩
      · have e4 : X3 = rpP tp sz j (PSadv tp sz P) := by rw [← e3, tjL_bad w]
        have e5 : X = X3 := by rw [e4, ← hX2, rwL_bad w]
        have w3 : X3.2.2.2.2.1 ≠ 0 := by rw [e4]; exact w
        exact ⟨fun _ => e5, fun q => absurd q w3, 0, 0, _, _, fun y => absurd y w3, rfl, rfl, by rw [e5]; omega, by rw [e5]; omega⟩
    by_cases z1 : isW tp wPlus P
    · have nM : ¬ isW tp wMinus P := fun q => absurd (isW_inj q z1) (by decide)
      rw [rwL_s, if_pos z1] at hX
      obtain ⟨X3, e3, p1, p2, p3, p4, p5, p6, RC, RS, MC, MS, p7, rfl, rfl, p8, p9⟩ := pre _ 1 (by decide) z1 (by decide) hX
      have hC1 := hC.xt (XT.new (v := oB 16 [.null, .null, vI 0]) (o := 0) hC.2.1.1)
      have ct := c_termC (d := d) (j := 1) (so := so) (la := la) (ak := ak) (ta := ta) (tx := tx) (rl := rl) hC1 p1 hf hz p2 (by decide) e3
      generalize (X3.2.1 - (PSadv tp sz P).2.1).toNat + 5 = MC at ct p8
      generalize 3 * (X3.2.1 - (PSadv tp sz P).2.1).toNat + 20 = MS at ct p9
      refine GO.room (rc := RC + MC + 1) (rs := RS + MS + 3) ?_ p8 p9
      refine g_aload_n (q := 6) dX7_sum_5 rfl rfl ?_
      refine g_ldcS (q := 8) dX7_sum_6 rfl q834 (litR_plus ok) rfl ?_
      refine g_cv (I' := iX7_is) (mc := 0) (ms := 0) (rc := (RC+MC+1)) (rs := (RS+MS+3)) (ci := 8) (q := 11) dX7_sum_8 q654 q656 rfl qs10 gcX7_is rd_at (GO.deep (c_isC (d := 0) hC (litR_plus ok).2 hP.1 hf hz) (by omega)) rfl rfl ?_
      refine g_ifneB (t := 23) (q := 14) dX7_sum_11 (by decide) rfl (fun c11 => ?_) (fun c11 => ?_)
      · refine g_aload_n (q := 24) dX7_sum_23 rfl rfl ?_
        refine g_ldcS (q := 26) dX7_sum_24 rfl q835 (litR_minus ok) rfl ?_
        refine g_cv (I' := iX7_is) (mc := 0) (ms := 0) (rc := (RC+MC+1)) (rs := (RS+MS+3)) (ci := 8) (q := 29) dX7_sum_26 q654 q656 rfl qs10 gcX7_is rd_at (GO.deep (c_isC (d := 0) hC (litR_minus ok).2 hP.1 hf hz) (by omega)) rfl rfl ?_
        refine g_istore_n (q := 30) dX7_sum_29 gs2 rfl ?_
        refine g_aload_n (q := 31) dX7_sum_30 rfl rfl ?_
        refine g_cvV (I' := iX7_next) (mc := 0) (ms := 0) (rc := (RC+MC+1)) (rs := (RS+MS+3)) (ci := 8) (q := 34) dX7_sum_31 q635 q637 rfl qs6 gcX7_next rd_at (GO.deep (c_nextC (d := 0) hC hz hP.1) (by omega)) rfl rfl ?_
        refine g_new (C := RX15) (T := TX15) (N := 3) (ci := 16) (fs := [.null, .null, vI 0]) (q := 37) dX7_sum_34 q836 q837 q109 rfl in_X15 tyX15_ok (by decide) rfl ?_
        refine GO.cast (hnew_hset (by omega)) ?_
        refine g_dup (q := 38) dX7_sum_37 rfl ?_
        refine g_aload_n (q := 39) dX7_sum_38 rfl rfl ?_
        refine g_iload_n (q := 40) dX7_sum_39 rfl rfl ?_
        refine g_aload_n (q := 41) dX7_sum_40 rfl rfl ?_
        refine g_cvE (I' := iX7_term) (mc := MC) (ms := MS) (rc := RC) (rs := RS) (ci := 8) (q := 44) dX7_sum_41 q771 q773 rfl qs17 gcX7_term rd_at (ct) rfl rfl (fun x41 e41 y41 => by have q := y41.1; rw [p5 q]; exact excQ.xt (hXT.trans (XT.new hC.2.1.1)) y41) (fun v41 k41 z41 => ?_)
        obtain ⟨w, a2, fp, N2, ow2, h2, rfl, x2', rfl, t2, n2, q2⟩ := z41
        have hN2 := t2.pos
        obtain ⟨y1, y2, y3⟩ := XT.node (n1 := oB 16 [.ref a, .ref a2, vI (gB (isW tp wMinus P))]) hC.2.1.1 x2'
        refine g_ci (I' := iX15_init) (mc := 0) (ms := 0) (rc := RC) (rs := RS) (q := 47) dX7_sum_44 q838 q839 rfl q840 gcX15_init (GO.deep (c_added (d := 0) (l := gB (isW tp wMinus P)) ((hset_ne (show h.2 ≠ r by omega)).trans y3) (by first | exact Or.inl (gB_f nM))) (by omega)) rfl rfl ?_
        refine GO.cast (hset_comm (by omega)) ?_
        obtain ⟨rfl, rfl⟩ := p7 w
        refine g_astore_n (q := 48) dX7_sum_47 gs1 rfl ?_
        refine g_goto (t := 5) dX7_sum_48 (by decide) ?_
        refine ih _ _ _ h.2 (N + N2 - 1 + 1) (sBoth (oAdd 0) f fp) _ (hC.xt y1) (hXT.trans y1) p3 w (p6 w).1 (p6 w).2.1 (p6 w).2.2.1 (p6 w).2.2.2.1 ⟨imm_n y2, Or.inr (Or.inr ⟨a, a2, f, fp, (SUMg.fr y1.1 trivial _ _ _ hS).ups (by omega), (SUMg.exc y3 (fun q hq => hset_ne hq) _ _ _ t2).ups (by omega), Or.inr (Or.inr ⟨0, by decide, by rw [gB_f nM]; exact hset_at, rfl⟩)⟩)⟩ (by have e : (PSadv tp sz P).2.2.2.2.2.2.1 3 = P.2.2.2.2.2.2.1 3 := rfl; omega) ?_
        have z := SMS.add hM q2 (p4.same hM.2.1.1) (Or.inl (p6 w).2.2.2.2)
        rw [show (if X3.2.2.2.2.2.2.1 (220 + 3 * P.2.2.2.2.2.2.1 3) = 2 then (1 : Int) else 0) = 0 by rw [(p6 w).2.2.2.2]; rfl] at z
        exact z
      · exact absurd z1 c11
    · by_cases z2 : isW tp wMinus P
      · rw [rwL_s, if_neg z1, if_pos z2] at hX
        obtain ⟨X3, e3, p1, p2, p3, p4, p5, p6, RC, RS, MC, MS, p7, rfl, rfl, p8, p9⟩ := pre _ 2 (by decide) z2 (by decide) hX
        have hC1 := hC.xt (XT.new (v := oB 16 [.null, .null, vI 0]) (o := 0) hC.2.1.1)
        have ct := c_termC (d := d) (j := 2) (so := so) (la := la) (ak := ak) (ta := ta) (tx := tx) (rl := rl) hC1 p1 hf hz p2 (by decide) e3
        generalize (X3.2.1 - (PSadv tp sz P).2.1).toNat + 5 = MC at ct p8
        generalize 3 * (X3.2.1 - (PSadv tp sz P).2.1).toNat + 20 = MS at ct p9
        refine GO.room (rc := RC + MC + 1) (rs := RS + MS + 3) ?_ p8 p9
        refine g_aload_n (q := 6) dX7_sum_5 rfl rfl ?_
        refine g_ldcS (q := 8) dX7_sum_6 rfl q834 (litR_plus ok) rfl ?_
        refine g_cv (I' := iX7_is) (mc := 0) (ms := 0) (rc := (RC+MC+1)) (rs := (RS+MS+3)) (ci := 8) (q := 11) dX7_sum_8 q654 q656 rfl qs10 gcX7_is rd_at (GO.deep (c_isC (d := 0) hC (litR_plus ok).2 hP.1 hf hz) (by omega)) rfl rfl ?_
        refine g_ifneB (t := 23) (q := 14) dX7_sum_11 (by decide) rfl (fun c11 => ?_) (fun c11 => ?_)
        · exact absurd c11 z1
        · refine g_aload_n (q := 15) dX7_sum_14 rfl rfl ?_
          refine g_ldcS (q := 17) dX7_sum_15 rfl q835 (litR_minus ok) rfl ?_
          refine g_cv (I' := iX7_is) (mc := 0) (ms := 0) (rc := (RC+MC+1)) (rs := (RS+MS+3)) (ci := 8) (q := 20) dX7_sum_17 q654 q656 rfl qs10 gcX7_is rd_at (GO.deep (c_isC (d := 0) hC (litR_minus ok).2 hP.1 hf hz) (by omega)) rfl rfl ?_
          refine g_ifeqB (t := 51) (q := 23) dX7_sum_20 (by decide) rfl (fun c20 => ?_) (fun c20 => ?_)
          · exact absurd z2 c20
          · refine g_aload_n (q := 24) dX7_sum_23 rfl rfl ?_
            refine g_ldcS (q := 26) dX7_sum_24 rfl q835 (litR_minus ok) rfl ?_
            refine g_cv (I' := iX7_is) (mc := 0) (ms := 0) (rc := (RC+MC+1)) (rs := (RS+MS+3)) (ci := 8) (q := 29) dX7_sum_26 q654 q656 rfl qs10 gcX7_is rd_at (GO.deep (c_isC (d := 0) hC (litR_minus ok).2 hP.1 hf hz) (by omega)) rfl rfl ?_
            refine g_istore_n (q := 30) dX7_sum_29 gs2 rfl ?_
            refine g_aload_n (q := 31) dX7_sum_30 rfl rfl ?_
            refine g_cvV (I' := iX7_next) (mc := 0) (ms := 0) (rc := (RC+MC+1)) (rs := (RS+MS+3)) (ci := 8) (q := 34) dX7_sum_31 q635 q637 rfl qs6 gcX7_next rd_at (GO.deep (c_nextC (d := 0) hC hz hP.1) (by omega)) rfl rfl ?_
            refine g_new (C := RX15) (T := TX15) (N := 3) (ci := 16) (fs := [.null, .null, vI 0]) (q := 37) dX7_sum_34 q836 q837 q109 rfl in_X15 tyX15_ok (by decide) rfl ?_
            refine GO.cast (hnew_hset (by omega)) ?_
            refine g_dup (q := 38) dX7_sum_37 rfl ?_
            refine g_aload_n (q := 39) dX7_sum_38 rfl rfl ?_
            refine g_iload_n (q := 40) dX7_sum_39 rfl rfl ?_
            refine g_aload_n (q := 41) dX7_sum_40 rfl rfl ?_
            refine g_cvE (I' := iX7_term) (mc := MC) (ms := MS) (rc := RC) (rs := RS) (ci := 8) (q := 44) dX7_sum_41 q771 q773 rfl qs17 gcX7_term rd_at (ct) rfl rfl (fun x41 e41 y41 => by have q := y41.1; rw [p5 q]; exact excQ.xt (hXT.trans (XT.new hC.2.1.1)) y41) (fun v41 k41 z41 => ?_)
            obtain ⟨w, a2, fp, N2, ow2, h2, rfl, x2', rfl, t2, n2, q2⟩ := z41
            have hN2 := t2.pos
            obtain ⟨y1, y2, y3⟩ := XT.node (n1 := oB 16 [.ref a, .ref a2, vI (gB (isW tp wMinus P))]) hC.2.1.1 x2'
            refine g_ci (I' := iX15_init) (mc := 0) (ms := 0) (rc := RC) (rs := RS) (q := 47) dX7_sum_44 q838 q839 rfl q840 gcX15_init (GO.deep (c_added (d := 0) (l := gB (isW tp wMinus P)) ((hset_ne (show h.2 ≠ r by omega)).trans y3) (by first | exact Or.inr (gB_t z2))) (by omega)) rfl rfl ?_
            refine GO.cast (hset_comm (by omega)) ?_
            obtain ⟨rfl, rfl⟩ := p7 w
            refine g_astore_n (q := 48) dX7_sum_47 gs1 rfl ?_
            refine g_goto (t := 5) dX7_sum_48 (by decide) ?_
            refine ih _ _ _ h.2 (N + N2 - 1 + 1) (sBoth (oAdd 1) f fp) _ (hC.xt y1) (hXT.trans y1) p3 w (p6 w).1 (p6 w).2.1 (p6 w).2.2.1 (p6 w).2.2.2.1 ⟨imm_n y2, Or.inr (Or.inr ⟨a, a2, f, fp, (SUMg.fr y1.1 trivial _ _ _ hS).ups (by omega), (SUMg.exc y3 (fun q hq => hset_ne hq) _ _ _ t2).ups (by omega), Or.inr (Or.inr ⟨1, by decide, by rw [gB_t z2]; exact hset_at, rfl⟩)⟩)⟩ (by have e : (PSadv tp sz P).2.2.2.2.2.2.1 3 = P.2.2.2.2.2.2.1 3 := rfl; omega) ?_
            have z := SMS.add hM q2 (p4.same hM.2.1.1) (Or.inr (p6 w).2.2.2.2)
            rw [show (if X3.2.2.2.2.2.2.1 (220 + 3 * P.2.2.2.2.2.2.1 3) = 2 then (1 : Int) else 0) = 1 by rw [(p6 w).2.2.2.2]; rfl] at z
            exact z
      · rw [rwL_s, if_neg z1, if_neg z2, if_neg nT, if_neg nO] at hX
        subst hX
        refine GO.room (rc := 0) (rs := 0) ?_ (by omega) (by omega)
        refine g_aload_n (q := 6) dX7_sum_5 rfl rfl ?_
        refine g_ldcS (q := 8) dX7_sum_6 rfl q834 (litR_plus ok) rfl ?_
        refine g_cv (I' := iX7_is) (mc := 0) (ms := 0) (rc := 0) (rs := 0) (ci := 8) (q := 11) dX7_sum_8 q654 q656 rfl qs10 gcX7_is rd_at (GO.deep (c_isC (d := 0) hC (litR_plus ok).2 hP.1 hf hz) (by omega)) rfl rfl ?_
        refine g_ifneB (t := 23) (q := 14) dX7_sum_11 (by decide) rfl (fun c11 => ?_) (fun c11 => ?_)
        · exact absurd c11 z1
        · refine g_aload_n (q := 15) dX7_sum_14 rfl rfl ?_
          refine g_ldcS (q := 17) dX7_sum_15 rfl q835 (litR_minus ok) rfl ?_
          refine g_cv (I' := iX7_is) (mc := 0) (ms := 0) (rc := 0) (rs := 0) (ci := 8) (q := 20) dX7_sum_17 q654 q656 rfl qs10 gcX7_is rd_at (GO.deep (c_isC (d := 0) hC (litR_minus ok).2 hP.1 hf hz) (by omega)) rfl rfl ?_
          refine g_ifeqB (t := 51) (q := 23) dX7_sum_20 (by decide) rfl (fun c20 => ?_) (fun c20 => ?_)
          · refine g_aload_n (q := 52) dX7_sum_51 rfl rfl ?_
            exact g_aret dX7_sum_52 rfl (by first | exact Or.inl ⟨_, rfl⟩ | exact Or.inr ⟨_, rfl⟩) ⟨hf, a, f, N, ow, h, rfl, hXT, rfl, hS, hN, hM⟩
          · exact absurd c20 z2
theorem c_sumC {P : PS} {ow : OW} {h : gH} (hC : RCX E ow h r so la ak ta tp) (hP : PSok sz P) (hf : P.2.2.2.2.1 = 0) (hz : sz ≤ 900) (h3 : 3 * P.2.2.2.2.2.2.1 3 + 3 ≤ P.2.1) (hX : rwL tp sz 1000 (rpP tp sz 0 P) = X) :
    CALL E iX7_sum (d + 8) (2 * (X.2.1 - P.2.1).toNat + 11) (6 * (X.2.1 - P.2.1).toNat + 43) [.ref r] (hset h r (rdO so la ak ta tx rl sz P)) (qE (sumQ ow h r so la ak ta tx rl sz (P.2.2.2.2.2.2.1 3) X) (excQ ow h r so la ak ta tx rl sz X)) := by
  obtain ⟨b1, b2, b3⟩ := rpP_ok (tp := tp) (j := 0) hP hz (fun _ => h3) (by decide)
  have hg3 := hP.2.1.1.2.2.1.1
  have ra := rp_all (tp := tp) (j := 0) hP.1 hg3
  have rf := rp_from (tp := tp) (j := 0) hP.1
  have hb := b1.1.1
  have rt := rw_tj (tp := tp) hz 1000 1000 1000 1000 _ b1 (by omega) (by omega) (by omega) (by omega)
  rw [hX] at rt
  have tja := tj_all (tp := tp) hz 1000 _ b1
  have tjf := tj_from (tp := tp) hz 1000 _ b1
  generalize e3 : tjL tp sz 1000 (rpP tp sz 0 P) = X3 at rt tja tjf
  have xf := (rw_from (tp := tp) hz 1000 _ tja.1).1
  rw [← rt.1] at xf
  have hb3 := tja.1.1.1
  have ct := c_termC (d := d) (j := 0) (so := so) (la := la) (ak := ak) (ta := ta) (tx := tx) (rl := rl) hC hP hf hz h3 (by decide) e3
  have tj0 : X3.2.2.2.2.1 = 0 → (rpP tp sz 0 P).2.2.2.2.1 = 0 := fun q => Decidable.byContradiction fun w => by rw [← e3, tjL_bad w] at q; exact w q
  obtain ⟨RC, RS, p5, p6, p7⟩ : ∃ RC RS : Nat, (X3.2.2.2.2.1 = 0 → RC = 2 * (X.2.1 - X3.2.1).toNat + 6 ∧ RS = 6 * (X.2.1 - X3.2.1).toNat + 23) ∧ RC + ((X3.2.1 - P.2.1).toNat + 5) ≤ 2 * (X.2.1 - P.2.1).toNat + 11 ∧ RS + (3 * (X3.2.1 - P.2.1).toNat + 20) ≤ 6 * (X.2.1 - P.2.1).toNat + 43 := by
    by_cases w : X3.2.2.2.2.1 = 0
    · exact ⟨_, _, fun _ => ⟨rfl, rfl⟩, by omega, by omega⟩
    · exact ⟨0, 0, fun q => absurd q w, by omega, by omega⟩
  generalize (X3.2.1 - P.2.1).toNat + 5 = MC at ct p6
  generalize 3 * (X3.2.1 - P.2.1).toNat + 20 = MS at ct p7
  refine GO.room (rc := RC + MC) (rs := RS + MS) ?_ p6 p7
  show GO E iX7_sum _ _ _ 0 [some (.ref r), none, none] [] _ _
  refine g_aload_n (q := 1) dX7_sum_0 rfl rfl ?_
  refine g_cvE (I' := iX7_term) (mc := MC) (ms := MS) (rc := RC) (rs := RS) (ci := 8) (q := 4) dX7_sum_1 q771 q773 rfl qs17 gcX7_term rd_at (ct) rfl rfl (fun x1 e1 y1 => by have q := y1.1; rw [rt.1, rwL_bad q]; exact y1) (fun v1 k1 z1 => ?_)
  obtain ⟨w, a2, fp, N2, ow2, h2, rfl, x2', rfl, t2, n2, q2⟩ := z1
  obtain ⟨rfl, rfl⟩ := p5 w
  refine g_astore_n (q := 5) dX7_sum_4 gs1 rfl ?_
  refine l_sumR hz 1000 _ _ _ a2 N2 fp _ (hC.xt x2') x2' tja.1 w (by omega) rt.1.symm (rt.2 w).1 (rt.2 w).2 t2 n2 (SMS.first q2 ?_)
  rw [tja.2.1.2 _ (by omega) (by rw [(ra.2.2 (tj0 w)).2.2]; omega)]
  exact (ra.2.2 (tj0 w)).2.1
end
