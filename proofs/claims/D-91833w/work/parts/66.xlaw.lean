/-! THE COMPONENT: what a law comes to -/
set_option maxRecDepth 100000
abbrev nSumComes : MethodName := ⟨"NonsenseRows$Sum", "comes", "(LNonsenseRows$Asked;)J"⟩
section
variable {E : gE} {I : gI} {d rc rs q a n idx pc : Nat} {h : gH} {ha ea ti ho br : Int} {f : SF} {lv : List (Option Value)} {rest : List Value} {Q : Outcome → gH → Prop}
theorem g_comes (hd : decode I.2.1 pc = .ok (.invokevirtual idx, 3)) (hlink : Cond.methodLink I.1.cls idx nSumComes ∈ lw_all) (hS : SUM q h.1 n a f) (hn : n ≤ 400) (hb : akIn ha ea ti ho 0) (hw : (rest.map fun v => v.category).sum ≤ 20)
    (kk : ∀ v k, (v = vL (sVal f ha ea ti ho) ∧ ∃ b2 : Int, k = hset h q (akO ha ea ti ho b2)) → GO E I (d + 1299 + 1) rc rs (pc + 3) lv (v :: rest) k Q) : GO E I (d + 1299 + 1) rc rs pc lv (.ref q :: .ref a :: rest) (hset h q (akO ha ea ti ho br)) Q := by
  cases n with
  | zero => exact hS.elim
  | succ n =>
    have hS2 := hS.2
    rcases hS2 with ⟨c, hc, hc1, -⟩ | ⟨w, hc, hw1, -⟩ | ⟨x, y, f1, f2, s1, s2, h3⟩
    · exact g_cxP (I' := iX9_comes) (mc := 0) (ms := 0) (rc := rc) (rs := rs) (ci := 12) (As := [.ref q]) hd hlink q1030 (Or.inr ⟨q1029, _, _, _, q1036⟩) (by decide) gcX9_comes.2.1 q1029 rfl q1032 gcX9_comes ((hset_ne hS.1).trans hc) (GO.deep (c_comes (d := 0) (br := br) hS hb) (by omega)) rfl rfl kk rfl (Nat.le_of_ble_eq_true rfl) hw (Nat.le_of_ble_eq_true rfl)
    · exact g_cxP (I' := iX9_comes) (mc := 0) (ms := 0) (rc := rc) (rs := rs) (ci := 13) (As := [.ref q]) hd hlink q1030 (Or.inr ⟨q1029, _, _, _, q1036⟩) (by decide) gcX9_comes.2.1 q1029 rfl q1034 gcX9_comes ((hset_ne hS.1).trans hc) (GO.deep (c_comes (d := 0) (br := br) hS hb) (by omega)) rfl rfl kk rfl (Nat.le_of_ble_eq_true rfl) hw (Nat.le_of_ble_eq_true rfl)
    · rcases h3 with ⟨hc, -⟩ | ⟨hc, -⟩ | ⟨l, hl, hc, -⟩
      · exact g_cxP (I' := iX9_comes) (mc := 0) (ms := 0) (rc := rc) (rs := rs) (ci := 14) (As := [.ref q]) hd hlink q1030 (Or.inr ⟨q1029, _, _, _, q1036⟩) (by decide) gcX9_comes.2.1 q1029 rfl q1035 gcX9_comes ((hset_ne hS.1).trans hc) (GO.deep (c_comes (d := 0) (br := br) hS hb) (by omega)) rfl rfl kk rfl (Nat.le_of_ble_eq_true rfl) hw (Nat.le_of_ble_eq_true rfl)
      · exact g_cxP (I' := iX9_comes) (mc := 0) (ms := 0) (rc := rc) (rs := rs) (ci := 15) (As := [.ref q]) hd hlink q1030 (Or.inr ⟨q1029, _, _, _, q1036⟩) (by decide) gcX9_comes.2.1 q1029 rfl q1033 gcX9_comes ((hset_ne hS.1).trans hc) (GO.deep (c_comes (d := 0) (br := br) hS hb) (by omega)) rfl rfl kk rfl (Nat.le_of_ble_eq_true rfl) hw (Nat.le_of_ble_eq_true rfl)
      · exact g_cxP (I' := iX9_comes) (mc := 0) (ms := 0) (rc := rc) (rs := rs) (ci := 16) (As := [.ref q]) hd hlink q1030 (Or.inr ⟨q1029, _, _, _, q1036⟩) (by decide) gcX9_comes.2.1 q1029 rfl q1031 gcX9_comes ((hset_ne hS.1).trans hc) (GO.deep (c_comes (d := 0) (br := br) hS hb) (by omega)) rfl rfl kk rfl (Nat.le_of_ble_eq_true rfl) hw (Nat.le_of_ble_eq_true rfl)
end
/-- a tree of sums off the places av -/
def SUMg (av : Nat → Prop) (h : Nat → Option va_E) : Nat → Nat → SF → Prop
  | 0, _, _ => False
  | n + 1, a, f => ¬ av a ∧ ((∃ c : Int, h a = some (oB 12 [vI c]) ∧ (0 ≤ c ∧ c ≤ 1000) ∧ f = sAmt c) ∨ (∃ w : Int, h a = some (oB 13 [vI w]) ∧ (0 ≤ w ∧ w ≤ 4) ∧ f = sPart w) ∨
      ∃ (x y : Nat) (f1 f2 : SF), SUMg av h n x f1 ∧ SUMg av h n y f2 ∧ ((h a = some (oB 14 [.ref x, .ref y]) ∧ f = sBoth oTimes f1 f2) ∨ (h a = some (oB 15 [.ref x, .ref y]) ∧ f = sBoth oOver f1 f2) ∨ ∃ l : Int, (l = 0 ∨ l = 1) ∧ h a = some (oB 16 [.ref x, .ref y, vI l]) ∧ f = sBoth (oAdd l) f1 f2))
theorem SUMg.use {av : Nat → Prop} {h h' : Nat → Option va_E} {q : Nat} (hq : av q) (hh : ∀ b, ¬ av b → h' b = h b) : ∀ (n a : Nat) (f : SF), SUMg av h n a f → SUM q h' n a f := by
  intro n
  induction n with
  | zero => intro a f hS; exact hS.elim
  | succ n ih =>
    intro a f hS
    obtain ⟨h0, hS⟩ := hS
    refine ⟨fun e => h0 (e ▸ hq), ?_⟩
    have e := hh a h0
    rcases hS with ⟨c, hc, r⟩ | ⟨w, hc, r⟩ | ⟨x, y, f1, f2, s1, s2, h3⟩
    · exact Or.inl ⟨c, e.trans hc, r⟩
    · exact Or.inr (Or.inl ⟨w, e.trans hc, r⟩)
    · refine Or.inr (Or.inr ⟨x, y, f1, f2, ih x f1 s1, ih y f2 s2, ?_⟩)
      rcases h3 with ⟨hc, r⟩ | ⟨hc, r⟩ | ⟨l, hl, hc, r⟩
      · exact Or.inl ⟨e.trans hc, r⟩
      · exact Or.inr (Or.inl ⟨e.trans hc, r⟩)
      · exact Or.inr (Or.inr ⟨l, hl, e.trans hc, r⟩)
/-- the law of a sort: none, or a tree that comes to what the reference's does -/
def LAWC (av : Nat → Prop) (h : Nat → Option va_E) (w : Int → Int) (kl kn k s : Int) : Option Nat → Prop
  | none => ∀ (hs : Int → Int) (B has ea : Int), HSok B hs → B ≤ 1000000000 → (0 ≤ has ∧ has ≤ 1000) → (0 ≤ ea ∧ ea ≤ 9) → (k = 2 → s = 0) → comes w hs kl kn (lawN k s) has ea = 0
  | some a => ∃ (n : Nat) (f : SF), n ≤ 400 ∧ SUMg av h n a f ∧ ∀ (hs : Int → Int) (B has ea : Int), HSok B hs → B ≤ 1000000000 → (0 ≤ has ∧ has ≤ 1000) → (0 ≤ ea ∧ ea ≤ 9) → (k = 2 → s = 0) ∧ comes w hs kl kn (lawN k s) has ea = sVal f has ea (hs 2017) ((hs 2016).tmod 24)
/-- a text at t that says what the world w does -/
def TXT (E : gE) (av : Nat → Prop) (h : Nat → Option va_E) (w : Int → Int) (kl kn : Int) (t : Nat) : Prop :=
  ∃ (te tl tw tz : Nat) (tw2 : Int → Nat) (lw : Int → Int → Option Nat) (ge gl : Int → Int) (hd : Int), (¬ av t ∧ ¬ av te ∧ ¬ av tl ∧ ¬ av tw ∧ ∀ k, 0 ≤ k → k < 3 → ¬ av (tw2 k)) ∧
    h t = some (oB 2 [.ref te, .ref tl, .ref tw, .ref tz, vI (w 1), vI (w 4), vI (w 0), vI hd]) ∧ (h te = some (aI E 24 ge) ∧ ∀ j, 0 ≤ j → j < 24 → ge j = w (10 + j)) ∧ (h tl = some (aI E 4 gl) ∧ ∀ j, 0 ≤ j → j < 4 → gl j = w (5 + j)) ∧
    h tw = some (aR E 9 3 (fun k => some (tw2 k))) ∧ (∀ k, 0 ≤ k → k < 3 → h (tw2 k) = some (aR E 8 4 (lw k))) ∧ (∀ k s, 0 ≤ k → k < 3 → 0 ≤ s → s < 4 → LAWC av h w kl kn k s (lw k s)) ∧ ∀ k k', 0 ≤ k → k < 3 → 0 ≤ k' → k' < 3 → k ≠ k' → tw2 k ≠ tw2 k'
/-- the places of a head -/
abbrev avH (p : Nat) : Nat → Prop := fun b => p ≤ b ∧ b < p + 103
section
variable {E : gE} {d p t : Nat} {G : gH} {hs w : Int → Int} {kl kn v s a b has th B h1 e1 t1 o1 b1 : Int} {Q : Outcome → gH → Prop}
theorem c_leadsTo {h : gH} (hs0 : in32 s) : CALL E iX3_leadsTo d 0 0 [vI s, vI a, vI b] h (qR (vI (if s = 3 then a else b)) h) := by
  show GO E iX3_leadsTo _ _ _ 0 [some (vI s), some (vI a), some (vI b)] [] _ _
  refine g_iload_n (q := 1) dX3_leadsTo_0 rfl rfl ?_
  refine g_iconst (q := 2) dX3_leadsTo_1 rfl ?_
  refine g_icmp_ne (t := 9) (q := 5) dX3_leadsTo_2 (by decide) rfl (by first | assumption | exact in32_gB | exact in32_gCmp | (unfold in32; omega)) (by first | assumption | exact in32_gB | exact in32_gCmp | (unfold in32; omega)) (fun c2 => ?_) (fun c2 => ?_)
  · refine g_iload_n (q := 10) dX3_leadsTo_9 rfl rfl ?_
    exact g_iret dX3_leadsTo_10 rfl ⟨rI (by first | rw [if_pos c2] | rw [if_neg c2]), rfl⟩
  · refine g_iload_n (q := 6) dX3_leadsTo_5 rfl rfl ?_
    refine g_goto (t := 10) dX3_leadsTo_6 (by decide) ?_
    exact g_iret dX3_leadsTo_10 rfl ⟨rI (by first | rw [if_pos c2] | rw [if_neg c2]), rfl⟩
theorem c_lawX (hT : TXT E (avH p) G.1 w kl kn t) (hw : WFw w) (hh : HSok B hs) (hB : B ≤ 1000000000) (hv : 0 ≤ v ∧ v ≤ 2) (hs0 : 0 ≤ s ∧ s ≤ 3) (hvs : v = 2 → s = 0) (hha : 0 ≤ has ∧ has ≤ 1000) (hth : 0 ≤ th ∧ th < 24) :
    CALL E iX3_law (d + 1300) 0 0 [.ref p, vI v, vI s, vI has, vI th] (hH E G p (some t) hs (akO h1 e1 t1 o1 b1)) (qP fun o k => o = vL (comes w hs kl kn (lawN v s) has (w (10 + th))) ∧ ∃ h2 e2 t2 o2 b2 : Int, k = hH E G p (some t) hs (akO h2 e2 t2 o2 b2)) := by
  obtain ⟨te, tl, tw, tz, tw2, lw, ge, gl, hd, ⟨n1, n2, n3, n4, n5⟩, ct, ⟨cte, hge⟩, ctl, ctw, ctw2, hl, hij⟩ := hT
  have ot : ∀ (b : Nat) (ak : va_E), ¬ avH p b → (hH E G p (some t) hs ak).1 b = G.1 b := fun b ak hb => blk_out (by unfold avH at hb; omega)
  have hL := hl v s hv.1 (by omega) hs0.1 (by omega)
  have hea := hw.easy hth.1 hth.2
  have hho := hh.2.1
  have hti := hh.2.2
  have e24 : 0 ≤ (hs 2016).tmod 24 ∧ (hs 2016).tmod 24 ≤ 23 := by rw [Int.tmod_eq_emod_of_nonneg hho.1]; omega
  have eg := hge th hth.1 hth.2
  cases e : lw v s with
  | none =>
    rw [e] at hL
    rw [hL hs B has (w (10 + th)) hh hB hha hea hvs]
    show GO E iX3_law _ _ _ 0 [some (.ref p), some (vI v), some (vI s), some (vI has), some (vI th), none] [] _ _
    refine g_aload_n (q := 1) dX3_law_0 rfl rfl ?_
    refine g_get (C := RX3) (T := TX3) (ci := 4) (k := 2) (q := 4) dX3_law_1 q453 rfl in_X3 (by decide) hO rfl rfl ?_
    refine g_getN (C := RX2) (T := TX2) (ci := 2) (k := 2) (q := 7) dX3_law_4 q354 rfl in_X2 (by decide) ((ot _ _ n1).trans ct) rfl rfl ?_
    refine g_iload_n (q := 8) dX3_law_7 rfl rfl ?_
    refine g_aald (t0 := 9) (q := 9) dX3_law_8 ((ot _ _ n4).trans ctw) rfl rfl (by omega) (by omega) rfl ?_
    refine g_iload_n (q := 10) dX3_law_9 rfl rfl ?_
    refine g_aald (t0 := 8) (q := 11) dX3_law_10 ((ot _ _ (n5 v (by omega) (by omega))).trans (ctw2 v (by omega) (by omega))) rfl rfl (by omega) (by omega) rfl ?_
    rw [e]
    refine g_astore (q := 13) dX3_law_11 gs5 rfl ?_
    refine g_aload (q := 15) dX3_law_13 rfl rfl ?_
    refine g_ifnonnullN (q := 18) dX3_law_15 rfl ?_
    refine g_lconst0 (q := 19) dX3_law_18 rfl ?_
    exact g_lret dX3_law_19 rfl ⟨_, rfl, rfl, _, _, _, _, _, rfl⟩
  | some x =>
    rw [e] at hL
    obtain ⟨n, f, hn, hS, hc⟩ := hL
    rw [(hc hs B has (w (10 + th)) hh hB hha hea).2]
    have hS2 : SUM (p + 102) (hH E G p (some t) hs (akO h1 e1 t1 o1 b1)).1 n x f := SUMg.use (av := avH p) (by unfold avH; omega) (fun b hb => ot b _ hb) n x f hS
    show GO E iX3_law _ _ _ 0 [some (.ref p), some (vI v), some (vI s), some (vI has), some (vI th), none] [] _ _
    refine g_aload_n (q := 1) dX3_law_0 rfl rfl ?_
    refine g_get (C := RX3) (T := TX3) (ci := 4) (k := 2) (q := 4) dX3_law_1 q453 rfl in_X3 (by decide) hO rfl rfl ?_
    refine g_getN (C := RX2) (T := TX2) (ci := 2) (k := 2) (q := 7) dX3_law_4 q354 rfl in_X2 (by decide) ((ot _ _ n1).trans ct) rfl rfl ?_
    refine g_iload_n (q := 8) dX3_law_7 rfl rfl ?_
    refine g_aald (t0 := 9) (q := 9) dX3_law_8 ((ot _ _ n4).trans ctw) rfl rfl (by omega) (by omega) rfl ?_
    refine g_iload_n (q := 10) dX3_law_9 rfl rfl ?_
    refine g_aald (t0 := 8) (q := 11) dX3_law_10 ((ot _ _ (n5 v (by omega) (by omega))).trans (ctw2 v (by omega) (by omega))) rfl rfl (by omega) (by omega) rfl ?_
    rw [e]
    refine g_astore (q := 13) dX3_law_11 gs5 rfl ?_
    refine g_aload (q := 15) dX3_law_13 rfl rfl ?_
    refine g_ifnonnullR (t := 20) dX3_law_15 (by decide) ?_
    refine g_aload_n (q := 21) dX3_law_20 rfl rfl ?_
    refine g_get (C := RX3) (T := TX3) (ci := 4) (k := 1) (q := 24) dX3_law_21 q452 rfl in_X3 (by decide) hO rfl rfl ?_
    refine g_iload_n (q := 25) dX3_law_24 rfl rfl ?_
    refine g_putN (C := RX4) (T := TX4) (ci := 5) (k := 0) (q := 28) dX3_law_25 q429 rfl in_X4 tyX4_ok nmX4 (by decide) rfl gFit_int hK (Nat.le_of_ble_eq_true rfl) rfl ?_
    refine GO.cast (h' := hH E G p (some t) hs (akO has e1 t1 o1 b1)) hUk ?_
    refine g_aload_n (q := 29) dX3_law_28 rfl rfl ?_
    refine g_get (C := RX3) (T := TX3) (ci := 4) (k := 1) (q := 32) dX3_law_29 q452 rfl in_X3 (by decide) hO rfl rfl ?_
    refine g_aload_n (q := 33) dX3_law_32 rfl rfl ?_
    refine g_get (C := RX3) (T := TX3) (ci := 4) (k := 2) (q := 36) dX3_law_33 q453 rfl in_X3 (by decide) hO rfl rfl ?_
    refine g_getN (C := RX2) (T := TX2) (ci := 2) (k := 0) (q := 39) dX3_law_36 q347 rfl in_X2 (by decide) ((ot _ _ n1).trans ct) rfl rfl ?_
    refine g_iload (q := 41) dX3_law_39 rfl rfl ?_
    refine g_iald (q := 42) dX3_law_41 ((ot _ _ n2).trans cte) (by omega) (by omega) rfl ?_
    rw [eg]
    refine g_putN (C := RX4) (T := TX4) (ci := 5) (k := 1) (q := 45) dX3_law_42 q431 rfl in_X4 tyX4_ok nmX4 (by decide) rfl gFit_int hK (Nat.le_of_ble_eq_true rfl) rfl ?_
    refine GO.cast (h' := hH E G p (some t) hs (akO has (w (10 + th)) t1 o1 b1)) hUk ?_
    refine g_aload_n (q := 46) dX3_law_45 rfl rfl ?_
    refine g_get (C := RX3) (T := TX3) (ci := 4) (k := 1) (q := 49) dX3_law_46 q452 rfl in_X3 (by decide) hO rfl rfl ?_
    refine g_aload_n (q := 50) dX3_law_49 rfl rfl ?_
    refine g_get (C := RX3) (T := TX3) (ci := 4) (k := 4) (q := 53) dX3_law_50 q456 rfl in_X3 (by decide) hO rfl rfl ?_
    refine g_putN (C := RX4) (T := TX4) (ci := 5) (k := 2) (q := 56) dX3_law_53 q433 rfl in_X4 tyX4_ok nmX4 (by decide) rfl gFit_int hK (Nat.le_of_ble_eq_true rfl) rfl ?_
    refine GO.cast (h' := hH E G p (some t) hs (akO has (w (10 + th)) (hs 2017) o1 b1)) hUk ?_
    refine g_aload_n (q := 57) dX3_law_56 rfl rfl ?_
    refine g_get (C := RX3) (T := TX3) (ci := 4) (k := 1) (q := 60) dX3_law_57 q452 rfl in_X3 (by decide) hO rfl rfl ?_
    refine g_aload_n (q := 61) dX3_law_60 rfl rfl ?_
    refine g_get (C := RX3) (T := TX3) (ci := 4) (k := 3) (q := 64) dX3_law_61 q454 rfl in_X3 (by decide) hO rfl rfl ?_
    refine g_bipush (q := 66) dX3_law_64 rfl ?_
    refine g_irem (q := 67) dX3_law_66 (by first | assumption | exact in32_gB | exact in32_gCmp | (unfold in32; omega)) (by first | assumption | exact in32_gB | exact in32_gCmp | (unfold in32; omega)) (by omega) rfl ?_
    refine g_putN (C := RX4) (T := TX4) (ci := 5) (k := 3) (q := 70) dX3_law_67 q435 rfl in_X4 tyX4_ok nmX4 (by decide) rfl gFit_int hK (Nat.le_of_ble_eq_true rfl) rfl ?_
    refine GO.cast (h' := hset (hH E G p (some t) hs (akO h1 e1 t1 o1 b1)) (p + 102) (akO has (w (10 + th)) (hs 2017) ((hs 2016).tmod 24) b1)) (hUk.trans hUk.symm) ?_
    refine g_aload (q := 72) dX3_law_70 rfl rfl ?_
    refine g_aload_n (q := 73) dX3_law_72 rfl rfl ?_
    refine GO.cast (h' := hH E G p (some t) hs (akO has (w (10 + th)) (hs 2017) ((hs 2016).tmod 24) b1)) hUk ?_
    refine g_get (C := RX3) (T := TX3) (ci := 4) (k := 1) (q := 76) dX3_law_73 q452 rfl in_X3 (by decide) hO rfl rfl ?_
    refine GO.cast (h' := hset (hH E G p (some t) hs (akO h1 e1 t1 o1 b1)) (p + 102) (akO has (w (10 + th)) (hs 2017) ((hs 2016).tmod 24) b1)) hUk.symm ?_
    refine g_comes dX3_law_76 q1028 hS2 hn ⟨hha, hea, by omega, e24, Or.inl rfl⟩ (Nat.le_of_ble_eq_true rfl) (fun v76 k76 z76 => ?_)
    obtain ⟨rfl, b2, rfl⟩ := z76
    exact g_lret dX3_law_79 rfl ⟨_, rfl, rfl, _, _, _, _, _, hUk⟩
end
