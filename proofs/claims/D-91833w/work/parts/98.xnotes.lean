/-! THE COMPONENT: worlds that say the same text; sittings -/
set_option maxRecDepth 100000
def AG2 (w' w : Int → Int) : Prop := ∀ x, 202 ≤ x → w' x = w x
section
variable {w w' hs : Int → Int} {kl kn e has ea r : Int}
theorem partV_a2 (h : AG2 w' w) {k : Int} (hk : 0 ≤ k) : partV w' hs k has ea = partV w hs k has ea := by
  unfold partV
  rw [h (220 + 3 * k + 1) (by omega), h (220 + 3 * k + 2) (by omega)]
theorem tmL_a2 (h : AG2 w' w) : ∀ (n : Nat) (k t : Int), 0 ≤ k → tmL w' hs e has ea n k t = tmL w hs e has ea n k t := by
  intro n
  induction n with
  | zero => intro k t _; rfl
  | succ n ih =>
    intro k t hk
    unfold tmL
    rw [h (220 + 3 * k) (by omega), partV_a2 h hk, ih (k + 1) _ (by omega)]
theorem smL_a2 (h : AG2 w' w) : ∀ (n : Nat) (k s : Int), 0 ≤ k → smL w' hs e has ea n k s = smL w hs e has ea n k s := by
  intro n
  induction n with
  | zero => intro k s _; rfl
  | succ n ih =>
    intro k s hk
    unfold smL
    rw [h (220 + 3 * k) (by omega), partV_a2 h hk, tmL_a2 h _ _ _ (by omega)]
    cases ht : tmL w hs e has ea (e - (k + 1)).toNat (k + 1) (partV w hs k has ea) with
    | none => rfl
    | some q =>
      obtain ⟨k', t⟩ := q
      have := tmL_ge _ _ _ _ _ ht
      show (if k < e then (if _ then smL w' hs e has ea n k' _ else 0) else s) = (if k < e then (if _ then smL w hs e has ea n k' _ else 0) else s)
      rw [ih k' _ (by omega)]
theorem comes_a2 (h : AG2 w' w) (hw : WFw w) {l : Int} (hl : 0 ≤ l ∧ l < 9) : comes w' hs kl kn l has ea = comes w hs kl kn l has ea := by
  unfold comes
  have hk := hw.law hl.1 hl.2
  rw [h (202 + 2 * l) (by omega), h (202 + 2 * l + 1) (by omega), smL_a2 h _ _ _ hk.1]
end
/-- the same text -/
def AGT (w' w : Int → Int) : Prop := (w' 0 = w 0 ∧ w' 1 = w 1 ∧ w' 4 = w 4) ∧ (∀ x, 5 ≤ x → x < 9 → w' x = w x) ∧ (∀ x, 10 ≤ x → x < 34 → w' x = w x) ∧ AG2 w' w
theorem LAWC.w {av : Nat → Prop} {h : Nat → Option va_E} {w w' : Int → Int} {kl kn k s : Int} (ha : AG2 w' w) (hw : WFw w) (hk : 0 ≤ k ∧ k < 3) (hs0 : 0 ≤ s ∧ s < 4) : ∀ (x : Option Nat), LAWC av h w kl kn k s x → LAWC av h w' kl kn k s x
  | none, hL => fun hs B has ea q1 q2 q3 q4 q5 => (comes_a2 ha hw (by unfold lawN; split <;> omega)).trans (hL hs B has ea q1 q2 q3 q4 q5)
  | some a, hL => by
    obtain ⟨n, f, hn, hS, hc⟩ := hL
    exact ⟨n, f, hn, hS, fun hs B has ea q1 q2 q3 q4 => ⟨(hc hs B has ea q1 q2 q3 q4).1, (comes_a2 ha hw (by unfold lawN; split <;> omega)).trans (hc hs B has ea q1 q2 q3 q4).2⟩⟩
theorem TXT.w {E : gE} {av : Nat → Prop} {h : Nat → Option va_E} {w w' : Int → Int} {kl kn : Int} {t : Nat} (hT : TXT E av h w kl kn t) (ha : AGT w' w) (hw : WFw w) : TXT E av h w' kl kn t := by
  obtain ⟨te, tl, tw, tz, tw2, lw, ge, gl, hd, hn, ct, ⟨c1, hge⟩, ⟨c2, hgl⟩, ctw, ctw2, hl, hij⟩ := hT
  obtain ⟨⟨a0, a1, a4⟩, a5, a10, a202⟩ := ha
  refine ⟨te, tl, tw, tz, tw2, lw, ge, gl, hd, hn, by rw [a0, a1, a4]; exact ct, ⟨c1, fun j q1 q2 => (hge j q1 q2).trans (a10 _ (by omega) (by omega)).symm⟩, ⟨c2, fun j q1 q2 => (hgl j q1 q2).trans (a5 _ (by omega) (by omega)).symm⟩, ctw, ctw2, fun k s q1 q2 q3 q4 => LAWC.w a202 hw ⟨q1, q2⟩ ⟨q3, q4⟩ _ (hl k s q1 q2 q3 q4), hij⟩
theorem ROWc.w {E : gE} {av : Nat → Prop} {h : Nat → Option va_E} {w w' : Int → Int} {r : Int} {ra : Nat} (hR : ROWc E av h w r ra) (h0 : ∀ j, 34 + 14 * r ≤ j → j < 34 + 14 * r + 13 → w' j = w j) (hn : w (34 + 14 * r) ≤ 12) : ROWc E av h w' r ra := by
  obtain ⟨q, g, c, hg⟩ := hR
  refine ⟨q, g, ?_, fun j q1 q2 => ?_⟩
  · rw [h0 _ (by omega) (by omega)]; exact c
  · rw [h0 (34 + 14 * r) (by omega) (by omega)] at q2
    rw [h0 _ (by omega) (by omega)]
    exact hg j q1 q2
section
variable {E : gE} {d rc rs x : Nat} {mf : Nat → va_E} {ow : OW} {h : gH} {w hs bk tp iL iS my wd : Int → Int} {uW uH uB uN : Int → Int → Int} {si lo td fk fp : Int}
variable {r v n B kn i s l c b a e ah how b1 b2 : Int} {ra t p : Nat} {k h' : gH} {ow' : OW} {w' hs' bk' : Int → Int} {si' lo' : Int} {Q : Outcome → gH → Prop}
theorem XR.now (hX : (XR E x mf ow h w hs si lo bk uW uH uB iL iS tp td fk fp my wd uN)) (hh : HW h') (hF : FR ow ow' h h' (fun i => ¬ (10 ≤ i ∧ i < 14))) (hS : STT E ow' h' 0 (x + 2) w' hs' si' lo' bk') : (XR E x mf ow' h' w' hs' si' lo' bk' uW uH uB iL iS tp td fk fp my wd uN) := by
  obtain ⟨x1, x2, x3, x4, x5, x6, x7⟩ := hX
  exact ⟨hh, x2.fr hF (by omega), x3.fr hF (by omega), hS, x5.fr hF (by omega) (by omega) (fun _ _ => by omega), x6.fr hF (by omega), x7.fr hF (fun _ _ _ => by omega)⟩
theorem ROWc.elt {E : gE} {ow : OW} {h : gH} {w : Int → Int} {r : Int} {ra : Nat} (hR : ROWc E (imm ow) h.1 w r ra) : ELT E h ra ∧ ow ra = 0 := by
  obtain ⟨q, g, c, hg⟩ := hR
  exact ⟨Or.inl ⟨_, _, c⟩, imm_0 q⟩
theorem usedI_ne (hr : 0 ≤ r) {j : Int} (hj : j < 47 + 14 * r ∨ 47 + 14 * r < j) : usedI w r n j = w j := upI_ne (by omega)
theorem usedI_at : usedI w r n (34 + 14 * r + 1 + 12) = w (34 + 14 * r + 1 + 12) + n := upI_at
theorem AGT.used (hr : 0 ≤ r ∧ r < 12) : AGT (usedI w r n) w := ⟨⟨usedI_ne hr.1 (by omega), usedI_ne hr.1 (by omega), usedI_ne hr.1 (by omega)⟩, fun x q1 q2 => usedI_ne hr.1 (by omega), fun x q1 q2 => usedI_ne hr.1 (by omega), fun x q1 => usedI_ne hr.1 (by omega)⟩
theorem sitO_ne {si i : Int} {r1 r2 r3 r4 r5 r6 : Int} (hi : i < si) : sitO (sitB bk si r1 r2 r3 r4 r5 r6) i = sitO bk i := by
  unfold sitO sitB
  have e : ∀ j : Int, 6 * i ≤ j → j < 6 * i + 6 → upI (upI (upI (upI (upI (upI bk (6 * si) r1) (6 * si + 1) r2) (6 * si + 2) r3) (6 * si + 3) r4) (6 * si + 4) r5) (6 * si + 5) r6 j = bk j := fun j q1 q2 => by
    rw [upI_ne (by omega), upI_ne (by omega), upI_ne (by omega), upI_ne (by omega), upI_ne (by omega), upI_ne (by omega)]
  rw [e (6 * i) (by omega) (by omega), e (6 * i + 1) (by omega) (by omega), e (6 * i + 2) (by omega) (by omega), e (6 * i + 3) (by omega) (by omega), e (6 * i + 4) (by omega) (by omega), gB_i (show ¬ _ = (0 : Int) ↔ ¬ bk (6 * i + 5) = 0 by rw [e (6 * i + 5) (by omega) (by omega)]), gB_i (show ¬ _ = (2 : Int) ↔ ¬ bk (6 * i + 5) = 2 by rw [e (6 * i + 5) (by omega) (by omega)])]
theorem sitO_at {si : Int} {r1 r2 r3 r4 r5 r6 : Int} : sitO (sitB bk si r1 r2 r3 r4 r5 r6) si = oB 17 [vI r1, vI r2, vI r3, vI r4, vI r5, vI (gB (¬ r6 = 0)), vI (gB (¬ r6 = 2))] := by
  unfold sitO sitB
  have e0 : upI (upI (upI (upI (upI (upI bk (6 * si) r1) (6 * si + 1) r2) (6 * si + 2) r3) (6 * si + 3) r4) (6 * si + 4) r5) (6 * si + 5) r6 (6 * si) = r1 := by rw [upI_ne (by omega), upI_ne (by omega), upI_ne (by omega), upI_ne (by omega), upI_ne (by omega), upI_at]
  have e1 : upI (upI (upI (upI (upI (upI bk (6 * si) r1) (6 * si + 1) r2) (6 * si + 2) r3) (6 * si + 3) r4) (6 * si + 4) r5) (6 * si + 5) r6 (6 * si + 1) = r2 := by rw [upI_ne (by omega), upI_ne (by omega), upI_ne (by omega), upI_ne (by omega), upI_at]
  have e2 : upI (upI (upI (upI (upI (upI bk (6 * si) r1) (6 * si + 1) r2) (6 * si + 2) r3) (6 * si + 3) r4) (6 * si + 4) r5) (6 * si + 5) r6 (6 * si + 2) = r3 := by rw [upI_ne (by omega), upI_ne (by omega), upI_ne (by omega), upI_at]
  have e3 : upI (upI (upI (upI (upI (upI bk (6 * si) r1) (6 * si + 1) r2) (6 * si + 2) r3) (6 * si + 3) r4) (6 * si + 4) r5) (6 * si + 5) r6 (6 * si + 3) = r4 := by rw [upI_ne (by omega), upI_ne (by omega), upI_at]
  have e4 : upI (upI (upI (upI (upI (upI bk (6 * si) r1) (6 * si + 1) r2) (6 * si + 2) r3) (6 * si + 3) r4) (6 * si + 4) r5) (6 * si + 5) r6 (6 * si + 4) = r5 := by rw [upI_ne (by omega), upI_at]
  have e5 : upI (upI (upI (upI (upI (upI bk (6 * si) r1) (6 * si + 1) r2) (6 * si + 2) r3) (6 * si + 3) r4) (6 * si + 4) r5) (6 * si + 5) r6 (6 * si + 5) = r6 := upI_at
  rw [e0, e1, e2, e3, e4, gB_i (show ¬ _ = (0 : Int) ↔ ¬ r6 = 0 by rw [e5]), gB_i (show ¬ _ = (2 : Int) ↔ ¬ r6 = 2 by rw [e5])]
theorem gB_01 {p : Prop} [Decidable p] : gB p = 0 ∨ gB p = 1 := by
  unfold gB
  split
  · exact Or.inr rfl
  · exact Or.inl rfl
/-- a sitting is noted, where there is room: from 39 on -/
theorem l_notes39 (hX : (XR E x mf ow h w hs si lo bk uW uH uB iL iS tp td fk fp my wd uN)) (hw : WFw w) (hh : HSok B hs) (hr : 0 ≤ r) (hr1 : r < w 2) (hs0 : 0 ≤ si ∧ si < 60) (hQ : ∀ k ow', (XR E x mf ow' k (usedI w r n) hs (si + 1) lo (sitB bk si r n (hs 2016) ah (mOnes (mSlips w hs r)) how) uW uH uB iL iS tp td fk fp my wd uN) → Q (.returned none) k) :
    GO E iX0_notes (d + 7) 2 207 39 [some (.ref x), some (vI r), some (vI n), some (vI ah), some (vI (gB (¬ how = 0))), some (vI (gB (¬ how = 2)))] [] h Q := by
  obtain ⟨x1, x2, ⟨w3, bl, tq, pl, bp, hC, -⟩, ⟨t, s1, s2, s3, s4, s5⟩, x5, x6, x7⟩ := id hX
  have hw2 := hw.2.1
  have hltx := x1 _ _ hC
  -- the new cell
  have hX1 : (XR E x mf (upO ow h.2 0) (hnew h (oB 17 [vI 0, vI 0, vI 0, vI 0, vI 0, vI 0, vI 0])) w hs si lo bk uW uH uB iL iS tp td fk fp my wd uN) := hX.all x1.new (FR.new x1 (fun b hb => upO_lt hb))
  obtain ⟨-, -, ⟨-, bl1, -, -, -, hC1, -⟩, ⟨t1, s11, -, -, -, s51⟩, -⟩ := id hX1
  have hX2 : (XR E x mf (upO ow h.2 0) (hnew h (oB 17 [vI r, vI n, vI (hs 2016), vI ah, vI (mOnes (mSlips w hs r)), vI (gB (¬ how = 0)), vI (gB (¬ how = 2))])) w hs si lo bk uW uH uB iL iS tp td fk fp my wd uN) := hX.all x1.new (FR.new x1 (fun b hb => upO_lt hb))
  obtain ⟨y1, y2, y3, ⟨t2, z1, z2, z3, ⟨bb, hL, hB⟩, z5⟩, y5, y6, y7⟩ := id hX2
  obtain ⟨ar, cap, mo, g, -, hl, -⟩ := id hL
  have cA := c_LAdd (d := d) (v := h.2) hL y1 (by decide) (Or.inr ⟨_, hnew_at⟩) upO_at (fun i q1 q2 => ⟨Or.inr ⟨_, (hB i q1 q2).2⟩, (hB i q1 q2).1⟩) (by omega)
  refine g_aload_n (q := 40) dX0_notes_39 rfl rfl ?_
  refine g_get (C := RX0) (T := TX0) (ci := 0) (k := 1) (q := 43) dX0_notes_40 q519 rfl in_X0 (by decide) hC rfl rfl ?_
  refine g_getN (C := RX1) (T := TX1) (ci := 1) (k := 2) (q := 46) dX0_notes_43 q482 rfl in_X1 (by decide) s1.2.1 rfl rfl ?_
  refine g_new (C := RX16) (T := TX16) (N := 7) (ci := 17) (rc := 1) (rs := 200) (fs := [vI 0, vI 0, vI 0, vI 0, vI 0, vI 0, vI 0]) (q := 49) dX0_notes_46 q1095 q1096 q115 rfl in_X16 tyX16_ok (by decide) rfl ?_
  refine g_dup (q := 50) dX0_notes_49 rfl ?_
  refine g_iload_n (q := 51) dX0_notes_50 rfl rfl ?_
  refine g_iload_n (q := 52) dX0_notes_51 rfl rfl ?_
  refine g_aload_n (q := 53) dX0_notes_52 rfl rfl ?_
  refine g_get (C := RX0) (T := TX0) (ci := 0) (k := 1) (q := 56) dX0_notes_53 q519 rfl in_X0 (by decide) hC1 rfl rfl ?_
  refine g_getN (C := RX1) (T := TX1) (ci := 1) (k := 4) (q := 59) dX0_notes_56 q486 rfl in_X1 (by decide) s11.2.1 rfl rfl ?_
  refine g_getN (C := RX3) (T := TX3) (ci := 4) (k := 3) (q := 62) dX0_notes_59 q455 rfl in_X3 (by decide) s51.2.ob rfl rfl ?_
  refine g_iload_n (q := 63) dX0_notes_62 rfl rfl ?_
  refine g_aload_n (q := 64) dX0_notes_63 rfl rfl ?_
  refine g_iload_n (q := 65) dX0_notes_64 rfl rfl ?_
  refine g_cv (I' := iX0_slipMany) (mc := 0) (ms := 0) (rc := 1) (rs := 200) (ci := 0) (q := 68) dX0_notes_65 q988 q990 rfl qs27 gcX0_slipMany hC1 (GO.deep (c_slipMany (d := 0) hX1 hw hh hr hr1) (by omega)) rfl rfl ?_
  refine g_iload (q := 70) dX0_notes_68 rfl rfl ?_
  refine g_iload (q := 72) dX0_notes_70 rfl rfl ?_
  refine g_ci (I' := iX16_init) (mc := 0) (ms := 0) (rc := 1) (rs := 200) (q := 75) dX0_notes_72 q1097 q1098 rfl q1099 gcX16_init (GO.deep (c_sitting0 (d := 0) hnew_at gB_01 gB_01) (by omega)) rfl rfl ?_
  rw [hnew_set]
  refine g_cfP (I' := iJ2_add) (mc := 1) (ms := 200) (rc := 0) (rs := 0) (ci := 3) (q := 80) dX0_notes_75 q1131 q859 q858 q863 q861 q712 (by decide) gcJ2_add.2.1 q862 rfl q860 gcJ2_add hl (cA) rfl rfl (fun v75 k75 z75 => ?_)
  obtain ⟨rfl, ow2, hL2, hh2, hF2, -⟩ := z75
  obtain ⟨⟨a1, a2⟩, a3, gu, a4, a5⟩ := z1.fr hF2 (by decide)
  have y3' := y3.fr hF2 (by decide)
  obtain ⟨-, bl3, -, -, -, hC3, -⟩ := id y3'
  refine g_pop (q := 81) dX0_notes_80 rfl ?_
  refine g_aload_n (q := 82) dX0_notes_81 rfl rfl ?_
  refine g_get (C := RX0) (T := TX0) (ci := 0) (k := 1) (q := 85) dX0_notes_82 q519 rfl in_X0 (by decide) hC3 rfl rfl ?_
  refine g_getN (C := RX1) (T := TX1) (ci := 1) (k := 3) (q := 88) dX0_notes_85 q484 rfl in_X1 (by decide) a3 rfl rfl ?_
  refine g_iload_n (q := 89) dX0_notes_88 rfl rfl ?_
  refine g_dup2 (q := 90) dX0_notes_89 rfl ?_
  refine g_iald (q := 91) dX0_notes_90 a4 (by omega) (by omega) rfl ?_
  refine g_iload_n (q := 92) dX0_notes_91 rfl rfl ?_
  refine g_iadd (q := 93) dX0_notes_92 rfl ?_
  refine g_iast (q := 94) dX0_notes_93 a4 (by omega) (by omega)  rfl ?_
  exact g_vret dX0_notes_94 rfl (by
refine hQ _ ow2 ?_
have hF3 : FR ow2 ow2 k75 (hset k75 (x + 2 + 13) (aI E 12 (upI gu r (gu r + n)))) (fun i => i ≠ 10) := FR.set a2
have e2 : usedI w r n 2 = w 2 := usedI_ne hr (by omega)
have e9 : usedI w r n 9 = w 9 := usedI_ne hr (by omega)
have es : stO (x + 2) t2 (usedI w r n) lo = stO (x + 2) t2 w lo := by unfold stO; rw [gB_i (show ¬ usedI w r n 2 = usedI w r n 9 ↔ ¬ w 2 = w 9 by rw [e2, e9])]
refine XR.now hX2 (hh2.set a4) ((hF2.sub (fun i q => by omega)).trans (hF3.sub (fun i q => by omega))) ⟨t2, ⟨⟨a1, a2⟩, ?_, _, hset_at, fun q q1 q2 => ?_⟩, ?_, ?_, ?_, ?_⟩
· rw [es]; exact (hset_ne (by omega)).trans a3
· rw [e2]
  by_cases z : q = r
  · subst z; rw [upI_at, a5 q q1 q2, if_pos hr1, if_pos hr1, usedI_at]
  · rw [upI_ne z, a5 q q1 q2, usedI_ne hr (by omega)]
· exact fun kn => ((((z2 kn).fr hF2 (by decide)).fr hF3 (by decide)).w (AGT.used (by omega)) hw)
· obtain ⟨rr, hLr, hRr⟩ := (z3.fr hF2 (by decide) (by decide)).fr hF3 (by decide) (by decide)
  exact ⟨rr, by rw [e2]; exact hLr, fun q q1 q2 => by
    rw [e2] at q2
    exact (hRr q q1 q2).w (fun j j1 j2 => usedI_ne hr (by by_cases z : q = r; (subst z; omega); omega)) (hw.row q1 q2).2⟩
· refine ⟨upI bb si h.2, hL2.fr hF3 (by decide), fun i q1 q2 => ?_⟩
  by_cases z : i = si
  · subst z
    rw [upI_at, sitO_at]
    exact hF3.at (hF2.at (o := 0) upO_at (by decide) hnew_at).1 (by decide) (hF2.at (o := 0) upO_at (by decide) hnew_at).2
  · rw [upI_ne z, sitO_ne (by omega)]
    have q3 := hB i q1 (by omega)
    have q4 := hF2.at q3.1 (by decide) q3.2
    exact hF3.at q4.1 (by decide) q4.2
· exact (z5.fr hF2 (by decide)).fr hF3 (by decide))
end
