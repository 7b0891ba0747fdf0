/-! THE COMPONENT: fit -/
set_option maxRecDepth 100000
section
variable {E : gE} {n m t t' : Nat} {g : Int → Int} {f f' : Int → Option Nat} {ci : Nat} {fs : List Value}
theorem aI_aR : aI E n g ≠ aR E t m f := fun z => by unfold aI aR at z; simp at z
theorem oB_aR : oB ci fs ≠ aR E t m f := fun z => by unfold oB aR at z; simp at z
theorem aR_len (z : aR E t n f = aR E t' m f') : n = m := by unfold aR at z; simp at z; exact z.2.1
end
/-- a text, its parts named -/
def TXW (E : gE) (av : Nat → Prop) (h : Nat → Option va_E) (w : Int → Int) (kl kn : Int) (t te tl tw tz : Nat) (tw2 : Int → Nat) (lw : Int → Int → Option Nat) (ge gl : Int → Int) (hd : Int) : Prop :=
  (¬ av t ∧ ¬ av te ∧ ¬ av tl ∧ ¬ av tw ∧ ∀ k, 0 ≤ k → k < 3 → ¬ av (tw2 k)) ∧
    h t = some (oB 2 [.ref te, .ref tl, .ref tw, .ref tz, vI (w 1), vI (w 4), vI (w 0), vI hd]) ∧ (h te = some (aI E 24 ge) ∧ ∀ j, 0 ≤ j → j < 24 → ge j = w (10 + j)) ∧ (h tl = some (aI E 4 gl) ∧ ∀ j, 0 ≤ j → j < 4 → gl j = w (5 + j)) ∧
    h tw = some (aR E 9 3 (fun k => some (tw2 k))) ∧ (∀ k, 0 ≤ k → k < 3 → h (tw2 k) = some (aR E 8 4 (lw k))) ∧ (∀ k s, 0 ≤ k → k < 3 → 0 ≤ s → s < 4 → LAWC av h w kl kn k s (lw k s)) ∧ ∀ k k', 0 ≤ k → k < 3 → 0 ≤ k' → k' < 3 → k ≠ k' → tw2 k ≠ tw2 k'
theorem TXW.txt {E : gE} {av : Nat → Prop} {h : Nat → Option va_E} {w : Int → Int} {kl kn : Int} {t te tl tw tz : Nat} {tw2 : Int → Nat} {lw : Int → Int → Option Nat} {ge gl : Int → Int} {hd : Int} (hT : TXW E av h w kl kn t te tl tw tz tw2 lw ge gl hd) : TXT E av h w kl kn t := ⟨te, tl, tw, tz, tw2, lw, ge, gl, hd, hT⟩
theorem TXW.fr {E : gE} {ow ow' : OW} {h h' : gH} {w : Int → Int} {kl kn : Int} {t te tl tw tz : Nat} {tw2 : Int → Nat} {lw : Int → Int → Option Nat} {ge gl : Int → Int} {hd : Int} {p : Nat → Prop} (hT : TXW E (imm ow) h.1 w kl kn t te tl tw tz tw2 lw ge gl hd) (hF : FR ow ow' h h' p) (h0 : p 0) : TXW E (imm ow') h'.1 w kl kn t te tl tw tz tw2 lw ge gl hd := by
  obtain ⟨⟨n1, n2, n3, n4, n5⟩, ct, ⟨cte, hge⟩, ⟨ctl, hgl⟩, ctw, ctw2, hl, hij⟩ := hT
  obtain ⟨m1, e1⟩ := hF.at0 h0 n1 ct
  obtain ⟨m2, e2⟩ := hF.at0 h0 n2 cte
  obtain ⟨m3, e3⟩ := hF.at0 h0 n3 ctl
  obtain ⟨m4, e4⟩ := hF.at0 h0 n4 ctw
  exact ⟨⟨m1, m2, m3, m4, fun k q1 q2 => (hF.at0 h0 (n5 k q1 q2) (ctw2 k q1 q2)).1⟩, e1, ⟨e2, hge⟩, ⟨e3, hgl⟩, e4, fun k q1 q2 => (hF.at0 h0 (n5 k q1 q2) (ctw2 k q1 q2)).2, fun k s q1 q2 q3 q4 => LAWC.fr hF h0 _ (hl k s q1 q2 q3 q4), hij⟩
section
variable {E : gE} {av : Nat → Prop} {h : gH} {c : Nat} {f0 F : Int → Option Nat} {w : Int → Int} {ow : OW} {m : Nat}
/-- a write into a row of laws leaves what is no such row -/
theorem set_nc (hc : h.1 c = some (aR E 8 4 f0)) {b : Nat} {v : va_E} (hb : h.1 b = some v) (hv : ∀ f', v ≠ aR E 8 4 f') {u : va_E} : (hset h c u).1 b = some v := by
  refine (hset_ne fun z => ?_).trans hb
  rw [z] at hb
  exact hv f0 (Option.some.inj (hb.symm.trans hc))
theorem SUMg.nc (hc : h.1 c = some (aR E 8 4 f0)) {u : va_E} : ∀ (n a : Nat) (f : SF), SUMg av h.1 n a f → SUMg av (hset h c u).1 n a f := by
  intro n
  induction n with
  | zero => intro a f hS; exact hS.elim
  | succ n ih =>
    intro a f hS
    obtain ⟨q0, hS⟩ := hS
    refine ⟨q0, ?_⟩
    rcases hS with ⟨c', hc', r⟩ | ⟨w, hc', r⟩ | ⟨x, y, f1, f2, s1, s2, h3⟩
    · exact Or.inl ⟨c', set_nc hc hc' (fun f' => oB_aR), r⟩
    · exact Or.inr (Or.inl ⟨w, set_nc hc hc' (fun f' => oB_aR), r⟩)
    · refine Or.inr (Or.inr ⟨x, y, f1, f2, ih x f1 s1, ih y f2 s2, ?_⟩)
      rcases h3 with ⟨hc', r⟩ | ⟨hc', r⟩ | ⟨l, hl, hc', r⟩
      · exact Or.inl ⟨set_nc hc hc' (fun f' => oB_aR), r⟩
      · exact Or.inr (Or.inl ⟨set_nc hc hc' (fun f' => oB_aR), r⟩)
      · exact Or.inr (Or.inr ⟨l, hl, set_nc hc hc' (fun f' => oB_aR), r⟩)
theorem comes_kl {hs : Int → Int} {kl kn kn' law has ea : Int} (h1 : law ≠ kl) (h2 : 0 ≤ law) : comes w hs kl kn law has ea = comes w hs (-1) kn' law has ea := by
  unfold comes
  rw [if_neg h1, if_neg (by omega)]
theorem TXW.fit {t te tl tw tz : Nat} {tw2 : Int → Nat} {lw : Int → Int → Option Nat} {ge gl : Int → Int} {hd l s n : Int} {am : Nat} (hT : TXW E av h.1 w (-1) 0 t te tl tw tz tw2 lw ge gl hd) (hl : 0 ≤ l ∧ l ≤ 1) (hs : 0 ≤ s ∧ s ≤ 3) (hn : 0 ≤ n ∧ n ≤ 1000) (ham : h.1 am = some (oB 12 [vI n])) (hav : ¬ av am) {y : Option Nat} :
    TXT E av (hset h (tw2 l) (aR E 8 4 (upI (lw l) s (some am)))).1 w (4 * l + s) n t := by
  obtain ⟨hn0, ct, ⟨cte, hge⟩, ⟨ctl, hgl⟩, ctw, ctw2, hL, hij⟩ := hT
  have hc := ctw2 l hl.1 (by omega)
  refine ⟨te, tl, tw, tz, tw2, fun k => if k = l then upI (lw l) s (some am) else lw k, ge, gl, hd, hn0, set_nc hc ct (fun f' => oB_aR), ⟨set_nc hc cte (fun f' => aI_aR), hge⟩, ⟨set_nc hc ctl (fun f' => aI_aR), hgl⟩, set_nc hc ctw (fun f' z => by have := aR_len z; omega), fun k q1 q2 => ?_, fun k s' q1 q2 q3 q4 => ?_, hij⟩
  · show _ = some (aR E 8 4 (if k = l then upI (lw l) s (some am) else lw k))
    by_cases e : k = l
    · rw [if_pos e, e]; exact hset_at
    · rw [if_neg e]; exact (hset_ne (hij k l q1 q2 hl.1 (by omega) e)).trans (ctw2 k q1 q2)
  · by_cases e : k = l ∧ s' = s
    · obtain ⟨rfl, rfl⟩ := e
      show LAWC av _ w (4 * k + s') n k s' ((if k = k then upI (lw k) s' (some am) else lw k) s')
      rw [if_pos rfl, upI_at]
      refine ⟨1, sAmt n, by decide, ⟨hav, Or.inl ⟨n, set_nc hc ham (fun f' => oB_aR), hn, rfl⟩⟩, fun hs' B has ea _ _ _ _ => ⟨fun z => by omega, ?_⟩⟩
      unfold comes
      rw [if_pos (by unfold lawN; rw [if_neg (by omega)])]
      rfl
    · have el : ((fun k => if k = l then upI (lw l) s (some am) else lw k) k) s' = lw k s' := by
        show (if k = l then upI (lw l) s (some am) else lw k) s' = lw k s'
        by_cases e2 : k = l
        · rw [if_pos e2, upI_ne (fun z => e ⟨e2, z⟩), e2]
        · rw [if_neg e2]
      rw [el]
      have hk := hL k s' q1 q2 q3 q4
      have hlaw : lawN k s' ≠ 4 * l + s ∧ 0 ≤ lawN k s' := by
        unfold lawN
        split <;> omega
      cases e3 : lw k s' with
      | none =>
        rw [e3] at hk
        exact fun hs' B has ea z1 z2 z3 z4 z5 => (comes_kl hlaw.1 hlaw.2).trans (hk hs' B has ea z1 z2 z3 z4 z5)
      | some a =>
        rw [e3] at hk
        obtain ⟨n', f, hn', hS, hcm⟩ := hk
        exact ⟨n', f, hn', SUMg.nc hc n' a f hS, fun hs' B has ea z1 z2 z3 z4 => ⟨(hcm hs' B has ea z1 z2 z3 z4).1, (comes_kl hlaw.1 hlaw.2).trans (hcm hs' B has ea z1 z2 z3 z4).2⟩⟩
/-- a sum may lie in a row of sums -/
theorem SUMg.any {n a : Nat} {f : SF} {I : gI} {k : gH} (hS : SUMg av h.1 n a f) (hk : ∀ b ci fs, h.1 b = some (oB ci fs) → k.1 b = some (oB ci fs)) : gAny E I "NonsenseRows$Sum" k a := by
  cases n with
  | zero => exact hS.elim
  | succ n =>
    rcases hS.2 with ⟨c', hc', -⟩ | ⟨w, hc', -⟩ | ⟨x, y, f1, f2, -, -, ⟨hc', -⟩ | ⟨hc', -⟩ | ⟨l, -, hc', -⟩⟩
    · exact gAny.obj (r := (RX10, TX10, 1)) (hk _ _ _ hc') rfl q1942
    · exact gAny.obj (r := (RX11, TX11, 1)) (hk _ _ _ hc') rfl q1943
    · exact gAny.obj (r := (RX13, TX13, 2)) (hk _ _ _ hc') rfl q1945
    · exact gAny.obj (r := (RX14, TX14, 2)) (hk _ _ _ hc') rfl q1944
    · exact gAny.obj (r := (RX15, TX15, 3)) (hk _ _ _ hc') rfl q1946
end
section
variable {E : gE} {d rc rs x : Nat} {mf : Nat → va_E} {ow : OW} {h : gH} {w hs bk tp iL iS my wd : Int → Int} {uW uH uB uN : Int → Int → Int} {si lo td fk fp : Int}
variable {r v n B kn i s l low high m : Int} {ra t te tl tw tz : Nat} {tw2 : Int → Nat} {lw : Int → Int → Option Nat} {ge gl : Int → Int} {hd : Int} {k h' : gH} {ow' : OW} {Q : Outcome → gH → Prop}
theorem XVW.nc {c : Nat} {f0 : Int → Option Nat} {u : va_E} (hV : XVW E x ow h t w lo si bk td fk fp) (hc : h.1 c = some (aR E 8 4 f0)) (h0 : ow c = 0) : XVW E x ow (hset h c u) t w lo si bk td fk fp := by
  obtain ⟨hw, ⟨bl, hC⟩, hO, ⟨rr, hL, hR⟩, ⟨bb, hLb, hB⟩⟩ := hV
  have hF : FR ow ow h (hset h c u) (fun i => i ≠ 0) := FR.set h0
  refine ⟨hw, ⟨bl, set_nc hc hC (fun f' => oB_aR)⟩, set_nc hc hO (fun f' => oB_aR), ⟨rr, hL.fr hF (by decide), fun r q1 q2 => ?_⟩, ⟨bb, hLb.fr hF (by decide), fun i q1 q2 => ⟨(hB i q1 q2).1, set_nc hc (hB i q1 q2).2 (fun f' => oB_aR)⟩⟩⟩
  obtain ⟨z1, g, z2, z3⟩ := hR r q1 q2
  exact ⟨z1, g, set_nc hc z2 (fun f' => aI_aR), z3⟩
theorem XVW.of (hX : (XR E x mf ow h w hs si lo bk uW uH uB iL iS tp td fk fp my wd uN)) (ht : S_O E ow h 0 (x + 2) t w lo) : XVW E x ow h t w lo si bk td fk fp := by
  obtain ⟨-, -, ⟨w3, bl, -, -, -, hC, -⟩, ⟨t', s1, -, s3, s4, -⟩, -⟩ := hX
  exact ⟨⟨w3.1, ht.1.1⟩, ⟨bl, hC⟩, ht.2.1, s3, s4⟩
/-- the laws tried one after the other: head at 135 -/
theorem l_fitX (hX : (XR E x mf ow h w hs si lo bk uW uH uB iL iS tp td fk fp my wd uN)) (hO : S_O E ow h 0 (x + 2) t w lo) (hT : TXW E (imm ow) h.1 w (-1) 0 t te tl tw tz tw2 lw ge gl hd) (hw : WFw w) (hs00 : 0 ≤ si ∧ si ≤ 60) (hok : BKok w bk si) (hl : 0 ≤ l ∧ l ≤ 1) (hs0 : 0 ≤ s ∧ s ≤ 3) (hlow : 0 ≤ low ∧ low ≤ high) (hhigh : 0 ≤ high ∧ high ≤ 1000) (hv : 0 ≤ v ∧ v ≤ 2) {P : Int × Int × Int} :
    ∀ (f : Nat) (n : Int) (p : Int × Int × Int) (ow1 : OW) (kb : gH) (y : Option Nat) (x11 : Option Value), low ≤ n → n + f = high + 1 → (XR E x mf ow1 kb w hs si lo bk uW uH uB iL iS tp td fk fp my wd uN) → FR ow ow1 h kb (fun i => i ≠ 2) → (0 ≤ p.1 ∧ p.1 ≤ n) → (-1 ≤ p.2.1 ∧ p.2.1 ≤ 1000) → (-1 ≤ p.2.2 ∧ p.2.2 ≤ 1000) → ftL w bk (4 * l + s) si f n p = P →
    GO E iX0_fit (d + 1305) f f 135 [some (.ref x), some (vI l), some (vI s), some (vI low), some (vI high), some (vI v), some (va_rf (lw l s)), some (vI p.1), some (vI p.2.1), some (vI p.2.2), some (vI n), x11] [] (hset kb (tw2 l) (aR E 8 4 (upI (lw l) s y))) (qP fun o k => o = vI (pick3 v P) ∧ ∃ ow', (XR E x mf ow' k w hs si lo bk uW uH uB iL iS tp td fk fp my wd uN)) := by
  intro f
  induction f with
  | zero =>
    intro n p ow1 kb y x11 q0 q1 hXb hF q3 q4 q5 q6
    obtain rfl : p = P := q6
    have hT1 := hT.fr hF (by decide)
    obtain ⟨⟨n1, n2, n3, n4, n5⟩, ct, -, -, ctw, ctw2, hL, -⟩ := id hT1
    have hc := ctw2 l hl.1 (by omega)
    have hO1 := hO.fr hF (by decide)
    obtain ⟨y1, -, ⟨-, bl, -, -, -, hC, -⟩, -⟩ := id hXb
    have fin : ∀ u, hset (hset kb (tw2 l) u) (tw2 l) (aR E 8 4 (upI (upI (lw l) s y) s (lw l s))) = kb := fun u => by
      rw [hset_hset, show upI (upI (lw l) s y) s (lw l s) = lw l from funext fun j => by by_cases z : j = s; (subst z; rw [upI_at]); rw [upI_ne z, upI_ne z]]
      exact hset_self hc
    cases eo : lw l s with
    | none =>
      rw [eo] at fin
      refine g_iload (q := 137) dX0_fit_135 rfl rfl ?_
      refine g_iload (q := 139) dX0_fit_137 rfl rfl ?_
      refine g_icmp_gt (t := 203) (q := 142) dX0_fit_139 (by decide) rfl (by first | assumption | exact in32_gB | exact in32_gCmp | (unfold in32; omega)) (by first | assumption | exact in32_gB | exact in32_gCmp | (unfold in32; omega)) (fun c139 => ?_) (fun c139 => ?_)
      · refine g_aload_n (q := 204) dX0_fit_203 rfl rfl ?_
        refine g_get (C := RX0) (T := TX0) (ci := 0) (k := 1) (q := 207) dX0_fit_204 q519 rfl in_X0 (by decide) (set_nc hc hC (fun f' => oB_aR)) rfl rfl ?_
        refine g_getN (C := RX1) (T := TX1) (ci := 1) (k := 0) (q := 210) dX0_fit_207 q478 rfl in_X1 (by decide) (set_nc hc hO1.2.1 (fun f' => oB_aR)) rfl rfl ?_
        refine g_getN (C := RX2) (T := TX2) (ci := 2) (k := 2) (q := 213) dX0_fit_210 q356 rfl in_X2 (by decide) (set_nc hc ct (fun f' => oB_aR)) rfl rfl ?_
        refine g_iload_n (q := 214) dX0_fit_213 rfl rfl ?_
        refine g_aald (t0 := 9) (q := 215) dX0_fit_214 (set_nc hc ctw (fun f' z => by have := aR_len z; omega)) rfl rfl (by omega) (by omega) rfl ?_
        refine g_iload_n (q := 216) dX0_fit_215 rfl rfl ?_
        refine g_aload (q := 218) dX0_fit_216 rfl rfl ?_
        refine g_aastN (q := 219) (t0 := 8) (C := "NonsenseRows$Sum") dX0_fit_218 hset_at rfl (by omega) (by omega) rfl ?_
        refine GO.cast (fin _) ?_
        refine g_goto (t := 243) dX0_fit_219 (by decide) ?_
        refine g_iload (q := 245) dX0_fit_243 rfl rfl ?_
        refine g_if_ne (t := 253) (q := 248) dX0_fit_245 (by decide) rfl (by first | assumption | exact in32_gB | exact in32_gCmp | (unfold in32; omega)) (fun c245 => ?_) (fun c245 => ?_)
        · refine g_iload (q := 255) dX0_fit_253 rfl rfl ?_
          refine g_iconst (q := 256) dX0_fit_255 rfl ?_
          refine g_icmp_ne (t := 264) (q := 259) dX0_fit_256 (by decide) rfl (by first | assumption | exact in32_gB | exact in32_gCmp | (unfold in32; omega)) (by first | assumption | exact in32_gB | exact in32_gCmp | (unfold in32; omega)) (fun c256 => ?_) (fun c256 => ?_)
          · refine g_iload (q := 266) dX0_fit_264 rfl rfl ?_
            exact g_iret dX0_fit_266 rfl ⟨_, rfl, congrArg vI (by unfold pick3; first | rw [if_pos c245] | rw [if_neg c245, if_pos c256] | rw [if_neg c245, if_neg c256]), ow1, hXb⟩
          · refine g_iload (q := 261) dX0_fit_259 rfl rfl ?_
            refine g_goto (t := 266) dX0_fit_261 (by decide) ?_
            exact g_iret dX0_fit_266 rfl ⟨_, rfl, congrArg vI (by unfold pick3; first | rw [if_pos c245] | rw [if_neg c245, if_pos c256] | rw [if_neg c245, if_neg c256]), ow1, hXb⟩
        · refine g_iload (q := 250) dX0_fit_248 rfl rfl ?_
          refine g_goto (t := 266) dX0_fit_250 (by decide) ?_
          exact g_iret dX0_fit_266 rfl ⟨_, rfl, congrArg vI (by unfold pick3; first | rw [if_pos c245] | rw [if_neg c245, if_pos c256] | rw [if_neg c245, if_neg c256]), ow1, hXb⟩
      · exact absurd c139 (by omega)
    | some a =>
      rw [eo] at fin
      have hLa := hL l s hl.1 (by omega) hs0.1 (by omega)
      rw [eo] at hLa
      obtain ⟨nn, ff, -, hSS, -⟩ := hLa
      refine g_iload (q := 137) dX0_fit_135 rfl rfl ?_
      refine g_iload (q := 139) dX0_fit_137 rfl rfl ?_
      refine g_icmp_gt (t := 203) (q := 142) dX0_fit_139 (by decide) rfl (by first | assumption | exact in32_gB | exact in32_gCmp | (unfold in32; omega)) (by first | assumption | exact in32_gB | exact in32_gCmp | (unfold in32; omega)) (fun c139 => ?_) (fun c139 => ?_)
      · refine g_aload_n (q := 204) dX0_fit_203 rfl rfl ?_
        refine g_get (C := RX0) (T := TX0) (ci := 0) (k := 1) (q := 207) dX0_fit_204 q519 rfl in_X0 (by decide) (set_nc hc hC (fun f' => oB_aR)) rfl rfl ?_
        refine g_getN (C := RX1) (T := TX1) (ci := 1) (k := 0) (q := 210) dX0_fit_207 q478 rfl in_X1 (by decide) (set_nc hc hO1.2.1 (fun f' => oB_aR)) rfl rfl ?_
        refine g_getN (C := RX2) (T := TX2) (ci := 2) (k := 2) (q := 213) dX0_fit_210 q356 rfl in_X2 (by decide) (set_nc hc ct (fun f' => oB_aR)) rfl rfl ?_
        refine g_iload_n (q := 214) dX0_fit_213 rfl rfl ?_
        refine g_aald (t0 := 9) (q := 215) dX0_fit_214 (set_nc hc ctw (fun f' z => by have := aR_len z; omega)) rfl rfl (by omega) (by omega) rfl ?_
        refine g_iload_n (q := 216) dX0_fit_215 rfl rfl ?_
        refine g_aload (q := 218) dX0_fit_216 rfl rfl ?_
        refine g_aast (q := 219) (v := a) (t0 := 8) (C := "NonsenseRows$Sum") dX0_fit_218 hset_at rfl (SUMg.any hSS (fun b ci fs hb => set_nc hc hb (fun f' => oB_aR))) (by omega) (by omega) rfl ?_
        refine GO.cast (fin _) ?_
        refine g_goto (t := 243) dX0_fit_219 (by decide) ?_
        refine g_iload (q := 245) dX0_fit_243 rfl rfl ?_
        refine g_if_ne (t := 253) (q := 248) dX0_fit_245 (by decide) rfl (by first | assumption | exact in32_gB | exact in32_gCmp | (unfold in32; omega)) (fun c245 => ?_) (fun c245 => ?_)
        · refine g_iload (q := 255) dX0_fit_253 rfl rfl ?_
          refine g_iconst (q := 256) dX0_fit_255 rfl ?_
          refine g_icmp_ne (t := 264) (q := 259) dX0_fit_256 (by decide) rfl (by first | assumption | exact in32_gB | exact in32_gCmp | (unfold in32; omega)) (by first | assumption | exact in32_gB | exact in32_gCmp | (unfold in32; omega)) (fun c256 => ?_) (fun c256 => ?_)
          · refine g_iload (q := 266) dX0_fit_264 rfl rfl ?_
            exact g_iret dX0_fit_266 rfl ⟨_, rfl, congrArg vI (by unfold pick3; first | rw [if_pos c245] | rw [if_neg c245, if_pos c256] | rw [if_neg c245, if_neg c256]), ow1, hXb⟩
          · refine g_iload (q := 261) dX0_fit_259 rfl rfl ?_
            refine g_goto (t := 266) dX0_fit_261 (by decide) ?_
            exact g_iret dX0_fit_266 rfl ⟨_, rfl, congrArg vI (by unfold pick3; first | rw [if_pos c245] | rw [if_neg c245, if_pos c256] | rw [if_neg c245, if_neg c256]), ow1, hXb⟩
        · refine g_iload (q := 250) dX0_fit_248 rfl rfl ?_
          refine g_goto (t := 266) dX0_fit_250 (by decide) ?_
          exact g_iret dX0_fit_266 rfl ⟨_, rfl, congrArg vI (by unfold pick3; first | rw [if_pos c245] | rw [if_neg c245, if_pos c256] | rw [if_neg c245, if_neg c256]), ow1, hXb⟩
      · exact absurd c139 (by omega)
  | succ f ih =>
    intro n p ow1 kb y x11 q0 q1 hXb hF q3 q4 q5 q6
    have hT1 := hT.fr hF (by decide)
    obtain ⟨⟨n1, n2, n3, n4, n5⟩, ct, -, -, ctw, ctw2, -, -⟩ := id hT1
    have hc := ctw2 l hl.1 (by omega)
    have hc0 := imm_0 (n5 l hl.1 (by omega))
    have hO1 := hO.fr hF (by decide)
    obtain ⟨y1, -, ⟨-, bl, -, -, -, hC, -⟩, -⟩ := id hXb
    have hltc := y1 _ _ hc
    -- the new law
    have hXa : (XR E x mf (upO ow1 kb.2 0) (hnew kb (oB 12 [vI n])) w hs si lo bk uW uH uB iL iS tp td fk fp my wd uN) := hXb.all y1.new (FR.new y1 (fun b hb => upO_lt hb))
    have hFa : FR ow (upO ow1 kb.2 0) h (hnew kb (oB 12 [vI n])) (fun i => i ≠ 2) := hF.trans (FR.new y1 (fun b hb => upO_lt hb))
    have hTa := hT.fr hFa (by decide)
    have hOa := hO.fr hFa (by decide)
    obtain ⟨⟨m1, m2, m3, m4, m5⟩, ct1, -, -, ctw1, ctw21, -, -⟩ := id hTa
    have hca := ctw21 l hl.1 (by omega)
    have hca0 := imm_0 (m5 l hl.1 (by omega))
    obtain ⟨z1, -, ⟨-, bla, -, -, -, hCa, -⟩, -, -, ⟨w6, tx6, hs6, d6⟩, -⟩ := id hXa
    have hTn := TXW.fit (h := hnew kb (oB 12 [vI n])) (am := kb.2) (n := n) (y := y) hTa hl hs0 (by omega) hnew_at (imm_n upO_at)
    have hVn := (XVW.of hXa hOa).nc (u := aR E 8 4 (upI (lw l) s (some kb.2))) hca hca0
    obtain ⟨w6n, d6n⟩ := d6.fr w6 (FR.set (v := aR E 8 4 (upI (lw l) s (some kb.2))) hca0) (by decide)
    have cR := c_replaysX (d := d) hVn w6n d6n hTn hw (by unfold in32; omega) hs00 hok
    have eh : hset (hnew (hset kb (tw2 l) (aR E 8 4 (upI (lw l) s y))) (oB 12 [vI n])) (tw2 l) (aR E 8 4 (upI (upI (lw l) s y) s (some kb.2))) = hset (hnew kb (oB 12 [vI n])) (tw2 l) (aR E 8 4 (upI (lw l) s (some kb.2))) := by
      rw [show upI (upI (lw l) s y) s (some kb.2) = upI (lw l) s (some kb.2) from funext fun j => by by_cases z : j = s; (subst z; rw [upI_at, upI_at]); rw [upI_ne z, upI_ne z, upI_ne z]]
      refine Prod.ext (funext fun b => ?_) rfl
      show (if b = tw2 l then _ else if b = kb.2 then _ else if b = tw2 l then _ else kb.1 b) = if b = tw2 l then _ else if b = kb.2 then _ else kb.1 b
      by_cases z : b = tw2 l
      · rw [if_pos z, if_pos z]
      · rw [if_neg z, if_neg z, if_neg z]
    have hnew1 : ∀ b v, kb.1 b = some v → (∀ f', v ≠ aR E 8 4 f') → ∀ u u', (hnew (hset kb (tw2 l) u) u').1 b = some v := fun b v hb hv' u u' => by
      have := y1 _ _ hb
      exact (hnew_ne (by show b ≠ kb.2; omega)).trans (set_nc hc hb hv')
    unfold ftL at q6
    refine g_iload (q := 137) dX0_fit_135 rfl rfl ?_
    refine g_iload (q := 139) dX0_fit_137 rfl rfl ?_
    refine g_icmp_gt (t := 203) (q := 142) dX0_fit_139 (by decide) rfl (by first | assumption | exact in32_gB | exact in32_gCmp | (unfold in32; omega)) (by first | assumption | exact in32_gB | exact in32_gCmp | (unfold in32; omega)) (fun c139 => ?_) (fun c139 => ?_)
    · exact absurd c139 (by omega)
    · refine g_aload_n (q := 143) dX0_fit_142 rfl rfl ?_
      refine g_get (C := RX0) (T := TX0) (ci := 0) (k := 1) (q := 146) dX0_fit_143 q519 rfl in_X0 (by decide) (set_nc hc hC (fun f' => oB_aR)) rfl rfl ?_
      refine g_getN (C := RX1) (T := TX1) (ci := 1) (k := 0) (q := 149) dX0_fit_146 q478 rfl in_X1 (by decide) (set_nc hc hO1.2.1 (fun f' => oB_aR)) rfl rfl ?_
      refine g_getN (C := RX2) (T := TX2) (ci := 2) (k := 2) (q := 152) dX0_fit_149 q356 rfl in_X2 (by decide) (set_nc hc ct (fun f' => oB_aR)) rfl rfl ?_
      refine g_iload_n (q := 153) dX0_fit_152 rfl rfl ?_
      refine g_aald (t0 := 9) (q := 154) dX0_fit_153 (set_nc hc ctw (fun f' z => by have := aR_len z; omega)) rfl rfl (by omega) (by omega) rfl ?_
      refine g_iload_n (q := 155) dX0_fit_154 rfl rfl ?_
      refine g_new (C := RX10) (T := TX10) (N := 1) (ci := 12) (rc := f) (rs := f) (fs := [vI 0]) (q := 158) dX0_fit_155 q1278 q780 q104 rfl in_X10 tyX10_ok (by decide) rfl ?_
      refine g_dup (q := 159) dX0_fit_158 rfl ?_
      refine g_iload (q := 161) dX0_fit_159 rfl rfl ?_
      refine g_ci (I' := iX10_init) (mc := 0) (ms := 0) (rc := f) (rs := f) (q := 164) dX0_fit_161 q1279 q787 rfl q788 gcX10_init (GO.deep (c_amount (d := 0) hnew_at) (by omega)) rfl rfl ?_
      rw [hnew_set]
      refine g_aast (q := 165) (t0 := 8) (C := "NonsenseRows$Sum") dX0_fit_164 ((hnew_ne (by show tw2 l ≠ kb.2; omega)).trans hset_at) rfl (gAny.obj (r := (RX10, TX10, 1)) hnew_at rfl q1942) (by omega) (by omega) rfl ?_
      refine GO.cast eh ?_
      refine g_aload_n (q := 166) dX0_fit_165 rfl rfl ?_
      refine g_cvP (I' := iX0_replays) (mc := 0) (ms := 0) (rc := f) (rs := f) (ci := 0) (q := 169) dX0_fit_166 q1280 q1282 rfl qs36 gcX0_replays (set_nc hca hCa (fun f' => oB_aR)) (cR) rfl rfl (fun v166 k166 z166 => ?_)
      obtain ⟨rfl, hF01, hs7, hk7⟩ := z166
      obtain ⟨h1', e1', t1', o1', b1', rfl⟩ := hk7
      have ec : hH E (hset (hnew kb (oB 12 [vI n])) (tw2 l) (aR E 8 4 (upI (lw l) s (some kb.2)))) (x + 120) (some t) hs7 (akO h1' e1' t1' o1' b1') = hset (hH E (hnew kb (oB 12 [vI n])) (x + 120) (some t) hs7 (akO h1' e1' t1' o1' b1')) (tw2 l) (aR E 8 4 (upI (lw l) s (some kb.2))) := (blk_seto (w6.ne (by omega))).symm
      rw [ec]
      have hX7 := hXa.paper (tx := some t) (hs1 := hs7) (h1 := h1') (e1 := e1') (t1 := t1') (o1 := o1') (b1 := b1')
      have hF7 := hFa.trans (FR.bl (f := hdF E (x + 120) (some t) hs7 (akO h1' e1' t1' o1' b1')) w6)
      refine g_if_ne (t := 175) (q := 172) dX0_fit_169 (by decide) rfl (by unfold in32; omega) (fun c169 => ?_) (fun c169 => ?_)
      · refine g_iinc (q := 178) dX0_fit_175 rfl (gs7 (hc := cat_rf)) rfl ?_
        refine g_iload (q := 180) dX0_fit_178 rfl rfl ?_
        refine g_iconst (q := 181) dX0_fit_180 rfl ?_
        refine g_icmp_ne (t := 189) (q := 184) dX0_fit_181 (by decide) rfl (by unfold in32; omega) (by unfold in32; omega) (fun c181 => ?_) (fun c181 => ?_)
        · refine g_iload (q := 191) dX0_fit_189 rfl rfl ?_
          refine g_istore (q := 193) dX0_fit_191 gs8 rfl ?_
          refine g_iload (q := 195) dX0_fit_193 rfl rfl ?_
          refine g_istore (q := 197) dX0_fit_195 gs9 rfl ?_
          refine g_iinc (q := 200) dX0_fit_197 rfl gs10 rfl ?_
          refine g_goto (t := 135) dX0_fit_200 (by decide) ?_
          first
          | (rw [if_pos c169] at q6; exact ih (n + 1) p _ _ _ _ (by omega) (by omega) hX7 hF7 (by omega) (by omega) (by omega) q6)
          | (rw [if_neg c169, if_pos c181] at q6; exact ih (n + 1) (p.1 + 1, n, n) _ _ _ _ (by omega) (by omega) hX7 hF7 (by show 0 ≤ p.1 + 1 ∧ p.1 + 1 ≤ n + 1; omega) (by show -1 ≤ n ∧ n ≤ 1000; omega) (by show -1 ≤ n ∧ n ≤ 1000; omega) q6)
          | (rw [if_neg c169, if_neg c181] at q6; exact ih (n + 1) (p.1 + 1, p.2.1, n) _ _ _ _ (by omega) (by omega) hX7 hF7 (by show 0 ≤ p.1 + 1 ∧ p.1 + 1 ≤ n + 1; omega) q4 (by show -1 ≤ n ∧ n ≤ 1000; omega) q6)
        · refine g_iload (q := 186) dX0_fit_184 rfl rfl ?_
          refine g_goto (t := 191) dX0_fit_186 (by decide) ?_
          refine g_istore (q := 193) dX0_fit_191 gs8 rfl ?_
          refine g_iload (q := 195) dX0_fit_193 rfl rfl ?_
          refine g_istore (q := 197) dX0_fit_195 gs9 rfl ?_
          refine g_iinc (q := 200) dX0_fit_197 rfl gs10 rfl ?_
          refine g_goto (t := 135) dX0_fit_200 (by decide) ?_
          first
          | (rw [if_pos c169] at q6; exact ih (n + 1) p _ _ _ _ (by omega) (by omega) hX7 hF7 (by omega) (by omega) (by omega) q6)
          | (rw [if_neg c169, if_pos c181] at q6; exact ih (n + 1) (p.1 + 1, n, n) _ _ _ _ (by omega) (by omega) hX7 hF7 (by show 0 ≤ p.1 + 1 ∧ p.1 + 1 ≤ n + 1; omega) (by show -1 ≤ n ∧ n ≤ 1000; omega) (by show -1 ≤ n ∧ n ≤ 1000; omega) q6)
          | (rw [if_neg c169, if_neg c181] at q6; exact ih (n + 1) (p.1 + 1, p.2.1, n) _ _ _ _ (by omega) (by omega) hX7 hF7 (by show 0 ≤ p.1 + 1 ∧ p.1 + 1 ≤ n + 1; omega) q4 (by show -1 ≤ n ∧ n ≤ 1000; omega) q6)
      · refine g_goto (t := 197) dX0_fit_172 (by decide) ?_
        refine g_iinc (q := 200) dX0_fit_197 rfl gs10 rfl ?_
        refine g_goto (t := 135) dX0_fit_200 (by decide) ?_
        first
        | (rw [if_pos c169] at q6; exact ih (n + 1) p _ _ _ _ (by omega) (by omega) hX7 hF7 (by omega) (by omega) (by omega) q6)
        | (rw [if_neg c169, if_pos c181] at q6; exact ih (n + 1) (p.1 + 1, n, n) _ _ _ _ (by omega) (by omega) hX7 hF7 (by show 0 ≤ p.1 + 1 ∧ p.1 + 1 ≤ n + 1; omega) (by show -1 ≤ n ∧ n ≤ 1000; omega) (by show -1 ≤ n ∧ n ≤ 1000; omega) q6)
        | (rw [if_neg c169, if_neg c181] at q6; exact ih (n + 1) (p.1 + 1, p.2.1, n) _ _ _ _ (by omega) (by omega) hX7 hF7 (by show 0 ≤ p.1 + 1 ∧ p.1 + 1 ≤ n + 1; omega) q4 (by show -1 ≤ n ∧ n ≤ 1000; omega) q6)
theorem c_fitX (hX : (XR E x mf ow h w hs si lo bk uW uH uB iL iS tp td fk fp my wd uN)) (hw : WFw w) (hh : HSok B hs) (hB : B ≤ 1000000000) (hs00 : 0 ≤ si ∧ si ≤ 60) (hlo : 0 ≤ lo) (hok : BKok w bk si) (h1 : in32 l) (h2 : in32 s) (h3 : in32 low) (h4 : in32 high) (h5 : in32 v) :
    CALL E iX0_fit (d + 1305) 31 31 [.ref x, vI l, vI s, vI low, vI high, vI v] h (qP fun o k => o = vI (if fitA l s low high v then if fitB w hs lo then mFit w bk si l s low high v else -5 else -2) ∧ ∃ ow', (XR E x mf ow' k w hs si lo bk uW uH uB iL iS tp td fk fp my wd uN)) := by
  have h11 := h1.1
  have h12 := h1.2
  have h31 := h3.1
  have h32 := h3.2
  have h41 := h4.1
  have h42 := h4.2
  have h51 := h5.1
  have h52 := h5.2
  obtain ⟨x1, x2, ⟨w3, bl, tq, pl, bp, hC, -⟩, ⟨t, s1, s2, s3, s4, s5⟩, x5, x6, x7⟩ := id hX
  obtain ⟨te, tl, tw, tz, tw2, lw, ge, gl, hd, hT⟩ := s2 0
  have hh6 := hh.2.1
  by_cases cA : fitA l s low high v
  · rw [if_pos cA]
    obtain ⟨a1, a2, a3, a4, a5, a6⟩ := cA
    by_cases cB : fitB w hs lo
    · rw [if_pos cB]
      obtain ⟨b1, b2, b3⟩ := cB
      obtain ⟨-, ct, -, -, ctw, ctw2, -, -⟩ := id hT
      have z := l_fitX (d := d) (v := v) (P := ftL w bk (4 * l + s) si (high - low + 1).toNat low (0, -1, -1)) hX s1 hT hw hs00 hok a1 a2 a3 a4 a6 (high - low + 1).toNat low (0, -1, -1) ow h (lw l s) none (by omega) (by omega) hX FR.same ⟨by decide, by show (0 : Int) ≤ low; omega⟩ (by decide) (by decide) rfl
      rw [show upI (lw l) s (lw l s) = lw l from funext fun j => by by_cases z : j = s; (subst z; rw [upI_at]); rw [upI_ne z], hset_self (ctw2 l a1.1 (by omega))] at z
      show GO E iX0_fit _ _ _ 0 [some (.ref x), some (vI l), some (vI s), some (vI low), some (vI high), some (vI v), none, none, none, none, none, none] [] _ _
      refine g_iload_n (q := 1) dX0_fit_0 rfl rfl ?_
      refine g_i2l (q := 2) dX0_fit_1 (by first | assumption | exact in32_gB | exact in32_gCmp | (unfold in32; omega)) rfl ?_
      refine g_lconst0 (q := 3) dX0_fit_2 rfl ?_
      refine g_iload (q := 5) dX0_fit_3 rfl rfl ?_
      refine g_i2l (q := 6) dX0_fit_5 (by first | assumption | exact in32_gB | exact in32_gCmp | (unfold in32; omega)) rfl ?_
      refine g_cs (I' := iX0_in) (mc := 0) (ms := 0) (rc := 31) (rs := 31) (q := 9) dX0_fit_6 q130 q131 gcX0_in (c_inX (by unfold in64; omega) (by unfold in64; omega) (by unfold in64; omega)) rfl rfl ?_
      refine g_ifeqB (t := 65) (q := 12) dX0_fit_9 (by decide) rfl (fun c9 => ?_) (fun c9 => ?_)
      · exact absurd a3 c9
      · refine g_iload (q := 14) dX0_fit_12 rfl rfl ?_
        refine g_i2l (q := 15) dX0_fit_14 (by first | assumption | exact in32_gB | exact in32_gCmp | (unfold in32; omega)) rfl ?_
        refine g_iload_n (q := 16) dX0_fit_15 rfl rfl ?_
        refine g_i2l (q := 17) dX0_fit_16 (by first | assumption | exact in32_gB | exact in32_gCmp | (unfold in32; omega)) rfl ?_
        refine g_ldc2 (a := 1000) (q := 20) dX0_fit_17 q1188 (by decide) rfl ?_
        refine g_cs (I' := iX0_in) (mc := 0) (ms := 0) (rc := 31) (rs := 31) (q := 23) dX0_fit_20 q130 q131 gcX0_in (c_inX (by unfold in64; omega) (by unfold in64; omega) (by unfold in64; omega)) rfl rfl ?_
        refine g_ifeqB (t := 65) (q := 26) dX0_fit_23 (by decide) rfl (fun c23 => ?_) (fun c23 => ?_)
        · exact absurd (show low ≤ high ∧ high ≤ 1000 by omega) c23
        · refine g_iload (q := 28) dX0_fit_26 rfl rfl ?_
          refine g_iload_n (q := 29) dX0_fit_28 rfl rfl ?_
          refine g_isub (q := 30) dX0_fit_29 rfl ?_
          refine g_bipush (q := 32) dX0_fit_30 rfl ?_
          refine g_icmp_gt (t := 65) (q := 35) dX0_fit_32 (by decide) rfl (by unfold in32; omega) (by unfold in32; omega) (fun c32 => ?_) (fun c32 => ?_)
          · exact absurd c32 (by omega)
          · refine g_iload_n (q := 36) dX0_fit_35 rfl rfl ?_
            refine g_i2l (q := 37) dX0_fit_36 (by first | assumption | exact in32_gB | exact in32_gCmp | (unfold in32; omega)) rfl ?_
            refine g_lconst0 (q := 38) dX0_fit_37 rfl ?_
            refine g_lconst1 (q := 39) dX0_fit_38 rfl ?_
            refine g_cs (I' := iX0_in) (mc := 0) (ms := 0) (rc := 31) (rs := 31) (q := 42) dX0_fit_39 q130 q131 gcX0_in (c_inX (by unfold in64; omega) (by unfold in64; omega) (by unfold in64; omega)) rfl rfl ?_
            refine g_ifeqB (t := 65) (q := 45) dX0_fit_42 (by decide) rfl (fun c42 => ?_) (fun c42 => ?_)
            · exact absurd a1 c42
            · refine g_iload_n (q := 46) dX0_fit_45 rfl rfl ?_
              refine g_cs (I' := iX0_isSort) (mc := 0) (ms := 0) (rc := 31) (rs := 31) (q := 49) dX0_fit_46 q1158 q1159 gcX0_isSort (GO.deep (c_isSortX (d := 0) h2) (by omega)) rfl rfl ?_
              refine g_ifeqB (t := 65) (q := 52) dX0_fit_49 (by decide) rfl (fun c49 => ?_) (fun c49 => ?_)
              · exact absurd a2 c49
              · refine g_iload (q := 54) dX0_fit_52 rfl rfl ?_
                refine g_i2l (q := 55) dX0_fit_54 (by first | assumption | exact in32_gB | exact in32_gCmp | (unfold in32; omega)) rfl ?_
                refine g_lconst0 (q := 56) dX0_fit_55 rfl ?_
                refine g_ldc2 (a := 2) (q := 59) dX0_fit_56 q1187 (by decide) rfl ?_
                refine g_cs (I' := iX0_in) (mc := 0) (ms := 0) (rc := 31) (rs := 31) (q := 62) dX0_fit_59 q130 q131 gcX0_in (c_inX (by unfold in64; omega) (by unfold in64; omega) (by unfold in64; omega)) rfl rfl ?_
                refine g_ifneB (t := 68) (q := 65) dX0_fit_62 (by decide) rfl (fun c62 => ?_) (fun c62 => ?_)
                · refine g_aload_n (q := 69) dX0_fit_68 rfl rfl ?_
                  refine g_get (C := RX0) (T := TX0) (ci := 0) (k := 1) (q := 72) dX0_fit_69 q519 rfl in_X0 (by decide) hC rfl rfl ?_
                  refine g_getN (C := RX1) (T := TX1) (ci := 1) (k := 4) (q := 75) dX0_fit_72 q486 rfl in_X1 (by decide) s1.2.1 rfl rfl ?_
                  refine g_getN (C := RX3) (T := TX3) (ci := 4) (k := 3) (q := 78) dX0_fit_75 q455 rfl in_X3 (by decide) s5.2.ob rfl rfl ?_
                  refine g_sipush (q := 81) dX0_fit_78 rfl ?_
                  refine g_icmp_gt (t := 104) (q := 84) dX0_fit_81 (by decide) rfl (by first | assumption | exact in32_gB | exact in32_gCmp | (unfold in32; omega)) (by first | assumption | exact in32_gB | exact in32_gCmp | (unfold in32; omega)) (fun c81 => ?_) (fun c81 => ?_)
                  · exact absurd c81 (by omega)
                  · refine g_aload_n (q := 85) dX0_fit_84 rfl rfl ?_
                    refine g_get (C := RX0) (T := TX0) (ci := 0) (k := 1) (q := 88) dX0_fit_85 q519 rfl in_X0 (by decide) hC rfl rfl ?_
                    refine g_getN (C := RX1) (T := TX1) (ci := 1) (k := 5) (q := 91) dX0_fit_88 q488 rfl in_X1 (by decide) s1.2.1 rfl rfl ?_
                    refine g_ifeqB (t := 104) (q := 94) dX0_fit_91 (by decide) rfl (fun c91 => ?_) (fun c91 => ?_)
                    · exact absurd (show lo = 0 by omega) c91
                    · refine g_aload_n (q := 95) dX0_fit_94 rfl rfl ?_
                      refine g_get (C := RX0) (T := TX0) (ci := 0) (k := 1) (q := 98) dX0_fit_95 q519 rfl in_X0 (by decide) hC rfl rfl ?_
                      refine g_getN (C := RX1) (T := TX1) (ci := 1) (k := 6) (q := 101) dX0_fit_98 q490 rfl in_X1 (by decide) s1.2.1 rfl rfl ?_
                      refine g_ifeqB (t := 107) (q := 104) dX0_fit_101 (by decide) rfl (fun c101 => ?_) (fun c101 => ?_)
                      · refine g_aload_n (q := 108) dX0_fit_107 rfl rfl ?_
                        refine g_get (C := RX0) (T := TX0) (ci := 0) (k := 1) (q := 111) dX0_fit_108 q519 rfl in_X0 (by decide) hC rfl rfl ?_
                        refine g_getN (C := RX1) (T := TX1) (ci := 1) (k := 0) (q := 114) dX0_fit_111 q478 rfl in_X1 (by decide) s1.2.1 rfl rfl ?_
                        refine g_getN (C := RX2) (T := TX2) (ci := 2) (k := 2) (q := 117) dX0_fit_114 q356 rfl in_X2 (by decide) ct rfl rfl ?_
                        refine g_iload_n (q := 118) dX0_fit_117 rfl rfl ?_
                        refine g_aald (t0 := 9) (q := 119) dX0_fit_118 ctw rfl rfl (by omega) (by omega) rfl ?_
                        refine g_iload_n (q := 120) dX0_fit_119 rfl rfl ?_
                        refine g_aald (t0 := 8) (q := 121) dX0_fit_120 (ctw2 l a1.1 (by omega)) rfl rfl (by omega) (by omega) rfl ?_
                        refine g_astore (q := 123) dX0_fit_121 gs6 rfl ?_
                        refine g_iconst (q := 124) dX0_fit_123 rfl ?_
                        refine g_istore (q := 126) dX0_fit_124 (gs7 (hc := cat_rf)) rfl ?_
                        refine g_iconst (q := 127) dX0_fit_126 rfl ?_
                        refine g_istore (q := 129) dX0_fit_127 gs8 rfl ?_
                        refine g_iconst (q := 130) dX0_fit_129 rfl ?_
                        refine g_istore (q := 132) dX0_fit_130 gs9 rfl ?_
                        refine g_iload_n (q := 133) dX0_fit_132 rfl rfl ?_
                        refine g_istore (q := 135) dX0_fit_133 gs10 rfl ?_
                        exact GO.room z (by omega) (by omega)
                      · exact absurd b3 c101
                · exact absurd a6 c62
    · rw [if_neg cB]
      show GO E iX0_fit _ _ _ 0 [some (.ref x), some (vI l), some (vI s), some (vI low), some (vI high), some (vI v), none, none, none, none, none, none] [] _ _
      refine g_iload_n (q := 1) dX0_fit_0 rfl rfl ?_
      refine g_i2l (q := 2) dX0_fit_1 (by first | assumption | exact in32_gB | exact in32_gCmp | (unfold in32; omega)) rfl ?_
      refine g_lconst0 (q := 3) dX0_fit_2 rfl ?_
      refine g_iload (q := 5) dX0_fit_3 rfl rfl ?_
      refine g_i2l (q := 6) dX0_fit_5 (by first | assumption | exact in32_gB | exact in32_gCmp | (unfold in32; omega)) rfl ?_
      refine g_cs (I' := iX0_in) (mc := 0) (ms := 0) (rc := 31) (rs := 31) (q := 9) dX0_fit_6 q130 q131 gcX0_in (c_inX (by unfold in64; omega) (by unfold in64; omega) (by unfold in64; omega)) rfl rfl ?_
      refine g_ifeqB (t := 65) (q := 12) dX0_fit_9 (by decide) rfl (fun c9 => ?_) (fun c9 => ?_)
      · exact absurd a3 c9
      · refine g_iload (q := 14) dX0_fit_12 rfl rfl ?_
        refine g_i2l (q := 15) dX0_fit_14 (by first | assumption | exact in32_gB | exact in32_gCmp | (unfold in32; omega)) rfl ?_
        refine g_iload_n (q := 16) dX0_fit_15 rfl rfl ?_
        refine g_i2l (q := 17) dX0_fit_16 (by first | assumption | exact in32_gB | exact in32_gCmp | (unfold in32; omega)) rfl ?_
        refine g_ldc2 (a := 1000) (q := 20) dX0_fit_17 q1188 (by decide) rfl ?_
        refine g_cs (I' := iX0_in) (mc := 0) (ms := 0) (rc := 31) (rs := 31) (q := 23) dX0_fit_20 q130 q131 gcX0_in (c_inX (by unfold in64; omega) (by unfold in64; omega) (by unfold in64; omega)) rfl rfl ?_
        refine g_ifeqB (t := 65) (q := 26) dX0_fit_23 (by decide) rfl (fun c23 => ?_) (fun c23 => ?_)
        · exact absurd (show low ≤ high ∧ high ≤ 1000 by omega) c23
        · refine g_iload (q := 28) dX0_fit_26 rfl rfl ?_
          refine g_iload_n (q := 29) dX0_fit_28 rfl rfl ?_
          refine g_isub (q := 30) dX0_fit_29 rfl ?_
          refine g_bipush (q := 32) dX0_fit_30 rfl ?_
          refine g_icmp_gt (t := 65) (q := 35) dX0_fit_32 (by decide) rfl (by unfold in32; omega) (by unfold in32; omega) (fun c32 => ?_) (fun c32 => ?_)
          · exact absurd c32 (by omega)
          · refine g_iload_n (q := 36) dX0_fit_35 rfl rfl ?_
            refine g_i2l (q := 37) dX0_fit_36 (by first | assumption | exact in32_gB | exact in32_gCmp | (unfold in32; omega)) rfl ?_
            refine g_lconst0 (q := 38) dX0_fit_37 rfl ?_
            refine g_lconst1 (q := 39) dX0_fit_38 rfl ?_
            refine g_cs (I' := iX0_in) (mc := 0) (ms := 0) (rc := 31) (rs := 31) (q := 42) dX0_fit_39 q130 q131 gcX0_in (c_inX (by unfold in64; omega) (by unfold in64; omega) (by unfold in64; omega)) rfl rfl ?_
            refine g_ifeqB (t := 65) (q := 45) dX0_fit_42 (by decide) rfl (fun c42 => ?_) (fun c42 => ?_)
            · exact absurd a1 c42
            · refine g_iload_n (q := 46) dX0_fit_45 rfl rfl ?_
              refine g_cs (I' := iX0_isSort) (mc := 0) (ms := 0) (rc := 31) (rs := 31) (q := 49) dX0_fit_46 q1158 q1159 gcX0_isSort (GO.deep (c_isSortX (d := 0) h2) (by omega)) rfl rfl ?_
              refine g_ifeqB (t := 65) (q := 52) dX0_fit_49 (by decide) rfl (fun c49 => ?_) (fun c49 => ?_)
              · exact absurd a2 c49
              · refine g_iload (q := 54) dX0_fit_52 rfl rfl ?_
                refine g_i2l (q := 55) dX0_fit_54 (by first | assumption | exact in32_gB | exact in32_gCmp | (unfold in32; omega)) rfl ?_
                refine g_lconst0 (q := 56) dX0_fit_55 rfl ?_
                refine g_ldc2 (a := 2) (q := 59) dX0_fit_56 q1187 (by decide) rfl ?_
                refine g_cs (I' := iX0_in) (mc := 0) (ms := 0) (rc := 31) (rs := 31) (q := 62) dX0_fit_59 q130 q131 gcX0_in (c_inX (by unfold in64; omega) (by unfold in64; omega) (by unfold in64; omega)) rfl rfl ?_
                refine g_ifneB (t := 68) (q := 65) dX0_fit_62 (by decide) rfl (fun c62 => ?_) (fun c62 => ?_)
                · refine g_aload_n (q := 69) dX0_fit_68 rfl rfl ?_
                  refine g_get (C := RX0) (T := TX0) (ci := 0) (k := 1) (q := 72) dX0_fit_69 q519 rfl in_X0 (by decide) hC rfl rfl ?_
                  refine g_getN (C := RX1) (T := TX1) (ci := 1) (k := 4) (q := 75) dX0_fit_72 q486 rfl in_X1 (by decide) s1.2.1 rfl rfl ?_
                  refine g_getN (C := RX3) (T := TX3) (ci := 4) (k := 3) (q := 78) dX0_fit_75 q455 rfl in_X3 (by decide) s5.2.ob rfl rfl ?_
                  refine g_sipush (q := 81) dX0_fit_78 rfl ?_
                  refine g_icmp_gt (t := 104) (q := 84) dX0_fit_81 (by decide) rfl (by first | assumption | exact in32_gB | exact in32_gCmp | (unfold in32; omega)) (by first | assumption | exact in32_gB | exact in32_gCmp | (unfold in32; omega)) (fun c81 => ?_) (fun c81 => ?_)
                  · refine g_bipush (q := 106) dX0_fit_104 rfl ?_
                    exact g_iret dX0_fit_106 rfl ⟨_, rfl, rfl, ow, hX⟩
                  · refine g_aload_n (q := 85) dX0_fit_84 rfl rfl ?_
                    refine g_get (C := RX0) (T := TX0) (ci := 0) (k := 1) (q := 88) dX0_fit_85 q519 rfl in_X0 (by decide) hC rfl rfl ?_
                    refine g_getN (C := RX1) (T := TX1) (ci := 1) (k := 5) (q := 91) dX0_fit_88 q488 rfl in_X1 (by decide) s1.2.1 rfl rfl ?_
                    refine g_ifeqB (t := 104) (q := 94) dX0_fit_91 (by decide) rfl (fun c91 => ?_) (fun c91 => ?_)
                    · refine g_bipush (q := 106) dX0_fit_104 rfl ?_
                      exact g_iret dX0_fit_106 rfl ⟨_, rfl, rfl, ow, hX⟩
                    · refine g_aload_n (q := 95) dX0_fit_94 rfl rfl ?_
                      refine g_get (C := RX0) (T := TX0) (ci := 0) (k := 1) (q := 98) dX0_fit_95 q519 rfl in_X0 (by decide) hC rfl rfl ?_
                      refine g_getN (C := RX1) (T := TX1) (ci := 1) (k := 6) (q := 101) dX0_fit_98 q490 rfl in_X1 (by decide) s1.2.1 rfl rfl ?_
                      refine g_ifeqB (t := 107) (q := 104) dX0_fit_101 (by decide) rfl (fun c101 => ?_) (fun c101 => ?_)
                      · exact absurd ⟨by omega, by omega, Decidable.not_not.mp c101⟩ cB
                      · refine g_bipush (q := 106) dX0_fit_104 rfl ?_
                        exact g_iret dX0_fit_106 rfl ⟨_, rfl, rfl, ow, hX⟩
                · exact absurd a6 c62
  · rw [if_neg cA]
    show GO E iX0_fit _ _ _ 0 [some (.ref x), some (vI l), some (vI s), some (vI low), some (vI high), some (vI v), none, none, none, none, none, none] [] _ _
    refine g_iload_n (q := 1) dX0_fit_0 rfl rfl ?_
    refine g_i2l (q := 2) dX0_fit_1 (by first | assumption | exact in32_gB | exact in32_gCmp | (unfold in32; omega)) rfl ?_
    refine g_lconst0 (q := 3) dX0_fit_2 rfl ?_
    refine g_iload (q := 5) dX0_fit_3 rfl rfl ?_
    refine g_i2l (q := 6) dX0_fit_5 (by first | assumption | exact in32_gB | exact in32_gCmp | (unfold in32; omega)) rfl ?_
    refine g_cs (I' := iX0_in) (mc := 0) (ms := 0) (rc := 31) (rs := 31) (q := 9) dX0_fit_6 q130 q131 gcX0_in (c_inX (by unfold in64; omega) (by unfold in64; omega) (by unfold in64; omega)) rfl rfl ?_
    refine g_ifeqB (t := 65) (q := 12) dX0_fit_9 (by decide) rfl (fun c9 => ?_) (fun c9 => ?_)
    · refine g_bipush (q := 67) dX0_fit_65 rfl ?_
      exact g_iret dX0_fit_67 rfl ⟨_, rfl, rfl, ow, hX⟩
    · refine g_iload (q := 14) dX0_fit_12 rfl rfl ?_
      refine g_i2l (q := 15) dX0_fit_14 (by first | assumption | exact in32_gB | exact in32_gCmp | (unfold in32; omega)) rfl ?_
      refine g_iload_n (q := 16) dX0_fit_15 rfl rfl ?_
      refine g_i2l (q := 17) dX0_fit_16 (by first | assumption | exact in32_gB | exact in32_gCmp | (unfold in32; omega)) rfl ?_
      refine g_ldc2 (a := 1000) (q := 20) dX0_fit_17 q1188 (by decide) rfl ?_
      refine g_cs (I' := iX0_in) (mc := 0) (ms := 0) (rc := 31) (rs := 31) (q := 23) dX0_fit_20 q130 q131 gcX0_in (c_inX (by unfold in64; omega) (by unfold in64; omega) (by unfold in64; omega)) rfl rfl ?_
      refine g_ifeqB (t := 65) (q := 26) dX0_fit_23 (by decide) rfl (fun c23 => ?_) (fun c23 => ?_)
      · refine g_bipush (q := 67) dX0_fit_65 rfl ?_
        exact g_iret dX0_fit_67 rfl ⟨_, rfl, rfl, ow, hX⟩
      · refine g_iload (q := 28) dX0_fit_26 rfl rfl ?_
        refine g_iload_n (q := 29) dX0_fit_28 rfl rfl ?_
        refine g_isub (q := 30) dX0_fit_29 rfl ?_
        refine g_bipush (q := 32) dX0_fit_30 rfl ?_
        refine g_icmp_gt (t := 65) (q := 35) dX0_fit_32 (by decide) rfl (by unfold in32; omega) (by unfold in32; omega) (fun c32 => ?_) (fun c32 => ?_)
        · refine g_bipush (q := 67) dX0_fit_65 rfl ?_
          exact g_iret dX0_fit_67 rfl ⟨_, rfl, rfl, ow, hX⟩
        · refine g_iload_n (q := 36) dX0_fit_35 rfl rfl ?_
          refine g_i2l (q := 37) dX0_fit_36 (by first | assumption | exact in32_gB | exact in32_gCmp | (unfold in32; omega)) rfl ?_
          refine g_lconst0 (q := 38) dX0_fit_37 rfl ?_
          refine g_lconst1 (q := 39) dX0_fit_38 rfl ?_
          refine g_cs (I' := iX0_in) (mc := 0) (ms := 0) (rc := 31) (rs := 31) (q := 42) dX0_fit_39 q130 q131 gcX0_in (c_inX (by unfold in64; omega) (by unfold in64; omega) (by unfold in64; omega)) rfl rfl ?_
          refine g_ifeqB (t := 65) (q := 45) dX0_fit_42 (by decide) rfl (fun c42 => ?_) (fun c42 => ?_)
          · refine g_bipush (q := 67) dX0_fit_65 rfl ?_
            exact g_iret dX0_fit_67 rfl ⟨_, rfl, rfl, ow, hX⟩
          · refine g_iload_n (q := 46) dX0_fit_45 rfl rfl ?_
            refine g_cs (I' := iX0_isSort) (mc := 0) (ms := 0) (rc := 31) (rs := 31) (q := 49) dX0_fit_46 q1158 q1159 gcX0_isSort (GO.deep (c_isSortX (d := 0) h2) (by omega)) rfl rfl ?_
            refine g_ifeqB (t := 65) (q := 52) dX0_fit_49 (by decide) rfl (fun c49 => ?_) (fun c49 => ?_)
            · refine g_bipush (q := 67) dX0_fit_65 rfl ?_
              exact g_iret dX0_fit_67 rfl ⟨_, rfl, rfl, ow, hX⟩
            · refine g_iload (q := 54) dX0_fit_52 rfl rfl ?_
              refine g_i2l (q := 55) dX0_fit_54 (by first | assumption | exact in32_gB | exact in32_gCmp | (unfold in32; omega)) rfl ?_
              refine g_lconst0 (q := 56) dX0_fit_55 rfl ?_
              refine g_ldc2 (a := 2) (q := 59) dX0_fit_56 q1187 (by decide) rfl ?_
              refine g_cs (I' := iX0_in) (mc := 0) (ms := 0) (rc := 31) (rs := 31) (q := 62) dX0_fit_59 q130 q131 gcX0_in (c_inX (by unfold in64; omega) (by unfold in64; omega) (by unfold in64; omega)) rfl rfl ?_
              refine g_ifneB (t := 68) (q := 65) dX0_fit_62 (by decide) rfl (fun c62 => ?_) (fun c62 => ?_)
              · exact absurd ⟨c42, c49, c9, by omega, by omega, c62⟩ cA
              · refine g_bipush (q := 67) dX0_fit_65 rfl ?_
                exact g_iret dX0_fit_67 rfl ⟨_, rfl, rfl, ow, hX⟩
end
