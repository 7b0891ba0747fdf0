/-! THE COMPONENT: a fresh state; keep -/
set_option maxRecDepth 100000
theorem comes_0 {w hs : Int → Int} {kl kn l has ea : Int} (hl : ¬ l = kl) (h : w (202 + 2 * l + 1) = 0) : comes w hs kl kn l has ea = 0 := by
  unfold comes
  rw [if_neg hl, h]
  rfl
theorem aR_inj {E : gE} {k n : Nat} {f g : Int → Option Nat} (e : aR E k n f = aR E k n g) {j : Int} (hj : 0 ≤ j) : f j = g j := by
  unfold aR at e
  have e1 := (Prod.mk.inj (Prod.mk.inj (Sum.inl.inj e)).2).2
  have e2 := congrFun (Sum.inr.inj (Sum.inr.inj (Sum.inr.inj (Sum.inr.inj e1)))) j.toNat
  rw [Int.toNat_of_nonneg hj] at e2
  exact e2
theorem lawN_0 {k s : Int} (hk : 0 ≤ k) (hs : 0 ≤ s) : ¬ lawN k s = -1 := by
  unfold lawN
  by_cases c : k = 2
  · rw [if_pos c]; omega
  · rw [if_neg c]; omega
theorem gAny.self {E : gE} {I : gI} {h : gH} {v ci : Nat} {fs : List Value} {C : String} {z : u_T × Nat} (hv : h.1 v = some (oB ci fs)) (hcl : vwCl[ci]? = some (C, z)) : gAny E I C h v := fun p s m meth c H hc hR =>
  va_rAny (gK hc) (hR.P hv) (q0 := 0) rfl hcl (fun comp c0 h1 h2 => by
    cases h1.symm.trans h2
    show s.vm.assignableAux (255 + 1) comp comp = true
    rw [Vm.assignableAux]
    simp only [beq_self_eq_true, Bool.true_or])
/-- whose the cells of a fresh state are -/
def owS (ow : OW) (q a : Nat) : OW := fun b => if a ≤ b ∧ b < a + 117 then (if b - a = 0 ∨ b - a = 13 then 10 + 10 * q else if b - a < 9 then 0 else if b - a < 11 then 11 + 10 * q else if b - a < 13 then 12 + 10 * q else 13 + 10 * q) else ow b
def OS (ow : OW) (q a : Nat) : Prop := ∀ j, j < 117 → ow (a + j) = (if j = 0 ∨ j = 13 then 10 + 10 * q else if j < 9 then 0 else if j < 11 then 11 + 10 * q else if j < 13 then 12 + 10 * q else 13 + 10 * q)
theorem OS.owS {ow : OW} {q a : Nat} : OS (owS ow q a) q a := fun j hj => by
  unfold Pilot.CNonsenseRowsLaw_law_r3866_9976b6.owS
  rw [if_pos (by omega), Nat.add_sub_cancel_left]
section
variable {E : gE} {ow : OW} {h : gH} {q a : Nat} {bk : Int → Int}
def fsO (a : Nat) : va_E := sO (.ref (a + 1)) (.ref (a + 9)) (.ref (a + 11)) (.ref (a + 13)) (.ref (a + 14)) 1
theorem STT.fresh (hA : ∀ j, j < 14 → h.1 (a + j) = (st14 E a (fsO a))[j]?) (hH2 : ∀ j, j < 103 → h.1 (a + 14 + j) = some (hdF E (a + 14) (some (a + 1)) (fun _ => 0) (akO 0 0 0 0 0) j)) (ho : OS ow q a) : STT E ow h q a (fun _ => 0) (fun _ => 0) 0 0 bk := by
  have g0 := hA 0 (by decide)
  have g1 := hA 1 (by decide)
  have g2 := hA 2 (by decide)
  have g3 := hA 3 (by decide)
  have g4 := hA 4 (by decide)
  have g5 := hA 5 (by decide)
  have g6 := hA 6 (by decide)
  have g7 := hA 7 (by decide)
  have g9 := hA 9 (by decide)
  have g10 := hA 10 (by decide)
  have g11 := hA 11 (by decide)
  have g12 := hA 12 (by decide)
  have g13 := hA 13 (by decide)
  have o1 := ho 1 (by decide)
  have o2 := ho 2 (by decide)
  have o3 := ho 3 (by decide)
  have o4 := ho 4 (by decide)
  have o9 := ho 9 (by decide)
  have o10 := ho 10 (by decide)
  have o11 := ho 11 (by decide)
  have o12 := ho 12 (by decide)
  refine ⟨a + 1, ⟨⟨ho 0 (by decide), ho 13 (by decide)⟩, ?_, fun _ => 0, g13, fun r _ _ => ?_⟩, fun kn => ?_, ⟨fun _ => 0, ?_, fun r z1 z2 => absurd z2 (by show ¬ r < 0; omega)⟩, ⟨fun _ => 0, ?_, fun r z1 z2 => absurd z2 (by show ¬ r < 0; omega)⟩, fun j hj => ?_, 0, 0, 0, 0, 0, hH2⟩
  · rw [show h.1 a = _ from g0]
    show some (fsO a) = some (stO a (a + 1) (fun _ => 0) 0)
    unfold stO fsO sO
    rw [gB_t rfl, gB_f (fun z => z rfl)]
  · split <;> rfl
  · refine ⟨a + 2, a + 3, a + 4, a + 8, fun k => a + 1 + 3 + 1 + k.toNat, fun _ _ => none, fun _ => 0, fun _ => 0, 0, ⟨fun z => z o1, fun z => z o2, fun z => z o3, fun z => z o4, fun k z1 z2 z => z ?_⟩, g1, ⟨g2, fun _ _ _ => rfl⟩, ⟨g3, fun _ _ _ => rfl⟩, g4, fun k z1 z2 => ?_, fun k s z1 z2 z3 z4 => ?_, fun k k' z1 z2 z3 z4 z5 => by show a + 1 + 3 + 1 + k.toNat ≠ a + 1 + 3 + 1 + k'.toNat; omega⟩
    · have := ho (5 + k.toNat) (by omega)
      rw [if_neg (by omega), if_pos (by omega)] at this
      rw [← this]
      congr 1
      show a + 1 + 3 + 1 + k.toNat = _
      omega
    · have : k = 0 ∨ k = 1 ∨ k = 2 := by omega
      rcases this with rfl | rfl | rfl
      · exact g5
      · exact g6
      · exact g7
    · intro hs B has ea _ _ _ _ _
      exact comes_0 (lawN_0 z1 z3) rfl
  · exact ⟨a + 10, 4, 0, fun _ => none, ⟨o9, o10, by omega⟩, g9, g10, ⟨by decide, by decide⟩, ⟨by decide, by decide⟩, fun i z1 z2 => absurd z2 (by show ¬ i < 0; omega)⟩
  · exact ⟨a + 12, 4, 0, fun _ => none, ⟨o11, o12, by omega⟩, g11, g12, ⟨by decide, by decide⟩, ⟨by decide, by decide⟩, fun i z1 z2 => absurd z2 (by show ¬ i < 0; omega)⟩
  · have := ho (14 + j) (by omega)
    rw [if_neg (by omega), if_neg (by omega), if_neg (by omega), if_neg (by omega)] at this
    rw [← this]
    congr 1
    omega
theorem FR.add {ow' : OW} {L : List va_E} {n : Nat} {F : Nat → va_E} {p : Nat → Prop} (hh : HW h) (hx : ∀ b, b < h.2 → ow' b = ow b) : FR ow ow' h (ADD (app h L) n F) p := fun b x e _ => by
  have hb := hh b x e
  exact ⟨by rw [ADD_lo (show b < h.2 + L.length by omega), app_lo hb]; exact e, hx b hb⟩
theorem HW.add {L : List va_E} {n : Nat} {F : Nat → va_E} (hh : HW h) : HW (ADD (app h L) n F) := by
  intro b x e
  show b < h.2 + L.length + n
  by_cases c : h.2 + L.length ≤ b ∧ b < h.2 + L.length + n
  · exact c.2
  · have e2 : (app h L).1 b = some x := by rw [← e]; exact (if_neg c).symm
    have := hh.ap b x e2
    have e3 : (app h L).2 = h.2 + L.length := rfl
    omega
theorem st_fresh (ho : OS ow q h.2) : STT E ow (ADD (app h (st14 E h.2 (fsO h.2))) 103 (hdF E (h.2 + 14) (some (h.2 + 1)) (fun _ => 0) (akO 0 0 0 0 0))) q h.2 (fun _ => 0) (fun _ => 0) 0 0 bk := by
  refine STT.fresh (fun j hj => ?_) (fun j hj => ?_) ho
  · obtain ⟨v, hv⟩ : ∃ v, (st14 E h.2 (fsO h.2))[j]? = some v := by
      have : j < (st14 E h.2 (fsO h.2)).length := hj
      exact ⟨_, List.getElem?_eq_getElem this⟩
    rw [hv]
    exact AA_at hv
  · exact ADD_at (h := app h (st14 E h.2 (fsO h.2))) j hj
end
section
variable {E : gE} {d rc rs x : Nat} {mf : Nat → va_E} {ow : OW} {h : gH} {w hs bk tp iL iS my wd : Int → Int} {uW uH uB uN : Int → Int → Int} {si lo td fk fp : Int}
variable {r v n B B2 kn i s l c b e m : Int} {ra t p a : Nat} {k h' : gH} {ow' : OW} {Q : Outcome → gH → Prop} {w' hs' bk' : Int → Int} {si' lo' : Int}
/-- an image was written -/
theorem XR.img {im im' : Int → Option Nat} (hX : (XR E x mf ow h w hs si lo bk uW uH uB iL iS tp td fk fp my wd uN)) (hh : HW h') (hk : 0 ≤ v ∧ v ≤ 2) (hF : FR ow ow' h h' (fun i => ¬ (i = 8 ∨ (20 + 10 * v.toNat ≤ i ∧ i < 24 + 10 * v.toNat)))) (hm : h.1 (x + 119) = some (aR E 10 3 im)) (ho : ow' (x + 119) = 8) (hm' : h'.1 (x + 119) = some (aR E 10 3 im')) (he : ∀ j, 0 ≤ j → j < 3 → j ≠ v → im' j = im j) (hv : im' v = some a) (hsi : 0 ≤ si') (hS : STT E ow' h' (v.toNat + 1) a w' hs' si' lo' bk') : (XR E x mf ow' h' w hs si lo bk (upI uW v w') (upI uH v hs') (upI uB v bk') (upI iL v lo') (upI iS v si') tp td fk fp my wd uN) := by
  obtain ⟨x1, x2, x3, x4, ⟨w1, im1, c1, r⟩, x6, x7⟩ := hX
  refine ⟨hh, x2.fr hF (by omega), x3.fr hF (by omega), x4.fr hF (by omega) (fun i z1 z2 => by omega), ⟨ho, im', hm', fun j z1 z2 => ?_⟩, x6.fr hF (by omega), x7.fr hF (fun i z1 z2 => by omega)⟩
  by_cases c : j = v
  · subst c
    rw [hv]
    simp only [upI_at]
    exact ⟨hsi, hS⟩
  · have e1 : im1 j = im j := by
      have e2 := c1.symm.trans hm
      exact aR_inj (Option.some.inj e2) z1
    have := r j z1 z2
    rw [e1] at this
    rw [he j z1 z2 c]
    cases e : im j with
    | none =>
      rw [e] at this
      show upI iS v si' j = -1
      rw [upI_ne c]; exact this
    | some b =>
      rw [e] at this
      show 0 ≤ upI iS v si' j ∧ STT E ow' h' (j.toNat + 1) b (upI uW v w' j) (upI uH v hs' j) (upI iS v si' j) (upI iL v lo' j) (upI uB v bk' j)
      rw [upI_ne c, upI_ne c, upI_ne c, upI_ne c, upI_ne c]
      exact ⟨this.1, this.2.fr hF (by omega) (fun i y1 y2 => by omega)⟩
theorem l_keep (hX : (XR E x mf ow h w hs si lo bk uW uH uB iL iS tp td fk fp my wd uN)) (hk : 0 ≤ v ∧ v ≤ 2) (h0 : iS v ≠ -1) (hW2 : 0 ≤ w 2 ∧ w 2 ≤ 12) (hsi : 0 ≤ si ∧ si ≤ 60) :
    GO E iX0_keep (d + 9) 72 14400 37 [some (.ref x), some (vI v)] [] h (qP fun o k => o = vI 0 ∧ ∃ ow', (XR E x mf ow' k w hs si lo bk (upI uW v w) (upI uH v hs) (upI uB v bk) (upI iL v lo) (upI iS v si) tp td fk fp my wd uN)) := by
  obtain ⟨im, a, t, rr, bb, o8, hIm, e, hS⟩ := hX.src hk h0
  obtain ⟨x1, x2, ⟨w3, bl, tq, pl, bp, hC, -⟩, x4, -⟩ := id hX
  have cB := c_becomesS (d := d) (q1 := v.toNat + 1) (q2 := 0) (by omega) hS.stt x4 x1 hW2 hsi
  refine g_aload_n (q := 38) dX0_keep_37 rfl rfl ?_
  refine g_get (C := RX0) (T := TX0) (ci := 0) (k := 2) (q := 41) dX0_keep_38 q520 rfl in_X0 (by decide) hC rfl rfl ?_
  refine g_iload_n (q := 42) dX0_keep_41 rfl rfl ?_
  refine g_aald (t0 := 10) (q := 43) dX0_keep_42 hIm rfl rfl (by omega) (by omega) rfl ?_
  rw [e]
  refine g_aload_n (q := 44) dX0_keep_43 rfl rfl ?_
  refine g_get (C := RX0) (T := TX0) (ci := 0) (k := 1) (q := 47) dX0_keep_44 q519 rfl in_X0 (by decide) hC rfl rfl ?_
  refine g_cvVP (I' := iX1_becomes) (mc := 72) (ms := 14400) (rc := 0) (rs := 0) (ci := 1) (q := 50) dX0_keep_47 q1378 q1379 rfl q1380 gcX1_becomes hS.1.2.1 (cB) rfl rfl (fun k47 z47 => ?_)
  obtain ⟨ow2, hS2, hh2, hF2⟩ := z47
  obtain ⟨b8, c8⟩ := hF2.at o8 (by omega) hIm
  refine g_iconst (q := 51) dX0_keep_50 rfl ?_
  exact g_iret dX0_keep_51 rfl ⟨_, rfl, rfl, ow2, XR.img hX hh2 hk (hF2.sub (fun i q => by omega)) hIm b8 c8 (fun _ _ _ _ => rfl) e hsi.1 hS2⟩
theorem c_keepX (hX : (XR E x mf ow h w hs si lo bk uW uH uB iL iS tp td fk fp my wd uN)) (hk : 0 ≤ v ∧ v ≤ 2) (h0 : iS v ≠ -1) (hW2 : 0 ≤ w 2 ∧ w 2 ≤ 12) (hsi : 0 ≤ si ∧ si ≤ 60) :
    CALL E iX0_keep (d + 9) 72 14400 [.ref x, vI v] h (qP fun o k => o = vI 0 ∧ ∃ ow', (XR E x mf ow' k w hs si lo bk (upI uW v w) (upI uH v hs) (upI uB v bk) (upI iL v lo) (upI iS v si) tp td fk fp my wd uN)) := by
  obtain ⟨im, a, t, rr, bb, o8, hIm, e, hS⟩ := hX.src hk h0
  obtain ⟨x1, x2, ⟨w3, bl, tq, pl, bp, hC, -⟩, x4, -⟩ := id hX
  show GO E iX0_keep _ _ _ 0 [some (.ref x), some (vI v)] [] _ _
  refine g_iload_n (q := 1) dX0_keep_0 rfl rfl ?_
  refine g_i2l (q := 2) dX0_keep_1 (by first | assumption | exact in32_gB | exact in32_gCmp | (unfold in32; omega)) rfl ?_
  refine g_lconst0 (q := 3) dX0_keep_2 rfl ?_
  refine g_ldc2 (a := 2) (q := 6) dX0_keep_3 q1187 (by decide) rfl ?_
  refine g_cs (I' := iX0_in) (mc := 0) (ms := 0) (rc := 72) (rs := 14400) (q := 9) dX0_keep_6 q130 q131 gcX0_in (c_inX (by unfold in64; omega) (by unfold in64; omega) (by unfold in64; omega)) rfl rfl ?_
  refine g_ifneB (t := 15) (q := 12) dX0_keep_9 (by decide) rfl (fun c9 => ?_) (fun c9 => ?_)
  · refine g_aload_n (q := 16) dX0_keep_15 rfl rfl ?_
    refine g_get (C := RX0) (T := TX0) (ci := 0) (k := 2) (q := 19) dX0_keep_16 q520 rfl in_X0 (by decide) hC rfl rfl ?_
    refine g_iload_n (q := 20) dX0_keep_19 rfl rfl ?_
    refine g_aald (t0 := 10) (q := 21) dX0_keep_20 hIm rfl rfl (by omega) (by omega) rfl ?_
    rw [e]
    refine g_ifnonnullR (t := 37) dX0_keep_21 (by decide) ?_
    exact l_keep hX hk h0 hW2 hsi
  · exact absurd hk c9
theorem upI_upI {α : Type} {g : Int → α} {a b : α} : upI (upI g v a) v b = upI g v b := by
  funext j
  unfold upI
  by_cases c : j = v
  · rw [if_pos c, if_pos c]
  · rw [if_neg c, if_neg c, if_neg c]
theorem c_keepNew (hX : (XR E x mf ow h w hs si lo bk uW uH uB iL iS tp td fk fp my wd uN)) (hk : 0 ≤ v ∧ v ≤ 2) (h0 : iS v = -1) (hW2 : 0 ≤ w 2 ∧ w 2 ≤ 12) (hsi : 0 ≤ si ∧ si ≤ 60) :
    CALL E iX0_keep (d + 9) (72 + 117) (14400 + 2502) [.ref x, vI v] h (qP fun o k => o = vI 0 ∧ ∃ ow', (XR E x mf ow' k w hs si lo bk (upI uW v w) (upI uH v hs) (upI uB v bk) (upI iL v lo) (upI iS v si) tp td fk fp my wd uN)) := by
  obtain ⟨im, hIm, e⟩ := hX.none hk h0
  obtain ⟨x1, x2, ⟨w3, bl, tq, pl, bp, hC, -⟩, x4, ⟨o8, -⟩, -⟩ := id hX
  have hb := x1 _ _ hIm
  have hst0 : (ADD (app h (st14 E h.2 (fsO h.2))) 103 (hdF E (h.2 + 14) (some (h.2 + 1)) (fun _ => 0) (akO 0 0 0 0 0))).1 h.2 = some (fsO h.2) := AA_at (k := 0) rfl
  have hx119 : (ADD (app h (st14 E h.2 (fsO h.2))) 103 (hdF E (h.2 + 14) (some (h.2 + 1)) (fun _ => 0) (akO 0 0 0 0 0))).1 (x + 119) = some (aR E 10 3 im) := by
    rw [ADD_lo (show x + 119 < h.2 + 14 by omega), app_lo hb]; exact hIm
  have e8 : owS ow (v.toNat + 1) h.2 (x + 119) = 8 := by unfold owS; rw [if_neg (by omega)]; exact o8
  have hF0 : FR ow (owS ow (v.toNat + 1) h.2) h (ADD (app h (st14 E h.2 (fsO h.2))) 103 (hdF E (h.2 + 14) (some (h.2 + 1)) (fun _ => 0) (akO 0 0 0 0 0))) (fun _ => True) := FR.add x1 (fun b z => if_neg (by omega))
  have hF1 : FR (owS ow (v.toNat + 1) h.2) (owS ow (v.toNat + 1) h.2) (ADD (app h (st14 E h.2 (fsO h.2))) 103 (hdF E (h.2 + 14) (some (h.2 + 1)) (fun _ => 0) (akO 0 0 0 0 0))) (hset (ADD (app h (st14 E h.2 (fsO h.2))) 103 (hdF E (h.2 + 14) (some (h.2 + 1)) (fun _ => 0) (akO 0 0 0 0 0))) (x + 119) (aR E 10 3 (upI im v (some h.2)))) (fun i => i ≠ 8) := FR.set e8
  have hS := (st_fresh (E := E) (bk := bk) (OS.owS (ow := ow) (q := v.toNat + 1) (a := h.2))).fr hF1 (by omega) (fun i _ _ => by omega)
  have hX2 := XR.img hX ((HW.add x1).set hx119) hk ((hF0.sub (fun _ _ => trivial)).trans (hF1.sub (fun i q => by omega))) hIm e8 hset_at (fun j _ _ z => upI_ne z) upI_at (Int.le_refl 0) hS
  show GO E iX0_keep _ _ _ 0 [some (.ref x), some (vI v)] [] _ _
  refine g_iload_n (q := 1) dX0_keep_0 rfl rfl ?_
  refine g_i2l (q := 2) dX0_keep_1 (by first | assumption | exact in32_gB | exact in32_gCmp | (unfold in32; omega)) rfl ?_
  refine g_lconst0 (q := 3) dX0_keep_2 rfl ?_
  refine g_ldc2 (a := 2) (q := 6) dX0_keep_3 q1187 (by decide) rfl ?_
  refine g_cs (I' := iX0_in) (mc := 0) (ms := 0) (rc := 189) (rs := 16902) (q := 9) dX0_keep_6 q130 q131 gcX0_in (c_inX (by unfold in64; omega) (by unfold in64; omega) (by unfold in64; omega)) rfl rfl ?_
  refine g_ifneB (t := 15) (q := 12) dX0_keep_9 (by decide) rfl (fun c9 => ?_) (fun c9 => ?_)
  · refine g_aload_n (q := 16) dX0_keep_15 rfl rfl ?_
    refine g_get (C := RX0) (T := TX0) (ci := 0) (k := 2) (q := 19) dX0_keep_16 q520 rfl in_X0 (by decide) hC rfl rfl ?_
    refine g_iload_n (q := 20) dX0_keep_19 rfl rfl ?_
    refine g_aald (t0 := 10) (q := 21) dX0_keep_20 hIm rfl rfl (by omega) (by omega) rfl ?_
    rw [e]
    refine g_ifnonnullN (q := 24) dX0_keep_21 rfl ?_
    refine g_aload_n (q := 25) dX0_keep_24 rfl rfl ?_
    refine g_get (C := RX0) (T := TX0) (ci := 0) (k := 2) (q := 28) dX0_keep_25 q520 rfl in_X0 (by decide) hC rfl rfl ?_
    refine g_iload_n (q := 29) dX0_keep_28 rfl rfl ?_
    refine g_new (C := RX1) (T := TX1) (N := 7) (ci := 1) (fs := [.null, .null, .null, .null, .null, vI 0, vI 0]) (q := 32) dX0_keep_29 q331 q332 q85 rfl in_X1 tyX1_ok (by decide) rfl ?_
    refine GO.cast app_one ?_
    refine g_dup (q := 33) dX0_keep_32 rfl ?_
    refine g_ci (I' := iX1_init) (mc := 116) (ms := 2495) (rc := 72) (rs := 14400) (q := 36) dX0_keep_33 q333 q334 rfl q335 gcX1_init (c_sinit) rfl rfl ?_
    refine g_aast (q := 37) dX0_keep_36 hx119 rfl (gAny.self (ci := 1) hst0 rfl) (by omega) (by omega) rfl ?_
    have z9 := l_keep (d := d) hX2 hk (by rw [upI_at]; omega) hW2 hsi
    simp only [upI_upI] at z9
    exact z9
  · exact absurd hk c9
theorem c_keepBad (hX : (XR E x mf ow h w hs si lo bk uW uH uB iL iS tp td fk fp my wd uN)) (hr : in32 v) (hk : ¬ (0 ≤ v ∧ v ≤ 2)) : CALL E iX0_keep (d + 1) 0 0 [.ref x, vI v] h (qP fun o k => o = vI (-2) ∧ (XR E x mf ow k w hs si lo bk uW uH uB iL iS tp td fk fp my wd uN)) := by
  have q1 := hr.1
  have q2 := hr.2
  show GO E iX0_keep _ _ _ 0 [some (.ref x), some (vI v)] [] _ _
  refine g_iload_n (q := 1) dX0_keep_0 rfl rfl ?_
  refine g_i2l (q := 2) dX0_keep_1 (by first | assumption | exact in32_gB | exact in32_gCmp | (unfold in32; omega)) rfl ?_
  refine g_lconst0 (q := 3) dX0_keep_2 rfl ?_
  refine g_ldc2 (a := 2) (q := 6) dX0_keep_3 q1187 (by decide) rfl ?_
  refine g_cs (I' := iX0_in) (mc := 0) (ms := 0) (rc := 0) (rs := 0) (q := 9) dX0_keep_6 q130 q131 gcX0_in (c_inX (by unfold in64; omega) (by unfold in64; omega) (by unfold in64; omega)) rfl rfl ?_
  refine g_ifneB (t := 15) (q := 12) dX0_keep_9 (by decide) rfl (fun c9 => ?_) (fun c9 => ?_)
  · exact absurd c9 hk
  · refine g_bipush (q := 14) dX0_keep_12 rfl ?_
    exact g_iret dX0_keep_14 rfl ⟨_, rfl, rfl, hX⟩
end
