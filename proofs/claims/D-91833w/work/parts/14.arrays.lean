/-! MY LOGIC, part 4: arrays, new objects -/
set_option maxRecDepth 100000
section Rows
variable {E : gE} {I : gI} {d rc rs pc q : Nat} {lv : List (Option Value)} {st : List Value} {h : gH} {Q : Outcome → gH → Prop} {a n : Nat} {i x : Int} {g : Int → Int}
theorem g_iald (hd : decode I.2.1 pc = .ok (.iaload, 1)) (ha : h.1 a = some (aI E n g)) (h0 : 0 ≤ i) (h1 : i < n) (hq : pc + 1 = q) (kk : GO E I d rc rs q lv (vI (g i) :: st) h Q) (hn : n < 2147483648 := by first | decide | omega) : GO E I d rc rs pc lv (vI i :: .ref a :: st) h Q := by
  subst hq
  intro p l e R s m args below meth c H locs k n' ls hc a1 a2 a3 a4 hR hL hl
  refine va_iald hc.1 hc.2.1 (gK hc) (hR.P ha) 0 0 rfl rfl (vp_in_o h0 h1 hn) hd ?_
  rw [o32c (by unfold in32; omega), Int.toNat_of_nonneg h0]
  exact kk p l e R s m args below meth c H locs k n' ls hc a1 a2 a3 a4 hR hL hl
theorem g_bald (hd : decode I.2.1 pc = .ok (.baload, 1)) (ha : h.1 a = some (aB E n g)) (h0 : 0 ≤ i) (h1 : i < n) (hq : pc + 1 = q) (kk : GO E I d rc rs q lv (vI (g i) :: st) h Q) (hn : n < 2147483648 := by first | decide | omega) : GO E I d rc rs pc lv (vI i :: .ref a :: st) h Q := by
  subst hq
  intro p l e R s m args below meth c H locs k n' ls hc a1 a2 a3 a4 hR hL hl
  refine va_bald hc.1 hc.2.1 (gK hc) (hR.P ha) 0 1 rfl rfl (vp_in_o h0 h1 hn) hd ?_
  rw [o32c (by unfold in32; omega), Int.toNat_of_nonneg h0]
  exact kk p l e R s m args below meth c H locs k n' ls hc a1 a2 a3 a4 hR hL hl
theorem g_zald (hd : decode I.2.1 pc = .ok (.baload, 1)) (ha : h.1 a = some (aZ E n g)) (h0 : 0 ≤ i) (h1 : i < n) (hq : pc + 1 = q) (kk : GO E I d rc rs q lv (vI (g i) :: st) h Q) (hn : n < 2147483648 := by first | decide | omega) : GO E I d rc rs pc lv (vI i :: .ref a :: st) h Q := by
  subst hq
  intro p l e R s m args below meth c H locs k n' ls hc a1 a2 a3 a4 hR hL hl
  refine va_zald hc.1 hc.2.1 (gK hc) (hR.P ha) 0 4 rfl rfl (vp_in_o h0 h1 hn) hd ?_
  rw [o32c (by unfold in32; omega), Int.toNat_of_nonneg h0]
  exact kk p l e R s m args below meth c H locs k n' ls hc a1 a2 a3 a4 hR hL hl
theorem g_sald (hd : decode I.2.1 pc = .ok (.saload, 1)) (ha : h.1 a = some (aS E n g)) (h0 : 0 ≤ i) (h1 : i < n) (hq : pc + 1 = q) (kk : GO E I d rc rs q lv (vI (g i) :: st) h Q) (hn : n < 2147483648 := by first | decide | omega) : GO E I d rc rs pc lv (vI i :: .ref a :: st) h Q := by
  subst hq
  intro p l e R s m args below meth c H locs k n' ls hc a1 a2 a3 a4 hR hL hl
  refine va_sald hc.1 hc.2.1 (gK hc) (hR.P ha) 0 2 rfl rfl (vp_in_o h0 h1 hn) hd ?_
  rw [o32c (by unfold in32; omega), Int.toNat_of_nonneg h0]
  exact kk p l e R s m args below meth c H locs k n' ls hc a1 a2 a3 a4 hR hL hl
theorem g_lald (hd : decode I.2.1 pc = .ok (.laload, 1)) (ha : h.1 a = some (aL E n g)) (h0 : 0 ≤ i) (h1 : i < n) (hq : pc + 1 = q) (kk : GO E I d rc rs q lv (vL (g i) :: st) h Q) (hn : n < 2147483648 := by first | decide | omega) : GO E I d rc rs pc lv (vI i :: .ref a :: st) h Q := by
  subst hq
  intro p l e R s m args below meth c H locs k n' ls hc a1 a2 a3 a4 hR hL hl
  refine va_lald hc.1 hc.2.1 (gK hc) (hR.P ha) 0 3 rfl rfl (vp_in_o h0 h1 hn) hd ?_
  rw [o32c (by unfold in32; omega), Int.toNat_of_nonneg h0]
  exact kk p l e R s m args below meth c H locs k n' ls hc a1 a2 a3 a4 hR hL hl
theorem gtype {E : gE} {I : gI} {p : Program} {s : State} {m : MethodId} {meth : Method} {c : Code} (hc : gCx E I p s m meth c) (t0 : Nat) {y : ClassId × FieldType} (ht : (gTys E)[t0]? = some y) : ArrOfT s y.1 y.2 := ((gK hc).2 t0 y ht).1
/-- a place of an array of references -/
theorem g_aald {t0 : Nat} {ty : FieldType} {f : Int → Option Nat} (hd : decode I.2.1 pc = .ok (.aaload, 1)) (ha : h.1 a = some (aR E t0 n f)) (ht : (gTys E)[t0]? = some (E.2.1 t0, ty)) (hty : ty.isReference = true) (h0 : 0 ≤ i) (h1 : i < n) (hq : pc + 1 = q) (kk : GO E I d rc rs q lv (va_rf (f i) :: st) h Q) (hn : n < 2147483648 := by first | decide | omega) : GO E I d rc rs pc lv (vI i :: .ref a :: st) h Q := by
  subst hq
  intro p l e R s m args below meth c H locs k n' ls hc a1 a2 a3 a4 hR hL hl
  have hin := vp_in_o h0 h1 hn
  have hlt : (Int32.ofInt i).toNatClampNeg < n := Nat.not_le.mp fun q => hin (Or.inr q)
  refine W.aald (v := va_rf (f ((Int32.ofInt i).toNatClampNeg : Int))) (ty := ty) hc.1 hc.2.1 (hR.P ha 0 _ rfl) (gtype hc t0 ht n (fun j => va_rf (f (j : Int)))) hty (fun q => by cases q) (by show ¬ (Int32.ofInt i < 0 ∨ (arrV _ _ _).slots.size ≤ _); rw [arrV_size]; exact hin) (by show (arrV _ _ _).slots[_]? = _; rw [arrV_read _ _ hlt]) rfl rfl hd ?_
  rw [o32c (by unfold in32; omega), Int.toNat_of_nonneg h0]
  exact kk p l e R s m args below meth c H locs k n' ls hc a1 a2 a3 a4 hR hL hl
theorem g_iast (hd : decode I.2.1 pc = .ok (.iastore, 1)) (ha : h.1 a = some (aI E n g)) (h0 : 0 ≤ i) (h1 : i < n) (hq : pc + 1 = q) (kk : GO E I d rc rs q lv st (hset h a (aI E n (upI g i x))) Q) (hn : n < 2147483648 := by first | decide | omega) : GO E I d rc rs pc lv (vI x :: vI i :: .ref a :: st) h Q := by
  subst hq
  intro p l e R s m args below meth c H locs k n' ls hc a1 a2 a3 a4 hR hL hl
  have hin := vp_in_o h0 h1 hn
  have hlt : (Int32.ofInt i).toNatClampNeg < n := Nat.not_le.mp fun q => hin (Or.inr q)
  refine W.iast hc.1 hc.2.1 (hR.P ha 0 _ rfl) (gtype hc 0 rfl n (fun j => .int (Int32.ofInt (g (j : Int))))) (fun q => by cases q) (by show ¬ (Int32.ofInt i < 0 ∨ (arrV _ _ _).slots.size ≤ _); rw [arrV_size]; exact hin) rfl rfl hd fun H1 e z oq => ?_
  refine kk p l _ R s m args below meth c H1 _ k n' ls hc a1 a2 a3 a4 (hR.set ha z oq ?_) (locs1 hL (hR.2.2.2 a _ ha).1) hl
  show H1[a]? = some (vp_cell _ _)
  rw [e]
  rw [vp_cell_i, vp_cell_i, arrV_store]
  congr 2
  funext q
  rw [o32c (by unfold in32; omega)]
  by_cases hq : q = i.toNat
  · subst hq
    simp only [updV, upI, if_true]
    rw [if_pos (Int.toNat_of_nonneg h0)]
    try rfl
  · simp only [updV, upI, if_neg hq]
    rw [if_neg (by omega)]
theorem g_last (hd : decode I.2.1 pc = .ok (.lastore, 1)) (ha : h.1 a = some (aL E n g)) (h0 : 0 ≤ i) (h1 : i < n) (hq : pc + 1 = q) (kk : GO E I d rc rs q lv st (hset h a (aL E n (upI g i x))) Q) (hn : n < 2147483648 := by first | decide | omega) : GO E I d rc rs pc lv (vL x :: vI i :: .ref a :: st) h Q := by
  subst hq
  intro p l e R s m args below meth c H locs k n' ls hc a1 a2 a3 a4 hR hL hl
  have hin := vp_in_o h0 h1 hn
  have hlt : (Int32.ofInt i).toNatClampNeg < n := Nat.not_le.mp fun q => hin (Or.inr q)
  refine W.last hc.1 hc.2.1 (hR.P ha 0 _ rfl) (gtype hc 3 rfl n (fun j => .long (Int64.ofInt (g (j : Int))))) (fun q => by cases q) (by show ¬ (Int32.ofInt i < 0 ∨ (arrV _ _ _).slots.size ≤ _); rw [arrV_size]; exact hin) rfl rfl hd fun H1 e z oq => ?_
  refine kk p l _ R s m args below meth c H1 _ k n' ls hc a1 a2 a3 a4 (hR.set ha z oq ?_) (locs1 hL (hR.2.2.2 a _ ha).1) hl
  show H1[a]? = some (vp_cell _ _)
  rw [e]
  rw [vp_cell_l, vp_cell_l, arrV_store]
  congr 2
  funext q
  rw [o32c (by unfold in32; omega)]
  by_cases hq : q = i.toNat
  · subst hq
    simp only [updV, upI, if_true]
    rw [if_pos (Int.toNat_of_nonneg h0)]
    try rfl
  · simp only [updV, upI, if_neg hq]
    rw [if_neg (by omega)]
theorem g_bast (hd : decode I.2.1 pc = .ok (.bastore, 1)) (ha : h.1 a = some (aB E n g)) (h0 : 0 ≤ i) (h1 : i < n) (hx : -128 ≤ x ∧ x < 128) (hq : pc + 1 = q) (kk : GO E I d rc rs q lv st (hset h a (aB E n (upI g i x))) Q) (hn : n < 2147483648 := by first | decide | omega) : GO E I d rc rs pc lv (vI x :: vI i :: .ref a :: st) h Q := by
  subst hq
  intro p l e R s m args below meth c H locs k n' ls hc a1 a2 a3 a4 hR hL hl
  have hin := vp_in_o h0 h1 hn
  have hlt : (Int32.ofInt i).toNatClampNeg < n := Nat.not_le.mp fun q => hin (Or.inr q)
  refine W.bast hc.1 hc.2.1 (hR.P ha 0 _ rfl) (gtype hc 1 rfl n (fun j => .int (Int32.ofInt (g (j : Int))))) (fun q => by cases q) (by show ¬ (Int32.ofInt i < 0 ∨ (arrV _ _ _).slots.size ≤ _); rw [arrV_size]; exact hin) rfl rfl hd fun H1 e z oq => ?_
  refine kk p l _ R s m args below meth c H1 _ k n' ls hc a1 a2 a3 a4 (hR.set ha z oq ?_) (locs1 hL (hR.2.2.2 a _ ha).1) hl
  show H1[a]? = some (vp_cell _ _)
  rw [e]
  rw [vp_cell_i, vp_cell_i, arrV_store]
  congr 2
  funext q
  rw [o32c (by unfold in32; omega)]
  by_cases hq : q = i.toNat
  · subst hq
    simp only [updV, upI, if_true]
    rw [if_pos (Int.toNat_of_nonneg h0)]
    have e9 : narrow .byte (.int (Int32.ofInt x)) = .int (Int32.ofInt x) := by
      show Value.int (Int32.ofInt x).toInt8.toInt32 = _
      rw [Int32.toInt8_ofInt, Int8.toInt32_ofInt (by show (-128 : Int) ≤ x; exact hx.1) (by show x ≤ (127 : Int); omega)]
    exact e9
  · simp only [updV, upI, if_neg hq]
    rw [if_neg (by omega)]
theorem g_sast (hd : decode I.2.1 pc = .ok (.sastore, 1)) (ha : h.1 a = some (aS E n g)) (h0 : 0 ≤ i) (h1 : i < n) (hx : -32768 ≤ x ∧ x < 32768) (hq : pc + 1 = q) (kk : GO E I d rc rs q lv st (hset h a (aS E n (upI g i x))) Q) (hn : n < 2147483648 := by first | decide | omega) : GO E I d rc rs pc lv (vI x :: vI i :: .ref a :: st) h Q := by
  subst hq
  intro p l e R s m args below meth c H locs k n' ls hc a1 a2 a3 a4 hR hL hl
  have hin := vp_in_o h0 h1 hn
  have hlt : (Int32.ofInt i).toNatClampNeg < n := Nat.not_le.mp fun q => hin (Or.inr q)
  refine W.sast hc.1 hc.2.1 (hR.P ha 0 _ rfl) (gtype hc 2 rfl n (fun j => .int (Int32.ofInt (g (j : Int))))) (fun q => by cases q) (by show ¬ (Int32.ofInt i < 0 ∨ (arrV _ _ _).slots.size ≤ _); rw [arrV_size]; exact hin) rfl rfl hd fun H1 e z oq => ?_
  refine kk p l _ R s m args below meth c H1 _ k n' ls hc a1 a2 a3 a4 (hR.set ha z oq ?_) (locs1 hL (hR.2.2.2 a _ ha).1) hl
  show H1[a]? = some (vp_cell _ _)
  rw [e]
  rw [vp_cell_i, vp_cell_i, arrV_store]
  congr 2
  funext q
  rw [o32c (by unfold in32; omega)]
  by_cases hq : q = i.toNat
  · subst hq
    simp only [updV, upI, if_true]
    rw [if_pos (Int.toNat_of_nonneg h0)]
    have e9 : narrow .short (.int (Int32.ofInt x)) = .int (Int32.ofInt x) := by
      show Value.int (Int32.ofInt x).toInt16.toInt32 = _
      rw [Int32.toInt16_ofInt, Int16.toInt32_ofInt (by show (-32768 : Int) ≤ x; exact hx.1) (by show x ≤ (32767 : Int); omega)]
    exact e9
  · simp only [updV, upI, if_neg hq]
    rw [if_neg (by omega)]
theorem g_zast (hd : decode I.2.1 pc = .ok (.bastore, 1)) (ha : h.1 a = some (aZ E n g)) (h0 : 0 ≤ i) (h1 : i < n) (hx : x = 0 ∨ x = 1) (hq : pc + 1 = q) (kk : GO E I d rc rs q lv st (hset h a (aZ E n (upI g i x))) Q) (hn : n < 2147483648 := by first | decide | omega) : GO E I d rc rs pc lv (vI x :: vI i :: .ref a :: st) h Q := by
  subst hq
  intro p l e R s m args below meth c H locs k n' ls hc a1 a2 a3 a4 hR hL hl
  have hin := vp_in_o h0 h1 hn
  have hlt : (Int32.ofInt i).toNatClampNeg < n := Nat.not_le.mp fun q => hin (Or.inr q)
  refine W.zast hc.1 hc.2.1 (hR.P ha 0 _ rfl) (gtype hc 4 rfl n (fun j => .int (Int32.ofInt (g (j : Int))))) (fun q => by cases q) (by show ¬ (Int32.ofInt i < 0 ∨ (arrV _ _ _).slots.size ≤ _); rw [arrV_size]; exact hin) rfl rfl hd fun H1 e z oq => ?_
  refine kk p l _ R s m args below meth c H1 _ k n' ls hc a1 a2 a3 a4 (hR.set ha z oq ?_) (locs1 hL (hR.2.2.2 a _ ha).1) hl
  show H1[a]? = some (vp_cell _ _)
  rw [e]
  rw [vp_cell_i, vp_cell_i, arrV_store]
  congr 2
  funext q
  rw [o32c (by unfold in32; omega)]
  by_cases hq : q = i.toNat
  · subst hq
    simp only [updV, upI, if_true]
    rw [if_pos (Int.toNat_of_nonneg h0)]
    have e9 : narrow .boolean (.int (Int32.ofInt x)) = .int (Int32.ofInt x) := by
      rcases hx with rfl | rfl <;> rfl
    exact e9
  · simp only [updV, upI, if_neg hq]
    rw [if_neg (by omega)]
theorem g_alen {x : va_E} {cA : ClassId} {ct : (Nat → Int32) ⊕ (Nat → Int64) ⊕ (Nat → UInt32) ⊕ (Nat → UInt64) ⊕ (Nat → Option Nat)} (t0 : Nat) {ty : FieldType} (hd : decode I.2.1 pc = .ok (.arraylength, 1)) (ha : h.1 a = some x) (hx : x = .inl (cA, n, ct)) (ht : (gTys E)[t0]? = some (cA, ty)) (hq : pc + 1 = q) (kk : GO E I d rc rs q lv (vI (n : Int) :: st) h Q) : GO E I d rc rs pc lv (.ref a :: st) h Q := by
  subst hq
  subst hx
  intro p l e R s m args below meth c H locs k n' ls hc a1 a2 a3 a4 hR hL hl
  exact va_alen hc.1 hc.2.1 (gK hc) (hR.P ha) 0 t0 rfl ht (v := Int32.ofInt (n : Int)) (by rw [Int32.ofInt_eq_ofNat]) hd (kk p l e R s m args below meth c H locs k n' ls hc a1 a2 a3 a4 hR hL hl)
theorem g_new {C : String} {T : u_T} {N ci index : Nat} {fs : List Value} {ty : Nat → FieldType} (hd : decode I.2.1 pc = .ok (.new index, 3)) (hlink : Cond.classLink I.1.cls index C ∈ lw_all) (hins : Cond.instantiable C N ∈ lw_all) (hini : Cond.initialized C ∈ lw_all) (hcl : vwCl[ci]? = some (C, T, N)) (hin : ∀ w ∈ u_ws C T N, w ∈ lw_all)
    (hty : ∀ k, k < N → parseFieldDescriptor (T k).2.2.1 = some (ty k)) (hfs : ∀ j, j < N → defaultValue (ty j) = vp_V fs j) (hq : pc + 3 = q) (kk : GO E I d rc rs q lv (.ref h.2 :: st) (hnew h (oB ci fs)) Q) : GO E I d (rc + 1) (rs + N) pc lv st h Q := by
  subst hq
  intro p l e R s m args below meth c H locs k n' ls hc a1 a2 a3 a4 hR hL hl
  have hKn := (gK hc).1 ci _ hcl
  refine W.newcK hc.1 hc.2.1 hc.2.2.2.2.2.2.1 (gw hc hlink) (gw hc hins) (gw hc hini) rfl hd (by omega) (by omega) hKn.2.1 rfl fun H1 kC hkC e1 z1 o1 => ?_
  have hs := hR.1
  rw [hs] at e1 ⊢
  exact kk p l e R s m args below meth c H1 locs (k + 1) (n' + N) ls hc a1 a2 (by omega) (by omega) (hR.push (by omega) o1 ⟨_, hcl, (u_born ty (ws := lw_all) (args := args) (fun w hw => gw hc hw) hin hKn hkC e1 hty).to hfs⟩) hL hl
theorem g_newaI (hd : decode I.2.1 pc = .ok (.newarray .int, 2)) (hw : Cond.arrayClass .int ∈ lw_all) (h0 : 0 ≤ i) (h1 : i < 60000) (hq : pc + 2 = q) (kk : GO E I d rc rs q lv (.ref h.2 :: st) (hnew h (aI E i.toNat (fun _ => 0))) Q) : GO E I d (rc + 1) (rs + i.toNat) pc lv (vI i :: st) h Q := by
  subst hq
  intro p l e R s m args below meth c H locs k n' ls hc a1 a2 a3 a4 hR hL hl
  have hi : in32 i := by unfold in32; omega
  refine va_newaK (N := i.toNat) hc.1 hc.2.1 (atype := .int) (gw hc hw) rfl hd rfl (by rw [o32_0, o32_lt hi in32_0]; omega) (o32c hi) (by show i.toNat * 4 ≤ 536870912; omega) (by omega) (by omega) hR.1 fun H1 cA e1 z1 o1 hAr hNm => ?_
  have hcA : cA = E.2.1 0 := Option.some.inj (hNm.symm.trans ((gK hc).2 0 _ rfl).2)
  subst hcA
  exact kk p l e R s m args below meth c H1 locs (k + 1) (n' + i.toNat) ls hc a1 a2 (by omega) (by omega) (hR.push (by rw [hR.1]; exact z1) (by rw [hR.1]; exact o1) (by show H1[h.2]? = some (vp_cell _ _); rw [e1]; rfl)) hL hl
theorem g_newaB (hd : decode I.2.1 pc = .ok (.newarray .byte, 2)) (hw : Cond.arrayClass .byte ∈ lw_all) (h0 : 0 ≤ i) (h1 : i < 60000) (hq : pc + 2 = q) (kk : GO E I d rc rs q lv (.ref h.2 :: st) (hnew h (aB E i.toNat (fun _ => 0))) Q) : GO E I d (rc + 1) (rs + i.toNat) pc lv (vI i :: st) h Q := by
  subst hq
  intro p l e R s m args below meth c H locs k n' ls hc a1 a2 a3 a4 hR hL hl
  have hi : in32 i := by unfold in32; omega
  refine va_newaK (N := i.toNat) hc.1 hc.2.1 (atype := .byte) (gw hc hw) rfl hd rfl (by rw [o32_0, o32_lt hi in32_0]; omega) (o32c hi) (by show i.toNat * 1 ≤ 536870912; omega) (by omega) (by omega) hR.1 fun H1 cA e1 z1 o1 hAr hNm => ?_
  have hcA : cA = E.2.1 1 := Option.some.inj (hNm.symm.trans ((gK hc).2 1 _ rfl).2)
  subst hcA
  exact kk p l e R s m args below meth c H1 locs (k + 1) (n' + i.toNat) ls hc a1 a2 (by omega) (by omega) (hR.push (by rw [hR.1]; exact z1) (by rw [hR.1]; exact o1) (by show H1[h.2]? = some (vp_cell _ _); rw [e1]; rfl)) hL hl
theorem g_newaS (hd : decode I.2.1 pc = .ok (.newarray .short, 2)) (hw : Cond.arrayClass .short ∈ lw_all) (h0 : 0 ≤ i) (h1 : i < 60000) (hq : pc + 2 = q) (kk : GO E I d rc rs q lv (.ref h.2 :: st) (hnew h (aS E i.toNat (fun _ => 0))) Q) : GO E I d (rc + 1) (rs + i.toNat) pc lv (vI i :: st) h Q := by
  subst hq
  intro p l e R s m args below meth c H locs k n' ls hc a1 a2 a3 a4 hR hL hl
  have hi : in32 i := by unfold in32; omega
  refine va_newaK (N := i.toNat) hc.1 hc.2.1 (atype := .short) (gw hc hw) rfl hd rfl (by rw [o32_0, o32_lt hi in32_0]; omega) (o32c hi) (by show i.toNat * 2 ≤ 536870912; omega) (by omega) (by omega) hR.1 fun H1 cA e1 z1 o1 hAr hNm => ?_
  have hcA : cA = E.2.1 2 := Option.some.inj (hNm.symm.trans ((gK hc).2 2 _ rfl).2)
  subst hcA
  exact kk p l e R s m args below meth c H1 locs (k + 1) (n' + i.toNat) ls hc a1 a2 (by omega) (by omega) (hR.push (by rw [hR.1]; exact z1) (by rw [hR.1]; exact o1) (by show H1[h.2]? = some (vp_cell _ _); rw [e1]; rfl)) hL hl
theorem g_newaL (hd : decode I.2.1 pc = .ok (.newarray .long, 2)) (hw : Cond.arrayClass .long ∈ lw_all) (h0 : 0 ≤ i) (h1 : i < 60000) (hq : pc + 2 = q) (kk : GO E I d rc rs q lv (.ref h.2 :: st) (hnew h (aL E i.toNat (fun _ => 0))) Q) : GO E I d (rc + 1) (rs + i.toNat) pc lv (vI i :: st) h Q := by
  subst hq
  intro p l e R s m args below meth c H locs k n' ls hc a1 a2 a3 a4 hR hL hl
  have hi : in32 i := by unfold in32; omega
  refine va_newaK (N := i.toNat) hc.1 hc.2.1 (atype := .long) (gw hc hw) rfl hd rfl (by rw [o32_0, o32_lt hi in32_0]; omega) (o32c hi) (by show i.toNat * 8 ≤ 536870912; omega) (by omega) (by omega) hR.1 fun H1 cA e1 z1 o1 hAr hNm => ?_
  have hcA : cA = E.2.1 3 := Option.some.inj (hNm.symm.trans ((gK hc).2 3 _ rfl).2)
  subst hcA
  exact kk p l e R s m args below meth c H1 locs (k + 1) (n' + i.toNat) ls hc a1 a2 (by omega) (by omega) (hR.push (by rw [hR.1]; exact z1) (by rw [hR.1]; exact o1) (by show H1[h.2]? = some (vp_cell _ _); rw [e1]; rfl)) hL hl
theorem g_newaZ (hd : decode I.2.1 pc = .ok (.newarray .boolean, 2)) (hw : Cond.arrayClass .boolean ∈ lw_all) (h0 : 0 ≤ i) (h1 : i < 60000) (hq : pc + 2 = q) (kk : GO E I d rc rs q lv (.ref h.2 :: st) (hnew h (aZ E i.toNat (fun _ => 0))) Q) : GO E I d (rc + 1) (rs + i.toNat) pc lv (vI i :: st) h Q := by
  subst hq
  intro p l e R s m args below meth c H locs k n' ls hc a1 a2 a3 a4 hR hL hl
  have hi : in32 i := by unfold in32; omega
  refine va_newaK (N := i.toNat) hc.1 hc.2.1 (atype := .boolean) (gw hc hw) rfl hd rfl (by rw [o32_0, o32_lt hi in32_0]; omega) (o32c hi) (by show i.toNat * 1 ≤ 536870912; omega) (by omega) (by omega) hR.1 fun H1 cA e1 z1 o1 hAr hNm => ?_
  have hcA : cA = E.2.1 4 := Option.some.inj (hNm.symm.trans ((gK hc).2 4 _ rfl).2)
  subst hcA
  exact kk p l e R s m args below meth c H1 locs (k + 1) (n' + i.toNat) ls hc a1 a2 (by omega) (by omega) (hR.push (by rw [hR.1]; exact z1) (by rw [hR.1]; exact o1) (by show H1[h.2]? = some (vp_cell _ _); rw [e1]; rfl)) hL hl
end Rows
