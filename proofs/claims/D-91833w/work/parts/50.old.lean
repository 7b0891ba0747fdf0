/-! MY LOGIC, part 7: what lay in the heap before the law: Strings, statics, tables -/
set_option maxRecDepth 100000
/-- the parts of a conjunction -/
def cjs : Jvm.Cond → List Jvm.Cond
  | .and a b => cjs a ++ cjs b
  | c => [c]
theorem cjs_ok {args : Array Value} {s : State} : ∀ (c : Jvm.Cond), c.before args s = true → ∀ x ∈ cjs c, x.before args s = true := by
  intro c
  induction c with
  | and a b iha ihb =>
    intro h x hx
    simp only [Jvm.Cond.before_and, Bool.and_eq_true] at h
    rcases List.mem_append.mp (show x ∈ cjs a ++ cjs b from hx) with w | w
    · exact iha h.1 x w
    · exact ihb h.2 x w
  | _ =>
    intro h x hx
    rw [List.mem_singleton.mp hx]
    exact h
def gOld (E : gE) : Nat → Prop := fun q => gZ E ≤ q
theorem gOld_lt {E : gE} : ∀ a : Nat, a < (gS E).heap.size → ¬ gOld E a := fun a h q => Nat.not_lt.mpr q h
theorem gNw {E : gE} (ok : gOK E) : ∀ x ∈ cjs narrow_1, x.before #[Value.ref E.2.2.2] (gS E) = true := by
  have h := ok.2.2.1
  simp only [Jvm.Cond.before_and, Bool.and_eq_true] at h
  exact cjs_ok _ h.2
theorem nw_seg {n : Nat} {L : List Jvm.Cond} (h : ((cjs narrow_1).drop n).take L.length = L) : ∀ x ∈ L, x ∈ cjs narrow_1 := fun x hx => by
  rw [← h] at hx
  exact List.mem_of_mem_drop (List.mem_of_mem_take hx)
def OBJ (E : gE) (C : String) (a : Nat) : Prop := va_O C a (gOld E) (gS E) (gS E).heap
def FLD (E : gE) (o n dd : String) (v : Value) (a : Nat) : Prop := va_OF o n dd v a (gOld E) (gS E) (gS E).heap
def TAB (E : gE) (ty : FieldType) (b n : Nat) (f : Nat → Value) : Prop := va_T ty b n f (gOld E) (gS E) (gS E).heap
def STA (E : gE) (C n dd : String) (v : Value) : Prop := va_Z C n dd v (gOld E) (gS E) (gS E).heap
/-- a String with these bytes -/
def STR (E : gE) (a : Nat) (bs : List Int) : Prop := OBJ E "java/lang/String" a ∧ FLD E "java/lang/String" "coder" "B" (vI 0) a ∧ (bs.length < 100 ∧ ∀ x ∈ bs, 0 ≤ x ∧ x < 128) ∧ ∃ b, FLD E "java/lang/String" "value" "[B" (.ref b) a ∧ TAB E .byte b bs.length (fun j => vI (bs.getD j 0))
/-- the address of a literal -/
def lad (E : gE) (own : String) (k : Nat) : Nat := match (Term.string own k).eval #[Value.ref E.2.2.2] (gS E) none [] (gS E) with
  | some (.ref a) => a
  | _ => 0
def LIT (E : gE) (own : String) (k : Nat) (bs : List Int) : Prop := (Term.string own k).eval #[Value.ref E.2.2.2] (gS E) none [] (gS E) = some (.ref (lad E own k)) ∧ STR E (lad E own k) bs
def litC (own : String) (k : Nat) (bs : List Int) : List Jvm.Cond :=
  [.exactly (.string own k) "java/lang/String", .eq (.field (.string own k) "java/lang/String" "coder" "B") (.int 0), .arrayOf (.field (.string own k) "java/lang/String" "value" "[B") .byte, .eq (.length (.field (.string own k) "java/lang/String" "value" "[B")) (.int (Int32.ofNat bs.length))]
  ++ (List.range bs.length).map (fun j => .eq (.elem (.field (.string own k) "java/lang/String" "value" "[B") (.int (Int32.ofNat j))) (.int (Int32.ofInt (bs.getD j 0))))
theorem LIT_of {E : gE} {own : String} {k : Nat} {bs : List Int} (ok : gOK E) (h : ∀ x ∈ litC own k bs, x ∈ cjs narrow_1) (hb : (bs.length < 100 ∧ ∀ x ∈ bs, 0 ≤ x ∧ x < 128) := by decide) : LIT E own k bs := by
  have hx : ∀ x ∈ litC own k bs, x.before #[Value.ref E.2.2.2] (gS E) = true := fun x q => gNw ok x (h x q)
  have h1 := hx (.exactly (.string own k) "java/lang/String") (by simp [litC])
  have h2 := hx (.eq (.field (.string own k) "java/lang/String" "coder" "B") (.int 0)) (by simp [litC])
  have h3 := hx (.arrayOf (.field (.string own k) "java/lang/String" "value" "[B") .byte) (by simp [litC])
  have h4 := hx (.eq (.length (.field (.string own k) "java/lang/String" "value" "[B")) (.int (Int32.ofNat bs.length))) (by simp [litC])
  have h5 : ∀ j : Nat, j < bs.length → (Jvm.Cond.eq (.elem (.field (.string own k) "java/lang/String" "value" "[B") (.int (Int32.ofNat j))) (.int (Int32.ofInt (bs.getD j 0)))).before #[Value.ref E.2.2.2] (gS E) = true := fun j hj => hx _ (by
    unfold litC
    refine List.mem_append_right _ (List.mem_map.mpr ⟨j, List.mem_range.mpr hj, rfl⟩))
  obtain ⟨a, c, cA, kA, q1, q2, q3, q4, q5, q6, -⟩ := Cond.exactly_spec (args := #[Value.ref E.2.2.2]) (first := gS E) (o := none) (s := gS E) (idx := []) (t := .string own k) (cls := "java/lang/String") h1
  obtain ⟨t, ht, hT⟩ := va_Tof (f := fun j => .int (Int32.ofInt (bs.getD j 0))) (A := gOld E) (by omega) h3 (va_eqt h4) (fun j hj => va_eqt (h5 j hj)) gOld_lt
  have e : lad E own k = a := by unfold lad; rw [q1]
  unfold LIT
  rw [e]
  exact ⟨q1, ⟨cA, q3, q5, by rw [q6]; exact q2, gOld_lt a (Array.getElem?_eq_some_iff.mp q3).1⟩, vk_OFof q1 (va_eqt h2) gOld_lt, hb, t, vk_OFof q1 ht gOld_lt, hT⟩
theorem gHq {E : gE} {h : gH} {H : Heap} (hR : gRel E h H) : ∀ a : Nat, a < (gS E).heap.size → ¬ gOld E a → H[a]? = (gS E).heap[a]? := fun a ha _ => hR.2.2.1 a ha
section Rows
variable {E : gE} {I I' : gI} {d rc rs pc q mc ms np idx b ci : Nat} {lv : List (Option Value)} {st rest As fs : List Value} {h k : gH} {Q Q1 : Outcome → gH → Prop} {v : Value} {r : vw_C} {P : Value → gH → Prop} {P1 : gH → Prop}
theorem GO.ok (kk : gOK E → GO E I d rc rs pc lv st h Q) : GO E I d rc rs pc lv st h Q := by
  intro p l e R s m args below meth c H locs k n ls hc a1 a2 a3 a4 hR hL hl
  exact kk hc.2.2.2.2.2.2.2.2.2 p l e R s m args below meth c H locs k n ls hc a1 a2 a3 a4 hR hL hl
theorem g_getO {o n dd : String} {index a : Nat} {v : Value} (hd : decode I.2.1 pc = .ok (.getfield index, 3)) (hlink : Cond.fieldLink I.1.cls index o n dd ∈ lw_all) (hE : FLD E o n dd v a) (hq : pc + 3 = q) (kk : GO E I d rc rs q lv (v :: st) h Q) : GO E I d rc rs pc lv (.ref a :: st) h Q := by
  subst hq
  intro p l e R s m args below meth c H locs k n ls hc a1 a2 a3 a4 hR hL hl
  obtain ⟨cf, k', fi, f, cell, h1, h2, h3, h4, h5, h6⟩ := (va_OF.moved hc.2.2.2.2.2.2.2.2.1.alike hE).kept (gHq hR)
  exact W.getf hc.1 hc.2.1 hc.2.2.2.2.2.2.1 (gw hc hlink) h1 h2 h3 h4 (v := v) h5 rfl rfl hd (kk p l e R s m args below meth c H locs k n ls hc a1 a2 a3 a4 hR hL hl)
theorem g_gets {o n dd : String} {index : Nat} {v : Value} (hd : decode I.2.1 pc = .ok (.getstatic index, 3)) (hlink : Cond.fieldLink I.1.cls index o n dd ∈ lw_all) (hE : STA E o n dd v) (hq : pc + 3 = q) (kk : GO E I d rc rs q lv (v :: st) h Q) : GO E I d rc rs pc lv st h Q := by
  subst hq
  intro p l e R s m args below meth c H locs k n ls hc a1 a2 a3 a4 hR hL hl
  obtain ⟨cf, kf, fi, f, a, cell, h1, h2, h3, h4, h5, h6, h7, h8⟩ := (va_Z.moved hc.2.2.2.2.2.2.2.2.1.alike hE).kept (gHq hR)
  exact W.gets hc.1 hc.2.1 hc.2.2.2.2.2.2.1 (gw hc hlink) h1 h2 h3 h4 h5 (fun e => by rw [e] at h6; cases h6) h7 rfl hd (kk p l e R s m args below meth c H locs k n ls hc a1 a2 a3 a4 hR hL hl)
theorem g_tlen {ty : FieldType} {n t : Nat} {f : Nat → Value} (hd : decode I.2.1 pc = .ok (.arraylength, 1)) (hT : TAB E ty t n f) (hq : pc + 1 = q) (kk : GO E I d rc rs q lv (vI (n : Int) :: st) h Q) : GO E I d rc rs pc lv (.ref t :: st) h Q := by
  subst hq
  intro p l e R s m args below meth c H locs k n' ls hc a1 a2 a3 a4 hR hL hl
  obtain ⟨cell, h1, h2, h3, h4, h5, h6, h7⟩ := (va_T.moved hc.2.2.2.2.2.2.2.2.1.alike hT).kept (gHq hR)
  refine W.alen (n := Int32.ofNat n) hc.1 hc.2.1 h1 h2 h5 rfl rfl hd ?_
  have := kk p l e R s m args below meth c H locs k n' ls hc a1 a2 a3 a4 hR hL hl
  rw [show vI (n : Int) = .int (Int32.ofNat n) from by unfold vI; rw [Int32.ofInt_eq_ofNat]] at this
  exact this
theorem g_tbald {n t : Nat} {i : Int} {f : Nat → Value} (hd : decode I.2.1 pc = .ok (.baload, 1)) (hT : TAB E .byte t n f) (h0 : 0 ≤ i) (h1 : i < n) (hn : n < 2147483648) (hq : pc + 1 = q) (kk : GO E I d rc rs q lv (f i.toNat :: st) h Q) : GO E I d rc rs pc lv (vI i :: .ref t :: st) h Q := by
  subst hq
  intro p l e R s m args below meth c H locs k n' ls hc a1 a2 a3 a4 hR hL hl
  obtain ⟨cell, g1, g2, g3, g4, g5, g6, g7⟩ := (va_T.moved hc.2.2.2.2.2.2.2.2.1.alike hT).kept (gHq hR)
  have hin := vp_in_o h0 h1 hn
  have hlt : (Int32.ofInt i).toNatClampNeg < n := Nat.not_le.mp fun q => hin (Or.inr q)
  refine W.bald (v := f (Int32.ofInt i).toNatClampNeg) hc.1 hc.2.1 g1 g2 g3 (fun q => ?_) (g6 _ hlt) rfl rfl hd ?_
  · rcases q with q | q
    · exact hin (Or.inl q)
    · omega
  · rw [o32c (by unfold in32; omega)]
    exact kk p l e R s m args below meth c H locs k n' ls hc a1 a2 a3 a4 hR hL hl
theorem g_ldcS {own tx : String} {index : Nat} {bs : List Int} (hd : decode I.2.1 pc = .ok (.ldc index, 2)) (ho : I.1.cls = own) (hw : Cond.stringRef own index tx ∈ lw_tbl) (hL : LIT E own index bs) (hq : pc + 2 = q) (kk : GO E I d rc rs q lv (.ref (lad E own index) :: st) h Q) : GO E I d rc rs pc lv st h Q := by
  subst hq
  subst ho
  intro p l e R s m args below meth c H locs k n ls hc a1 a2 a3 a4 hR hL' hl
  have hZ : vk_R I.1.cls index tx (lad E I.1.cls index) s := vk_R.warm hc.2.2.2.2.2.2.2.2.1 (vk_R.of (hc.2.2.2.2.2.2.2.2.2.1 _ hw) hL.1)
  exact va_ldcS hc.1 hc.2.1 hc.2.2.2.2.2.2.1 hZ hd (kk p l e R s m args below meth c H locs k n ls hc a1 a2 a3 a4 hR hL' hl)
theorem g_i2c {x : Int} (hd : decode I.2.1 pc = .ok (.i2c, 1)) (h0 : 0 ≤ x) (h1 : x < 65536) (hq : pc + 1 = q) (kk : GO E I d rc rs q lv (vI x :: st) h Q) : GO E I d rc rs pc lv (vI x :: st) h Q := by
  subst hq
  refine GO.pure (fun hc _ k => lv_i2c hc.1 hc.2.1 hd ?_ k) kk
  refine Int32.toBitVec_inj.mp ?_
  refine BitVec.eq_of_toNat_eq ?_
  show ((Int32.ofInt x).toUInt32 % 65536).toBitVec.toNat = (Int32.ofInt x).toBitVec.toNat
  rw [UInt32.toBitVec_mod]
  show ((Int32.ofInt x).toBitVec % 65536#32).toNat = _
  rw [BitVec.toNat_umod, Int32.toBitVec_ofInt, BitVec.toNat_ofInt]
  have : (65536#32).toNat = 65536 := by decide
  rw [this]
  omega
theorem gInv.virtualO {idx b : Nat} {C : String} {As : List Value} (hd : decode I.2.1 pc = .ok (.invokevirtual idx, 3)) (hlink : Cond.methodLink I.1.cls idx I'.1 ∈ lw_all) (hinst : Cond.instanceMethod I'.1 ∈ lw_all) (hsel : Cond.selects C I'.1 I'.1 ∈ lw_all) (hg : gCode I' np) (hb : OBJ E C b) (hn : As.length = np) (hst : st = As.reverse ++ .ref b :: rest) : gInv E I pc st rest h I' (.ref b :: As) := by
  intro p l e R s m args below meth c T locs k n ls hc hR hsz X
  have hsp := hg.2.1
  obtain ⟨mk, methM, hnamed, hmethM, hstM, habM⟩ := Cond.instanceMethod_spec (gw hc (args := args) hinst)
  obtain ⟨methM', cM, hmethM', -, -, -, -, -, -, hsigM⟩ := gCode.at hc.2.2.2.2.2.2.2.2.2 hc.2.2.2.2.2.2.2.2.1 hg hnamed
  cases hmethM.symm.trans hmethM'
  obtain ⟨cellB, hcell, hobj, hcls, -⟩ := (va_O.moved hc.2.2.2.2.2.2.2.2.1.alike hb).kept (gHq hR)
  obtain ⟨c2, r2, m2, q1, q2, q3, q4, kP, hkP, hkPi⟩ := Cond.selects_spec (gw hc (args := args) hsel)
  cases hcls.symm.trans q1
  cases (State.methodFound?_of_named hnamed hg.2.2.1).symm.trans q2
  cases hnamed.symm.trans q3
  have hselP : selectMethod e.platform s.vm cellB.cls mk = .method mk := by rw [Launch.admits_selectMethod X.admits]; exact q4
  have hlen : As.length = methM.sig.parameters.length := by
    rw [hsigM] at hsp
    simpa [hn] using hsp.symm
  obtain ⟨vm₁, X₁, hstep₁⟩ := X.invokevirtual hc.1 hc.2.2.2.2.2.2.1 (gw hc hlink) hnamed hmethM hstM hkP hkPi hg.2.2.1 (a := b) (cell := cellB) hcell
    (fun z w => by rw [w] at hobj; cases hobj) hselP hmethM habM hkP hkPi (g := F0 m pc ls st) rfl (argsL := As) (rest := rest) hlen hst (by rw [hc.2.1]; exact hd)
  exact ⟨vm₁, mk, X₁, hnamed, hstep₁⟩
theorem g_cvO {C : String} (hd : decode I.2.1 pc = .ok (.invokevirtual idx, 3)) (hlink : Cond.methodLink I.1.cls idx I'.1 ∈ lw_all) (hinst : Cond.instanceMethod I'.1 ∈ lw_all) (hsel : Cond.selects C I'.1 I'.1 ∈ lw_all) (hg : gCode I' np) (hb : OBJ E C b) (call : CALL E I' d mc ms (.ref b :: As) h (qR v k)) (hst : st = As.reverse ++ .ref b :: rest) (hq : pc + 3 = q) (kk : GO E I (d + 1) rc rs q lv (v :: rest) k Q)
    (hn : As.length = np := by rfl) (hf : (lg_sl (.ref b :: As)).length ≤ I'.2.2.1 := by exact Nat.le_of_ble_eq_true rfl) (hw : (rest.map fun v => v.category).sum ≤ 20 := by exact Nat.le_of_ble_eq_true rfl) (hm : I'.2.2.1 ≤ 33 := by exact Nat.le_of_ble_eq_true rfl) : GO E I (d + 1) (rc + mc) (rs + ms) pc lv st h Q :=
  g_call ⟨_, hd⟩ (gInv.virtualO hd hlink hinst hsel hg hb hn hst) hg hf hw hm hq call (fun w k' z => by obtain ⟨z1, rfl⟩ := z; cases z1; exact kk) (fun x k' z => by cases z.1)
end Rows
theorem STA_CS {E : gE} (ok : gOK E) : STA E "java/lang/String" "COMPACT_STRINGS" "Z" (vI 1) :=
  va_Zof (ok.1 _ q667) (ok.1 _ (lw_all_tbl q96)) (va_eqt (gNw ok (.eq (.static "java/lang/String" "COMPACT_STRINGS" "Z") (.int 1)) (List.mem_of_getElem? (i := 8) rfl))) gOld_lt
theorem STA_SF {E : gE} (ok : gOK E) : ∃ v, gR v ∧ STA E "jdk/internal/util/Preconditions" "SIOOBE_FORMATTER" "Ljava/util/function/BiFunction;" v := by
  have := va_Zqof (A := gOld E) (ok.1 _ q683) (ok.1 _ (lw_all_tbl q98)) (gNw ok (.isRef (.static "jdk/internal/util/Preconditions" "SIOOBE_FORMATTER" "Ljava/util/function/BiFunction;")) (List.mem_of_getElem? (i := 9) rfl)) gOld_lt
  rcases this with w | ⟨t, w⟩
  · exact ⟨_, gR_null, w⟩
  · exact ⟨_, gR_ref, w⟩
