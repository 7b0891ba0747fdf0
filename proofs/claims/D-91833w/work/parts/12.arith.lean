/-! MY LOGIC, part 2: numbers, branches, answers -/
set_option maxRecDepth 100000
theorem o32 {a : Int} (h : in32 a) : (Int32.ofInt a).toInt = a := Int32.toInt_ofInt_of_le (by have := h.1; omega) (by have := h.2; omega)
theorem o64 {a : Int} (h : in64 a) : (Int64.ofInt a).toInt = a := Int64.toInt_ofInt_of_le (by have := h.1; omega) (by have := h.2; omega)
theorem o32c {a : Int} (h : in32 a) : (Int32.ofInt a).toNatClampNeg = a.toNat := Int32.toNatClampNeg_ofInt_of_le (by have := h.1; omega) (by have := h.2; omega)
theorem in32_of (x : Int32) : in32 x.toInt := ⟨by have := Int32.le_toInt x; omega, by have := Int32.toInt_lt x; omega⟩
theorem in64_of (x : Int64) : in64 x.toInt := ⟨by have := Int64.le_toInt x; omega, by have := Int64.toInt_lt x; omega⟩
theorem vI_of (x : Int32) : Value.int x = vI x.toInt := by unfold vI; rw [Int32.ofInt_toInt]
theorem vL_of (x : Int64) : Value.long x = vL x.toInt := by unfold vL; rw [Int64.ofInt_toInt]
theorem o32_lt {a b : Int} (ha : in32 a) (hb : in32 b) : Int32.ofInt a < Int32.ofInt b ↔ a < b := by rw [Int32.lt_iff_toInt_lt, o32 ha, o32 hb]
theorem o32_le {a b : Int} (ha : in32 a) (hb : in32 b) : Int32.ofInt a ≤ Int32.ofInt b ↔ a ≤ b := by rw [Int32.le_iff_toInt_le, o32 ha, o32 hb]
theorem o32_eq {a b : Int} (ha : in32 a) (hb : in32 b) : Int32.ofInt a = Int32.ofInt b ↔ a = b := by rw [← Int32.toInt_inj, o32 ha, o32 hb]
theorem o64_lt {a b : Int} (ha : in64 a) (hb : in64 b) : Int64.ofInt a < Int64.ofInt b ↔ a < b := by rw [Int64.lt_iff_toInt_lt, o64 ha, o64 hb]
theorem o64_eq {a b : Int} (ha : in64 a) (hb : in64 b) : Int64.ofInt a = Int64.ofInt b ↔ a = b := by rw [← Int64.toInt_inj, o64 ha, o64 hb]
theorem tdiv32 {a b : Int} (ha : in32 a) (hb : in32 b) : Int32.ofInt (a.tdiv b) = Int32.ofInt a / Int32.ofInt b := by
  have e1 : Int32.minValue.toInt = -2147483648 := by decide
  have e2 : Int32.maxValue.toInt = 2147483647 := by decide
  have := ha.1; have := ha.2; have := hb.1; have := hb.2
  exact Int32.ofInt_tdiv (by omega) (by omega) (by omega) (by omega)
theorem tdiv64 {a b : Int} (ha : in64 a) (hb : in64 b) : Int64.ofInt (a.tdiv b) = Int64.ofInt a / Int64.ofInt b := by
  have e1 : Int64.minValue.toInt = -9223372036854775808 := by decide
  have e2 : Int64.maxValue.toInt = 9223372036854775807 := by decide
  have := ha.1; have := ha.2; have := hb.1; have := hb.2
  exact Int64.ofInt_tdiv (by omega) (by omega) (by omega) (by omega)
theorem in32_0 : in32 0 := by unfold in32; omega
theorem o32_0 : (0 : Int32) = Int32.ofInt 0 := by decide
theorem vI_inj {a b : Int} (ha : in32 a) (hb : in32 b) (e : vI a = vI b) : a = b := (o32_eq ha hb).mp (by unfold vI at e; exact Value.int.inj e)
theorem vL_inj {a b : Int} (ha : in64 a) (hb : in64 b) (e : vL a = vL b) : a = b := (o64_eq ha hb).mp (by unfold vL at e; exact Value.long.inj e)
/-- a truth as a number -/
def gB (c : Prop) [Decidable c] : Int := if c then 1 else 0
theorem in32_gB {c : Prop} [Decidable c] : in32 (gB c) := by unfold in32 gB; split <;> omega
theorem gB_t {c : Prop} [Decidable c] (hc : c) : gB c = 1 := if_pos hc
theorem gB_f {c : Prop} [Decidable c] (hc : ¬ c) : gB c = 0 := if_neg hc
theorem gB_i {c e : Prop} [Decidable c] [Decidable e] (hc : c ↔ e) : gB c = gB e := by
  unfold gB
  by_cases q : c
  · rw [if_pos q, if_pos (hc.mp q)]
  · rw [if_neg q, if_neg (fun w => q (hc.mpr w))]
/-- how two longs compare -/
def gCmp (a b : Int) : Int := if a < b then -1 else if a = b then 0 else 1
section Rows
variable {E : gE} {I : gI} {d rc rs pc q t : Nat} {lv : List (Option Value)} {st : List Value} {h : gH} {Q : Outcome → gH → Prop} {a b : Int}
theorem GO.stk {st' : List Value} (e : st = st') (kk : GO E I d rc rs pc lv st' h Q) : GO E I d rc rs pc lv st h Q := e ▸ kk
theorem GO.top {a' : Int} (e : a = a') (kk : GO E I d rc rs pc lv (vI a' :: st) h Q) : GO E I d rc rs pc lv (vI a :: st) h Q := e ▸ kk
theorem GO.topL {a' : Int} (e : a = a') (kk : GO E I d rc rs pc lv (vL a' :: st) h Q) : GO E I d rc rs pc lv (vL a :: st) h Q := e ▸ kk
theorem GO.eqv {lv' : List (Option Value)} {st' : List Value} (e1 : lv = lv') (e2 : st = st') (kk : GO E I d rc rs pc lv' st' h Q) : GO E I d rc rs pc lv st h Q := e1 ▸ e2 ▸ kk
theorem g_iadd (hd : decode I.2.1 pc = .ok (.iadd, 1)) (hq : pc + 1 = q) (kk : GO E I d rc rs q lv (vI (a + b) :: st) h Q) : GO E I d rc rs pc lv (vI b :: vI a :: st) h Q := by
  subst hq; unfold vI at kk ⊢; rw [Int32.ofInt_add] at kk; exact GO.pure (fun hc _ k => lv_iadd hc.1 hc.2.1 hd k) kk
theorem g_isub (hd : decode I.2.1 pc = .ok (.isub, 1)) (hq : pc + 1 = q) (kk : GO E I d rc rs q lv (vI (a - b) :: st) h Q) : GO E I d rc rs pc lv (vI b :: vI a :: st) h Q := by
  subst hq; unfold vI at kk ⊢; rw [Int32.ofInt_sub] at kk; exact GO.pure (fun hc _ k => lv_isub hc.1 hc.2.1 hd k) kk
theorem g_imul (hd : decode I.2.1 pc = .ok (.imul, 1)) (hq : pc + 1 = q) (kk : GO E I d rc rs q lv (vI (a * b) :: st) h Q) : GO E I d rc rs pc lv (vI b :: vI a :: st) h Q := by
  subst hq; unfold vI at kk ⊢; rw [Int32.ofInt_mul] at kk; exact GO.pure (fun hc _ k => lv_imul hc.1 hc.2.1 hd k) kk
theorem g_ineg (hd : decode I.2.1 pc = .ok (.ineg, 1)) (hq : pc + 1 = q) (kk : GO E I d rc rs q lv (vI (-a) :: st) h Q) : GO E I d rc rs pc lv (vI a :: st) h Q := by
  subst hq; unfold vI at kk ⊢; rw [Int32.ofInt_neg] at kk; exact GO.pure (fun hc _ k => lv_ineg hc.1 hc.2.1 hd k) kk
theorem g_ladd (hd : decode I.2.1 pc = .ok (.ladd, 1)) (hq : pc + 1 = q) (kk : GO E I d rc rs q lv (vL (a + b) :: st) h Q) : GO E I d rc rs pc lv (vL b :: vL a :: st) h Q := by
  subst hq; unfold vL at kk ⊢; rw [Int64.ofInt_add] at kk; exact GO.pure (fun hc _ k => lv_ladd hc.1 hc.2.1 hd k) kk
theorem g_lsub (hd : decode I.2.1 pc = .ok (.lsub, 1)) (hq : pc + 1 = q) (kk : GO E I d rc rs q lv (vL (a - b) :: st) h Q) : GO E I d rc rs pc lv (vL b :: vL a :: st) h Q := by
  subst hq; unfold vL at kk ⊢; rw [Int64.ofInt_sub] at kk; exact GO.pure (fun hc _ k => lv_lsub hc.1 hc.2.1 hd k) kk
theorem g_lmul (hd : decode I.2.1 pc = .ok (.lmul, 1)) (hq : pc + 1 = q) (kk : GO E I d rc rs q lv (vL (a * b) :: st) h Q) : GO E I d rc rs pc lv (vL b :: vL a :: st) h Q := by
  subst hq; unfold vL at kk ⊢; rw [Int64.ofInt_mul] at kk; exact GO.pure (fun hc _ k => lv_lmul hc.1 hc.2.1 hd k) kk
theorem g_lneg (hd : decode I.2.1 pc = .ok (.lneg, 1)) (hq : pc + 1 = q) (kk : GO E I d rc rs q lv (vL (-a) :: st) h Q) : GO E I d rc rs pc lv (vL a :: st) h Q := by
  subst hq; unfold vL at kk ⊢; rw [Int64.ofInt_neg] at kk; exact GO.pure (fun hc _ k => lv_lneg hc.1 hc.2.1 hd k) kk
theorem ne0_32 (hb : in32 b) (h0 : b ≠ 0) : ¬ Int32.ofInt b = 0 := fun e => h0 ((o32_eq hb in32_0).mp (e.trans o32_0))
theorem g_idiv (hd : decode I.2.1 pc = .ok (.idiv, 1)) (ha : in32 a) (hb : in32 b) (h0 : b ≠ 0) (hq : pc + 1 = q) (kk : GO E I d rc rs q lv (vI (a.tdiv b) :: st) h Q) : GO E I d rc rs pc lv (vI b :: vI a :: st) h Q := by
  subst hq; unfold vI at kk ⊢
  rw [tdiv32 ha hb] at kk
  exact GO.pure (fun hc _ k => lv_idiv hc.1 hc.2.1 hd (ne0_32 hb h0) k) kk
theorem g_irem (hd : decode I.2.1 pc = .ok (.irem, 1)) (ha : in32 a) (hb : in32 b) (h0 : b ≠ 0) (hq : pc + 1 = q) (kk : GO E I d rc rs q lv (vI (a.tmod b) :: st) h Q) : GO E I d rc rs pc lv (vI b :: vI a :: st) h Q := by
  subst hq; unfold vI at kk ⊢
  have e : Int32.ofInt (a.tmod b) = Int32.ofInt a - Int32.ofInt a / Int32.ofInt b * Int32.ofInt b := by
    rw [← tdiv32 ha hb, ← Int32.ofInt_mul, ← Int32.ofInt_sub, Int.tmod_def, Int.mul_comm b]
  rw [e] at kk
  exact GO.pure (fun hc _ k => lv_irem hc.1 hc.2.1 hd (ne0_32 hb h0) k) kk
theorem ne0_64 (hb : in64 b) (h0 : b ≠ 0) : ¬ Int64.ofInt b = 0 := fun e => h0 ((o64_eq hb (by unfold in64; omega)).mp (e.trans (by decide)))
theorem g_ldiv (hd : decode I.2.1 pc = .ok (.ldiv, 1)) (ha : in64 a) (hb : in64 b) (h0 : b ≠ 0) (hq : pc + 1 = q) (kk : GO E I d rc rs q lv (vL (a.tdiv b) :: st) h Q) : GO E I d rc rs pc lv (vL b :: vL a :: st) h Q := by
  subst hq; unfold vL at kk ⊢
  rw [tdiv64 ha hb] at kk
  exact GO.pure (fun hc _ k => lv_ldiv hc.1 hc.2.1 hd (ne0_64 hb h0) k) kk
theorem g_i2l (hd : decode I.2.1 pc = .ok (.i2l, 1)) (ha : in32 a) (hq : pc + 1 = q) (kk : GO E I d rc rs q lv (vL a :: st) h Q) : GO E I d rc rs pc lv (vI a :: st) h Q := by
  subst hq
  exact GO.pure (fun hc _ k => lv_i2l hc.1 hc.2.1 hd (by rw [← Int64.toInt_inj, Int32.toInt_toInt64, o32 ha, o64 ⟨by have := ha.1; omega, by have := ha.2; omega⟩]) k) kk
theorem g_l2i (hd : decode I.2.1 pc = .ok (.l2i, 1)) (hq : pc + 1 = q) (kk : GO E I d rc rs q lv (vI a :: st) h Q) : GO E I d rc rs pc lv (vL a :: st) h Q := by
  subst hq
  exact GO.pure (fun hc _ k => lv_l2i hc.1 hc.2.1 hd (Int64.toInt32_ofInt) k) kk
theorem g_i2b (hd : decode I.2.1 pc = .ok (.i2b, 1)) (hq : pc + 1 = q) (kk : GO E I d rc rs q lv (vI (a.bmod 256) :: st) h Q) : GO E I d rc rs pc lv (vI a :: st) h Q := by
  subst hq
  exact GO.pure (fun hc _ k => lv_i2b hc.1 hc.2.1 hd (by rw [Int32.toInt8_ofInt, ← Int32.toInt_inj, Int8.toInt_toInt32, Int8.toInt_ofInt, o32 (by unfold in32; have := Int.bmod_lt (x := a) (m := 256) (by decide); have := Int.le_bmod (x := a) (m := 256) (by decide); omega)]) k) kk
theorem g_i2s (hd : decode I.2.1 pc = .ok (.i2s, 1)) (hq : pc + 1 = q) (kk : GO E I d rc rs q lv (vI (a.bmod 65536) :: st) h Q) : GO E I d rc rs pc lv (vI a :: st) h Q := by
  subst hq
  exact GO.pure (fun hc _ k => lv_i2s hc.1 hc.2.1 hd (by rw [Int32.toInt16_ofInt, ← Int32.toInt_inj, Int16.toInt_toInt32, Int16.toInt_ofInt, o32 (by unfold in32; have := Int.bmod_lt (x := a) (m := 65536) (by decide); have := Int.le_bmod (x := a) (m := 65536) (by decide); omega)]) k) kk
/-! bits: as they come -/
theorem g_iand {x y : Int32} (hd : decode I.2.1 pc = .ok (.iand, 1)) (hq : pc + 1 = q) (kk : GO E I d rc rs q lv (.int (x &&& y) :: st) h Q) : GO E I d rc rs pc lv (.int y :: .int x :: st) h Q := by
  subst hq; exact GO.pure (fun hc _ k => lv_iand hc.1 hc.2.1 hd k) kk
theorem g_ior {x y : Int32} (hd : decode I.2.1 pc = .ok (.ior, 1)) (hq : pc + 1 = q) (kk : GO E I d rc rs q lv (.int (x ||| y) :: st) h Q) : GO E I d rc rs pc lv (.int y :: .int x :: st) h Q := by
  subst hq; exact GO.pure (fun hc _ k => lv_ior hc.1 hc.2.1 hd k) kk
theorem g_ishl {x y : Int32} (hd : decode I.2.1 pc = .ok (.ishl, 1)) (hq : pc + 1 = q) (kk : GO E I d rc rs q lv (.int (x <<< (y &&& 31)) :: st) h Q) : GO E I d rc rs pc lv (.int y :: .int x :: st) h Q := by
  subst hq; exact GO.pure (fun hc _ k => lv_ishl hc.1 hc.2.1 hd k) kk
theorem g_ishr {x y : Int32} (hd : decode I.2.1 pc = .ok (.ishr, 1)) (hq : pc + 1 = q) (kk : GO E I d rc rs q lv (.int (x >>> (y &&& 31)) :: st) h Q) : GO E I d rc rs pc lv (.int y :: .int x :: st) h Q := by
  subst hq; exact GO.pure (fun hc _ k => lv_ishr hc.1 hc.2.1 hd k) kk
theorem g_iushr {x y : Int32} (hd : decode I.2.1 pc = .ok (.iushr, 1)) (hq : pc + 1 = q) (kk : GO E I d rc rs q lv (.int (x.toUInt32 >>> (y.toUInt32 &&& Int32.toUInt32 31)).toInt32 :: st) h Q) : GO E I d rc rs pc lv (.int y :: .int x :: st) h Q := by
  subst hq; exact GO.pure (fun hc _ k => lv_iushr hc.1 hc.2.1 hd rfl k) kk
theorem g_isubR {x y : Int32} (hd : decode I.2.1 pc = .ok (.isub, 1)) (hq : pc + 1 = q) (kk : GO E I d rc rs q lv (.int (x - y) :: st) h Q) : GO E I d rc rs pc lv (.int y :: .int x :: st) h Q := by
  subst hq; exact GO.pure (fun hc _ k => lv_isub hc.1 hc.2.1 hd k) kk
theorem g_iaddR {x y : Int32} (hd : decode I.2.1 pc = .ok (.iadd, 1)) (hq : pc + 1 = q) (kk : GO E I d rc rs q lv (.int (x + y) :: st) h Q) : GO E I d rc rs pc lv (.int y :: .int x :: st) h Q := by
  subst hq; exact GO.pure (fun hc _ k => lv_iadd hc.1 hc.2.1 hd k) kk
theorem g_land {x y : Int64} (hd : decode I.2.1 pc = .ok (.land, 1)) (hq : pc + 1 = q) (kk : GO E I d rc rs q lv (.long (x &&& y) :: st) h Q) : GO E I d rc rs pc lv (.long y :: .long x :: st) h Q := by
  subst hq; exact GO.pure (fun hc _ k => lv_land hc.1 hc.2.1 hd k) kk
theorem g_lor {x y : Int64} (hd : decode I.2.1 pc = .ok (.lor, 1)) (hq : pc + 1 = q) (kk : GO E I d rc rs q lv (.long (x ||| y) :: st) h Q) : GO E I d rc rs pc lv (.long y :: .long x :: st) h Q := by
  subst hq; exact GO.pure (fun hc _ k => lv_lor hc.1 hc.2.1 hd k) kk
theorem g_lshl {x : Int64} {y : Int32} (hd : decode I.2.1 pc = .ok (.lshl, 1)) (hq : pc + 1 = q) (kk : GO E I d rc rs q lv (.long (x <<< (y.toInt64 &&& 63)) :: st) h Q) : GO E I d rc rs pc lv (.int y :: .long x :: st) h Q := by
  subst hq; exact GO.pure (fun hc _ k => lv_lshl hc.1 hc.2.1 hd rfl k) kk
theorem g_lshr {x : Int64} {y : Int32} (hd : decode I.2.1 pc = .ok (.lshr, 1)) (hq : pc + 1 = q) (kk : GO E I d rc rs q lv (.long (x >>> (y.toInt64 &&& 63)) :: st) h Q) : GO E I d rc rs pc lv (.int y :: .long x :: st) h Q := by
  subst hq; exact GO.pure (fun hc _ k => lv_lshr hc.1 hc.2.1 hd rfl k) kk
theorem g_i2lR {x : Int32} (hd : decode I.2.1 pc = .ok (.i2l, 1)) (hq : pc + 1 = q) (kk : GO E I d rc rs q lv (.long x.toInt64 :: st) h Q) : GO E I d rc rs pc lv (.int x :: st) h Q := by
  subst hq; exact GO.pure (fun hc _ k => lv_i2l hc.1 hc.2.1 hd rfl k) kk
/-! the stack -/
theorem g_dup {v : Value} (hd : decode I.2.1 pc = .ok (.dup, 1)) (hq : pc + 1 = q) (kk : GO E I d rc rs q lv (v :: v :: st) h Q) (hv : v.category = 1 := by rfl) : GO E I d rc rs pc lv (v :: st) h Q := by
  subst hq; exact GO.pure (fun hc _ k => lv_dup hc.1 hc.2.1 hd hv k) kk
theorem g_pop {v : Value} (hd : decode I.2.1 pc = .ok (.pop, 1)) (hq : pc + 1 = q) (kk : GO E I d rc rs q lv st h Q) (hv : v.category = 1 := by rfl) : GO E I d rc rs pc lv (v :: st) h Q := by
  subst hq; exact GO.pure (fun hc _ k => lv_pop hc.1 hc.2.1 hd hv k) kk
theorem g_dup2 {v w : Value} (hd : decode I.2.1 pc = .ok (.dup2, 1)) (hq : pc + 1 = q) (kk : GO E I d rc rs q lv (v :: w :: v :: w :: st) h Q) (hv : v.category = 1 := by rfl) (hw : w.category = 1 := by rfl) : GO E I d rc rs pc lv (v :: w :: st) h Q := by
  subst hq; exact GO.pure (fun hc _ k => lv_dup2_11 hc.1 hc.2.1 hd hv hw k) kk
theorem g_dup_x1 {v w : Value} (hd : decode I.2.1 pc = .ok (.dup_x1, 1)) (hq : pc + 1 = q) (kk : GO E I d rc rs q lv (v :: w :: v :: st) h Q) (hv : v.category = 1 := by rfl) (hw : w.category = 1 := by rfl) : GO E I d rc rs pc lv (v :: w :: st) h Q := by
  subst hq; exact GO.pure (fun hc _ k => lv_dup_x1 hc.1 hc.2.1 hd hv hw k) kk
/-! branches -/
theorem g_goto {off : Int} (hd : decode I.2.1 pc = .ok (.goto off, 3)) (ht : (pc : Int) + off = (t : Int)) (kk : GO E I d rc rs t lv st h Q) : GO E I d rc rs pc lv st h Q :=
  GO.pure (fun hc _ k => lv_goto hc.1 hc.2.1 hd ht k) kk
theorem g_if_eq {off : Int} (hd : decode I.2.1 pc = .ok (.ifCond .eq off, 3)) (ht : (pc : Int) + off = (t : Int)) (hq : pc + 3 = q) (ha : in32 a) (k1 : a = 0 → GO E I d rc rs t lv st h Q) (k2 : ¬ a = 0 → GO E I d rc rs q lv st h Q) : GO E I d rc rs pc lv (vI a :: st) h Q := by
  subst hq
  intro p l e R s m args below meth c H locs k n ls hc a1 a2 a3 a4 hR hL hl
  refine lv_if_eq hc.1 hc.2.1 hd ht (fun w => k1 ?_ p l e R s m args below meth c H locs k n ls hc a1 a2 a3 a4 hR hL hl) (fun w => k2 ?_ p l e R s m args below meth c H locs k n ls hc a1 a2 a3 a4 hR hL hl)
  all_goals rw [o32_0] at w
  all_goals first | exact (o32_eq ha in32_0).mp w | exact fun e => w ((o32_eq ha in32_0).mpr e) | exact (o32_eq ha in32_0).mp (Decidable.not_not.mp w)
theorem g_icmp_eq {off : Int} (hd : decode I.2.1 pc = .ok (.if_icmp .eq off, 3)) (ht : (pc : Int) + off = (t : Int)) (hq : pc + 3 = q) (ha : in32 a) (hb : in32 b) (k1 : a = b → GO E I d rc rs t lv st h Q) (k2 : ¬ a = b → GO E I d rc rs q lv st h Q) : GO E I d rc rs pc lv (vI b :: vI a :: st) h Q := by
  subst hq
  intro p l e R s m args below meth c H locs k n ls hc a1 a2 a3 a4 hR hL hl
  refine lv_icmp_eq hc.1 hc.2.1 hd ht (fun w => k1 ?_ p l e R s m args below meth c H locs k n ls hc a1 a2 a3 a4 hR hL hl) (fun w => k2 ?_ p l e R s m args below meth c H locs k n ls hc a1 a2 a3 a4 hR hL hl)
  all_goals first | exact (o32_eq ha hb).mp w | exact fun e => w ((o32_eq ha hb).mpr e) | exact (o32_eq ha hb).mp (Decidable.not_not.mp w)
theorem g_if_ne {off : Int} (hd : decode I.2.1 pc = .ok (.ifCond .ne off, 3)) (ht : (pc : Int) + off = (t : Int)) (hq : pc + 3 = q) (ha : in32 a) (k1 : ¬ a = 0 → GO E I d rc rs t lv st h Q) (k2 : a = 0 → GO E I d rc rs q lv st h Q) : GO E I d rc rs pc lv (vI a :: st) h Q := by
  subst hq
  intro p l e R s m args below meth c H locs k n ls hc a1 a2 a3 a4 hR hL hl
  refine lv_if_ne hc.1 hc.2.1 hd ht (fun w => k1 ?_ p l e R s m args below meth c H locs k n ls hc a1 a2 a3 a4 hR hL hl) (fun w => k2 ?_ p l e R s m args below meth c H locs k n ls hc a1 a2 a3 a4 hR hL hl)
  all_goals rw [o32_0] at w
  all_goals first | exact (o32_eq ha in32_0).mp w | exact fun e => w ((o32_eq ha in32_0).mpr e) | exact (o32_eq ha in32_0).mp (Decidable.not_not.mp w)
theorem g_icmp_ne {off : Int} (hd : decode I.2.1 pc = .ok (.if_icmp .ne off, 3)) (ht : (pc : Int) + off = (t : Int)) (hq : pc + 3 = q) (ha : in32 a) (hb : in32 b) (k1 : ¬ a = b → GO E I d rc rs t lv st h Q) (k2 : a = b → GO E I d rc rs q lv st h Q) : GO E I d rc rs pc lv (vI b :: vI a :: st) h Q := by
  subst hq
  intro p l e R s m args below meth c H locs k n ls hc a1 a2 a3 a4 hR hL hl
  refine lv_icmp_ne hc.1 hc.2.1 hd ht (fun w => k1 ?_ p l e R s m args below meth c H locs k n ls hc a1 a2 a3 a4 hR hL hl) (fun w => k2 ?_ p l e R s m args below meth c H locs k n ls hc a1 a2 a3 a4 hR hL hl)
  all_goals first | exact (o32_eq ha hb).mp w | exact fun e => w ((o32_eq ha hb).mpr e) | exact (o32_eq ha hb).mp (Decidable.not_not.mp w)
theorem g_if_lt {off : Int} (hd : decode I.2.1 pc = .ok (.ifCond .lt off, 3)) (ht : (pc : Int) + off = (t : Int)) (hq : pc + 3 = q) (ha : in32 a) (k1 : a < 0 → GO E I d rc rs t lv st h Q) (k2 : 0 ≤ a → GO E I d rc rs q lv st h Q) : GO E I d rc rs pc lv (vI a :: st) h Q := by
  subst hq
  intro p l e R s m args below meth c H locs k n ls hc a1 a2 a3 a4 hR hL hl
  refine lv_if_lt hc.1 hc.2.1 hd ht (fun w => k1 ?_ p l e R s m args below meth c H locs k n ls hc a1 a2 a3 a4 hR hL hl) (fun w => k2 ?_ p l e R s m args below meth c H locs k n ls hc a1 a2 a3 a4 hR hL hl)
  all_goals rw [o32_0] at w
  all_goals first
    | exact (o32_lt ha in32_0).mp w
    | exact (o32_le ha in32_0).mp w
    | exact (o32_lt in32_0 ha).mp w
    | exact (o32_le in32_0 ha).mp w
    | exact Int.not_lt.mp (fun e => w ((o32_lt ha in32_0).mpr e))
    | exact Int.not_lt.mp (fun e => w ((o32_lt in32_0 ha).mpr e))
    | exact Int.not_le.mp (fun e => w ((o32_le ha in32_0).mpr e))
    | exact Int.not_le.mp (fun e => w ((o32_le in32_0 ha).mpr e))
theorem g_icmp_lt {off : Int} (hd : decode I.2.1 pc = .ok (.if_icmp .lt off, 3)) (ht : (pc : Int) + off = (t : Int)) (hq : pc + 3 = q) (ha : in32 a) (hb : in32 b) (k1 : a < b → GO E I d rc rs t lv st h Q) (k2 : b ≤ a → GO E I d rc rs q lv st h Q) : GO E I d rc rs pc lv (vI b :: vI a :: st) h Q := by
  subst hq
  intro p l e R s m args below meth c H locs k n ls hc a1 a2 a3 a4 hR hL hl
  refine lv_icmp_lt hc.1 hc.2.1 hd ht (fun w => k1 ?_ p l e R s m args below meth c H locs k n ls hc a1 a2 a3 a4 hR hL hl) (fun w => k2 ?_ p l e R s m args below meth c H locs k n ls hc a1 a2 a3 a4 hR hL hl)
  all_goals first
    | exact (o32_lt ha hb).mp w
    | exact (o32_le ha hb).mp w
    | exact (o32_lt hb ha).mp w
    | exact (o32_le hb ha).mp w
    | exact Int.not_lt.mp (fun e => w ((o32_lt ha hb).mpr e))
    | exact Int.not_lt.mp (fun e => w ((o32_lt hb ha).mpr e))
    | exact Int.not_le.mp (fun e => w ((o32_le ha hb).mpr e))
    | exact Int.not_le.mp (fun e => w ((o32_le hb ha).mpr e))
theorem g_if_ge {off : Int} (hd : decode I.2.1 pc = .ok (.ifCond .ge off, 3)) (ht : (pc : Int) + off = (t : Int)) (hq : pc + 3 = q) (ha : in32 a) (k1 : 0 ≤ a → GO E I d rc rs t lv st h Q) (k2 : a < 0 → GO E I d rc rs q lv st h Q) : GO E I d rc rs pc lv (vI a :: st) h Q := by
  subst hq
  intro p l e R s m args below meth c H locs k n ls hc a1 a2 a3 a4 hR hL hl
  refine lv_if_ge hc.1 hc.2.1 hd ht (fun w => k1 ?_ p l e R s m args below meth c H locs k n ls hc a1 a2 a3 a4 hR hL hl) (fun w => k2 ?_ p l e R s m args below meth c H locs k n ls hc a1 a2 a3 a4 hR hL hl)
  all_goals rw [o32_0] at w
  all_goals first
    | exact (o32_lt ha in32_0).mp w
    | exact (o32_le ha in32_0).mp w
    | exact (o32_lt in32_0 ha).mp w
    | exact (o32_le in32_0 ha).mp w
    | exact Int.not_lt.mp (fun e => w ((o32_lt ha in32_0).mpr e))
    | exact Int.not_lt.mp (fun e => w ((o32_lt in32_0 ha).mpr e))
    | exact Int.not_le.mp (fun e => w ((o32_le ha in32_0).mpr e))
    | exact Int.not_le.mp (fun e => w ((o32_le in32_0 ha).mpr e))
theorem g_icmp_ge {off : Int} (hd : decode I.2.1 pc = .ok (.if_icmp .ge off, 3)) (ht : (pc : Int) + off = (t : Int)) (hq : pc + 3 = q) (ha : in32 a) (hb : in32 b) (k1 : b ≤ a → GO E I d rc rs t lv st h Q) (k2 : a < b → GO E I d rc rs q lv st h Q) : GO E I d rc rs pc lv (vI b :: vI a :: st) h Q := by
  subst hq
  intro p l e R s m args below meth c H locs k n ls hc a1 a2 a3 a4 hR hL hl
  refine lv_icmp_ge hc.1 hc.2.1 hd ht (fun w => k1 ?_ p l e R s m args below meth c H locs k n ls hc a1 a2 a3 a4 hR hL hl) (fun w => k2 ?_ p l e R s m args below meth c H locs k n ls hc a1 a2 a3 a4 hR hL hl)
  all_goals first
    | exact (o32_lt ha hb).mp w
    | exact (o32_le ha hb).mp w
    | exact (o32_lt hb ha).mp w
    | exact (o32_le hb ha).mp w
    | exact Int.not_lt.mp (fun e => w ((o32_lt ha hb).mpr e))
    | exact Int.not_lt.mp (fun e => w ((o32_lt hb ha).mpr e))
    | exact Int.not_le.mp (fun e => w ((o32_le ha hb).mpr e))
    | exact Int.not_le.mp (fun e => w ((o32_le hb ha).mpr e))
theorem g_if_gt {off : Int} (hd : decode I.2.1 pc = .ok (.ifCond .gt off, 3)) (ht : (pc : Int) + off = (t : Int)) (hq : pc + 3 = q) (ha : in32 a) (k1 : 0 < a → GO E I d rc rs t lv st h Q) (k2 : a ≤ 0 → GO E I d rc rs q lv st h Q) : GO E I d rc rs pc lv (vI a :: st) h Q := by
  subst hq
  intro p l e R s m args below meth c H locs k n ls hc a1 a2 a3 a4 hR hL hl
  refine lv_if_gt hc.1 hc.2.1 hd ht (fun w => k1 ?_ p l e R s m args below meth c H locs k n ls hc a1 a2 a3 a4 hR hL hl) (fun w => k2 ?_ p l e R s m args below meth c H locs k n ls hc a1 a2 a3 a4 hR hL hl)
  all_goals rw [o32_0] at w
  all_goals first
    | exact (o32_lt ha in32_0).mp w
    | exact (o32_le ha in32_0).mp w
    | exact (o32_lt in32_0 ha).mp w
    | exact (o32_le in32_0 ha).mp w
    | exact Int.not_lt.mp (fun e => w ((o32_lt ha in32_0).mpr e))
    | exact Int.not_lt.mp (fun e => w ((o32_lt in32_0 ha).mpr e))
    | exact Int.not_le.mp (fun e => w ((o32_le ha in32_0).mpr e))
    | exact Int.not_le.mp (fun e => w ((o32_le in32_0 ha).mpr e))
theorem g_icmp_gt {off : Int} (hd : decode I.2.1 pc = .ok (.if_icmp .gt off, 3)) (ht : (pc : Int) + off = (t : Int)) (hq : pc + 3 = q) (ha : in32 a) (hb : in32 b) (k1 : b < a → GO E I d rc rs t lv st h Q) (k2 : a ≤ b → GO E I d rc rs q lv st h Q) : GO E I d rc rs pc lv (vI b :: vI a :: st) h Q := by
  subst hq
  intro p l e R s m args below meth c H locs k n ls hc a1 a2 a3 a4 hR hL hl
  refine lv_icmp_gt hc.1 hc.2.1 hd ht (fun w => k1 ?_ p l e R s m args below meth c H locs k n ls hc a1 a2 a3 a4 hR hL hl) (fun w => k2 ?_ p l e R s m args below meth c H locs k n ls hc a1 a2 a3 a4 hR hL hl)
  all_goals first
    | exact (o32_lt ha hb).mp w
    | exact (o32_le ha hb).mp w
    | exact (o32_lt hb ha).mp w
    | exact (o32_le hb ha).mp w
    | exact Int.not_lt.mp (fun e => w ((o32_lt ha hb).mpr e))
    | exact Int.not_lt.mp (fun e => w ((o32_lt hb ha).mpr e))
    | exact Int.not_le.mp (fun e => w ((o32_le ha hb).mpr e))
    | exact Int.not_le.mp (fun e => w ((o32_le hb ha).mpr e))
theorem g_if_le {off : Int} (hd : decode I.2.1 pc = .ok (.ifCond .le off, 3)) (ht : (pc : Int) + off = (t : Int)) (hq : pc + 3 = q) (ha : in32 a) (k1 : a ≤ 0 → GO E I d rc rs t lv st h Q) (k2 : 0 < a → GO E I d rc rs q lv st h Q) : GO E I d rc rs pc lv (vI a :: st) h Q := by
  subst hq
  intro p l e R s m args below meth c H locs k n ls hc a1 a2 a3 a4 hR hL hl
  refine lv_if_le hc.1 hc.2.1 hd ht (fun w => k1 ?_ p l e R s m args below meth c H locs k n ls hc a1 a2 a3 a4 hR hL hl) (fun w => k2 ?_ p l e R s m args below meth c H locs k n ls hc a1 a2 a3 a4 hR hL hl)
  all_goals rw [o32_0] at w
  all_goals first
    | exact (o32_lt ha in32_0).mp w
    | exact (o32_le ha in32_0).mp w
    | exact (o32_lt in32_0 ha).mp w
    | exact (o32_le in32_0 ha).mp w
    | exact Int.not_lt.mp (fun e => w ((o32_lt ha in32_0).mpr e))
    | exact Int.not_lt.mp (fun e => w ((o32_lt in32_0 ha).mpr e))
    | exact Int.not_le.mp (fun e => w ((o32_le ha in32_0).mpr e))
    | exact Int.not_le.mp (fun e => w ((o32_le in32_0 ha).mpr e))
theorem g_icmp_le {off : Int} (hd : decode I.2.1 pc = .ok (.if_icmp .le off, 3)) (ht : (pc : Int) + off = (t : Int)) (hq : pc + 3 = q) (ha : in32 a) (hb : in32 b) (k1 : a ≤ b → GO E I d rc rs t lv st h Q) (k2 : b < a → GO E I d rc rs q lv st h Q) : GO E I d rc rs pc lv (vI b :: vI a :: st) h Q := by
  subst hq
  intro p l e R s m args below meth c H locs k n ls hc a1 a2 a3 a4 hR hL hl
  refine lv_icmp_le hc.1 hc.2.1 hd ht (fun w => k1 ?_ p l e R s m args below meth c H locs k n ls hc a1 a2 a3 a4 hR hL hl) (fun w => k2 ?_ p l e R s m args below meth c H locs k n ls hc a1 a2 a3 a4 hR hL hl)
  all_goals first
    | exact (o32_lt ha hb).mp w
    | exact (o32_le ha hb).mp w
    | exact (o32_lt hb ha).mp w
    | exact (o32_le hb ha).mp w
    | exact Int.not_lt.mp (fun e => w ((o32_lt ha hb).mpr e))
    | exact Int.not_lt.mp (fun e => w ((o32_lt hb ha).mpr e))
    | exact Int.not_le.mp (fun e => w ((o32_le ha hb).mpr e))
    | exact Int.not_le.mp (fun e => w ((o32_le hb ha).mpr e))
theorem g_ifeqB {off : Int} {c : Prop} [Decidable c] (hd : decode I.2.1 pc = .ok (.ifCond .eq off, 3)) (ht : (pc : Int) + off = (t : Int)) (hq : pc + 3 = q) (k1 : ¬ c → GO E I d rc rs t lv st h Q) (k2 : c → GO E I d rc rs q lv st h Q) : GO E I d rc rs pc lv (vI (gB c) :: st) h Q := by
  refine g_if_eq hd ht hq in32_gB (fun w => k1 fun z => ?_) (fun w => k2 ?_)
  · rw [gB_t z] at w; omega
  · exact Decidable.not_not.mp fun z => w (gB_f z)
theorem g_ifneB {off : Int} {c : Prop} [Decidable c] (hd : decode I.2.1 pc = .ok (.ifCond .ne off, 3)) (ht : (pc : Int) + off = (t : Int)) (hq : pc + 3 = q) (k1 : c → GO E I d rc rs t lv st h Q) (k2 : ¬ c → GO E I d rc rs q lv st h Q) : GO E I d rc rs pc lv (vI (gB c) :: st) h Q := by
  refine g_if_ne hd ht hq in32_gB (fun w => k1 ?_) (fun w => k2 fun z => ?_)
  · exact Decidable.not_not.mp fun z => w (gB_f z)
  · rw [gB_t z] at w; omega
theorem g_ifnullN {off : Int} (hd : decode I.2.1 pc = .ok (.ifnull off, 3)) (ht : (pc : Int) + off = (t : Int)) (kk : GO E I d rc rs t lv st h Q) : GO E I d rc rs pc lv (.null :: st) h Q :=
  GO.pure (fun hc _ k => lv_ifnullN hc.1 hc.2.1 hd ht k) kk
theorem g_ifnullR {off : Int} {x : Nat} (hd : decode I.2.1 pc = .ok (.ifnull off, 3)) (hq : pc + 3 = q) (kk : GO E I d rc rs q lv st h Q) : GO E I d rc rs pc lv (.ref x :: st) h Q := by
  subst hq; exact GO.pure (fun hc _ k => lv_ifnull hc.1 hc.2.1 hd k) kk
theorem g_ifnonnullN {off : Int} (hd : decode I.2.1 pc = .ok (.ifnonnull off, 3)) (hq : pc + 3 = q) (kk : GO E I d rc rs q lv st h Q) : GO E I d rc rs pc lv (.null :: st) h Q := by
  subst hq; exact GO.pure (fun hc _ k => lv_ifnonnullN hc.1 hc.2.1 hd k) kk
theorem g_ifnonnullR {off : Int} {x : Nat} (hd : decode I.2.1 pc = .ok (.ifnonnull off, 3)) (ht : (pc : Int) + off = (t : Int)) (kk : GO E I d rc rs t lv st h Q) : GO E I d rc rs pc lv (.ref x :: st) h Q :=
  GO.pure (fun hc _ k => lv_ifnonnull hc.1 hc.2.1 hd ht k) kk
theorem g_ifnull {off : Int} {r : Option Nat} (hd : decode I.2.1 pc = .ok (.ifnull off, 3)) (ht : (pc : Int) + off = (t : Int)) (hq : pc + 3 = q) (k1 : r = none → GO E I d rc rs t lv st h Q) (k2 : ∀ x, r = some x → GO E I d rc rs q lv st h Q) : GO E I d rc rs pc lv (va_rf r :: st) h Q := by
  cases r with
  | none => exact g_ifnullN hd ht (k1 rfl)
  | some x => exact g_ifnullR hd hq (k2 x rfl)
theorem g_ifnonnull {off : Int} {r : Option Nat} (hd : decode I.2.1 pc = .ok (.ifnonnull off, 3)) (ht : (pc : Int) + off = (t : Int)) (hq : pc + 3 = q) (k1 : ∀ x, r = some x → GO E I d rc rs t lv st h Q) (k2 : r = none → GO E I d rc rs q lv st h Q) : GO E I d rc rs pc lv (va_rf r :: st) h Q := by
  cases r with
  | none => exact g_ifnonnullN hd hq (k2 rfl)
  | some x => exact g_ifnonnullR hd ht (k1 x rfl)
theorem g_lcmp (hd : decode I.2.1 pc = .ok (.lcmp, 1)) (ha : in64 a) (hb : in64 b) (hq : pc + 1 = q) (kk : GO E I d rc rs q lv (vI (gCmp a b) :: st) h Q) : GO E I d rc rs pc lv (vL b :: vL a :: st) h Q := by
  subst hq
  intro p l e R s m args below meth c H locs k n ls hc a1 a2 a3 a4 hR hL hl
  have K := kk p l e R s m args below meth c H locs k n ls hc a1 a2 a3 a4 hR hL hl
  refine W.lcmp hc.1 hc.2.1 hd ?_
  have e1 : lg_cmp (Int64.ofInt a) (Int64.ofInt b) = Int32.ofInt (gCmp a b) := by
    unfold lg_cmp gCmp
    by_cases w : a < b
    · rw [if_neg (show ¬ Int64.ofInt a > Int64.ofInt b from fun z => by have := (o64_lt hb ha).mp z; omega), if_neg (fun z => by have := (o64_eq ha hb).mp z; omega), if_pos w]; decide
    · by_cases z : a = b
      · rw [if_neg (show ¬ Int64.ofInt a > Int64.ofInt b from fun z => by have := (o64_lt hb ha).mp z; omega), if_pos ((o64_eq ha hb).mpr z), if_neg w, if_pos z]; decide
      · rw [if_pos (show Int64.ofInt a > Int64.ofInt b from (o64_lt hb ha).mpr (by omega)), if_neg w, if_neg z]; decide
  rw [e1]
  exact K
theorem g_tswOut {dflt lo hi : Int} {offs : Array Int} {len : Nat} (hd : decode I.2.1 pc = .ok (.tableswitch dflt lo hi offs, len)) (ha : in32 a) (hx : a < lo ∨ hi < a) (ht : (pc : Int) + dflt = (t : Int)) (kk : GO E I d rc rs t lv st h Q) : GO E I d rc rs pc lv (vI a :: st) h Q :=
  GO.pure (fun hc _ k => lv_tableOut hc.1 hc.2.1 hd (by rw [o32 ha]; exact hx) ht k) kk
theorem g_tswIn {dflt lo hi off : Int} {offs : Array Int} {len : Nat} (hd : decode I.2.1 pc = .ok (.tableswitch dflt lo hi offs, len)) (ha : in32 a) (h1 : lo ≤ a) (h2 : a ≤ hi) (ho : offs[(a - lo).toNat]? = some off) (ht : (pc : Int) + off = (t : Int)) (kk : GO E I d rc rs t lv st h Q) : GO E I d rc rs pc lv (vI a :: st) h Q :=
  GO.pure (fun hc _ k => lv_tableIn hc.1 hc.2.1 hd (by rw [o32 ha]; omega) (by rw [o32 ha]; omega) (by rw [o32 ha]; exact ho) ht k) kk
/-! answers -/
theorem rI (e : a = b) : Outcome.returned (some (vI a)) = .returned (some (vI b)) := by rw [e]
theorem rL (e : a = b) : Outcome.returned (some (vL a)) = .returned (some (vL b)) := by rw [e]
theorem g_ireturn {x : Int32} {ty : FieldType} (hd : decode I.2.1 pc = .ok (.ireturn, 1)) (hr : I.2.2.2.1 = some ty) (hn : narrow ty (.int x) = .int x) (hq : Q (.returned (some (.int x))) h) : GO E I d rc rs pc lv [.int x] h Q := by
  intro p l e R s m args below meth c H locs k n ls hc a1 a2 a3 a4 hR hL hl T hT X
  have hr' : meth.sig.returnType = some ty := hc.2.2.2.1.trans hr
  obtain ⟨fs, hret, hrun, hended, hW, hframe⟩ := X.leave (v := some (.int x)) (fun z => by rw [hr'] at z; cases z) (hlocks := hc.2.2.2.2.1)
  have hmeth' : T.vm.method? m = some meth := X.method'
  refine ⟨T.setFrames fs, ?_, .returned (some (.int x)), h, locs, k, n, hq, (show (T.setFrames fs).heap = H from hT) ▸ hR, hrun, hended, hW, hframe, hL, by omega, by omega⟩
  have hx := hc.1
  have hb := hc.2.1
  jvm_step X.here [X.here.top, hx, hb, hd, hmeth', hr', hn]
  (try refine ⟨rfl, ?_⟩); (try refine ⟨rfl, ?_⟩)
  first | (intro acts; rw [hret _ acts rfl rfl rfl]) | rw [hret _ _ rfl rfl rfl]
  exact Steps.refl _
theorem g_iret (hd : decode I.2.1 pc = .ok (.ireturn, 1)) (hr : I.2.2.2.1 = some .int) (hq : Q (.returned (some (vI a))) h) : GO E I d rc rs pc lv [vI a] h Q := g_ireturn hd hr rfl hq
theorem narrow_gB {c : Prop} [Decidable c] : narrow .boolean (vI (gB c)) = vI (gB c) := by
  by_cases q : c
  · rw [gB_t q]; rfl
  · rw [gB_f q]; rfl
theorem g_zret {c : Prop} [Decidable c] (hd : decode I.2.1 pc = .ok (.ireturn, 1)) (hr : I.2.2.2.1 = some .boolean) (hq : Q (.returned (some (vI (gB c)))) h) : GO E I d rc rs pc lv [vI (gB c)] h Q := g_ireturn hd hr narrow_gB hq
theorem g_zret1 (hd : decode I.2.1 pc = .ok (.ireturn, 1)) (hr : I.2.2.2.1 = some .boolean) (hq : Q (.returned (some (vI 1))) h) : GO E I d rc rs pc lv [vI 1] h Q := g_ireturn hd hr rfl hq
theorem g_zret0 (hd : decode I.2.1 pc = .ok (.ireturn, 1)) (hr : I.2.2.2.1 = some .boolean) (hq : Q (.returned (some (vI 0))) h) : GO E I d rc rs pc lv [vI 0] h Q := g_ireturn hd hr rfl hq
theorem g_lret {v : Value} (hd : decode I.2.1 pc = .ok (.lreturn, 1)) (hr : I.2.2.2.1 = some .long) (hq : Q (.returned (some v)) h) (hv : gNL v := by exact ⟨_, rfl⟩) : GO E I d rc rs pc lv [v] h Q := by
  obtain ⟨x, rfl⟩ := hv
  intro p l e R s m args below meth c H locs k n ls hc a1 a2 a3 a4 hR hL hl T hT X
  have hr' : meth.sig.returnType = some .long := hc.2.2.2.1.trans hr
  obtain ⟨fs, hret, hrun, hended, hW, hframe⟩ := X.leave (v := some (.long x)) (fun z => by rw [hr'] at z; cases z) (hlocks := hc.2.2.2.2.1)
  have hmeth' : T.vm.method? m = some meth := X.method'
  refine ⟨T.setFrames fs, ?_, .returned (some (.long x)), h, locs, k, n, hq, (show (T.setFrames fs).heap = H from hT) ▸ hR, hrun, hended, hW, hframe, hL, by omega, by omega⟩
  have hx := hc.1
  have hb := hc.2.1
  jvm_step X.here [X.here.top, hx, hb, hd, hmeth', hr', narrow]
  (try refine ⟨rfl, ?_⟩); (try refine ⟨rfl, ?_⟩)
  first | (intro acts; rw [hret _ acts rfl rfl rfl]) | rw [hret _ _ rfl rfl rfl]
  exact Steps.refl _
theorem g_vret (hd : decode I.2.1 pc = .ok (.return_, 1)) (hr : I.2.2.2.1 = none) (hq : Q (.returned none) h) : GO E I d rc rs pc lv [] h Q := by
  intro p l e R s m args below meth c H locs k n ls hc a1 a2 a3 a4 hR hL hl T hT X
  have hr' : meth.sig.returnType = none := hc.2.2.2.1.trans hr
  obtain ⟨fs, hret, hrun, hended, hW, hframe⟩ := X.leave (v := none) (fun _ => rfl) (hlocks := hc.2.2.2.2.1)
  have hmeth' : T.vm.method? m = some meth := X.method'
  refine ⟨T.setFrames fs, ?_, .returned none, h, locs, k, n, hq, (show (T.setFrames fs).heap = H from hT) ▸ hR, hrun, hended, hW, hframe, hL, by omega, by omega⟩
  have hx := hc.1
  have hb := hc.2.1
  jvm_step X.here [X.here.top, hx, hb, hd, hmeth', hr']
  (try refine ⟨rfl, ?_⟩); (try refine ⟨rfl, ?_⟩)
  first | (intro acts; rw [hret _ acts rfl rfl rfl]) | rw [hret _ _ rfl rfl rfl]
  exact Steps.refl _
theorem g_aret {v : Value} {rt : FieldType} (hd : decode I.2.1 pc = .ok (.areturn, 1)) (hr : I.2.2.2.1 = some rt) (hrt : (∃ n, rt = .object n) ∨ ∃ t, rt = .array t) (hq : Q (.returned (some v)) h) (hv : gR v := by first | exact gR_ref | exact gR_null | exact gR_rf) : GO E I d rc rs pc lv [v] h Q := by
  intro p l e R s m args below meth c H locs k n ls hc a1 a2 a3 a4 hR hL hl T hT X
  have hr' : meth.sig.returnType = some rt := hc.2.2.2.1.trans hr
  obtain ⟨fs, hret, hrun, hended, hW, hframe⟩ := X.leave (v := some v) (fun z => by rw [hr'] at z; cases z) (hlocks := hc.2.2.2.2.1)
  have hmeth' : T.vm.method? m = some meth := X.method'
  refine ⟨T.setFrames fs, ?_, .returned (some v), h, locs, k, n, hq, (show (T.setFrames fs).heap = H from hT) ▸ hR, hrun, hended, hW, hframe, hL, by omega, by omega⟩
  have hx := hc.1
  have hb := hc.2.1
  rcases hrt with ⟨n, rfl⟩ | ⟨t, rfl⟩ <;> rcases hv with rfl | ⟨a, rfl⟩ <;>
    (jvm_step X.here [X.here.top, hx, hb, hd, hmeth', hr']
     (try refine ⟨rfl, ?_⟩); (try refine ⟨rfl, ?_⟩)
     first | (intro acts; rw [hret _ acts rfl rfl rfl]) | rw [hret _ _ rfl rfl rfl]
     exact Steps.refl _)
end Rows
