/-! MY LOGIC, part 3: fields and arrays -/
set_option maxRecDepth 100000
/-- arrays of numbers, of references -/
def aI (E : gE) (n : Nat) (g : Int → Int) : va_E := .inl (E.2.1 0, n, .inl (fun j => Int32.ofInt (g (j : Int))))
def aB (E : gE) (n : Nat) (g : Int → Int) : va_E := .inl (E.2.1 1, n, .inl (fun j => Int32.ofInt (g (j : Int))))
def aS (E : gE) (n : Nat) (g : Int → Int) : va_E := .inl (E.2.1 2, n, .inl (fun j => Int32.ofInt (g (j : Int))))
def aL (E : gE) (n : Nat) (g : Int → Int) : va_E := .inl (E.2.1 3, n, .inr (.inl (fun j => Int64.ofInt (g (j : Int)))))
def aZ (E : gE) (n : Nat) (g : Int → Int) : va_E := .inl (E.2.1 4, n, .inl (fun j => Int32.ofInt (g (j : Int))))
def aR (E : gE) (k n : Nat) (f : Int → Option Nat) : va_E := .inl (E.2.1 k, n, .inr (.inr (.inr (.inr (fun j => f (j : Int))))))
/-- a new value at a place -/
def upI {α : Type} (g : Int → α) (k : Int) (x : α) : Int → α := fun j => if j = k then x else g j
theorem upI_at {α : Type} {g : Int → α} {k : Int} {x : α} : upI g k x k = x := if_pos rfl
theorem upI_ne {α : Type} {g : Int → α} {k j : Int} {x : α} (h : j ≠ k) : upI g k x j = g j := if_neg h
def oB (ci : Nat) (fs : List Value) : va_E := .inr (ci, fs)
def hset (h : gH) (a : Nat) (x : va_E) : gH := (fun b => if b = a then some x else h.1 b, h.2)
def hnew (h : gH) (x : va_E) : gH := (fun b => if b = h.2 then some x else h.1 b, h.2 + 1)
theorem hset_at {h : gH} {a : Nat} {x : va_E} : (hset h a x).1 a = some x := if_pos rfl
theorem hset_ne {h : gH} {a b : Nat} {x : va_E} (hb : b ≠ a) : (hset h a x).1 b = h.1 b := if_neg hb
theorem hset_sz {h : gH} {a : Nat} {x : va_E} : (hset h a x).2 = h.2 := rfl
theorem hnew_at {h : gH} {x : va_E} : (hnew h x).1 h.2 = some x := if_pos rfl
theorem hnew_ne {h : gH} {b : Nat} {x : va_E} (hb : b ≠ h.2) : (hnew h x).1 b = h.1 b := if_neg hb
theorem hset_hset {h : gH} {a : Nat} {x y : va_E} : hset (hset h a x) a y = hset h a y := by
  refine Prod.ext (funext fun b => ?_) rfl
  by_cases hb : b = a <;> simp [hset, hb]
theorem hset_comm {h : gH} {a b : Nat} {x y : va_E} (hab : a ≠ b) : hset (hset h a x) b y = hset (hset h b y) a x := by
  refine Prod.ext (funext fun c => ?_) rfl
  by_cases h1 : c = a <;> by_cases h2 : c = b
  · exact absurd (h1.symm.trans h2) hab
  · simp [hset, h1, hab]
  · simp [hset, h2, Ne.symm hab]
  · simp [hset, h1, h2]
theorem hset_self {h : gH} {a : Nat} {x : va_E} (hx : h.1 a = some x) : hset h a x = h := by
  refine Prod.ext (funext fun b => ?_) rfl
  by_cases hb : b = a
  · subst hb; simp [hset, hx]
  · simp [hset, hb]
theorem gRel.lt {E : gE} {h : gH} {H : Heap} (hR : gRel E h H) {a : Nat} {x : va_E} (ha : h.1 a = some x) : a < h.2 := by rw [← hR.1]; exact (hR.2.2.2 a x ha).2.lt
theorem gRel.set {E : gE} {h : gH} {H H1 : Heap} {a : Nat} {x y : va_E} (hR : gRel E h H) (ha : h.1 a = some x) (hz : H1.size = H.size) (oq : ∀ q : Nat, q ≠ a → H1[q]? = H[q]?) (hat : va_at E.1 vwCl (a, y) H1) : gRel E (hset h a y) H1 := by
  refine ⟨hz.trans hR.1, hR.2.1, fun q hq => ?_, fun b z hb => ?_⟩
  · have := (hR.2.2.2 a x ha).1
    rw [oq q (by omega)]; exact hR.2.2.1 q hq
  · by_cases e : b = a
    · subst e
      rw [hset_at] at hb
      cases hb
      exact ⟨(hR.2.2.2 b x ha).1, hat⟩
    · rw [hset_ne e] at hb
      exact ⟨(hR.2.2.2 b z hb).1, (hR.2.2.2 b z hb).2.kept (oq b e)⟩
theorem gRel.push {E : gE} {h : gH} {H H1 : Heap} {y : va_E} (hR : gRel E h H) (hz : H1.size = H.size + 1) (oq : ∀ q : Nat, q < H.size → H1[q]? = H[q]?) (hat : va_at E.1 vwCl (h.2, y) H1) : gRel E (hnew h y) H1 := by
  have hs := hR.1
  have hz0 := hR.2.1
  refine ⟨by rw [hz, hs]; rfl, by show gZ E ≤ h.2 + 1; omega, fun q hq => ?_, fun b z hb => ?_⟩
  · rw [oq q (by omega)]; exact hR.2.2.1 q hq
  · by_cases e : b = h.2
    · subst e
      rw [hnew_at] at hb
      cases hb
      exact ⟨hz0, hat⟩
    · rw [hnew_ne e] at hb
      exact ⟨(hR.2.2.2 b z hb).1, (hR.2.2.2 b z hb).2.kept (oq b (by rw [hs]; exact hR.lt hb))⟩
/-- the cells as the kit lists them -/
theorem gRel.P {E : gE} {h : gH} {H : Heap} {a : Nat} {x : va_E} (hR : gRel E h H) (ha : h.1 a = some x) : va_P E.1 vwCl [(a, x)] H := by
  intro k q hk
  match k, hk with
  | 0, hk => cases hk; exact (hR.2.2.2 a x ha).2
  | k + 1, hk => simp at hk
theorem locs1 {E : gE} {locs : List Loc} {a k : Nat} (hL : ∀ q ∈ locs, gZ E ≤ q.base) (ha : gZ E ≤ a) : ∀ q ∈ locs ++ [⟨a, k⟩], gZ E ≤ q.base := by
  intro q hq
  rcases List.mem_append.mp hq with w | w
  · exact hL q w
  · rw [List.mem_singleton.mp w]; exact ha
theorem vp_in_o {i : Int} {n : Nat} (h0 : 0 ≤ i) (h1 : i < n) (hn : n < 2147483648) : vp_in (Int32.ofInt i) n := by
  have hi : in32 i := by unfold in32; omega
  rw [vp_in_iff, o32 hi]
  exact ⟨h0, h1⟩
section Rows
variable {E : gE} {I : gI} {d rc rs pc q : Nat} {lv : List (Option Value)} {st : List Value} {h : gH} {Q : Outcome → gH → Prop} {a n : Nat} {i x : Int} {g : Int → Int}
theorem g_get {C : String} {T : u_T} {N ci index k : Nat} {fs : List Value} {v : Value} (hd : decode I.2.1 pc = .ok (.getfield index, 3)) (hlink : Cond.fieldLink I.1.cls index (T k).1 (T k).2.1 (T k).2.2.1 ∈ lw_all) (hcl : vwCl[ci]? = some (C, T, N)) (hin : ∀ w ∈ u_ws C T N, w ∈ lw_all) (hk : k < N) (ha : h.1 a = some (oB ci fs)) (hv : fs[k]? = some v) (hq : pc + 3 = q) (kk : GO E I d rc rs q lv (v :: st) h Q) : GO E I d rc rs pc lv (.ref a :: st) h Q := by
  subst hq
  intro p l e R s m args below meth c H locs k n ls hc a1 a2 a3 a4 hR hL hl
  exact va_get hc.1 hc.2.1 (Ts := lw_all) (fun w hw => gw hc hw) hin hc.2.2.2.2.2.2.1 (gK hc) (hR.P ha) 0 rfl hcl _ hk (gw hc hlink) (fun x w => w) hv hd (kk p l e R s m args below meth c H locs k n ls hc a1 a2 a3 a4 hR hL hl)
/-- a nest mate's field -/
theorem gwN {E : gE} {I : gI} {p : Program} {s : State} {m : MethodId} {meth : Method} {c : Code} (hc : gCx E I p s m meth c) {args : Array Value} {o : String} {i : Nat} {b n d g : String} (hw : Cond.fieldLinkNest o i b n d g ∈ lw_tbl) : (Cond.fieldLinkNest o i b n d g).before args s = true :=
  va_Nw.use rfl (va_Nw.warmF hc.2.2.2.2.2.2.2.2.1 (va_Nw.of rfl (hc.2.2.2.2.2.2.2.2.2.1 _ hw)))
theorem g_getN {C host : String} {T : u_T} {N ci index k : Nat} {fs : List Value} {v : Value} (hd : decode I.2.1 pc = .ok (.getfield index, 3)) (hlink : Cond.fieldLinkNest I.1.cls index (T k).1 (T k).2.1 (T k).2.2.1 host ∈ lw_tbl) (hcl : vwCl[ci]? = some (C, T, N)) (hin : ∀ w ∈ u_ws C T N, w ∈ lw_all) (hk : k < N) (ha : h.1 a = some (oB ci fs)) (hv : fs[k]? = some v) (hq : pc + 3 = q) (kk : GO E I d rc rs q lv (v :: st) h Q) : GO E I d rc rs pc lv (.ref a :: st) h Q := by
  subst hq
  intro p l e R s m args below meth c H locs k n ls hc a1 a2 a3 a4 hR hL hl
  exact va_getN hc.1 hc.2.1 (Ts := lw_all) (fun w hw => gw hc hw) hin hc.2.2.2.2.2.2.1 (gK hc) (hR.P ha) 0 rfl hcl _ hk (gwN hc hlink) (fun x w => w) hv hd (kk p l e R s m args below meth c H locs k n ls hc a1 a2 a3 a4 hR hL hl)
/-- a field's type takes the value -/
def gFit (ty : FieldType) (v : Value) : Prop := narrow ty v = v ∧ fits ty v = true
theorem gFit_int {x : Int32} : gFit .int (.int x) := ⟨rfl, rfl⟩
theorem gFit_o {C : String} {a : Nat} : gFit (.object C) (.ref a) := ⟨rfl, rfl⟩
theorem gFit_oN {C : String} : gFit (.object C) .null := ⟨rfl, rfl⟩
theorem gFit_a {t : FieldType} {a : Nat} : gFit (.array t) (.ref a) := ⟨rfl, rfl⟩
theorem gFit_aN {t : FieldType} : gFit (.array t) .null := ⟨rfl, rfl⟩
theorem gFit_or {C : String} {r : Option Nat} : gFit (.object C) (va_rf r) := by cases r <;> exact ⟨rfl, rfl⟩
theorem gFit_ar {t : FieldType} {r : Option Nat} : gFit (.array t) (va_rf r) := by cases r <;> exact ⟨rfl, rfl⟩
theorem gFit_B {c : Prop} [Decidable c] : gFit .boolean (vI (gB c)) := by
  by_cases w : c
  · rw [gB_t w]; exact ⟨rfl, rfl⟩
  · rw [gB_f w]; exact ⟨rfl, rfl⟩
theorem gFit_0 : gFit .boolean (vI 0) := ⟨rfl, rfl⟩
theorem gFit_1 : gFit .boolean (vI 1) := ⟨rfl, rfl⟩
theorem g_putX {C : String} {T : u_T} {N ci k : Nat} {fs : List Value} {v : Value} {ty : Nat → FieldType}
    (hW : ∀ {p : Program} {l : Launch} {e : Env} {R : Room} {s : State} {m : MethodId} {args : Array Value} {below : List Frame} {meth : Method} {c : Code} {H : Heap} {locs : List Loc} {k0 n : Nat} {ls : Array Slot} {Qs : State → Prop} {cell : Cell} {cf fi : Nat} {kf : Class} {f : Field},
      gCx E I p s m meth c → H[a]? = some cell → cell.cls = E.1.1 ci → cell.vm = .none → s.fieldFound? (T k).1 (T k).2.1 (T k).2.2.1 = some (cf, kf, fi, f) → f.slot < cell.slots.size →
      (∀ H' : Heap, H'[a]? = some (cell.setSlot f.slot v) → H'.size = H.size → (∀ q, q ≠ a → H'[q]? = H[q]?) → W p l e R s m args below meth c H' (locs ++ [⟨a, f.slot⟩]) k0 n Qs (F0 m (pc + 3) ls st)) →
      W p l e R s m args below meth c H locs k0 n Qs (F0 m pc ls (v :: .ref a :: st)))
    (hcl : vwCl[ci]? = some (C, T, N)) (hin : ∀ w ∈ u_ws C T N, w ∈ lw_all) (hty : ∀ k, k < N → parseFieldDescriptor (T k).2.2.1 = some (ty k)) (hnm : ∀ a, a < N → ∀ b, b < N → a ≠ b → (T a).2.1 ≠ (T b).2.1)
    (hk : k < N) (ha : h.1 a = some (oB ci fs)) (hl0 : k < fs.length) (hq : pc + 3 = q) (kk : GO E I d rc rs q lv st (hset h a (oB ci (fs.set k v))) Q) : GO E I d rc rs pc lv (v :: .ref a :: st) h Q := by
  subst hq
  intro p l e R s m args below meth c H locs k0 n ls hc a1 a2 a3 a4 hR hL hl
  have hap := va_apart (own := C) (args := args) (Ts := lw_all) (fun w hw => gw hc hw) hin ty hty hnm (gK hc) hcl
  obtain ⟨hz, r, h1, cell, q1, q2, q3, q4⟩ := hR.2.2.2 a _ ha
  have hr : r = (C, T, N) := Option.some.inj (h1.symm.trans hcl)
  subst hr
  obtain ⟨hS, hfc, kC, hkC, hkind⟩ := (gK hc).1 ci _ hcl
  obtain ⟨cf, kf, fi, f, hi, hsl⟩ := hS k hk
  refine hW (f := f) hc q1 q2 q3 hi (by rw [hsl]; exact k2_hasslot (q4 k hk)) fun H' e1 e2 e3 => ?_
  refine kk p l e R s m args below meth c H' _ k0 n ls hc a1 a2 a3 a4 (hR.set ha e2 e3 ?_) (locs1 hL hz) hl
  rw [hsl] at e1
  exact ⟨_, hcl, t_OB.to (V := updV (vp_V fs) k v) ⟨_, e1, q2, q3, t_set q4 hap hk v⟩ (fun j _ => vp_updV_set hl0 v j)⟩
theorem g_put {C : String} {T : u_T} {N ci index k : Nat} {fs : List Value} {v : Value} {ty : Nat → FieldType} (hd : decode I.2.1 pc = .ok (.putfield index, 3)) (hlink : Cond.fieldLink I.1.cls index (T k).1 (T k).2.1 (T k).2.2.1 ∈ lw_all) (hcl : vwCl[ci]? = some (C, T, N)) (hin : ∀ w ∈ u_ws C T N, w ∈ lw_all)
    (hty : ∀ k, k < N → parseFieldDescriptor (T k).2.2.1 = some (ty k)) (hnm : ∀ a, a < N → ∀ b, b < N → a ≠ b → (T a).2.1 ≠ (T b).2.1) (hk : k < N) (hfin : (T k).2.2.2 = false) (hfit : gFit (ty k) v) (ha : h.1 a = some (oB ci fs)) (hl0 : k < fs.length) (hq : pc + 3 = q) (kk : GO E I d rc rs q lv st (hset h a (oB ci (fs.set k v))) Q) : GO E I d rc rs pc lv (v :: .ref a :: st) h Q := by
  refine g_putX (ty := ty) ?_ hcl hin hty hnm hk ha hl0 hq kk
  intro p l e R s m args below meth c H locs k0 n ls Qs cell cf fi kf f hc q1 q2 q3 hi hlt hW
  obtain ⟨hS, hfc, kC, hkC, hkind⟩ := (gK hc).1 ci _ hcl
  have hlay : (u_lay C T k).before args s = true := gw hc (hin _ (u_in_lay hk))
  unfold u_lay at hlay
  rw [if_neg (by rw [hfin]; decide)] at hlay
  have hst := (u_facts hfc hkC (u_lays (ws := lw_all) (args := args) (fun w hw => gw hc hw) hin hk) hi).1
  have h6 := u_store hfc hkC hkind hlay hi (hty k hk) hfit.1 hfit.2
  exact W.putK hc.1 hc.2.1 (f := f) ⟨hc.2.2.2.2.2.2.1, gw hc hlink, ⟨_, _, _, hi⟩, hst⟩ (by rw [q2]; exact h6) q1 q3 hlt rfl rfl hd hW
theorem g_putN {C host : String} {T : u_T} {N ci index k : Nat} {fs : List Value} {v : Value} {ty : Nat → FieldType} (hd : decode I.2.1 pc = .ok (.putfield index, 3)) (hlink : Cond.fieldLinkNest I.1.cls index (T k).1 (T k).2.1 (T k).2.2.1 host ∈ lw_tbl) (hcl : vwCl[ci]? = some (C, T, N)) (hin : ∀ w ∈ u_ws C T N, w ∈ lw_all)
    (hty : ∀ k, k < N → parseFieldDescriptor (T k).2.2.1 = some (ty k)) (hnm : ∀ a, a < N → ∀ b, b < N → a ≠ b → (T a).2.1 ≠ (T b).2.1) (hk : k < N) (hfin : (T k).2.2.2 = false) (hfit : gFit (ty k) v) (ha : h.1 a = some (oB ci fs)) (hl0 : k < fs.length) (hq : pc + 3 = q) (kk : GO E I d rc rs q lv st (hset h a (oB ci (fs.set k v))) Q) : GO E I d rc rs pc lv (v :: .ref a :: st) h Q := by
  refine g_putX (ty := ty) ?_ hcl hin hty hnm hk ha hl0 hq kk
  intro p l e R s m args below meth c H locs k0 n ls Qs cell cf fi kf f hc q1 q2 q3 hi hlt hW
  obtain ⟨hS, hfc, kC, hkC, hkind⟩ := (gK hc).1 ci _ hcl
  have hlay : (u_lay C T k).before args s = true := gw hc (hin _ (u_in_lay hk))
  unfold u_lay at hlay
  rw [if_neg (by rw [hfin]; decide)] at hlay
  have hst := (u_facts hfc hkC (u_lays (ws := lw_all) (args := args) (fun w hw => gw hc hw) hin hk) hi).1
  have h6 := u_store hfc hkC hkind hlay hi (hty k hk) hfit.1 hfit.2
  exact va_WputK hc.1 hc.2.1 (f := f) hc.2.2.2.2.2.2.1 (gwN hc hlink) hi hst (by rw [q2]; exact h6) q1 q3 hlt rfl rfl hd hW
theorem g_putF {C : String} {T : u_T} {N ci index k : Nat} {fs : List Value} {v : Value} {ty : Nat → FieldType} (hd : decode I.2.1 pc = .ok (.putfield index, 3)) (hlink : Cond.fieldLink I.1.cls index (T k).1 (T k).2.1 (T k).2.2.1 ∈ lw_all) (hcl : vwCl[ci]? = some (C, T, N)) (hin : ∀ w ∈ u_ws C T N, w ∈ lw_all)
    (hty : ∀ k, k < N → parseFieldDescriptor (T k).2.2.1 = some (ty k)) (hnm : ∀ a, a < N → ∀ b, b < N → a ≠ b → (T a).2.1 ≠ (T b).2.1) (hk : k < N) (hfin : (T k).2.2.2 = true) (hinit : I.1.name = "<init>") (hdecl : (T k).1 = I.1.cls) (hfit : gFit (ty k) v) (ha : h.1 a = some (oB ci fs)) (hl0 : k < fs.length) (hq : pc + 3 = q) (kk : GO E I d rc rs q lv st (hset h a (oB ci (fs.set k v))) Q) : GO E I d rc rs pc lv (v :: .ref a :: st) h Q := by
  refine g_putX (ty := ty) ?_ hcl hin hty hnm hk ha hl0 hq kk
  intro p l e R s m args below meth c H locs k0 n ls Qs cell cf fi kf f hc q1 q2 q3 hi hlt hW
  obtain ⟨hS, hfc, kC, hkC, hkind⟩ := (gK hc).1 ci _ hcl
  have hlay : (u_lay C T k).before args s = true := gw hc (hin _ (u_in_lay hk))
  unfold u_lay at hlay
  rw [if_pos hfin] at hlay
  have hst := (u_facts hfc hkC (u_lays (ws := lw_all) (args := args) (fun w hw => gw hc hw) hin hk) hi).1
  have hcf : m.cls = cf := by
    obtain ⟨_, _, c', _, _, _, -, -, hf', -, -, -, hown2, -⟩ := Cond.laysFinal_spec hlay
    have e1 : c' = cf := by have := hi.symm.trans hf'; simp at this; exact this.1.symm
    rw [hdecl] at hown2
    rw [← e1]; exact Option.some.inj (hc.2.2.2.2.2.2.1.symm.trans hown2)
  have h6 := u_fits hfc hkC hkind (Or.inr hlay) hi (hty k hk) hfit.1 hfit.2
  exact W.putFinK hc.1 hc.2.1 hc.2.2.2.2.2.2.1 (gw hc hlink) hi hst hcf (hc.2.2.2.2.2.2.2.1.trans hinit) (by rw [q2]; exact h6) q1 q3 hlt rfl rfl hd hW
end Rows
