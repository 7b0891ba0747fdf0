/-! MY LOGIC, part 8: cells made anew, behind a heap; constructors -/
set_option maxRecDepth 100000
/-- cells behind a heap -/
def app (h : gH) (L : List va_E) : gH := (fun b => if h.2 ≤ b ∧ b < h.2 + L.length then L[b - h.2]? else h.1 b, h.2 + L.length)
theorem app_at {h : gH} {L : List va_E} {k : Nat} {x : va_E} (hk : L[k]? = some x) : (app h L).1 (h.2 + k) = some x := by
  obtain ⟨hlt, -⟩ := List.getElem?_eq_some_iff.mp hk
  show (if h.2 ≤ h.2 + k ∧ h.2 + k < h.2 + L.length then L[h.2 + k - h.2]? else h.1 (h.2 + k)) = _
  rw [if_pos ⟨by omega, by omega⟩, Nat.add_sub_cancel_left, hk]
theorem app_lo {h : gH} {L : List va_E} {b : Nat} (hb : b < h.2) : (app h L).1 b = h.1 b := if_neg (by omega)
theorem app_sz {h : gH} {L : List va_E} : (app h L).2 = h.2 + L.length := rfl
theorem app_new {h : gH} {L : List va_E} {x : va_E} : hnew (app h L) x = app h (L ++ [x]) := by
  refine Prod.ext (funext fun b => ?_) (by show h.2 + L.length + 1 = h.2 + (L ++ [x]).length; simp; omega)
  show (if b = h.2 + L.length then some x else if h.2 ≤ b ∧ b < h.2 + L.length then L[b - h.2]? else h.1 b) = if h.2 ≤ b ∧ b < h.2 + (L ++ [x]).length then (L ++ [x])[b - h.2]? else h.1 b
  have e : (L ++ [x]).length = L.length + 1 := by simp
  rw [e]
  by_cases c : b = h.2 + L.length
  · rw [if_pos c, if_pos (by omega), List.getElem?_append_right (by omega)]
    subst c
    simp
  · rw [if_neg c]
    by_cases c2 : h.2 ≤ b ∧ b < h.2 + L.length
    · rw [if_pos c2, if_pos (by omega), List.getElem?_append_left (by omega)]
    · rw [if_neg c2, if_neg (by omega)]
theorem app_one {h : gH} {x : va_E} : hnew h x = app h [x] := by
  have e : app h [] = h := Prod.ext (funext fun b => if_neg (by simp)) rfl
  have := app_new (h := h) (L := []) (x := x)
  rw [e] at this
  exact this
theorem app_app {h : gH} {L L2 : List va_E} : app (app h L) L2 = app h (L ++ L2) := by
  refine Prod.ext (funext fun b => ?_) (by show h.2 + L.length + L2.length = h.2 + (L ++ L2).length; simp; omega)
  show (if h.2 + L.length ≤ b ∧ b < h.2 + L.length + L2.length then L2[b - (h.2 + L.length)]? else if h.2 ≤ b ∧ b < h.2 + L.length then L[b - h.2]? else h.1 b) = if h.2 ≤ b ∧ b < h.2 + (L ++ L2).length then (L ++ L2)[b - h.2]? else h.1 b
  have e : (L ++ L2).length = L.length + L2.length := by simp
  rw [e]
  by_cases c : h.2 + L.length ≤ b ∧ b < h.2 + L.length + L2.length
  · rw [if_pos c, if_pos (by omega), List.getElem?_append_right (by omega)]
    congr 1
    omega
  · rw [if_neg c]
    by_cases c2 : h.2 ≤ b ∧ b < h.2 + L.length
    · rw [if_pos c2, if_pos (by omega), List.getElem?_append_left (by omega)]
    · rw [if_neg c2, if_neg (by omega)]
theorem app_set {h : gH} {L : List va_E} {k : Nat} {x y : va_E} (hk : L[k]? = some y) : hset (app h L) (h.2 + k) x = app h (L.set k x) := by
  obtain ⟨hlt, -⟩ := List.getElem?_eq_some_iff.mp hk
  refine Prod.ext (funext fun b => ?_) (by show h.2 + L.length = h.2 + (L.set k x).length; simp)
  show (if b = h.2 + k then some x else if h.2 ≤ b ∧ b < h.2 + L.length then L[b - h.2]? else h.1 b) = if h.2 ≤ b ∧ b < h.2 + (L.set k x).length then (L.set k x)[b - h.2]? else h.1 b
  rw [List.length_set]
  by_cases c : b = h.2 + k
  · subst c
    rw [if_pos rfl, if_pos (by omega), Nat.add_sub_cancel_left, List.getElem?_set_self hlt]
  · rw [if_neg c]
    by_cases c2 : h.2 ≤ b ∧ b < h.2 + L.length
    · rw [if_pos c2, if_pos c2, List.getElem?_set_ne (by omega)]
    · rw [if_neg c2, if_neg c2]
theorem app_blk {h : gH} {L : List va_E} {n : Nat} {f : Nat → va_E} (hn : L.length = n) (hf : ∀ j, j < n → L[j]? = some (f j)) : app h L = blk (h.1, h.2 + n) h.2 n f := by
  subst hn
  refine Prod.ext (funext fun b => ?_) rfl
  show (if h.2 ≤ b ∧ b < h.2 + L.length then L[b - h.2]? else h.1 b) = if h.2 ≤ b ∧ b < h.2 + L.length then some (f (b - h.2)) else h.1 b
  by_cases c : h.2 ≤ b ∧ b < h.2 + L.length
  · rw [if_pos c, if_pos c, hf (b - h.2) (by omega)]
  · rw [if_neg c, if_neg c]
section Rows
variable {E : gE} {I I' : gI} {d rc rs pc q mc ms np idx b ci : Nat} {lv : List (Option Value)} {st rest As fs : List Value} {h k : gH} {Q Q1 : Outcome → gH → Prop} {v : Value} {r : vw_C} {P : Value → gH → Prop} {P1 : gH → Prop} {L : List va_E} {i : Int}
theorem GO.cast {h' : gH} (e : h = h') (kk : GO E I d rc rs pc lv st h' Q) : GO E I d rc rs pc lv st h Q := by rw [e]; exact kk
theorem ga_newaI {n : Nat} (hd : decode I.2.1 pc = .ok (.newarray .int, 2)) (hn : L.length = n) (h0 : 0 ≤ i) (h1 : i < 60000) (hq : pc + 2 = q) (kk : GO E I d rc rs q lv (.ref (h.2 + n) :: st) (app h (L ++ [aI E i.toNat (fun _ => 0)])) Q) : GO E I d (rc + 1) (rs + i.toNat) pc lv (vI i :: st) (app h L) Q := by
  subst hn; refine g_newaI hd q226 h0 h1 hq ?_; rw [app_new]; exact kk
theorem ga_newaB {n : Nat} (hd : decode I.2.1 pc = .ok (.newarray .byte, 2)) (hn : L.length = n) (h0 : 0 ≤ i) (h1 : i < 60000) (hq : pc + 2 = q) (kk : GO E I d rc rs q lv (.ref (h.2 + n) :: st) (app h (L ++ [aB E i.toNat (fun _ => 0)])) Q) : GO E I d (rc + 1) (rs + i.toNat) pc lv (vI i :: st) (app h L) Q := by
  subst hn; refine g_newaB hd q220 h0 h1 hq ?_; rw [app_new]; exact kk
theorem ga_newaL {n : Nat} (hd : decode I.2.1 pc = .ok (.newarray .long, 2)) (hn : L.length = n) (h0 : 0 ≤ i) (h1 : i < 60000) (hq : pc + 2 = q) (kk : GO E I d rc rs q lv (.ref (h.2 + n) :: st) (app h (L ++ [aL E i.toNat (fun _ => 0)])) Q) : GO E I d (rc + 1) (rs + i.toNat) pc lv (vI i :: st) (app h L) Q := by
  subst hn; refine g_newaL hd q227 h0 h1 hq ?_; rw [app_new]; exact kk
theorem ga_newaS {n : Nat} (hd : decode I.2.1 pc = .ok (.newarray .short, 2)) (hn : L.length = n) (h0 : 0 ≤ i) (h1 : i < 60000) (hq : pc + 2 = q) (kk : GO E I d rc rs q lv (.ref (h.2 + n) :: st) (app h (L ++ [aS E i.toNat (fun _ => 0)])) Q) : GO E I d (rc + 1) (rs + i.toNat) pc lv (vI i :: st) (app h L) Q := by
  subst hn; refine g_newaS hd q225 h0 h1 hq ?_; rw [app_new]; exact kk
theorem ga_newaZ {n : Nat} (hd : decode I.2.1 pc = .ok (.newarray .boolean, 2)) (hn : L.length = n) (h0 : 0 ≤ i) (h1 : i < 60000) (hq : pc + 2 = q) (kk : GO E I d rc rs q lv (.ref (h.2 + n) :: st) (app h (L ++ [aZ E i.toNat (fun _ => 0)])) Q) : GO E I d (rc + 1) (rs + i.toNat) pc lv (vI i :: st) (app h L) Q := by
  subst hn; refine g_newaZ hd q384 h0 h1 hq ?_; rw [app_new]; exact kk
/-- Object.<init> -/
theorem g_objInit (hd : decode I.2.1 pc = .ok (.invokespecial idx, 3)) (hlink : Cond.methodLink I.1.cls idx objectInit ∈ lw_all) (hq : pc + 3 = q) (kk : GO E I (d + 1) rc rs q lv rest h Q) (hw : (rest.map fun v => v.category).sum ≤ 20 := by exact Nat.le_of_ble_eq_true rfl) : GO E I (d + 1) rc rs pc lv (.ref b :: rest) h Q := by
  subst hq
  intro p l e R s m args below meth c H locs k n ls hc a1 a2 a3 a4 hR hL hl T hT X
  subst hT
  have hpl : e.platform.magicAccessors = ({} : Platform).magicAccessors := by rw [X.admits.platform]
  have hsz : ls.size = I.2.2.1 := hl.1.1
  have hinst : Cond.instanceMethod objectInit ∈ lw_all := q151
  have hcode : Cond.code objectInit object_method_1_code 1 none ∈ lw_all := q152
  obtain ⟨mk, methM, cM, kP, vm₁, hnamed, hmethM, hcodeM, hbM, hlocalsM, hlk, hkP, hkN, hW₁, hstep₁⟩ := Steps.initColdArgs (e := e) X.here hc.1 X.warmed hpl hc.2.2.2.2.2.2.1 (t := objectInit) rfl (by decide) (gw hc (args := args) hlink) (gw hc (args := args) hinst) (gw hc (args := args) hcode) (f := F0 m pc ls (.ref b :: rest)) rfl (argsL := []) (rest := rest) (a := b)
    (fun sig hs => by have : parseMethodDescriptor objectInit.desc = some ⟨[], none⟩ := by decide
                      rw [this] at hs; rw [← Option.some.inj hs]; rfl) rfl (by rw [hc.2.1]; exact hd)
  have X₁ := X.noted hW₁
  obtain ⟨kP2, hkP2, heP⟩ := hW₁.alike.2.2 _ _ hkP
  obtain ⟨t, st1, en⟩ := kk p l e R s m args below meth c (T.setVm vm₁).heap locs k n ls hc a1 a2 a3 a4 hR hL hl (T.setVm vm₁) rfl X₁
  refine ⟨t, hstep₁ t (fun acts => ?_), en⟩
  refine X₁.objectInit hc.1 (g := F0 m pc ls rest) rfl (hsz.trans hc.2.2.1.symm) (ig := .invokespecial idx) (len := 3) acts hkP2 (by rw [heP]; exact hkN) (by show vm₁.method? mk = some methM; rw [hW₁.alike.method?]; exact hmethM) hcodeM (by rw [hbM]; decide) hlk (by omega) (by rw [hlocalsM]; show 2 * 0 + (rest.map fun v => v.category).sum + (1 + 11) ≤ R.locals; omega) (by rw [hc.2.1]; exact hd) st1
end Rows
