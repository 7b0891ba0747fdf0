/-! MY LOGIC, part 13: new arrays of references -/
set_option maxRecDepth 100000
section Rows
variable {E : gE} {I : gI} {d rc rs pc q t0 idx : Nat} {lv : List (Option Value)} {st : List Value} {h : gH} {Q : Outcome → gH → Prop} {i : Int} {C : String}
theorem g_anew (hd : decode I.2.1 pc = .ok (.anewarray idx, 3)) (hlink : Cond.classLink I.1.cls idx C ∈ lw_all) (hover : Cond.arrayOver (.object C) ∈ lw_tbl) (ht : (gTys E)[t0]? = some (E.2.1 t0, .object C)) (h0 : 0 ≤ i) (h1 : i < 60000) (hq : pc + 3 = q) (kk : GO E I d rc rs q lv (.ref h.2 :: st) (hnew h (aR E t0 i.toNat (fun _ => none))) Q) : GO E I d (rc + 1) (rs + i.toNat) pc lv (vI i :: st) h Q := by
  subst hq
  intro p l e R s m args below meth c H locs k n' ls hc a1 a2 a3 a4 hR hL hl
  have hi : in32 i := by unfold in32; omega
  have hao : va_AO C s := va_AO.moved hc.2.2.2.2.2.2.2.2.1.alike (va_AO.of (hc.2.2.2.2.2.2.2.2.2.1 _ hover))
  refine W.anew hc.1 hc.2.1 hc.2.2.2.2.2.2.1 (gw hc hlink) (va_AO.use hao) rfl hd rfl (by rw [o32_0, o32_lt hi in32_0]; omega) (by rw [o32c hi]; omega) (by omega) (by rw [o32c hi]; omega) fun cA kA comp f1 f2 f3 f4 => ?_
  obtain ⟨kA', comp', k1, k2, k3, k4⟩ := ((gK hc).2 t0 _ ht).2
  cases f4.symm.trans k3
  cases f1.symm.trans k4
  rw [o32c hi]
  generalize hH1 : H.push ({ cls := E.2.1 t0, slots := Array.replicate i.toNat .null, vm := .none } : Cell) = H1
  have z1 : H1.size = H.size + 1 := by rw [← hH1, Array.size_push]
  have e1 : H1[H.size]? = some (arrV (E.2.1 t0) i.toNat (fun _ => .null)) := by rw [← hH1, Array.getElem?_push_size, ← arrV_new]
  have o1 : ∀ q : Nat, q < H.size → H1[q]? = H[q]? := fun q hq => by rw [← hH1, Array.getElem?_push, if_neg (Nat.ne_of_lt hq)]
  have hs := hR.1
  have := kk p l e R s m args below meth c H1 locs (k + 1) (n' + i.toNat) ls hc a1 a2 (by omega) (by omega) (hR.push z1 o1 (by show H1[h.2]? = some (vp_cell _ _); rw [← hs, e1]; rfl)) hL hl
  rw [hs]
  exact this
end Rows
