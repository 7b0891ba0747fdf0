/-! MY LOGIC, part 12: checkcast that holds -/
set_option maxRecDepth 100000
section Rows
variable {E : gE} {I : gI} {d rc rs pc q a n ci idx : Nat} {lv : List (Option Value)} {st fs : List Value} {h : gH} {Q : Outcome → gH → Prop} {g : Int → Int} {r : vw_C}
theorem g_castI (hd : decode I.2.1 pc = .ok (.checkcast idx, 3)) (hlink : Cond.classLink I.1.cls idx "[I" ∈ lw_all) (ha : h.1 a = some (aI E n g)) (hq : pc + 3 = q) (kk : GO E I d rc rs q lv (.ref a :: st) h Q) : GO E I d rc rs pc lv (.ref a :: st) h Q := by
  subst hq
  intro p l e R s m args below meth c H locs k n' ls hc a1 a2 a3 a4 hR hL hl
  exact va_castA hc.1 hc.2.1 hc.2.2.2.2.2.2.1 (gw hc hlink) (hR.P ha) 0 rfl ((gK hc).2 0 _ rfl).2 hd (kk p l e R s m args below meth c H locs k n' ls hc a1 a2 a3 a4 hR hL hl)
theorem g_castO (hd : decode I.2.1 pc = .ok (.checkcast idx, 3)) (hcl : vwCl[ci]? = some r) (hlink : Cond.classLink I.1.cls idx r.1 ∈ lw_all) (ha : h.1 a = some (oB ci fs)) (hq : pc + 3 = q) (kk : GO E I d rc rs q lv (.ref a :: st) h Q) : GO E I d rc rs pc lv (.ref a :: st) h Q := by
  subst hq
  intro p l e R s m args below meth c H locs k n' ls hc a1 a2 a3 a4 hR hL hl
  exact va_castE hc.1 hc.2.1 hc.2.2.2.2.2.2.1 (gw hc hlink) (va_recv (gK hc) (hR.P ha) hcl (q0 := 0) rfl) hd (kk p l e R s m args below meth c H locs k n' ls hc a1 a2 a3 a4 hR hL hl)
end Rows
