/-! arrays that agree on their places are one to the machine -/
set_option maxRecDepth 100000
section
theorem arr_ext {cA : ClassId} {n : Nat} {f g : Nat → Value} (h : ∀ j, j < n → f j = g j) : arrV cA n f = arrV cA n g := by
  unfold arrV
  congr 1
  refine Array.ext ?_ ?_
  · simp
  · intro i h1 h2
    simp at h1 ⊢
    exact h i h1
theorem at_aI {E : gE} {D : va_G} {n a : Nat} {g g' : Int → Int} {H : Heap} (h : ∀ j : Int, 0 ≤ j → j < n → g j = g' j) (z : va_at D vwCl (a, aI E n g) H) : va_at D vwCl (a, aI E n g') H := by
  have z : H[a]? = some (vp_cell (E.2.1 0) (n, .inl (fun j => Int32.ofInt (g (j : Int))))) := z
  show H[a]? = some (vp_cell (E.2.1 0) (n, .inl (fun j => Int32.ofInt (g' (j : Int)))))
  rw [z, vp_cell_i, vp_cell_i]
  congr 1
  refine arr_ext fun j hj => ?_
  rw [h j (by omega) (by omega)]
theorem gRel.ext {E : gE} {h h' : gH} {H : Heap} (hR : gRel E h H) (hz : h'.2 = h.2) (hx : ∀ (a : Nat) (x : va_E), h'.1 a = some x → ∃ y, h.1 a = some y ∧ (va_at E.1 vwCl (a, y) H → va_at E.1 vwCl (a, x) H)) : gRel E h' H :=
  ⟨by rw [hz]; exact hR.1, by rw [hz]; exact hR.2.1, hR.2.2.1, fun a x ha => by
    obtain ⟨y, hy, hi⟩ := hx a x ha
    exact ⟨(hR.2.2.2 a y hy).1, hi (hR.2.2.2 a y hy).2⟩⟩
theorem blk_ext {E : gE} {h0 : gH} {a n : Nat} {f f' : Nat → va_E} {H : Heap} (hf : ∀ j, j < n → va_at E.1 vwCl (a + j, f j) H → va_at E.1 vwCl (a + j, f' j) H) (hR : gRel E (blk h0 a n f) H) : gRel E (blk h0 a n f') H := by
  refine hR.ext rfl fun b x hb => ?_
  by_cases hr : a ≤ b ∧ b < a + n
  · obtain ⟨j, rfl⟩ : ∃ j, b = a + j := ⟨b - a, by omega⟩
    rw [blk_at j (by omega)] at hb
    cases hb
    exact ⟨f j, blk_at j (by omega), hf j (by omega)⟩
  · rw [blk_out (by omega)] at hb
    exact ⟨x, by rw [blk_out (by omega)]; exact hb, id⟩
variable {E : gE} {am : Nat} {G : gH} {th si lo td sz pa fr tk vl fk fp hdt kl kn cd bp bl : Int} {w hs bk iW iH iB iL iS tp fv fsh lt cp md sw nd mn my wd nm mv : Int → Int}
theorem mX1 {g g' : Int → Int} (h : ∀ j : Int, 0 ≤ j → j < 1120 → g j = g' j) (H : Heap) (hR : gRel E (mH E G am th g hs si lo bk iW iH iB iL iS tp td fv sz pa fr tk vl fk fp fsh hdt lt kl kn cp cd bp bl md sw nd mn my wd nm mv) H) : gRel E (mH E G am th g' hs si lo bk iW iH iB iL iS tp td fv sz pa fr tk vl fk fp fsh hdt lt kl kn cp cd bp bl md sw nd mn my wd nm mv) H := by
  refine blk_ext ?_ hR
  intro j hj z
  match j, hj, z with
  | 0, _, z => exact z
  | 1, _, z => exact at_aI h z
  | 2, _, z => exact z
  | 3, _, z => exact z
  | 4, _, z => exact z
  | 5, _, z => exact z
  | 6, _, z => exact z
  | 7, _, z => exact z
  | 8, _, z => exact z
  | 9, _, z => exact z
  | 10, _, z => exact z
  | 11, _, z => exact z
  | 12, _, z => exact z
  | 13, _, z => exact z
  | 14, _, z => exact z
  | 15, _, z => exact z
  | 16, _, z => exact z
  | 17, _, z => exact z
  | 18, _, z => exact z
  | 19, _, z => exact z
  | 20, _, z => exact z
  | 21, _, z => exact z
  | j + 22, hj, _ => omega
theorem mX2 {g g' : Int → Int} (h : ∀ j : Int, 0 ≤ j → j < 2018 → g j = g' j) (H : Heap) (hR : gRel E (mH E G am th w g si lo bk iW iH iB iL iS tp td fv sz pa fr tk vl fk fp fsh hdt lt kl kn cp cd bp bl md sw nd mn my wd nm mv) H) : gRel E (mH E G am th w g' si lo bk iW iH iB iL iS tp td fv sz pa fr tk vl fk fp fsh hdt lt kl kn cp cd bp bl md sw nd mn my wd nm mv) H := by
  refine blk_ext ?_ hR
  intro j hj z
  match j, hj, z with
  | 0, _, z => exact z
  | 1, _, z => exact z
  | 2, _, z => exact at_aI h z
  | 3, _, z => exact z
  | 4, _, z => exact z
  | 5, _, z => exact z
  | 6, _, z => exact z
  | 7, _, z => exact z
  | 8, _, z => exact z
  | 9, _, z => exact z
  | 10, _, z => exact z
  | 11, _, z => exact z
  | 12, _, z => exact z
  | 13, _, z => exact z
  | 14, _, z => exact z
  | 15, _, z => exact z
  | 16, _, z => exact z
  | 17, _, z => exact z
  | 18, _, z => exact z
  | 19, _, z => exact z
  | 20, _, z => exact z
  | 21, _, z => exact z
  | j + 22, hj, _ => omega
theorem mX5 {g g' : Int → Int} (h : ∀ j : Int, 0 ≤ j → j < 360 → g j = g' j) (H : Heap) (hR : gRel E (mH E G am th w hs si lo g iW iH iB iL iS tp td fv sz pa fr tk vl fk fp fsh hdt lt kl kn cp cd bp bl md sw nd mn my wd nm mv) H) : gRel E (mH E G am th w hs si lo g' iW iH iB iL iS tp td fv sz pa fr tk vl fk fp fsh hdt lt kl kn cp cd bp bl md sw nd mn my wd nm mv) H := by
  refine blk_ext ?_ hR
  intro j hj z
  match j, hj, z with
  | 0, _, z => exact z
  | 1, _, z => exact z
  | 2, _, z => exact z
  | 3, _, z => exact at_aI h z
  | 4, _, z => exact z
  | 5, _, z => exact z
  | 6, _, z => exact z
  | 7, _, z => exact z
  | 8, _, z => exact z
  | 9, _, z => exact z
  | 10, _, z => exact z
  | 11, _, z => exact z
  | 12, _, z => exact z
  | 13, _, z => exact z
  | 14, _, z => exact z
  | 15, _, z => exact z
  | 16, _, z => exact z
  | 17, _, z => exact z
  | 18, _, z => exact z
  | 19, _, z => exact z
  | 20, _, z => exact z
  | 21, _, z => exact z
  | j + 22, hj, _ => omega
theorem mX26 {g g' : Int → Int} (h : ∀ j : Int, 0 ≤ j → j < 16144 → g j = g' j) (H : Heap) (hR : gRel E (mH E G am th w hs si lo bk iW iH iB iL iS tp td fv sz pa fr tk vl fk fp fsh hdt lt kl kn g cd bp bl md sw nd mn my wd nm mv) H) : gRel E (mH E G am th w hs si lo bk iW iH iB iL iS tp td fv sz pa fr tk vl fk fp fsh hdt lt kl kn g' cd bp bl md sw nd mn my wd nm mv) H := by
  refine blk_ext ?_ hR
  intro j hj z
  match j, hj, z with
  | 0, _, z => exact z
  | 1, _, z => exact z
  | 2, _, z => exact z
  | 3, _, z => exact z
  | 4, _, z => exact z
  | 5, _, z => exact z
  | 6, _, z => exact z
  | 7, _, z => exact z
  | 8, _, z => exact z
  | 9, _, z => exact z
  | 10, _, z => exact z
  | 11, _, z => exact z
  | 12, _, z => exact z
  | 13, _, z => exact at_aI h z
  | 14, _, z => exact z
  | 15, _, z => exact z
  | 16, _, z => exact z
  | 17, _, z => exact z
  | 18, _, z => exact z
  | 19, _, z => exact z
  | 20, _, z => exact z
  | 21, _, z => exact z
  | j + 22, hj, _ => omega
end
