/-! THE COMPONENT: a head's and a text's rows are made -/
set_option maxRecDepth 100000
def G0 (E : gE) : State → State := fun s => s.pushCell (mOne (E.2.1 0) 24 (.int 0))
def G5 (E : gE) : State → State := fun s => mLoop (G0 E) (E.2.1 5) 24 1 s 24
def G6 (E : gE) : State → State := fun s => mLoop (G5 E) (E.2.1 6) 4 25 s 4
def C0 (E : gE) : Nat → Nat → Cell := fun _ _ => mOne (E.2.1 0) 24 (.int 0)
def C5 (E : gE) : Nat → Nat → Cell := mCont (E.2.1 5) 24 1 (C0 E)
def C6 (E : gE) : Nat → Nat → Cell := mCont (E.2.1 6) 4 25 (C5 E)
def G8 (E : gE) : State → State := fun s => s.pushCell (mOne (E.2.1 8) 4 .null)
def G9 (E : gE) : State → State := fun s => mLoop (G8 E) (E.2.1 9) 3 1 s 3
def C8 (E : gE) : Nat → Nat → Cell := fun _ _ => mOne (E.2.1 8) 4 .null
def C9 (E : gE) : Nat → Nat → Cell := mCont (E.2.1 9) 3 1 (C8 E)
theorem mOut_R {c : ClassId} {N h0 P : Nat} {f : Nat → Option Nat} (hf : ∀ j, j < N → f j = some (h0 + 1 + j * P)) : mOut c N h0 P N = vp_cell c (N, .inr (.inr (.inr (.inr f)))) := by
  rw [vp_cell_q]
  unfold mOut
  refine arrV_congr fun j hj => ?_
  rw [if_pos hj, hf j hj]
  rfl
theorem mOne_R {c : ClassId} {N : Nat} : mOne c N .null = vp_cell c (N, .inr (.inr (.inr (.inr fun _ => none)))) := by
  rw [vp_cell_q]
  show _ = arrV c N (fun _ => .null)
  unfold mOne
  rw [arrV_new]
theorem mOne_I {c : ClassId} {N : Nat} : mOne c N (.int 0) = vp_cell c (N, .inl fun _ => Int32.ofInt 0) := by
  rw [vp_cell_i]
  show _ = arrV c N (fun _ => .int 0)
  unfold mOne
  rw [arrV_new]
theorem mCont_0 {c : ClassId} {N P h0 : Nat} {C : Nat → Nat → Cell} : mCont c N P C h0 0 = mOut c N h0 P N := if_pos rfl
theorem mCont_s {c : ClassId} {N P h0 j : Nat} {C : Nat → Nat → Cell} (hj : ¬ j = 0) : mCont c N P C h0 j = C (h0 + 1 + (j - 1) / P * P) ((j - 1) % P) := if_neg hj
section Rows
variable {E : gE}
theorem s_0 (s : State) : MKS 1 24 (C0 E) (G0 E) s := MKS.one
theorem s_5 (s : State) : MKS 25 600 (C5 E) (G5 E) s := MKS.step (N := 24) (P := 1) (S := 24) s_0 (by decide) s
theorem s_6 (s : State) : MKS 101 2404 (C6 E) (G6 E) s := MKS.step (N := 4) (P := 25) (S := 600) s_5 (by decide) s
theorem x_0 (e : Env) : MKX e 1 24 (G0 E) := MKX.one
theorem x_5 (e : Env) : MKX e 25 600 (G5 E) := MKX.step (N := 24) (P := 1) (S := 24) s_0 (by decide) (x_0 e)
theorem x_6 (e : Env) : MKX e 101 2404 (G6 E) := MKX.step (N := 4) (P := 25) (S := 600) s_5 (by decide) (x_5 e)
theorem s_8 (s : State) : MKS 1 4 (C8 E) (G8 E) s := MKS.one
theorem s_9 (s : State) : MKS 4 15 (C9 E) (G9 E) s := MKS.step (N := 3) (P := 1) (S := 4) s_8 (by decide) s
theorem x_8 (e : Env) : MKX e 1 4 (G8 E) := MKX.one
theorem x_9 (e : Env) : MKX e 4 15 (G9 E) := MKX.step (N := 3) (P := 1) (S := 4) s_8 (by decide) (x_8 e)
variable {e : Env} {vm : Vm}
theorem w_0 (ok : gOK E) (kf : KOF E vm) (l1 : e.platform.arrayLengthLimit = ({} : Platform).arrayLengthLimit) (l2 : e.platform.maxHeapBytes = ({} : Platform).maxHeapBytes) : MKW e vm (E.2.1 0) [Int32.ofInt 24] 1 24 (G0 E) := by
  obtain ⟨comp, kn⟩ := kin0 ok
  obtain ⟨k, k1, k2⟩ := kf _ _ _ kn
  exact MKW.one (n := Int32.ofInt 24) k1 k2 (by decide) (by rw [l1]; decide) (by rw [l2]; decide) rfl
theorem w_5 (ok : gOK E) (kf : KOF E vm) (l1 : e.platform.arrayLengthLimit = ({} : Platform).arrayLengthLimit) (l2 : e.platform.maxHeapBytes = ({} : Platform).maxHeapBytes) : MKW e vm (E.2.1 5) [Int32.ofInt 24, Int32.ofInt 24] 25 600 (G5 E) := by
  obtain ⟨k, k1, k2⟩ := kf _ _ _ (kin5 ok)
  exact MKW.step (n := Int32.ofInt 24) (P := 1) (S := 24) k1 k2 rfl (by decide) (by rw [l1]; decide) (by rw [l2]; decide) (by decide) (by decide) s_0 (by decide) (w_0 ok kf l1 l2)
theorem w_6 (ok : gOK E) (kf : KOF E vm) (l1 : e.platform.arrayLengthLimit = ({} : Platform).arrayLengthLimit) (l2 : e.platform.maxHeapBytes = ({} : Platform).maxHeapBytes) : MKW e vm (E.2.1 6) [Int32.ofInt 4, Int32.ofInt 24, Int32.ofInt 24] 101 2404 (G6 E) := by
  obtain ⟨k, k1, k2⟩ := kf _ _ _ (kin6 ok)
  exact MKW.step (n := Int32.ofInt 4) (P := 25) (S := 600) k1 k2 rfl (by decide) (by rw [l1]; decide) (by rw [l2]; decide) (by decide) (by decide) s_5 (by decide) (w_5 ok kf l1 l2)
theorem w_8 (ok : gOK E) (kf : KOF E vm) (l1 : e.platform.arrayLengthLimit = ({} : Platform).arrayLengthLimit) (l2 : e.platform.maxHeapBytes = ({} : Platform).maxHeapBytes) : MKW e vm (E.2.1 8) [Int32.ofInt 4] 1 4 (G8 E) := by
  obtain ⟨comp, kn⟩ := kin8 ok
  obtain ⟨k, k1, k2⟩ := kf _ _ _ kn
  exact MKW.one (n := Int32.ofInt 4) k1 k2 (by decide) (by rw [l1]; decide) (by rw [l2]; decide) rfl
theorem w_9 (ok : gOK E) (kf : KOF E vm) (l1 : e.platform.arrayLengthLimit = ({} : Platform).arrayLengthLimit) (l2 : e.platform.maxHeapBytes = ({} : Platform).maxHeapBytes) : MKW e vm (E.2.1 9) [Int32.ofInt 3, Int32.ofInt 4] 4 15 (G9 E) := by
  obtain ⟨k, k1, k2⟩ := kf _ _ _ (kin9 ok)
  exact MKW.step (n := Int32.ofInt 3) (P := 1) (S := 4) k1 k2 rfl (by decide) (by rw [l1]; decide) (by rw [l2]; decide) (by decide) (by decide) s_8 (by decide) (w_8 ok kf l1 l2)
variable {I : gI} {d rc rs pc q idx p : Nat} {lv : List (Option Value)} {st : List Value} {h : gH} {Q : Outcome → gH → Prop}
theorem xl_0 {s a : Int} : xl (fun _ => 0) s a = fun _ => 0 := by
  funext b; unfold xl; repeat' split
  all_goals rfl
theorem g_mHd {tx : Option Nat} {ak : va_E} (hd : decode I.2.1 pc = .ok (.multianewarray idx 3, 4)) (hlink : Cond.classLink I.1.cls idx "[[[I" ∈ lw_all) (hp : h.2 = p + 1) (hq : pc + 4 = q) (kk : GO E I d rc rs q lv (.ref h.2 :: st) (blk (h.1, h.2 + 101) h.2 101 (fun j => hdF E p tx (fun _ => 0) ak (j + 1))) Q) : GO E I d (rc + 101) (rs + 2404) pc lv (vI 24 :: vI 24 :: vI 4 :: st) h Q := by
  refine g_multi (t0 := 6) (ns := [4, 24, 24]) (cont := C6 E) (G := G6 E) hd hlink (fun ok => (ok.2.1.2 6 _ rfl).2) rfl (by decide) rfl s_6 x_6 (fun e vm ok kf l1 l2 => w_6 ok kf l1 l2) (fun j hj => ?_) hq kk
  unfold hdF
  rw [if_neg (show ¬ j + 1 = 0 by omega)]
  by_cases j0 : j = 0
  · subst j0
    refine ⟨_, rfl, ?_⟩
    unfold C6
    rw [mCont_0]
    exact mOut_R fun j hj => (show some (p + 2 + 25 * j) = _ by rw [hp]; congr 1; omega)
  · rw [if_neg (show ¬ j + 1 = 1 by omega), if_neg (show ¬ j + 1 = 102 by omega)]
    by_cases r : (j - 1) % 25 = 0
    · rw [if_pos (show (j + 1 - 2) % 25 = 0 by omega)]
      refine ⟨_, rfl, ?_⟩
      unfold C6
      rw [mCont_s j0, r]
      unfold C5
      rw [mCont_0]
      exact mOut_R fun i hi => (show some (p + (j + 1) + 1 + i) = _ by rw [hp]; congr 1; omega)
    · rw [if_neg (show ¬ (j + 1 - 2) % 25 = 0 by omega), xl_0]
      refine ⟨_, rfl, ?_⟩
      unfold C6
      rw [mCont_s j0]
      unfold C5
      rw [mCont_s r]
      exact mOne_I
theorem g_mLw (hd : decode I.2.1 pc = .ok (.multianewarray idx 2, 4)) (hlink : Cond.classLink I.1.cls idx "[[LNonsenseRows$Sum;" ∈ lw_all) (hq : pc + 4 = q) (kk : GO E I d rc rs q lv (.ref h.2 :: st) (app h [aR E 9 3 (fun i => some (h.2 + 1 + i.toNat)), aR E 8 4 (fun _ => none), aR E 8 4 (fun _ => none), aR E 8 4 (fun _ => none)]) Q) : GO E I d (rc + 4) (rs + 15) pc lv (vI 4 :: vI 3 :: st) h Q := by
  have e1 : app h [aR E 9 3 (fun i => some (h.2 + 1 + i.toNat)), aR E 8 4 (fun _ => none), aR E 8 4 (fun _ => none), aR E 8 4 (fun _ => none)] = blk (h.1, h.2 + 4) h.2 4 (fun j => if j = 0 then aR E 9 3 (fun i => some (h.2 + 1 + i.toNat)) else aR E 8 4 (fun _ => none)) := app_blk rfl (fun j hj => by
    match j, hj with
    | 0, _ => rfl
    | 1, _ => rfl
    | 2, _ => rfl
    | 3, _ => rfl
    | j + 4, hj => omega)
  rw [e1] at kk
  refine g_multi (t0 := 9) (ns := [3, 4]) (cont := C9 E) (G := G9 E) hd hlink (fun ok => (ok.2.1.2 9 _ rfl).2) rfl (by decide) rfl s_9 x_9 (fun e vm ok kf l1 l2 => w_9 ok kf l1 l2) (fun j hj => ?_) hq kk
  by_cases j0 : j = 0
  · subst j0
    refine ⟨_, rfl, ?_⟩
    unfold C9
    rw [mCont_0]
    exact mOut_R fun j hj => (show some (h.2 + 1 + j) = _ by congr 1; omega)
  · rw [if_neg j0]
    refine ⟨_, rfl, ?_⟩
    unfold C9
    rw [mCont_s j0]
    exact mOne_R
end Rows
