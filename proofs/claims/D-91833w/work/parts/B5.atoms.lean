/-! MY LOGIC, part 19: the words of the machine's own exceptions -/
set_option maxRecDepth 100000
theorem laysStatic_mv {A : Array Value} {s : State} {vm' : Vm} {O f d : String} (al : s.vm.Alike vm') (h : (Cond.laysStatic O f d).before A s = true) : (Cond.laysStatic O f d).before A (s.setVm vm') = true := by
  simp only [Cond.before, Cond.holds, Cond.value, beq_iff_eq] at h ⊢
  cases h1 : s.fieldFound? O f d with
  | none => rw [h1] at h; cases h2 : s.vm.findClass O <;> simp [h2] at h
  | some w =>
    obtain ⟨c, k, i, fd⟩ := w
    obtain ⟨k', e1, e2⟩ := State.fieldFound?_setVm al h1
    have e3 : (s.setVm vm').vm.findClass O = s.vm.findClass O := al.findClass _ _
    rw [h1] at h
    rw [e1, e3]
    cases h2 : s.vm.findClass O with
    | none => simp [h2] at h
    | some c0 =>
      rw [h2] at h
      have e4 : k'.statics = k.statics := by rw [e2]
      have e5 : k'.staticTypes = k.staticTypes := by rw [e2]
      simp only [e4, e5]
      exact h
theorem isRefStatic_mv {A : Array Value} {s : State} {vm' : Vm} {O f d : String} (al : s.vm.Alike vm') (h : (Cond.isRef (.static O f d)).before A s = true) : (Cond.isRef (.static O f d)).before A (s.setVm vm') = true := by
  have key : (Term.static O f d).eval A (s.setVm vm') none [] (s.setVm vm') = (Term.static O f d).eval A s none [] s ∨ (Term.static O f d).eval A s none [] s = none := by
    cases h1 : s.fieldFound? O f d with
    | none => right; simp [Term.eval, State.fieldNamed?, h1]
    | some w =>
      obtain ⟨c, k, i, fd⟩ := w
      obtain ⟨k', e1, e2⟩ := State.fieldFound?_setVm al h1
      left
      have e4 : k'.statics = k.statics := by rw [e2]
      cases hst : fd.isStatic <;> simp [Term.eval, State.fieldNamed?, h1, e1, e4, hst]
  simp only [Cond.before, Cond.holds, Cond.value] at h ⊢
  rcases key with e | e
  · rw [e]; exact h
  · rw [e] at h; simp at h
section
variable {E : gE} {vm : Vm} {w : Cond}
theorem wq (ok : gOK E) (hW : (gS E).WarmedH vm) (hw : w ∈ lw_all) : w.before #[Value.ref E.2.2.2] ((gS E).setVm vm) = true :=
  word_at (s := gS E) (U := (gS E).setVm vm) hW (good_of_word (List.mem_filter.mp hw).2) (ok.1 w (lw_all_tbl hw))
theorem wd {x : MethodName} (ok : gOK E) (hW : (gS E).WarmedH vm) (hw : Cond.declares x ∈ lw_tbl) : (Cond.declares x).before #[Value.ref E.2.2.2] ((gS E).setVm vm) = true := by
  rw [Cond.declares_setVm hW.alike]; exact ok.1 _ hw
theorem wc {C D : String} (ok : gOK E) (hW : (gS E).WarmedH vm) (hw : Cond.castable C D ∈ lw_tbl) : (Cond.castable C D).before #[Value.ref E.2.2.2] ((gS E).setVm vm) = true := by
  rw [Cond.castable_setVm hW.alike]; exact ok.1 _ hw
theorem wl {O f d : String} (ok : gOK E) (hW : (gS E).WarmedH vm) (hw : Cond.laysStatic O f d ∈ lw_tbl) : (Cond.laysStatic O f d).before #[Value.ref E.2.2.2] ((gS E).setVm vm) = true := laysStatic_mv hW.alike (ok.1 _ hw)
theorem wr {O f d : String} (ok : gOK E) (hW : (gS E).WarmedH vm) (hw : Cond.isRef (.static O f d) ∈ cjs narrow_1) : (Cond.isRef (.static O f d)).before #[Value.ref E.2.2.2] ((gS E).setVm vm) = true := isRefStatic_mv hW.alike (gNw ok _ hw)
end
theorem fa_n {A : Array Value} {s : State} : ∀ a ∈ ([] : List Cond), a.before A s = true := fun a h => by cases h
theorem fa_c {A : Array Value} {s : State} {w : Cond} {L : List Cond} (h : w.before A s = true) (t : ∀ a ∈ L, a.before A s = true) : ∀ a ∈ w :: L, a.before A s = true := fun a ha => by
  rcases List.mem_cons.mp ha with rfl | z
  · exact h
  · exact t a z
theorem nw_una : (Jvm.Cond.isRef (.static "java/lang/Throwable" "UNASSIGNED_STACK" "[Ljava/lang/StackTraceElement;")) ∈ cjs narrow_1 := nw_seg (n := 2) (L := [Jvm.Cond.isRef (.static "java/lang/Throwable" "UNASSIGNED_STACK" "[Ljava/lang/StackTraceElement;")]) rfl _ (List.mem_singleton.mpr rfl)
theorem nw_sen : (Jvm.Cond.isRef (.static "java/lang/Throwable" "SUPPRESSED_SENTINEL" "Ljava/util/List;")) ∈ cjs narrow_1 := nw_seg (n := 3) (L := [Jvm.Cond.isRef (.static "java/lang/Throwable" "SUPPRESSED_SENTINEL" "Ljava/util/List;")]) rfl _ (List.mem_singleton.mpr rfl)
theorem at_J15 {E : gE} {vm : Vm} (ok : gOK E) (hW : (gS E).WarmedH vm) : ∀ a ∈ Bundle.messageArmAtoms "java/lang/NegativeArraySizeException" ["java/lang/RuntimeException", "java/lang/Exception"], a.before #[Value.ref E.2.2.2] ((gS E).setVm vm) = true := fa_c (wq ok hW q100) (fa_c (wq ok hW q216) (fa_c (wq ok hW q158) (fa_c (wq ok hW q178) (fa_c (wq ok hW q181) (fa_c (wq ok hW q183) (fa_c (wq ok hW q217) (fa_c (wq ok hW q218) (fa_c (wq ok hW q151) (fa_c (wq ok hW q152) (fa_c (wq ok hW q150) (fa_c (wq ok hW q157) (fa_c (wq ok hW q179) (fa_c (wq ok hW q186) (fa_c (wq ok hW q210) (fa_c (wq ok hW q187) (fa_c (wq ok hW q211) (fa_c (wq ok hW q188) (fa_c (wq ok hW q212) (fa_c (wq ok hW q153) (fa_c (wl ok hW q154) (fa_c (wq ok hW q155) (fa_c (wl ok hW q156) (fa_c (wq ok hW q213) (fa_c (wq ok hW q148) (fa_c (wq ok hW q149) (fa_c (wq ok hW q185) (fa_c (wq ok hW q213) (fa_c (wq ok hW q139) (fa_c (wq ok hW q140) (fa_c (wq ok hW q141) (fa_c (wq ok hW q142) (fa_c (wd ok hW q204) (fa_c (wq ok hW q142) (fa_c (wq ok hW q143) (fa_c (wq ok hW q144) (fa_c (wq ok hW q145) (fa_c (wd ok hW q206) (fa_c (wq ok hW q145) (fa_c (wq ok hW q146) (fa_c (wq ok hW q147) (fa_c (wq ok hW q148) (fa_c (wd ok hW q208) (fa_c (wq ok hW q96) (fa_c (wq ok hW q219) (fa_c (wq ok hW q220) (fa_c (wq ok hW q221) (fa_c (wq ok hW q223) (fa_c (wq ok hW q222) (fa_c (wq ok hW q224) (fa_c (wq ok hW q117) (fa_c (wq ok hW q138) (fa_c (wc ok hW q202) (fa_c (wq ok hW q209) (fa_c (wq ok hW q163) (fa_c (wq ok hW q193) (fa_c (wq ok hW q195) (fa_c (wq ok hW q199) (fa_c (wq ok hW q191) (fa_c (wr ok hW nw_una) (fa_c (wr ok hW nw_sen) (fa_c (wq ok hW q184) (fa_c (wq ok hW q214) (fa_c (wq ok hW q189) (fa_n))))))))))))))))))))))))))))))))))))))))))))))))))))))))))))))))
theorem at_J18 {E : gE} {vm : Vm} (ok : gOK E) (hW : (gS E).WarmedH vm) : ∀ a ∈ Bundle.messageArmAtoms "java/lang/ArrayIndexOutOfBoundsException" ["java/lang/IndexOutOfBoundsException", "java/lang/RuntimeException", "java/lang/Exception"], a.before #[Value.ref E.2.2.2] ((gS E).setVm vm) = true := fa_c (wq ok hW q100) (fa_c (wq ok hW q216) (fa_c (wq ok hW q158) (fa_c (wq ok hW q178) (fa_c (wq ok hW q181) (fa_c (wq ok hW q183) (fa_c (wq ok hW q217) (fa_c (wq ok hW q218) (fa_c (wq ok hW q151) (fa_c (wq ok hW q152) (fa_c (wq ok hW q150) (fa_c (wq ok hW q157) (fa_c (wq ok hW q179) (fa_c (wq ok hW q186) (fa_c (wq ok hW q210) (fa_c (wq ok hW q187) (fa_c (wq ok hW q211) (fa_c (wq ok hW q188) (fa_c (wq ok hW q212) (fa_c (wq ok hW q153) (fa_c (wl ok hW q154) (fa_c (wq ok hW q155) (fa_c (wl ok hW q156) (fa_c (wq ok hW q213) (fa_c (wq ok hW q148) (fa_c (wq ok hW q149) (fa_c (wq ok hW q185) (fa_c (wq ok hW q213) (fa_c (wq ok hW q263) (fa_c (wq ok hW q264) (fa_c (wq ok hW q265) (fa_c (wq ok hW q266) (fa_c (wd ok hW q278) (fa_c (wq ok hW q266) (fa_c (wq ok hW q267) (fa_c (wq ok hW q268) (fa_c (wq ok hW q142) (fa_c (wd ok hW q204) (fa_c (wq ok hW q142) (fa_c (wq ok hW q143) (fa_c (wq ok hW q144) (fa_c (wq ok hW q145) (fa_c (wd ok hW q206) (fa_c (wq ok hW q145) (fa_c (wq ok hW q146) (fa_c (wq ok hW q147) (fa_c (wq ok hW q148) (fa_c (wd ok hW q208) (fa_c (wq ok hW q96) (fa_c (wq ok hW q219) (fa_c (wq ok hW q220) (fa_c (wq ok hW q221) (fa_c (wq ok hW q223) (fa_c (wq ok hW q222) (fa_c (wq ok hW q224) (fa_c (wq ok hW q120) (fa_c (wq ok hW q262) (fa_c (wc ok hW q276) (fa_c (wq ok hW q279) (fa_c (wq ok hW q161) (fa_c (wq ok hW q271) (fa_c (wq ok hW q272) (fa_c (wq ok hW q274) (fa_c (wq ok hW q270) (fa_c (wr ok hW nw_una) (fa_c (wr ok hW nw_sen) (fa_c (wq ok hW q184) (fa_c (wq ok hW q214) (fa_c (wq ok hW q269) (fa_n)))))))))))))))))))))))))))))))))))))))))))))))))))))))))))))))))))))
theorem at_J19 {E : gE} {vm : Vm} (ok : gOK E) (hW : (gS E).WarmedH vm) : ∀ a ∈ Bundle.messageArmAtoms "java/lang/ClassCastException" ["java/lang/RuntimeException", "java/lang/Exception"], a.before #[Value.ref E.2.2.2] ((gS E).setVm vm) = true := fa_c (wq ok hW q100) (fa_c (wq ok hW q216) (fa_c (wq ok hW q158) (fa_c (wq ok hW q178) (fa_c (wq ok hW q181) (fa_c (wq ok hW q183) (fa_c (wq ok hW q217) (fa_c (wq ok hW q218) (fa_c (wq ok hW q151) (fa_c (wq ok hW q152) (fa_c (wq ok hW q150) (fa_c (wq ok hW q157) (fa_c (wq ok hW q179) (fa_c (wq ok hW q186) (fa_c (wq ok hW q210) (fa_c (wq ok hW q187) (fa_c (wq ok hW q211) (fa_c (wq ok hW q188) (fa_c (wq ok hW q212) (fa_c (wq ok hW q153) (fa_c (wl ok hW q154) (fa_c (wq ok hW q155) (fa_c (wl ok hW q156) (fa_c (wq ok hW q213) (fa_c (wq ok hW q148) (fa_c (wq ok hW q149) (fa_c (wq ok hW q185) (fa_c (wq ok hW q213) (fa_c (wq ok hW q293) (fa_c (wq ok hW q294) (fa_c (wq ok hW q295) (fa_c (wq ok hW q142) (fa_c (wd ok hW q204) (fa_c (wq ok hW q142) (fa_c (wq ok hW q143) (fa_c (wq ok hW q144) (fa_c (wq ok hW q145) (fa_c (wd ok hW q206) (fa_c (wq ok hW q145) (fa_c (wq ok hW q146) (fa_c (wq ok hW q147) (fa_c (wq ok hW q148) (fa_c (wd ok hW q208) (fa_c (wq ok hW q96) (fa_c (wq ok hW q219) (fa_c (wq ok hW q220) (fa_c (wq ok hW q221) (fa_c (wq ok hW q223) (fa_c (wq ok hW q222) (fa_c (wq ok hW q224) (fa_c (wq ok hW q121) (fa_c (wq ok hW q292) (fa_c (wc ok hW q303) (fa_c (wq ok hW q304) (fa_c (wq ok hW q162) (fa_c (wq ok hW q298) (fa_c (wq ok hW q299) (fa_c (wq ok hW q301) (fa_c (wq ok hW q297) (fa_c (wr ok hW nw_una) (fa_c (wr ok hW nw_sen) (fa_c (wq ok hW q184) (fa_c (wq ok hW q214) (fa_c (wq ok hW q296) (fa_n))))))))))))))))))))))))))))))))))))))))))))))))))))))))))))))))
