/-! THE COMPONENT: who owns a cell; what a change leaves -/
set_option maxRecDepth 100000
/-- who writes a cell: 0 nobody any more; 1 the component's own, 2 paper, 3 the reference, 4..7 slots, 8 the images' row; a state k: 10+10k itself, 11+10k rows, 12+10k book, 13+10k head -/
abbrev OW : Type := Nat → Nat
abbrev imm (ow : OW) : Nat → Prop := fun b => ow b ≠ 0
def upO (ow : OW) (a o : Nat) : OW := fun b => if b = a then o else ow b
/-- the listed cells lie below the size -/
def HW (h : gH) : Prop := ∀ b v, h.1 b = some v → b < h.2
/-- the cells of the owners p stay, and their owners -/
def FR (ow ow' : OW) (h h' : gH) (p : Nat → Prop) : Prop := ∀ b v, h.1 b = some v → p (ow b) → h'.1 b = some v ∧ ow' b = ow b
section
variable {E : gE} {ow ow' ow2 : OW} {h h' h2 : gH} {p q : Nat → Prop} {o a n : Nat} {v u : va_E} {f : Nat → va_E} {L : List va_E}
theorem FR.same : FR ow ow h h p := fun b v e _ => ⟨e, rfl⟩
theorem FR.trans (h1 : FR ow ow' h h' p) (h2' : FR ow' ow2 h' h2 p) : FR ow ow2 h h2 p := fun b v e z => by
  obtain ⟨a1, a2⟩ := h1 b v e z
  obtain ⟨b1, b2⟩ := h2' b v a1 (by rw [a2]; exact z)
  exact ⟨b1, b2.trans a2⟩
theorem FR.sub (h1 : FR ow ow' h h' p) (hq : ∀ i, q i → p i) : FR ow ow' h h' q := fun b v e z => h1 b v e (hq _ z)
theorem FR.set (ha : ow a = o) : FR ow ow h (hset h a v) (fun i => i ≠ o) := fun b x e z => ⟨(hset_ne (fun y => z (by rw [y]; exact ha))).trans e, rfl⟩
theorem FR.bl (ha : ∀ j, j < n → ow (a + j) = o) : FR ow ow h (blk h a n f) (fun i => i ≠ o) := fun b x e z => by
  refine ⟨(blk_out ?_).trans e, rfl⟩
  by_cases c : a ≤ b ∧ b < a + n
  · exact absurd (by have := ha (b - a) (by omega); rwa [show a + (b - a) = b by omega] at this) z
  · omega
theorem FR.new (hh : HW h) (hx : ∀ b, b < h.2 → ow' b = ow b) : FR ow ow' h (hnew h v) p := fun b x e _ => by
  have := hh b x e
  exact ⟨(hnew_ne (by omega)).trans e, hx b this⟩
theorem FR.ap (hh : HW h) (hx : ∀ b, b < h.2 → ow' b = ow b) : FR ow ow' h (app h L) p := fun b x e _ => by
  have := hh b x e
  exact ⟨(app_lo this).trans e, hx b this⟩
theorem HW.set (hh : HW h) (ha : h.1 a = some u) : HW (hset h a v) := fun b x e => by
  by_cases c : b = a
  · subst c; exact hh _ _ ha
  · exact hh b x ((hset_ne c).symm.trans e)
theorem HW.bl (hh : HW h) (ha : a + n ≤ h.2) : HW (blk h a n f) := fun b x e => by
  by_cases c : a ≤ b ∧ b < a + n
  · show b < h.2; omega
  · exact hh b x ((blk_out (by omega)).symm.trans e)
theorem HW.new (hh : HW h) : HW (hnew h v) := fun b x e => by
  show b < h.2 + 1
  by_cases c : b = h.2
  · omega
  · have := hh b x ((hnew_ne c).symm.trans e); omega
theorem HW.ap (hh : HW h) : HW (app h L) := fun b x e => by
  show b < h.2 + L.length
  by_cases c : b < h.2
  · omega
  · by_cases c2 : h.2 ≤ b ∧ b < h.2 + L.length
    · omega
    · have := hh b x ((show (app h L).1 b = h.1 b from if_neg c2).symm.trans e); omega
theorem upO_lt {b : Nat} (hb : b < a) : upO ow a o b = ow b := if_neg (by omega)
theorem upO_at : upO ow a o a = o := if_pos rfl
theorem imm_0 {b : Nat} (hb : ¬ imm ow b) : ow b = 0 := Decidable.not_not.mp hb
theorem imm_n {b : Nat} (hb : ow b = 0) : ¬ imm ow b := fun z => z hb
theorem FR.at0 (hF : FR ow ow' h h' p) (h0 : p 0) {b : Nat} (hb : ¬ imm ow b) (e : h.1 b = some v) : ¬ imm ow' b ∧ h'.1 b = some v := by
  have z := imm_0 hb
  obtain ⟨e1, e2⟩ := hF b v e (by rw [z]; exact h0)
  exact ⟨imm_n (e2.trans z), e1⟩
theorem FR.at (hF : FR ow ow' h h' p) {b : Nat} (hb : ow b = o) (ho : p o) (e : h.1 b = some v) : ow' b = o ∧ h'.1 b = some v := by
  obtain ⟨e1, e2⟩ := hF b v e (by rw [hb]; exact ho)
  exact ⟨e2.trans hb, e1⟩
theorem SUMg.fr (hF : FR ow ow' h h' p) (h0 : p 0) : ∀ (n a : Nat) (f : SF), SUMg (imm ow) h.1 n a f → SUMg (imm ow') h'.1 n a f := by
  intro n
  induction n with
  | zero => intro a f hS; exact hS.elim
  | succ n ih =>
    intro a f hS
    obtain ⟨q0, hS⟩ := hS
    rcases hS with ⟨c, hc, r⟩ | ⟨w, hc, r⟩ | ⟨x, y, f1, f2, s1, s2, h3⟩
    · obtain ⟨z, e⟩ := hF.at0 h0 q0 hc; exact ⟨z, Or.inl ⟨c, e, r⟩⟩
    · obtain ⟨z, e⟩ := hF.at0 h0 q0 hc; exact ⟨z, Or.inr (Or.inl ⟨w, e, r⟩)⟩
    · rcases h3 with ⟨hc, r⟩ | ⟨hc, r⟩ | ⟨l, hl, hc, r⟩
      · obtain ⟨z, e⟩ := hF.at0 h0 q0 hc; exact ⟨z, Or.inr (Or.inr ⟨x, y, f1, f2, ih x f1 s1, ih y f2 s2, Or.inl ⟨e, r⟩⟩)⟩
      · obtain ⟨z, e⟩ := hF.at0 h0 q0 hc; exact ⟨z, Or.inr (Or.inr ⟨x, y, f1, f2, ih x f1 s1, ih y f2 s2, Or.inr (Or.inl ⟨e, r⟩)⟩)⟩
      · obtain ⟨z, e⟩ := hF.at0 h0 q0 hc; exact ⟨z, Or.inr (Or.inr ⟨x, y, f1, f2, ih x f1 s1, ih y f2 s2, Or.inr (Or.inr ⟨l, hl, e, r⟩)⟩)⟩
theorem LAWC.fr {w : Int → Int} {kl kn k s : Int} (hF : FR ow ow' h h' p) (h0 : p 0) : ∀ (x : Option Nat), LAWC (imm ow) h.1 w kl kn k s x → LAWC (imm ow') h'.1 w kl kn k s x
  | none, hL => hL
  | some a, hL => by
    obtain ⟨n, f, hn, hS, hc⟩ := hL
    exact ⟨n, f, hn, SUMg.fr hF h0 n a f hS, hc⟩
theorem TXT.fr {w : Int → Int} {kl kn : Int} {t : Nat} (hT : TXT E (imm ow) h.1 w kl kn t) (hF : FR ow ow' h h' p) (h0 : p 0) : TXT E (imm ow') h'.1 w kl kn t := by
  obtain ⟨te, tl, tw, tz, tw2, lw, ge, gl, hd, ⟨n1, n2, n3, n4, n5⟩, ct, ⟨cte, hge⟩, ⟨ctl, hgl⟩, ctw, ctw2, hl, hij⟩ := hT
  obtain ⟨m1, e1⟩ := hF.at0 h0 n1 ct
  obtain ⟨m2, e2⟩ := hF.at0 h0 n2 cte
  obtain ⟨m3, e3⟩ := hF.at0 h0 n3 ctl
  obtain ⟨m4, e4⟩ := hF.at0 h0 n4 ctw
  exact ⟨te, tl, tw, tz, tw2, lw, ge, gl, hd, ⟨m1, m2, m3, m4, fun k q1 q2 => (hF.at0 h0 (n5 k q1 q2) (ctw2 k q1 q2)).1⟩, e1, ⟨e2, hge⟩, ⟨e3, hgl⟩, e4, fun k q1 q2 => (hF.at0 h0 (n5 k q1 q2) (ctw2 k q1 q2)).2, fun k s q1 q2 q3 q4 => LAWC.fr hF h0 _ (hl k s q1 q2 q3 q4), hij⟩
theorem ROWc.fr {w : Int → Int} {r : Int} {ra : Nat} (hR : ROWc E (imm ow) h.1 w r ra) (hF : FR ow ow' h h' p) (h0 : p 0) : ROWc E (imm ow') h'.1 w r ra := by
  obtain ⟨n1, g, c1, hg⟩ := hR
  obtain ⟨m1, e1⟩ := hF.at0 h0 n1 c1
  exact ⟨m1, g, e1, hg⟩
end
section
variable {E : gE} {A1 A2 : Nat → Prop} {h : Nat → Option va_E} {w : Int → Int} {kl kn k s r : Int}
theorem SUMg.av (hav : ∀ b, A2 b → A1 b) : ∀ (n a : Nat) (f : SF), SUMg A1 h n a f → SUMg A2 h n a f := by
  intro n
  induction n with
  | zero => intro a f hS; exact hS.elim
  | succ n ih =>
    intro a f hS
    obtain ⟨q0, hS⟩ := hS
    refine ⟨fun z => q0 (hav _ z), ?_⟩
    rcases hS with hc | hc | ⟨x, y, f1, f2, s1, s2, h3⟩
    · exact Or.inl hc
    · exact Or.inr (Or.inl hc)
    · exact Or.inr (Or.inr ⟨x, y, f1, f2, ih x f1 s1, ih y f2 s2, h3⟩)
theorem LAWC.av (hav : ∀ b, A2 b → A1 b) : ∀ (x : Option Nat), LAWC A1 h w kl kn k s x → LAWC A2 h w kl kn k s x
  | none, hL => hL
  | some a, hL => by
    obtain ⟨n, f, hn, hS, hc⟩ := hL
    exact ⟨n, f, hn, SUMg.av hav n a f hS, hc⟩
theorem TXT.av {t : Nat} (hT : TXT E A1 h w kl kn t) (hav : ∀ b, A2 b → A1 b) : TXT E A2 h w kl kn t := by
  obtain ⟨te, tl, tw, tz, tw2, lw, ge, gl, hd, ⟨n1, n2, n3, n4, n5⟩, ct, c1, c2, ctw, ctw2, hl, hij⟩ := hT
  exact ⟨te, tl, tw, tz, tw2, lw, ge, gl, hd, ⟨fun z => n1 (hav _ z), fun z => n2 (hav _ z), fun z => n3 (hav _ z), fun z => n4 (hav _ z), fun k q1 q2 z => n5 k q1 q2 (hav _ z)⟩, ct, c1, c2, ctw, ctw2, fun k s q1 q2 q3 q4 => LAWC.av hav _ (hl k s q1 q2 q3 q4), hij⟩
theorem ROWc.av {ra : Nat} (hR : ROWc E A1 h w r ra) (hav : ∀ b, A2 b → A1 b) : ROWc E A2 h w r ra := ⟨fun z => hR.1 (hav _ z), hR.2⟩
end
/-- a head's cells, whatever was asked -/
def HD (E : gE) (h : gH) (p : Nat) (tx : Option Nat) (hs : Int → Int) : Prop := ∃ h1 e1 t1 o1 b1 : Int, ∀ j, j < 103 → h.1 (p + j) = some (hdF E p tx hs (akO h1 e1 t1 o1 b1) j)
/-- a row of a head's owner -/
def OWN (ow : OW) (a n o : Nat) : Prop := ∀ j, j < n → ow (a + j) = o
/-- a list at l of n references f -/
def LST (E : gE) (ow : OW) (h : gH) (o l : Nat) (n : Int) (f : Int → Nat) : Prop :=
  ∃ (ar cap : Nat) (mo : Int) (g : Int → Option Nat), (ow l = o ∧ ow ar = o ∧ ar ≠ l) ∧ h.1 l = some (oB 3 [vI mo, .ref ar, vI n]) ∧ h.1 ar = some (aR E 12 cap g) ∧ (0 ≤ n ∧ n ≤ cap) ∧ (4 ≤ cap ∧ cap ≤ 1000) ∧ ∀ i, 0 ≤ i → i < n → g i = some (f i)
def sitO (bk : Int → Int) (i : Int) : va_E := oB 17 [vI (bk (6 * i)), vI (bk (6 * i + 1)), vI (bk (6 * i + 2)), vI (bk (6 * i + 3)), vI (bk (6 * i + 4)), vI (gB (¬ bk (6 * i + 5) = 0)), vI (gB (¬ bk (6 * i + 5) = 2))]
def stO (a t : Nat) (w : Int → Int) (lo : Int) : va_E := oB 1 [.ref t, .ref (a + 9), .ref (a + 11), .ref (a + 13), .ref (a + 14), vI (gB (lo = 0)), vI (gB (¬ w 2 = w 9))]
def S_O (E : gE) (ow : OW) (h : gH) (k a t : Nat) (w : Int → Int) (lo : Int) : Prop := (ow a = 10 + 10 * k ∧ ow (a + 13) = 10 + 10 * k) ∧ h.1 a = some (stO a t w lo) ∧ ∃ gu : Int → Int, h.1 (a + 13) = some (aI E 12 gu) ∧ ∀ r, 0 ≤ r → r < 12 → gu r = if r < w 2 then w (34 + 14 * r + 1 + 12) else 0
def S_T (E : gE) (ow : OW) (h : gH) (t : Nat) (w : Int → Int) : Prop := ∀ kn, TXT E (imm ow) h.1 w (-1) kn t
def S_R (E : gE) (ow : OW) (h : gH) (k a : Nat) (w : Int → Int) : Prop := ∃ rr : Int → Nat, LST E ow h (11 + 10 * k) (a + 9) (w 2) rr ∧ ∀ r, 0 ≤ r → r < w 2 → ROWc E (imm ow) h.1 w r (rr r)
def S_B (E : gE) (ow : OW) (h : gH) (k a : Nat) (si : Int) (bk : Int → Int) : Prop := ∃ bb : Int → Nat, LST E ow h (12 + 10 * k) (a + 11) si bb ∧ ∀ i, 0 ≤ i → i < si → ow (bb i) = 0 ∧ h.1 (bb i) = some (sitO bk i)
def S_H (E : gE) (ow : OW) (h : gH) (k a t : Nat) (hs : Int → Int) : Prop := OWN ow (a + 14) 103 (13 + 10 * k) ∧ HD E h (a + 14) (some t) hs
/-- state k at a -/
def STT (E : gE) (ow : OW) (h : gH) (k a : Nat) (w hs : Int → Int) (si lo : Int) (bk : Int → Int) : Prop := ∃ t, S_O E ow h k a t w lo ∧ S_T E ow h t w ∧ S_R E ow h k a w ∧ S_B E ow h k a si bk ∧ S_H E ow h k a t hs
section
variable {E : gE} {ow ow' : OW} {h h' : gH} {q : Nat → Prop} {k a t l o p : Nat} {w hs bk : Int → Int} {n si lo : Int} {f : Int → Nat} {tx : Option Nat}
theorem HD.self (hD : HD E h p tx hs) : ∃ h1 e1 t1 o1 b1 : Int, h = hH E h p tx hs (akO h1 e1 t1 o1 b1) := by
  obtain ⟨h1, e1, t1, o1, b1, hj⟩ := hD
  refine ⟨h1, e1, t1, o1, b1, Prod.ext (funext fun b => ?_) rfl⟩
  show h.1 b = if p ≤ b ∧ b < p + 103 then some _ else h.1 b
  by_cases c : p ≤ b ∧ b < p + 103
  · rw [if_pos c]
    have := hj (b - p) (by omega)
    rwa [show p + (b - p) = b by omega] at this
  · rw [if_neg c]
theorem HD.of {G : gH} {h1 e1 t1 o1 b1 : Int} : HD E (hH E G p tx hs (akO h1 e1 t1 o1 b1)) p tx hs := ⟨h1, e1, t1, o1, b1, fun j hj => blk_at j hj⟩
theorem HD.ofx {G : gH} {t : Nat} {k : gH} (hk : hHx E G p t hs k) : HD E k p (some t) hs := by
  obtain ⟨h1, e1, t1, o1, b1, rfl⟩ := hk
  exact HD.of
theorem HD.s (hD : HD E h p tx hs) : HDs E h.1 p tx hs := by
  obtain ⟨h1, e1, t1, o1, b1, e⟩ := hD.self
  have := HDs_of (E := E) (G := h) (o := p) (ty := tx) (ho := hs) (ao := akO h1 e1 t1 o1 b1)
  rwa [← e] at this
theorem HD.ob (hD : HD E h p tx hs) : h.1 p = some (hdO p tx (hs 2016) (hs 2017)) := by
  obtain ⟨h1, e1, t1, o1, b1, hj⟩ := hD
  exact hj 0 (by decide)
theorem HD.le (hh : HW h) (hD : HD E h p tx hs) : p + 103 ≤ h.2 := by
  obtain ⟨h1, e1, t1, o1, b1, hj⟩ := hD
  have := hh _ _ (hj 102 (by decide))
  omega
theorem hH_hH {G : gH} {ty : Option Nat} {ho : Int → Int} {ak ak' : va_E} : hH E (hH E G p tx hs ak) p ty ho ak' = hH E G p ty ho ak' := by
  refine Prod.ext (funext fun b => ?_) rfl
  show (if p ≤ b ∧ b < p + 103 then _ else if p ≤ b ∧ b < p + 103 then _ else G.1 b) = if p ≤ b ∧ b < p + 103 then _ else G.1 b
  by_cases c : p ≤ b ∧ b < p + 103
  · rw [if_pos c, if_pos c]
  · rw [if_neg c, if_neg c, if_neg c]
theorem HD.fr (hD : HD E h p tx hs) (ho : OWN ow p 103 o) (hF : FR ow ow' h h' q) (hq : q o) : OWN ow' p 103 o ∧ HD E h' p tx hs := by
  obtain ⟨h1, e1, t1, o1, b1, hj⟩ := hD
  exact ⟨fun j z => (hF.at (ho j z) hq (hj j z)).1, h1, e1, t1, o1, b1, fun j z => (hF.at (ho j z) hq (hj j z)).2⟩
theorem LST.fr (hL : LST E ow h o l n f) (hF : FR ow ow' h h' q) (hq : q o) : LST E ow' h' o l n f := by
  obtain ⟨ar, cap, mo, g, ⟨w1, w2, w3⟩, c1, c2, r⟩ := hL
  obtain ⟨a1, a2⟩ := hF.at w1 hq c1
  obtain ⟨b1, b2⟩ := hF.at w2 hq c2
  exact ⟨ar, cap, mo, g, ⟨a1, b1, w3⟩, a2, b2, r⟩
theorem S_O.fr (hS : S_O E ow h k a t w lo) (hF : FR ow ow' h h' q) (hq : q (10 + 10 * k)) : S_O E ow' h' k a t w lo := by
  obtain ⟨⟨w1, w2⟩, c1, gu, c2, r⟩ := hS
  obtain ⟨a1, a2⟩ := hF.at w1 hq c1
  obtain ⟨b1, b2⟩ := hF.at w2 hq c2
  exact ⟨⟨a1, b1⟩, a2, gu, b2, r⟩
theorem S_T.fr (hS : S_T E ow h t w) (hF : FR ow ow' h h' q) (h0 : q 0) : S_T E ow' h' t w := fun kn => (hS kn).fr hF h0
theorem S_R.fr (hS : S_R E ow h k a w) (hF : FR ow ow' h h' q) (h0 : q 0) (hq : q (11 + 10 * k)) : S_R E ow' h' k a w := by
  obtain ⟨rr, hL, hR⟩ := hS
  exact ⟨rr, hL.fr hF hq, fun r z1 z2 => (hR r z1 z2).fr hF h0⟩
theorem S_B.fr (hS : S_B E ow h k a si bk) (hF : FR ow ow' h h' q) (h0 : q 0) (hq : q (12 + 10 * k)) : S_B E ow' h' k a si bk := by
  obtain ⟨bb, hL, hR⟩ := hS
  exact ⟨bb, hL.fr hF hq, fun i z1 z2 => hF.at (hR i z1 z2).1 h0 (hR i z1 z2).2⟩
theorem S_H.fr (hS : S_H E ow h k a t hs) (hF : FR ow ow' h h' q) (hq : q (13 + 10 * k)) : S_H E ow' h' k a t hs := hS.2.fr hS.1 hF hq
theorem STT.fr (hS : STT E ow h k a w hs si lo bk) (hF : FR ow ow' h h' q) (h0 : q 0) (hq : ∀ i, 10 + 10 * k ≤ i → i < 14 + 10 * k → q i) : STT E ow' h' k a w hs si lo bk := by
  obtain ⟨t, s1, s2, s3, s4, s5⟩ := hS
  exact ⟨t, s1.fr hF (hq _ (by omega) (by omega)), s2.fr hF h0, s3.fr hF h0 (hq _ (by omega) (by omega)), s4.fr hF h0 (hq _ (by omega) (by omega)), s5.fr hF (hq _ (by omega) (by omega))⟩
theorem OWN.ne {b : Nat} (h1 : OWN ow a k o) (hb : ow b ≠ o) : b < a ∨ a + k ≤ b := by
  by_cases c : a ≤ b ∧ b < a + k
  · exact absurd (by have := h1 (b - a) (by omega); rwa [show a + (b - a) = b by omega] at this) hb
  · omega
theorem OWN.two {b n m o2 : Nat} (h1 : OWN ow a n o) (h2 : OWN ow b m o2) (ho : o ≠ o2) (hn : 0 < n) (hm : 0 < m) : a + n ≤ b ∨ b + m ≤ a := by
  by_cases c : a + n ≤ b ∨ b + m ≤ a
  · exact c
  · exfalso
    by_cases c2 : a ≤ b
    · have e1 := h1 (b - a) (by omega)
      have e2 := h2 0 hm
      rw [show a + (b - a) = b by omega] at e1
      exact ho (e1.symm.trans e2)
    · have e1 := h1 0 hn
      have e2 := h2 (a - b) (by omega)
      rw [show b + (a - b) = a by omega] at e2
      exact ho (e1.symm.trans e2)
end
