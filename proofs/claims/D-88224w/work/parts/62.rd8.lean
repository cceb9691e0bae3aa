/-! BedBook's Reader: a whole text (printed out of tmpl/t_rd8.txt) -/
set_option maxRecDepth 100000
def Nz (u0 u1 l e : Nat) : Nat → Prop := fun x => Nw u0 u1 x ∧ x ≠ l ∧ x ≠ e
/-- the line y stands for (b, c) -/
def LN (T : Tt) (I : It) (R : Rt) (Q : Nat → Prop) (y : Nat) (b : Bool) (c : List Cd) : Prop := Q y ∧ (T y).1 = 13 ∧ I y 0 = (if b = true then 0 else 1) ∧ ∃ x, R y 1 = some x ∧ RE T I R Q 18 x c
theorem LN.keep {T T' : Tt} {I I' : It} {R R' : Rt} {Q Q' : Nat → Prop} {y : Nat} {b : Bool} {c : List Cd} (h : LN T I R Q y b c) (hk : ∀ x, Q x → Q' x ∧ T' x = T x ∧ I' x = I x ∧ R' x = R x) : LN T' I' R' Q' y b c := by
  obtain ⟨h1, h2, h3, x, h4, h5⟩ := h
  obtain ⟨a1, a2, a3, a4⟩ := hk y h1
  exact ⟨a1, by rw [a2]; exact h2, by rw [a3]; exact h3, x, by rw [a4]; exact h4, RE.keep hk h5⟩
/-- a text of N lines, the list at l -/
def TXo (T : Tt) (I : It) (R : Rt) (u0 u1 l e cap N : Nat) (h : Nat → Nat) (ls : List (Bool × List Cd)) : Prop := LSt T I R l e cap N h ∧ cap ≤ 24 ∧ Nw u0 u1 l ∧ Nw u0 u1 e ∧ ls.length = N ∧ N ≤ 16 ∧ ∀ j b c, ls[j]? = some (b, c) → LN T I R (Nz u0 u1 l e) (h j) b c
/-- a text as BedBook keeps it; Q holds its objects -/
def TX (T : Tt) (I : It) (R : Rt) (Q : Nat → Prop) (l : Nat) (ls : List (Bool × List Cd)) : Prop := ∃ (e cap : Nat) (h : Nat → Nat), LSt T I R l e cap ls.length h ∧ Q l ∧ Q e ∧ ls.length ≤ 16 ∧ ∀ j b c, ls[j]? = some (b, c) → LN T I R Q (h j) b c
theorem TXo.tx {T : Tt} {I : It} {R : Rt} {u0 u1 l e cap N : Nat} {h : Nat → Nat} {ls : List (Bool × List Cd)} (hT : TXo T I R u0 u1 l e cap N h ls) : TX T I R (Nw u0 u1) l ls := by
  obtain ⟨a1, a2, a3, a4, rfl, a6, a7⟩ := hT
  exact ⟨e, cap, h, a1, a3, a4, a6, fun j b c q => (a7 j b c q).keep fun x hx => ⟨hx.1, rfl, rfl, rfl⟩⟩
theorem TXo.kp {u0 u1 u2 l e cap N : Nat} {h : Nat → Nat} {ls : List (Bool × List Cd)} {P : Nat → Prop} {T T' : Tt} {I I' : It} {L L' : Lt} {R R' : Rt} (hT : TXo T I R u0 u1 l e cap N h ls) (hk : Kp u1 P T T' I I' L L' R R') (hP : ∀ x, P x → x < u0) (hu : u1 ≤ u2) : TXo T' I' R' u0 u2 l e cap N h ls := by
  have hq := hk.nw hP hu
  obtain ⟨a1, a2, a3, a4, rfl, a6, a7⟩ := hT
  obtain ⟨l1, l2, l3, l4⟩ := hq _ a3
  obtain ⟨e1, e2, e3, e4⟩ := hq _ a4
  refine ⟨a1.keep l2 l3 l4 e2 e4 fun j hj => ?_, a2, l1, e1, rfl, a6, fun j b c q => (a7 j b c q).keep fun x hx => ⟨⟨(hq x hx.1).1, hx.2⟩, (hq x hx.1).2⟩⟩
  have := List.getElem?_eq_getElem hj
  exact (hq _ (a7 j _ _ this).1.1).2.1
theorem TXo.add {u0 u1 u3 l e cap N e' cap' y : Nat} {h : Nat → Nat} {ls : List (Bool × List Cd)} {T T' : Tt} {I I' : It} {R R' : Rt} {b : Bool} {c : List Cd} (hT : TXo T I R u0 u1 l e cap N h ls) (hu : u1 ≤ u3) (h1 : LSt T' I' R' l e' cap' (N + 1) (upf h N y)) (h2 : cap' ≤ 24) (h3 : e' < u3) (h4 : e' = e ∨ u1 ≤ e') (h5 : N < 16) (h6 : ∀ x, x < u1 → x ≠ l → x ≠ e → T' x = T x ∧ I' x = I x ∧ R' x = R x) (h7 : LN T' I' R' (Nz u0 u3 l e') y b c) : TXo T' I' R' u0 u3 l e' cap' (N + 1) (upf h N y) (ls ++ [(b, c)]) := by
  obtain ⟨a1, a2, a3, a4, rfl, a6, a7⟩ := hT
  have p3 := a3.1
  have q3 := a3.2
  have p4 := a4.1
  have q4 := a4.2
  refine ⟨h1, h2, ⟨p3, by omega⟩, ⟨by omega, h3⟩, by rw [List.length_append]; rfl, by omega, fun j b' c' q => ?_⟩
  show LN T' I' R' (Nz u0 u3 l e') (if j = ls.length then y else h j) b' c'
  by_cases z : j = ls.length
  · subst z
    rw [List.getElem?_append_right (Nat.le_refl _), Nat.sub_self] at q
    cases q
    rw [if_pos rfl]
    exact h7
  · rw [if_neg z]
    have hj : j < ls.length := by
      rcases Nat.lt_or_ge j ls.length with w | w
      · exact w
      · rw [List.getElem?_append_right w, List.getElem?_eq_none (by show 1 ≤ j - ls.length; omega)] at q; cases q
    rw [List.getElem?_append_left hj] at q
    refine (a7 j b' c' q).keep fun x hx => ?_
    obtain ⟨⟨x1, x2⟩, x3, x4⟩ := hx
    exact ⟨⟨⟨x1, by omega⟩, x3, by omega⟩, h6 x x2 x3 x4⟩

