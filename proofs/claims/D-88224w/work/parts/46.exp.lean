/-! expressions of a text: objects that stand for postfix codes; their values (printed out of tmpl/t_exp.txt) -/
set_option maxRecDepth 100000
def sgo (q : Nat) : Nat := if q = 43 then 3 else if q = 45 then 4 else if q = 60 then 5 else if q = 61 then 6 else 7
/-- the codes of a row: operands g, n signs f -/
def rwC (g : Nat → List Cd) (f : Nat → Nat) : Nat → List Cd
  | 0 => g 0
  | n + 1 => rwC g f n ++ (g (n + 1) ++ [(sgo (f n), 0)])
theorem rwC_cg {g g' : Nat → List Cd} {f f' : Nat → Nat} : ∀ n, (∀ j, j ≤ n → g' j = g j) → (∀ j, j < n → f' j = f j) → rwC g' f' n = rwC g f n := by
  intro n
  induction n with
  | zero => intro h _; exact h 0 (Nat.le_refl _)
  | succ n ih =>
    intro h1 h2
    show rwC g' f' n ++ (g' (n + 1) ++ [(sgo (f' n), 0)]) = rwC g f n ++ (g (n + 1) ++ [(sgo (f n), 0)])
    rw [ih (fun j hj => h1 j (by omega)) (fun j hj => h2 j (by omega)), h1 _ (Nat.le_refl _), h2 n (by omega)]
theorem ev_two (kn : Nat → Int32) : ∀ (c c' : List Cd) (s : List Int32), ev kn (c ++ c') s = (ev kn c s).bind (ev kn c') := by
  intro c
  induction c with
  | nil => intro c' s; rfl
  | cons q c ih =>
    intro c' s
    obtain ⟨o, a⟩ := q
    rw [List.cons_append, ev_c, ev_c]
    by_cases h1 : o = 1
    · rw [if_pos h1, if_pos h1]; exact ih _ _
    · rw [if_neg h1, if_neg h1]
      by_cases h2 : o = 2
      · rw [if_pos h2, if_pos h2]; exact ih _ _
      · rw [if_neg h2, if_neg h2]
        cases op2 o s with
        | none => rfl
        | some s2 => exact ih _ _
theorem ev_fr (kn : Nat → Int32) (r : List Int32) : ∀ (c : List Cd) (s s' : List Int32), ev kn c s = some s' → ev kn c (s ++ r) = some (s' ++ r) := by
  intro c
  induction c with
  | nil => intro s s' h; cases h; rfl
  | cons q c ih =>
    intro s s' h
    obtain ⟨o, a⟩ := q
    rw [ev_c] at h ⊢
    by_cases h1 : o = 1
    · rw [if_pos h1] at h ⊢; exact ih _ _ h
    · rw [if_neg h1] at h ⊢
      by_cases h2 : o = 2
      · rw [if_pos h2] at h ⊢; exact ih _ _ h
      · rw [if_neg h2] at h ⊢
        match s, h with
        | [], h => cases h
        | [_], h => cases h
        | y :: x :: s, h => exact ih _ _ h
theorem wfc_ev {c : List Cd} (h : wfc c) (kn : Nat → Int32) (s : List Int32) : ev kn c s = some (vlc kn c :: s) := ev_fr kn s c [] _ (vlc_ev h)
theorem vlc_of {kn : Nat → Int32} {c : List Cd} {x : Int32} (h : ev kn c [] = some [x]) : vlc kn c = x := by
  unfold vlc; rw [h]
theorem sgo_b (q : Nat) : 3 ≤ sgo q ∧ sgo q ≤ 7 := by
  unfold sgo
  split
  · decide
  · split
    · decide
    · split
      · decide
      · split <;> decide
theorem wfb_app {c c' : List Cd} (h : wfb c) (h' : wfb c') : wfb (c ++ c') := by
  intro o a hm
  rcases List.mem_append.mp hm with q | q
  · exact h o a q
  · exact h' o a q
theorem wfb_sg (q : Nat) : wfb [(sgo q, 0)] := by
  intro o a hm
  have hm := List.mem_singleton.mp hm
  cases hm
  have := sgo_b q
  exact ⟨by omega, by omega, fun h => by omega⟩
theorem ev_row {c d : List Cd} (hc : wfc c) (hd : wfc d) (q : Nat) (kn : Nat → Int32) (s : List Int32) : ev kn (c ++ (d ++ [(sgo q, 0)])) s = some (opv (sgo q) (vlc kn c) (vlc kn d) :: s) := by
  have hb := sgo_b q
  rw [ev_two, wfc_ev hc, Option.bind_some, ev_two, wfc_ev hd, Option.bind_some, ev_c, if_neg (by omega), if_neg (by omega)]
  rfl
theorem wfc_row {c d : List Cd} (hc : wfc c) (hd : wfc d) (q : Nat) : wfc (c ++ (d ++ [(sgo q, 0)])) := ⟨wfb_app hc.1 (wfb_app hd.1 (wfb_sg q)), fun kn s => ⟨_, ev_row hc hd q kn s⟩⟩
theorem vlc_row {c d : List Cd} (hc : wfc c) (hd : wfc d) (q : Nat) (kn : Nat → Int32) : vlc kn (c ++ (d ++ [(sgo q, 0)])) = opv (sgo q) (vlc kn c) (vlc kn d) := vlc_of (ev_row hc hd q kn [])
theorem wfc_con (v : Int32) : wfc [(1, v)] := ⟨fun o a h => by cases List.mem_singleton.mp h; exact ⟨by decide, by decide, fun h => absurd h (by decide)⟩, fun kn s => ⟨v, rfl⟩⟩
theorem wfc_abt {w : Nat} (h : w < 7) : wfc [(2, nI w)] := ⟨fun o a h' => by cases List.mem_singleton.mp h'; exact ⟨by decide, by decide, fun _ => ⟨w, h, rfl⟩⟩, fun kn s => ⟨_, rfl⟩⟩
theorem wfc_rw {g : Nat → List Cd} {f : Nat → Nat} : ∀ n, (∀ j, j ≤ n → wfc (g j)) → wfc (rwC g f n) := by
  intro n
  induction n with
  | zero => intro h; exact h 0 (Nat.le_refl _)
  | succ n ih => intro h; exact wfc_row (ih fun j hj => h j (by omega)) (h _ (Nat.le_refl _)) _
def RB (T : Tt) (I : It) (Q : Nat → Prop) (a : Nat) (c : List Cd) : Prop := Q a ∧ (((T a).1 = 10 ∧ c = [(1, I a 0)]) ∨ ((T a).1 = 11 ∧ ∃ w : Nat, w < 7 ∧ I a 0 = nI w ∧ c = [(2, nI w)]))
/-- a row over operands of P -/
def RW (T : Tt) (I : It) (R : Rt) (Q : Nat → Prop) (P : Nat → List Cd → Prop) (a : Nat) (c : List Cd) : Prop := ∃ (l e cap s v cp n : Nat) (h f : Nat → Nat) (g : Nat → List Cd), Q a ∧ Q l ∧ Q e ∧ Q s ∧ Q v ∧ (T a).1 = 12 ∧ R a 0 = some l ∧ R a 1 = some s ∧ LSt T I R l e cap (n + 1) h ∧ SBt T I R s v cp n f ∧ (∀ j, j ≤ n → P (h j) (g j)) ∧ c = rwC g f n
/-- an expression: depth, object, codes; Q holds its objects -/
def RE (T : Tt) (I : It) (R : Rt) (Q : Nat → Prop) : Nat → Nat → List Cd → Prop
  | 0, a, c => RB T I Q a c
  | d + 1, a, c => RB T I Q a c ∨ RW T I R Q (RE T I R Q d) a c
theorem RE.of {T : Tt} {I : It} {R : Rt} {Q : Nat → Prop} {d a : Nat} {c : List Cd} (h : RB T I Q a c) : RE T I R Q d a c := by
  cases d with
  | zero => exact h
  | succ d => exact Or.inl h
theorem RE.cs {T : Tt} {I : It} {R : Rt} {Q : Nat → Prop} {d a : Nat} {c : List Cd} (h : RE T I R Q d a c) : RB T I Q a c ∨ ∃ d', d = d' + 1 ∧ RW T I R Q (RE T I R Q d') a c := by
  cases d with
  | zero => exact Or.inl h
  | succ d =>
    rcases h with h | h
    · exact Or.inl h
    · exact Or.inr ⟨d, rfl, h⟩
theorem RE.q {T : Tt} {I : It} {R : Rt} {Q : Nat → Prop} {d a : Nat} {c : List Cd} (h : RE T I R Q d a c) : Q a := by
  rcases h.cs with h | ⟨d', _, l, e, cap, s, v, cp, n, h, f, g, h1, _⟩
  · exact h.1
  · exact h1
theorem RE.tag {T : Tt} {I : It} {R : Rt} {Q : Nat → Prop} {d a : Nat} {c : List Cd} (h : RE T I R Q d a c) : (T a).1 = 10 ∨ (T a).1 = 11 ∨ (T a).1 = 12 := by
  rcases h.cs with h | ⟨d', _, l, e, cap, s, v, cp, n, h, f, g, h1, h2, h3, h4, h5, h6, _⟩
  · rcases h.2 with h | h
    · exact Or.inl h.1
    · exact Or.inr (Or.inl h.1)
  · exact Or.inr (Or.inr h6)
theorem RE.wf {T : Tt} {I : It} {R : Rt} {Q : Nat → Prop} : ∀ {d a : Nat} {c : List Cd}, RE T I R Q d a c → wfc c := by
  intro d
  induction d with
  | zero =>
    intro a c h
    rcases h.2 with ⟨_, rfl⟩ | ⟨_, w, hw, _, rfl⟩
    · exact wfc_con _
    · exact wfc_abt hw
  | succ d ih =>
    intro a c h
    rcases h with h | ⟨l, e, cap, s, v, cp, n, h, f, g, h1, h2, h3, h4, h5, h6, h7, h8, h9, h10, h11, rfl⟩
    · rcases h.2 with ⟨_, rfl⟩ | ⟨_, w, hw, _, rfl⟩
      · exact wfc_con _
      · exact wfc_abt hw
    · exact wfc_rw _ fun j hj => ih (h11 j hj)
theorem RE.up {T : Tt} {I : It} {R : Rt} {Q : Nat → Prop} : ∀ {d a : Nat} {c : List Cd}, RE T I R Q d a c → RE T I R Q (d + 1) a c := by
  intro d
  induction d with
  | zero => intro a c h; exact Or.inl h
  | succ d ih =>
    intro a c h
    rcases h with h | ⟨l, e, cap, s, v, cp, n, h, f, g, h1, h2, h3, h4, h5, h6, h7, h8, h9, h10, h11, rfl⟩
    · exact Or.inl h
    · exact Or.inr ⟨l, e, cap, s, v, cp, n, h, f, g, h1, h2, h3, h4, h5, h6, h7, h8, h9, h10, fun j hj => ih (h11 j hj), rfl⟩
theorem RE.ups {T : Tt} {I : It} {R : Rt} {Q : Nat → Prop} {d d' a : Nat} {c : List Cd} (h : RE T I R Q d a c) (hd : d ≤ d') : RE T I R Q d' a c := by
  obtain ⟨k, rfl⟩ : ∃ k, d' = d + k := ⟨d' - d, by omega⟩
  clear hd
  induction k with
  | zero => exact h
  | succ k ih => exact ih.up
theorem LSt.keep {T T' : Tt} {I I' : It} {R R' : Rt} {l e cap n : Nat} {f : Nat → Nat} (h : LSt T I R l e cap n f) (h1 : T' l = T l) (h2 : I' l = I l) (h3 : R' l = R l) (h4 : T' e = T e) (h5 : R' e = R e) (h6 : ∀ j, j < n → T' (f j) = T (f j)) : LSt T' I' R' l e cap n f := by
  obtain ⟨a1, a2, a3, a4, a5, a6, a7, a8, a9⟩ := h
  refine ⟨by rw [h1]; exact a1, by rw [h2]; exact a2, by rw [h3]; exact a3, by rw [h4]; exact a4, a5, a6, a7, fun j hj => ?_, fun j hj => by rw [h5]; exact a9 j hj⟩
  obtain ⟨b1, b2⟩ := a8 j hj
  exact ⟨by rw [h5]; exact b1, by rw [h6 j hj]; exact b2⟩
theorem SBt.keep {T T' : Tt} {I I' : It} {R R' : Rt} {b v cap n : Nat} {f : Nat → Nat} (h : SBt T I R b v cap n f) (h1 : T' b = T b) (h2 : I' b = I b) (h3 : R' b = R b) (h4 : T' v = T v) (h5 : I' v = I v) : SBt T' I' R' b v cap n f := by
  obtain ⟨a1, a2, a3, a4, a5, a6, a7, a8, a9⟩ := h
  exact ⟨by rw [h1]; exact a1, by rw [h3]; exact a2, by rw [h4]; exact a3, by rw [h2]; exact a4, by rw [h2]; exact a5, a6, a7, by rw [h5]; exact a8, by rw [h5]; exact a9⟩
theorem RB.keep {T T' : Tt} {I I' : It} {Q Q' : Nat → Prop} {a : Nat} {c : List Cd} (h : RB T I Q a c) (hk : ∀ x, Q x → Q' x ∧ T' x = T x ∧ I' x = I x) : RB T' I' Q' a c := by
  obtain ⟨q1, q2, q3⟩ := hk _ h.1
  refine ⟨q1, ?_⟩
  rw [q2, q3]
  exact h.2
theorem RE.keep {T T' : Tt} {I I' : It} {R R' : Rt} {Q Q' : Nat → Prop} (hk : ∀ x, Q x → Q' x ∧ T' x = T x ∧ I' x = I x ∧ R' x = R x) : ∀ {d a : Nat} {c : List Cd}, RE T I R Q d a c → RE T' I' R' Q' d a c := by
  intro d
  induction d with
  | zero => intro a c h; exact RB.keep h fun x hx => ⟨(hk x hx).1, (hk x hx).2.1, (hk x hx).2.2.1⟩
  | succ d ih =>
    intro a c h
    rcases h with h | ⟨l, e, cap, s, v, cp, n, h, f, g, h1, h2, h3, h4, h5, h6, h7, h8, h9, h10, h11, rfl⟩
    · exact Or.inl (RB.keep h fun x hx => ⟨(hk x hx).1, (hk x hx).2.1, (hk x hx).2.2.1⟩)
    · obtain ⟨a1, a2, a3, a4⟩ := hk _ h1
      obtain ⟨l1, l2, l3, l4⟩ := hk _ h2
      obtain ⟨e1, e2, e3, e4⟩ := hk _ h3
      obtain ⟨s1, s2, s3, s4⟩ := hk _ h4
      obtain ⟨v1, v2, v3, v4⟩ := hk _ h5
      exact Or.inr ⟨l, e, cap, s, v, cp, n, h, f, g, a1, l1, e1, s1, v1, by rw [a2]; exact h6, by rw [a4]; exact h7, by rw [a4]; exact h8, h9.keep l2 l3 l4 e2 e4 fun j hj => (hk _ (h11 j (by omega)).q).2.1, h10.keep s2 s3 s4 v2 v3, fun j hj => ih (h11 j hj), rfl⟩

