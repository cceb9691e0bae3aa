/-! rows that grow, as expressions (printed out of tmpl/t_row.txt) -/
set_option maxRecDepth 100000
/-- the objects made since uc0 -/
def Nw (u0 u1 : Nat) : Nat → Prop := fun x => u0 ≤ x ∧ x < u1
/-- but not the row's own -/
def Nx (u0 u1 l e s v : Nat) : Nat → Prop := fun x => Nw u0 u1 x ∧ x ≠ l ∧ x ≠ e ∧ x ≠ s ∧ x ≠ v
/-- a row with n signs that stands for c; its objects lie from u0 to u1 -/
def ROW (T : Tt) (I : It) (R : Rt) (u0 u1 d a n cap cp : Nat) (c : List Cd) : Prop := ∃ (l e s v : Nat) (h f : Nat → Nat) (g : Nat → List Cd), RWo T I R a l e cap s v cp n h f ∧ Nw u0 u1 a ∧ Nw u0 u1 l ∧ Nw u0 u1 e ∧ Nw u0 u1 s ∧ Nw u0 u1 v ∧ (∀ j, j ≤ n → RE T I R (Nx u0 u1 l e s v) d (h j) (g j)) ∧ c = rwC g f n
theorem ROW.re {T : Tt} {I : It} {R : Rt} {u0 u1 d a n cap cp : Nat} {c : List Cd} (h : ROW T I R u0 u1 d a n cap cp c) : RE T I R (Nw u0 u1) (d + 1) a c := by
  obtain ⟨l, e, s, v, h, f, g, ⟨a1, a2, a3, a4, a5, _, _⟩, b1, b2, b3, b4, b5, b6, rfl⟩ := h
  exact Or.inr ⟨l, e, cap, s, v, cp, n, h, f, g, b1, b2, b3, b4, b5, a1, a2, a3, a4, a5, fun j hj => RE.keep (fun x hx => ⟨hx.1, rfl, rfl, rfl⟩) (b6 j hj), rfl⟩
theorem ROW.tag {T : Tt} {I : It} {R : Rt} {u0 u1 d a n cap cp : Nat} {c : List Cd} (h : ROW T I R u0 u1 d a n cap cp c) : (T a).1 = 12 := by
  obtain ⟨l, e, s, v, h, f, g, ⟨a1, _⟩, _⟩ := h
  exact a1
theorem ROW.lt {T : Tt} {I : It} {R : Rt} {u0 u1 d a n cap cp : Nat} {c : List Cd} (h : ROW T I R u0 u1 d a n cap cp c) : Nw u0 u1 a := by
  obtain ⟨l, e, s, v, h, f, g, _, b1, _⟩ := h
  exact b1
theorem ROW.b {T : Tt} {I : It} {R : Rt} {u0 u1 d a n cap cp : Nat} {c : List Cd} (h : ROW T I R u0 u1 d a n cap cp c) : cap ≤ 2 * n + 6 ∧ cp ≤ 2 * n + 4 := by
  obtain ⟨l, e, s, v, h, f, g, ⟨_, _, _, _, _, a6, a7⟩, _⟩ := h
  exact ⟨a6, a7⟩
/-- what lies from u0 to u1 stays, where only P below u1 may differ and P lies below u0 -/
theorem Kp.nw {u0 u1 u2 : Nat} {P : Nat → Prop} {T T' : Tt} {I I' : It} {L L' : Lt} {R R' : Rt} (h : Kp u1 P T T' I I' L L' R R') (hP : ∀ x, P x → x < u0) (hu : u1 ≤ u2) : ∀ x, Nw u0 u1 x → Nw u0 u2 x ∧ T' x = T x ∧ I' x = I x ∧ R' x = R x := by
  intro x hx
  obtain ⟨a, b⟩ := h.2 x hx.2 fun q => by have := hP x q; have := hx.1; omega
  exact ⟨⟨hx.1, by have := hx.2; omega⟩, (h.1 x hx.2).1, a, b⟩
theorem RE.kp {u0 u1 u2 d a : Nat} {c : List Cd} {P : Nat → Prop} {T T' : Tt} {I I' : It} {L L' : Lt} {R R' : Rt} (hE : RE T I R (Nw u0 u1) d a c) (h : Kp u1 P T T' I I' L L' R R') (hP : ∀ x, P x → x < u0) (hu : u1 ≤ u2) : RE T' I' R' (Nw u0 u2) d a c := RE.keep (h.nw hP hu) hE
theorem ROW.kp {u0 u1 u2 d a n cap cp : Nat} {c : List Cd} {P : Nat → Prop} {T T' : Tt} {I I' : It} {L L' : Lt} {R R' : Rt} (hE : ROW T I R u0 u1 d a n cap cp c) (h : Kp u1 P T T' I I' L L' R R') (hP : ∀ x, P x → x < u0) (hu : u1 ≤ u2) : ROW T' I' R' u0 u2 d a n cap cp c := by
  have hk := h.nw hP hu
  obtain ⟨l, e, s, v, h, f, g, ⟨a1, a2, a3, a4, a5, a6, a7⟩, b1, b2, b3, b4, b5, b6, rfl⟩ := hE
  obtain ⟨x1, x2, x3, x4⟩ := hk _ b1
  obtain ⟨l1, l2, l3, l4⟩ := hk _ b2
  obtain ⟨e1, e2, e3, e4⟩ := hk _ b3
  obtain ⟨s1, s2, s3, s4⟩ := hk _ b4
  obtain ⟨v1, v2, v3, v4⟩ := hk _ b5
  exact ⟨l, e, s, v, h, f, g, ⟨by rw [x2]; exact a1, by rw [x4]; exact a2, by rw [x4]; exact a3, a4.keep l2 l3 l4 e2 e4 fun j hj => (hk _ (b6 j (by omega)).q.1).2.1, a5.keep s2 s3 s4 v2 v3, a6, a7⟩, x1, l1, e1, s1, v1, fun j hj => RE.keep (fun x hx => ⟨⟨(hk x hx.1).1, hx.2⟩, (hk x hx.1).2⟩) (b6 j hj), rfl⟩
/-- new Row(x), the object at uc: as the constructor leaves it -/
theorem ROW.mk {u0 uc d x : Nat} {c : List Cd} {T T1 T' : Tt} {I I1 I' : It} {R R1 R' : Rt} {L L1 L' : Lt} (hE : RE T I R (Nw u0 uc) d x c) (hu : u0 ≤ uc) (h1 : ∀ z, z < uc → T1 z = T z ∧ I1 z = I z ∧ R1 z = R z) (h12 : (T1 uc).1 = 12)
    (h2 : ∀ z, z < uc + 1 → z ≠ uc → T' z = T1 z ∧ I' z = I1 z ∧ L' z = L1 z ∧ R' z = R1 z) (h3 : T' uc = T1 uc) (h4 : R' uc 0 = some (uc + 1)) (h5 : R' uc 1 = some (uc + 1 + 2)) (h6 : LSt T' I' R' (uc + 1) (uc + 1 + 1) 3 1 (fun _ => x)) (h7 : SBt T' I' R' (uc + 1 + 2) (uc + 1 + 3) 2 0 (fun _ => 0)) : ROW T' I' R' u0 (uc + 1 + 4) d uc 0 3 2 c := by
  refine ⟨uc + 1, uc + 1 + 1, uc + 1 + 2, uc + 1 + 3, fun _ => x, fun _ => 0, fun _ => c, ⟨by rw [h3]; exact h12, h4, h5, h6, h7, by omega, by omega⟩, ⟨hu, by omega⟩, ⟨by omega, by omega⟩, ⟨by omega, by omega⟩, ⟨by omega, by omega⟩, ⟨by omega, by omega⟩, fun j hj => ?_, rfl⟩
  refine RE.keep (fun z hz => ?_) hE
  obtain ⟨b1, b2, b3⟩ := h1 z hz.2
  obtain ⟨c1, c2, _, c4⟩ := h2 z (by have := hz.2; omega) (by have := hz.2; omega)
  have := hz.2
  exact ⟨⟨⟨hz.1, by omega⟩, by omega, by omega, by omega, by omega⟩, c1.trans b1, c2.trans b2, c4.trans b3⟩
/-- Row.and, over rows: the operand was made behind the row -/
def spAnd : Sp := fun av T I L R uc us k => ∃ (u0 u1 d a n cap cp y q : Nat) (c c2 : List Cd), av = [.ref a, .int (nI q), .ref y] ∧ ROW T I R u0 u1 d a n cap cp c ∧ u1 ≤ uc ∧ RE T I R (Nw u1 uc) d y c2 ∧ q < 128 ∧ n ≤ 1000 ∧ uc + 2 ≤ 600000 ∧ us + 8 * n + 40 ≤ 7293034 ∧ (∀ T' I' L' R' uc' us' cap' cp', ROW T' I' R' u0 uc' d a (n + 1) cap' cp' (c ++ (c2 ++ [(sgo q, 0)])) → Kp u0 (fun _ => False) T T' I I' L L' R R' → uc ≤ uc' → uc' ≤ uc + 2 → us ≤ us' → us' + 4 * cap + 2 * cp ≤ us + 4 * cap' + 2 * cp' → k (.inl (some (.ref a))) T' I' L' R' uc' us')
theorem spAnd_of {av : List Value} {T : Tt} {I : It} {L : Lt} {R : Rt} {uc us : Nat} {k : Kt} (h : spAnd av T I L R uc us k) : spX16_and av T I L R uc us k := by
  obtain ⟨u0, u1, d, a, n, cap, cp, y, q, c, c2, rfl, ⟨l, e, s, v, h, f, g, hW, b1, b2, b3, b4, b5, b6, rfl⟩, hu, hy, hq, hn, huc, hus, hk⟩ := h
  have ht : (T y).1 < 17 := by rcases hy.tag with z | z | z <;> rw [z] <;> decide
  have q1 := b1.2
  have q2 := b2.2
  have q3 := b3.2
  have q4 := b4.2
  have q5 := b5.2
  have p2 := b2.1
  have p3 := b3.1
  have p4 := b4.1
  have p5 := b5.1
  have hu0 : u0 ≤ u1 := by omega
  refine ⟨a, l, e, cap, s, v, cp, n, y, q, h, f, rfl, hW, ht, hq, hn, by omega, by omega, by omega, by omega, by omega, hy.q.2, fun j hj => by have := (b6 j hj).q.1.2; omega, huc, hus, ?_⟩
  intro T' I' L' R' uc' us' e' cap' v' cp' w1 w2 w3 w4 w5 w6 w7 w8 w9 w10
  refine hk T' I' L' R' uc' us' cap' cp' ⟨l, e', s, v', upf h (n + 1) y, upf f n q, (fun j => if j = n + 1 then c2 else g j), w1, ⟨b1.1, by omega⟩, ⟨p2, by omega⟩, ⟨by omega, w3⟩, ⟨p4, by omega⟩, ⟨by omega, w4⟩, fun j hj => ?_, ?_⟩ ⟨fun x hx => w2.1 x (by omega), fun x hx _ => w2.2 x (by omega) (fun z => by omega)⟩ w7 w8 w9 w10
  · show RE T' I' R' (Nx u0 uc' l e' s v') d (if j = n + 1 then y else h j) (if j = n + 1 then c2 else g j)
    by_cases z : j = n + 1
    · rw [if_pos z, if_pos z]
      refine RE.keep (fun x hx => ?_) hy
      have x1 := hx.1
      have x2 := hx.2
      obtain ⟨r1, r2⟩ := w2.2 x x2 (fun z => by omega)
      exact ⟨⟨⟨by omega, by omega⟩, by omega, by omega, by omega, by omega⟩, (w2.1 x x2).1, r1, r2⟩
    · rw [if_neg z, if_neg z]
      refine RE.keep (fun x hx => ?_) (b6 j (by omega))
      obtain ⟨⟨x1, x2⟩, x3, x4, x5, x6⟩ := hx
      obtain ⟨r1, r2⟩ := w2.2 x (by omega) (fun z => by omega)
      exact ⟨⟨⟨by omega, by omega⟩, x3, by omega, x5, by omega⟩, (w2.1 x (by omega)).1, r1, r2⟩
  · show rwC g f n ++ (c2 ++ [(sgo q, 0)]) = rwC (fun j => if j = n + 1 then c2 else g j) (upf f n q) n ++ ((if n + 1 = n + 1 then c2 else g (n + 1)) ++ [(sgo (if n = n then q else f n), 0)])
    rw [if_pos rfl, if_pos rfl]
    congr 1
    exact (rwC_cg n (fun j hj => if_neg (by omega)) (fun j hj => if_neg (by omega))).symm

