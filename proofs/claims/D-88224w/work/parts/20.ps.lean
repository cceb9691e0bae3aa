/-! BedBookModel: what its memory says of the reading of a text -/
set_option maxRecDepth 100000
/-- what the reading of a text into the half H may touch -/
def tch (H a j : Nat) : Prop := (a = 0 ∧ (j = 7 ∨ j = 8 ∨ j = 17 ∨ j = 18)) ∨ a = 19 ∨ a = 20 ∨ a = 21 ∨ (a = 10 ∧ j = H) ∨ ((a = 11 ∨ a = 12) ∧ 16 * H ≤ j ∧ j < 16 * H + 16) ∨ ((a = 13 ∨ a = 14) ∧ 660 * H ≤ j ∧ j < 660 * H + 660)
def rdF (H : Nat) (I I' : It) : Prop := ∀ a j, ¬ tch H a j → I' a j = I a j
theorem rdF.refl (H : Nat) (I : It) : rdF H I I := fun _ _ _ => rfl
theorem rdF.u2 {H : Nat} {I I' : It} {a j : Nat} {x : Int32} (h : rdF H I I') (q : tch H a j) : rdF H I (u2 I' a j x) := by
  intro b i hb
  rw [u2_n _ _ (fun e => hb (by rw [e.1, e.2]; exact q))]
  exact h b i hb
theorem rdF.trans {H : Nat} {I I' I2 : It} (h : rdF H I I') (h2 : rdF H I' I2) : rdF H I I2 := fun a j q => (h2 a j q).trans (h a j q)
theorem rdF.em {H C : Nat} {I I' : It} {c a : Int32} (h : rdF H I I') (hC : C < 660) : rdF H I (emI I' H C c a) := by
  unfold emI
  refine ((h.u2 ?_).u2 ?_).u2 ?_
  · unfold tch; omega
  · unfold tch; omega
  · unfold tch; omega
theorem rdF.wr {H A : Nat} {I I' : It} {c : Int32} (h : rdF H I I') : rdF H I (wrI I' A c) := by
  unfold wrI
  split
  · exact h.u2 (by unfold tch; omega)
  · exact h
def codM (H : Nat) (C : List Cd) (I : It) : Prop := ∀ j a b, C[j]? = some (a, b) → I 13 (660 * H + j) = nI a ∧ I 14 (660 * H + j) = b
def enc (ls : List (Bool × List Cd)) : List Cd := (ls.map (fun l => l.2 ++ [(0, 0)])).flatten
def linM (H : Nat) (ls : List (Bool × List Cd)) (I : It) : Prop := I 10 H = nI ls.length ∧ ∀ q b c, ls[q]? = some (b, c) → I 11 (16 * H + q) = (if b = true then 1 else 0) ∧ I 12 (16 * H + q) = nI (660 * H + (enc (ls.take q)).length)
def wtM (w : List Wt) (I : It) : Prop := ∀ p su sg an, w[p]? = some (su, sg, an) → (I 19 (w.length - 1 - p) = nI su ∧ I 20 (w.length - 1 - p) = nI sg ∧ I 21 (w.length - 1 - p) = nI an) ∧ su < 8 ∧ sg < 8 ∧ (an = 0 ∨ an = 7)
def p1 (x : Wt) : Nat := (if x.1 = 0 then 0 else 1) + (if x.2.1 = 0 then 0 else 1) + (if x.2.2 = 0 then 0 else 1)
def pd : List Wt → Nat
  | [] => 0
  | x :: r => p1 x + pd r
/-- the memory stands at the state s -/
def PS (nt H : Nat) (s : Ms) (I : It) : Prop :=
  s.2.1 ≤ nt ∧ I 0 7 = nI s.2.1 ∧ I 0 8 = 0 ∧ I 0 17 = nI ((enc s.2.2.2.2.2).length + s.2.2.2.1.length) ∧ codM H (enc s.2.2.2.2.2 ++ s.2.2.2.1) I ∧ linM H s.2.2.2.2.2 I ∧ s.2.2.2.2.2.length ≤ 16 ∧ (enc s.2.2.2.2.2).length + s.2.2.2.1.length + pd s.2.2.1 ≤ s.2.1 ∧
  (s.1 < 5 → wtM s.2.2.1 I ∧ I 0 18 = nI (s.2.2.1.length - 1) ∧ 0 < s.2.2.1.length ∧ s.2.2.1.length ≤ 6 ∧ s.2.2.2.2.2.length < 16 ∧ I 11 (16 * H + s.2.2.2.2.2.length) = (if s.2.2.2.2.1 = true then 1 else 0) ∧ I 12 (16 * H + s.2.2.2.2.2.length) = nI (660 * H + (enc s.2.2.2.2.2).length))
/-- a fault was found -/
def FS (nt H : Nat) (e : Int32) (I : It) : Prop := I 0 8 = e ∧ (∃ A, A ≤ nt ∧ I 0 7 = nI A) ∧ (∃ C, C ≤ 600 ∧ I 0 17 = nI C) ∧ ∃ q, q < 16 ∧ I 10 H = nI q
/-- tokens and words, the half -/
def TK (S P : Nat → Nat) (v : Nat → Int64) (nt H : Nat) (I : It) (L : Lt) : Prop := (∀ j, j ≤ nt → I 4 j = nI (S j) ∧ I 5 j = nI (P j) ∧ S j < 5 ∧ P j ≤ 600) ∧ (∀ j, j < nt → L 6 j = v j) ∧ S nt = 0 ∧ (∀ w, w < 11 → L 9 w = wv w) ∧ I 0 16 = nI H ∧ H < 2 ∧ nt ≤ 600
theorem codM_em {H : Nat} {C : List Cd} {I : It} (h : codM H C I) (c : Nat) (a : Int32) : codM H (C ++ [(c, a)]) (emI I H C.length (nI c) a) := by
  intro j x y hj
  rcases Nat.lt_or_ge j C.length with q | q
  · rw [List.getElem?_append_left q] at hj
    have := h j x y hj
    unfold emI
    rw [u2_n _ _ (by omega), u2_n _ _ (by omega), u2_n _ _ (by omega), u2_n _ _ (by omega), u2_n _ _ (by omega), u2_n _ _ (by omega)]
    exact this
  · rw [List.getElem?_append_right q] at hj
    obtain rfl : j = C.length := by
      rcases Nat.lt_or_ge (j - C.length) 1 with z | z
      · omega
      · rw [List.getElem?_eq_none (by simpa using z)] at hj; cases hj
    rw [Nat.sub_self] at hj
    cases hj
    unfold emI
    rw [u2_n _ _ (by omega), u2_n _ _ (by omega), u2_s, u2_n _ _ (by omega), u2_s]
    exact ⟨rfl, rfl⟩
theorem codM_o {H : Nat} {C : List Cd} {I I' : It} (h : codM H C I) (h3 : ∀ j, I' 13 j = I 13 j) (h4 : ∀ j, I' 14 j = I 14 j) : codM H C I' := by
  intro j x y hj
  rw [h3, h4]
  exact h j x y hj
theorem linM_o {H : Nat} {ls : List (Bool × List Cd)} {I I' : It} (h : linM H ls I) (h0 : ∀ j, I' 10 j = I 10 j) (h1 : ∀ j, I' 11 j = I 11 j) (h2 : ∀ j, I' 12 j = I 12 j) : linM H ls I' := by
  refine ⟨by rw [h0]; exact h.1, fun q b c hq => ?_⟩
  rw [h1, h2]
  exact h.2 q b c hq
section Tests
variable {S P : Nat → Nat} {v : Nat → Int64} {nt H : Nat} {I0 I : It} {L : Lt}
theorem TK.sg (h : TK S P v nt H I0 L) (hr : rdF H I0 I) (h8 : I 0 8 = 0) {i : Nat} (hi : i ≤ nt) (c : Int32) : sgI I L i c ↔ tS S v i c := by
  have e := h.1 i hi
  have e4 : I 4 i = nI (S i) := by rw [hr 4 i (by unfold tch; omega)]; exact e.1
  constructor
  · rintro ⟨-, q1, q2⟩
    rw [e4] at q1
    have q1 : S i = 3 := nI_eq' (b := 3) (by omega) (by decide) q1
    refine ⟨q1, ?_⟩
    rcases Nat.lt_or_ge i nt with z | z
    · rw [← h.2.1 i z]; exact q2
    · obtain rfl : i = nt := by omega
      rw [h.2.2.1] at q1; cases q1
  · rintro ⟨q1, q2⟩
    refine ⟨h8, by rw [e4, q1]; rfl, ?_⟩
    rcases Nat.lt_or_ge i nt with z | z
    · rw [h.2.1 i z]; exact q2
    · obtain rfl : i = nt := by omega
      rw [h.2.2.1] at q1; cases q1
theorem TK.wd (h : TK S P v nt H I0 L) (hr : rdF H I0 I) (h8 : I 0 8 = 0) {i : Nat} (hi : i ≤ nt) {w : Nat} (hw : w < 11) : wdI I L i w ↔ tW S v i w := by
  have e := h.1 i hi
  have e4 : I 4 i = nI (S i) := by rw [hr 4 i (by unfold tch; omega)]; exact e.1
  have e9 := h.2.2.2.1 w hw
  constructor
  · rintro ⟨-, q1, q2⟩
    rw [e4] at q1
    have q1 : S i = 1 := nI_eq' (b := 1) (by omega) (by decide) q1
    refine ⟨q1, ?_⟩
    rcases Nat.lt_or_ge i nt with z | z
    · rw [← h.2.1 i z, ← e9]; exact q2
    · obtain rfl : i = nt := by omega
      rw [h.2.2.1] at q1; cases q1
  · rintro ⟨q1, q2⟩
    refine ⟨h8, by rw [e4, q1]; rfl, ?_⟩
    rcases Nat.lt_or_ge i nt with z | z
    · rw [h.2.1 i z, e9]; exact q2
    · obtain rfl : i = nt := by omega
      rw [h.2.2.1] at q1; cases q1
theorem TK.pw (h : TK S P v nt H I0 L) (hr : rdF H I0 I) (h8 : I 0 8 = 0) {i : Nat} (hi : i ≤ nt) : pwF I L i 7 = if aw S v i < 7 then nI (aw S v i) else -1 := by
  have e := fun w (hw : w < 11) => h.wd hr h8 hi hw
  unfold aw
  simp only [pwF]
  by_cases h4 : tW S v i 4
  · rw [if_pos ((e 4 (by decide)).mpr h4), if_pos h4, if_pos (by decide)]
  rw [if_neg (fun q => h4 ((e 4 (by decide)).mp q)), if_neg h4]
  by_cases h5 : tW S v i 5
  · rw [if_pos ((e 5 (by decide)).mpr h5), if_pos h5, if_pos (by decide)]
  rw [if_neg (fun q => h5 ((e 5 (by decide)).mp q)), if_neg h5]
  by_cases h6 : tW S v i 6
  · rw [if_pos ((e 6 (by decide)).mpr h6), if_pos h6, if_pos (by decide)]
  rw [if_neg (fun q => h6 ((e 6 (by decide)).mp q)), if_neg h6]
  by_cases h7 : tW S v i 7
  · rw [if_pos ((e 7 (by decide)).mpr h7), if_pos h7, if_pos (by decide)]
  rw [if_neg (fun q => h7 ((e 7 (by decide)).mp q)), if_neg h7]
  by_cases h8 : tW S v i 8
  · rw [if_pos ((e 8 (by decide)).mpr h8), if_pos h8, if_pos (by decide)]
  rw [if_neg (fun q => h8 ((e 8 (by decide)).mp q)), if_neg h8]
  by_cases h9 : tW S v i 9
  · rw [if_pos ((e 9 (by decide)).mpr h9), if_pos h9, if_pos (by decide)]
  rw [if_neg (fun q => h9 ((e 9 (by decide)).mp q)), if_neg h9]
  by_cases h10 : tW S v i 10
  · rw [if_pos ((e 10 (by decide)).mpr h10), if_pos h10, if_pos (by decide)]
  rw [if_neg (fun q => h10 ((e 10 (by decide)).mp q)), if_neg h10, if_neg (by decide)]
theorem TK.lt (h : TK S P v nt H I0 L) {i : Nat} (hi : i ≤ nt) (hs : ¬ S i = 0) : i < nt := by
  rcases Nat.lt_or_ge i nt with z | z
  · exact z
  · obtain rfl : i = nt := by omega
    exact absurd h.2.2.1 hs
/-- the waiting signs of the top, the token, the codes go on -/
theorem PS_upd {m m' i i' : Nat} {x x' : Wt} {r : List Wt} {cs cs' : List Cd} {b : Bool} {ls : List (Bool × List Cd)} {I' : It} (h : PS nt H (m, i, x :: r, cs, b, ls) I) (hm : m < 5) (h0 : ∀ j, I' 10 j = I 10 j) (h1 : ∀ j, I' 11 j = I 11 j) (h2 : ∀ j, I' 12 j = I 12 j) (h8 : I' 0 8 = I 0 8) (h18 : I' 0 18 = I 0 18) (h7 : I' 0 7 = nI i') (hi : i' ≤ nt)
    (h17 : I' 0 17 = nI ((enc ls).length + cs'.length)) (hC : codM H (enc ls ++ cs') I') (hw : ∀ D, D ≠ r.length → I' 19 D = I 19 D ∧ I' 20 D = I 20 D ∧ I' 21 D = I 21 D) (hx : I' 19 r.length = nI x'.1 ∧ I' 20 r.length = nI x'.2.1 ∧ I' 21 r.length = nI x'.2.2) (hb : x'.1 < 8 ∧ x'.2.1 < 8 ∧ (x'.2.2 = 0 ∨ x'.2.2 = 7)) (hbud : (enc ls).length + cs'.length + (p1 x' + pd r) ≤ i') : PS nt H (m', i', x' :: r, cs', b, ls) I' := by
  obtain ⟨a1, a2, a3, a4, a5, a6, a7, a8, a9⟩ := h
  obtain ⟨b1, b2, b3, b4, b5, b6, b7⟩ := a9 hm
  refine ⟨hi, h7, h8.trans a3, h17, hC, linM_o a6 h0 h1 h2, a7, hbud, fun _ => ⟨?_, h18.trans b2, b3, b4, b5, (h1 _).trans b6, (h2 _).trans b7⟩⟩
  intro p su sg an hp
  cases p with
  | zero =>
    simp only [List.getElem?_cons_zero, Option.some.injEq] at hp
    subst hp
    refine ⟨?_, hb⟩
    rw [show ((su, sg, an) :: r).length - 1 - 0 = r.length by simp]
    exact hx
  | succ p =>
    have hp' : (x :: r)[p + 1]? = some (su, sg, an) := hp
    have hlt : p < r.length := by
      rcases Nat.lt_or_ge p r.length with z | z
      · exact z
      · rw [List.getElem?_cons_succ, List.getElem?_eq_none z] at hp; cases hp
    have := b1 (p + 1) su sg an hp'
    refine ⟨?_, this.2⟩
    have e : (x' :: r).length - 1 - (p + 1) = (x :: r).length - 1 - (p + 1) := by simp
    rw [e]
    have ne : (x :: r).length - 1 - (p + 1) ≠ r.length := by simp; omega
    obtain ⟨w1, w2, w3⟩ := hw _ ne
    rw [w1, w2, w3]
    exact this.1
theorem PS_top {m i : Nat} {su sg an : Nat} {r : List Wt} {cs : List Cd} {b : Bool} {ls : List (Bool × List Cd)} (h : PS nt H (m, i, (su, sg, an) :: r, cs, b, ls) I) (hm : m < 5) : I 0 18 = nI r.length ∧ r.length < 6 ∧ I 19 r.length = nI su ∧ I 20 r.length = nI sg ∧ I 21 r.length = nI an ∧ su < 8 ∧ sg < 8 ∧ (an = 0 ∨ an = 7) ∧ (enc ls).length + cs.length + (p1 (su, sg, an) + pd r) ≤ i := by
  obtain ⟨a1, a2, a3, a4, a5, a6, a7, a8, a9⟩ := h
  obtain ⟨b1, b2, b3, b4, b5, b6, b7⟩ := a9 hm
  obtain ⟨⟨c1, c2, c3⟩, c4, c5, c6⟩ := b1 0 su sg an rfl
  have e : ((su, sg, an) :: r).length - 1 = r.length := by simp
  have e2 : ((su, sg, an) :: r).length - 1 - 0 = r.length := by simp
  have b2' : I 0 18 = nI (((su, sg, an) :: r).length - 1) := b2
  have b4' : ((su, sg, an) :: r).length ≤ 6 := b4
  have c1' : I 19 (((su, sg, an) :: r).length - 1 - 0) = nI su := c1
  have c2' : I 20 (((su, sg, an) :: r).length - 1 - 0) = nI sg := c2
  have c3' : I 21 (((su, sg, an) :: r).length - 1 - 0) = nI an := c3
  rw [e] at b2'
  rw [e2] at c1' c2' c3'
  exact ⟨b2', by simp at b4'; omega, c1', c2', c3', c4, c5, c6, a8⟩
theorem PS_push {m i : Nat} {w : List Wt} {cs : List Cd} {b : Bool} {ls : List (Bool × List Cd)} (h : PS nt H (m, i, w, cs, b, ls) I) (hm : m < 5) (hi : i < nt) (hw : w.length < 6) : PS nt H (0, i + 1, (0, 0, 0) :: w, cs, b, ls) (opI (u2 (u2 I 0 7 (nI (i + 1))) 0 18 (nI w.length)) w.length) := by
  obtain ⟨a1, a2, a3, a4, a5, a6, a7, a8, a9⟩ := h
  obtain ⟨b1, b2, b3, b4, b5, b6, b7⟩ := a9 hm
  refine ⟨hi, by simp [opI, u2], by simp [opI, u2]; exact a3, by simp [opI, u2]; exact a4, codM_o a5 (fun j => by simp [opI, u2]) (fun j => by simp [opI, u2]), linM_o a6 (fun j => by simp [opI, u2]) (fun j => by simp [opI, u2]) (fun j => by simp [opI, u2]), a7, ?_, fun _ => ⟨?_, by simp [opI, u2], by simp, by simp; omega, b5, by simp [opI, u2]; exact b6, by simp [opI, u2]; exact b7⟩⟩
  · show (enc ls).length + cs.length + (p1 (0, 0, 0) + pd w) ≤ i + 1
    have a8' : (enc ls).length + cs.length + pd w ≤ i := a8
    have : p1 (0, 0, 0) = 0 := rfl
    omega
  · intro p su sg an hp
    cases p with
    | zero =>
      cases hp
      have e : ((0, 0, 0) :: w : List Wt).length - 1 - 0 = w.length := by simp
      refine ⟨?_, by decide⟩
      show opI _ _ 19 (((0, 0, 0) :: w : List Wt).length - 1 - 0) = _ ∧ opI _ _ 20 (((0, 0, 0) :: w : List Wt).length - 1 - 0) = _ ∧ opI _ _ 21 (((0, 0, 0) :: w : List Wt).length - 1 - 0) = _
      rw [e]
      simp [opI, u2, nI_0]
    | succ p =>
      have hp' : w[p]? = some (su, sg, an) := hp
      have hlt : p < w.length := by
        rcases Nat.lt_or_ge p w.length with z | z
        · exact z
        · rw [List.getElem?_eq_none z] at hp'; cases hp'
      have := b1 p su sg an hp'
      refine ⟨?_, this.2⟩
      have e : ((0, 0, 0) :: w : List Wt).length - 1 - (p + 1) = w.length - 1 - p := by simp; omega
      show opI _ _ 19 (((0, 0, 0) :: w : List Wt).length - 1 - (p + 1)) = _ ∧ opI _ _ 20 (((0, 0, 0) :: w : List Wt).length - 1 - (p + 1)) = _ ∧ opI _ _ 21 (((0, 0, 0) :: w : List Wt).length - 1 - (p + 1)) = _
      rw [e]
      have ne : ¬ w.length - 1 - p = w.length := by omega
      simp [opI, u2, ne]
      exact this.1
theorem PS_pop {i : Nat} {x y : Wt} {r : List Wt} {cs : List Cd} {b : Bool} {ls : List (Bool × List Cd)} (h : PS nt H (4, i, x :: y :: r, cs, b, ls) I) (hi : i < nt) : PS nt H (1, i + 1, y :: r, cs, b, ls) (u2 (u2 I 0 7 (nI (i + 1))) 0 18 (nI r.length)) := by
  obtain ⟨a1, a2, a3, a4, a5, a6, a7, a8, a9⟩ := h
  obtain ⟨b1, b2, b3, b4, b5, b6, b7⟩ := a9 (by show 4 < 5; decide)
  refine ⟨hi, by simp [u2], by simp [u2]; exact a3, by simp [u2]; exact a4, codM_o a5 (fun j => by simp [u2]) (fun j => by simp [u2]), linM_o a6 (fun j => by simp [u2]) (fun j => by simp [u2]) (fun j => by simp [u2]), a7, ?_, fun _ => ⟨?_, by simp [u2], by simp, ?_, b5, by simp [u2]; exact b6, by simp [u2]; exact b7⟩⟩
  · show (enc ls).length + cs.length + pd (y :: r) ≤ i + 1
    have a8' : (enc ls).length + cs.length + (p1 x + pd (y :: r)) ≤ i := a8
    omega
  · intro p su sg an hp
    have hp' : (x :: y :: r)[p + 1]? = some (su, sg, an) := hp
    have := b1 (p + 1) su sg an hp'
    have e : (x :: y :: r).length - 1 - (p + 1) = (y :: r).length - 1 - p := by simp
    have this' : (I 19 ((x :: y :: r).length - 1 - (p + 1)) = nI su ∧ I 20 ((x :: y :: r).length - 1 - (p + 1)) = nI sg ∧ I 21 ((x :: y :: r).length - 1 - (p + 1)) = nI an) ∧ su < 8 ∧ sg < 8 ∧ (an = 0 ∨ an = 7) := this
    rw [e] at this'
    refine ⟨?_, this'.2⟩
    simp [u2]
    simpa using this'.1
  · have : (x :: y :: r).length ≤ 6 := b4
    show (y :: r).length ≤ 6
    simp at this ⊢
    omega
theorem PS_fs {s : Ms} (h : PS nt H s I) (hn : nt ≤ 600) (hm : s.1 < 5) (hr : rdF H I0 I) {e : Int32} : FS nt H e (u2 I 0 8 e) := by
  obtain ⟨a1, a2, a3, a4, a5, a6, a7, a8, a9⟩ := h
  refine ⟨by rw [u2_s], ⟨_, a1, by rw [u2_n _ _ (by omega)]; exact a2⟩, ⟨(enc s.2.2.2.2.2).length + s.2.2.2.1.length, by omega, by rw [u2_n _ _ (by omega)]; exact a4⟩, ⟨_, (a9 hm).2.2.2.2.1, by rw [u2_n _ _ (by omega)]; exact a6.1⟩⟩
theorem TK.wr (h : TK S P v nt H I0 L) (hr : rdF H I0 I) (h8 : I 0 8 = 0) {i : Nat} (hi : i ≤ nt) (w : Int32) : wrI I i w = u2 I 0 8 (w + 16 * nI (P i)) := by
  unfold wrI
  rw [if_pos h8, hr 5 i (by unfold tch; omega), (h.1 i hi).2.1]
theorem FS_18 {e x : Int32} (h : FS nt H e I) : FS nt H e (u2 I 0 18 x) := by
  obtain ⟨h1, ⟨A, h2, h3⟩, ⟨C, h4, h5⟩, q, h6, h7⟩ := h
  exact ⟨by simp [u2, h1], ⟨A, h2, by simp [u2, h3]⟩, ⟨C, h4, by simp [u2, h5]⟩, q, h6, by simp [u2, h7]⟩
theorem PS_mode {m m' i : Nat} {w : List Wt} {cs : List Cd} {b : Bool} {ls : List (Bool × List Cd)} (h : PS nt H (m, i, w, cs, b, ls) I) (hm : m < 5) : PS nt H (m', i, w, cs, b, ls) I := by
  obtain ⟨a1, a2, a3, a4, a5, a6, a7, a8, a9⟩ := h
  exact ⟨a1, a2, a3, a4, a5, a6, a7, a8, fun _ => a9 hm⟩
end Tests
