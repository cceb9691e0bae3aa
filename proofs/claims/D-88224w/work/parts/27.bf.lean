/-! plain: one more plant comes by the cheapest chain -/
set_option maxRecDepth 100000
/-- labels: cost, by whom, from where -/
abbrev Lb : Type := (Nat → Option Int) × (Nat → Nat) × (Nat → Option Nat)
def ltO (n : Int) : Option Int → Bool
  | none => true
  | some y => decide (n < y)
section BF
variable (ok : Nat → Nat → Bool) (pr : Nat → Nat → Int)
/-- the new label of b if q goes on from a to b and that is cheaper -/
def rx (d : Nat → Option Int) (q a b : Nat) : Option Int := if b = a ∨ ok q b = false then none else match d a with
  | none => none
  | some x => if ltO (x + pr q b - pr q a) (d b) = true then some (x + pr q b - pr q a) else none
def st1 (S : Lb) (q a b : Nat) : Lb := match rx ok pr S.1 q a b with
  | none => S
  | some n => (va_up S.1 b (some n), va_up S.2.1 b q, va_up S.2.2 b (some a))
/-- over the first m beds -/
def psB (S : Lb) (q a : Nat) : Nat → Lb
  | 0 => S
  | m + 1 => st1 ok pr (psB S q a m) q a m
/-- over the first m plants -/
def psQ (g : Nat → Option Nat) (B : Nat) (S : Lb) : Nat → Lb
  | 0 => S
  | m + 1 => match g m with
    | none => psQ g B S m
    | some a => psB ok pr (psQ g B S m) m a B
def rds (g : Nat → Option Nat) (B N : Nat) (S : Lb) : Nat → Lb
  | 0 => S
  | r + 1 => psQ ok pr g B (rds g B N S r) N
def ini (p : Nat) : Lb := (fun b => if ok p b = true then some (pr p b) else none, fun _ => p, fun _ => none)
/-- nothing is to be had any more -/
def Stb (g : Nat → Option Nat) (B N : Nat) (S : Lb) : Prop := ∀ q a b, q < N → g q = some a → b < B → rx ok pr S.1 q a b = none
/-- a potential: what keeps chains from getting cheaper and cheaper -/
def Pot (g : Nat → Option Nat) (B N : Nat) (π : Nat → Int) : Prop := ∀ q a b, q < N → g q = some a → b < B → ok q b = true → π b ≤ π a + pr q b - pr q a
end BF
section BF2
variable {ok : Nat → Nat → Bool} {pr : Nat → Nat → Int} {g : Nat → Option Nat} {B N p : Nat} {S : Lb} {π : Nat → Int}
theorem rx_some {d : Nat → Option Int} {q a b : Nat} {n : Int} (h : rx ok pr d q a b = some n) : b ≠ a ∧ ok q b = true ∧ ∃ x, d a = some x ∧ n = x + pr q b - pr q a ∧ ∀ y, d b = some y → n < y := by
  unfold rx at h
  split at h
  · cases h
  · rename_i h1
    cases hx : d a with
    | none => rw [hx] at h; cases h
    | some x =>
      rw [hx] at h
      simp only at h
      split at h
      · rename_i h2
        have h := Option.some.inj h
        refine ⟨fun q => h1 (Or.inl q), by cases ho : ok q b; exact absurd (Or.inr ho) h1; rfl, x, rfl, h.symm, fun y hy => ?_⟩
        rw [hy] at h2
        have h2 := of_decide_eq_true h2
        omega
      · cases h
theorem rx_none {d : Nat → Option Int} {q a b : Nat} {x : Int} (h : rx ok pr d q a b = none) (hb : b ≠ a) (ho : ok q b = true) (hx : d a = some x) : ∃ y, d b = some y ∧ y ≤ x + pr q b - pr q a := by
  unfold rx at h
  rw [if_neg (fun q => by rcases q with q | q; exact hb q; rw [ho] at q; cases q), hx] at h
  simp only at h
  split at h
  · cases h
  · rename_i h2
    cases hy : d b with
    | none => rw [hy] at h2; exact absurd rfl h2
    | some y =>
      refine ⟨y, rfl, ?_⟩
      rw [hy] at h2
      have : ¬ (x + pr q b - pr q a < y) := fun z => h2 (decide_eq_true z)
      omega
/-- every single relaxing keeps P: then all passes do -/
theorem psB_ind {P : Lb → Prop} {q a : Nat} (h : ∀ S b, b < B → P S → P (st1 ok pr S q a b)) : ∀ m, m ≤ B → P S → P (psB ok pr S q a m) := by
  intro m
  induction m with
  | zero => intro _ hS; exact hS
  | succ m ih => intro hm hS; exact h _ m (by omega) (ih (by omega) hS)
theorem psQ_ind {P : Lb → Prop} (h : ∀ S q a b, q < N → g q = some a → b < B → P S → P (st1 ok pr S q a b)) : ∀ m, m ≤ N → P S → P (psQ ok pr g B S m) := by
  intro m
  induction m with
  | zero => intro _ hS; exact hS
  | succ m ih =>
    intro hm hS
    have h1 := ih (by omega) hS
    unfold psQ
    cases hg : g m with
    | none => exact h1
    | some a => exact psB_ind (fun S b hb => h S m a b (by omega) hg hb) B (Nat.le_refl _) h1
theorem rds_ind {P : Lb → Prop} (h : ∀ S q a b, q < N → g q = some a → b < B → P S → P (st1 ok pr S q a b)) (h0 : P S) : ∀ r, P (rds ok pr g B N S r) := by
  intro r
  induction r with
  | zero => exact h0
  | succ r ih => exact psQ_ind h N (Nat.le_refl _) ih
/-- labels only fall -/
def leO : Option Int → Option Int → Prop
  | _, none => True
  | none, some _ => False
  | some x, some y => x ≤ y
theorem leO_refl (x : Option Int) : leO x x := by cases x; trivial; exact Int.le_refl _
theorem leO_trans {x y z : Option Int} (h : leO x y) (h2 : leO y z) : leO x z := by
  cases z with
  | none => trivial
  | some z =>
    cases y with
    | none => cases h2
    | some y =>
      cases x with
      | none => cases h
      | some x => exact Int.le_trans h h2
theorem st1_le {q a b c : Nat} : leO ((st1 ok pr S q a b).1 c) (S.1 c) := by
  unfold st1
  cases h : rx ok pr S.1 q a b with
  | none => exact leO_refl _
  | some n =>
    by_cases e : c = b
    · subst e
      show leO (va_up S.1 c (some n) c) _
      rw [va_up_self]
      obtain ⟨-, -, x, -, -, h2⟩ := rx_some h
      cases hc : S.1 c with
      | none => trivial
      | some y => exact Int.le_of_lt (h2 y hc)
    · show leO (va_up S.1 b (some n) c) _
      rw [va_up_ne _ _ e]
      exact leO_refl _
/-- a stable state stays -/
theorem psB_stb {q a : Nat} (h : ∀ b, b < B → rx ok pr S.1 q a b = none) : ∀ m, m ≤ B → psB ok pr S q a m = S := by
  intro m
  induction m with
  | zero => intro _; rfl
  | succ m ih =>
    intro hm
    unfold psB
    rw [ih (by omega)]
    unfold st1
    rw [h m (by omega)]
theorem psQ_stb (h : Stb ok pr g B N S) : ∀ m, m ≤ N → psQ ok pr g B S m = S := by
  intro m
  induction m with
  | zero => intro _; rfl
  | succ m ih =>
    intro hm
    unfold psQ
    rw [ih (by omega)]
    cases hg : g m with
    | none => rfl
    | some a => exact psB_stb (fun b hb => h m a b (by omega) hg hb) B (Nat.le_refl _)
theorem rds_stb {r : Nat} (h : Stb ok pr g B N (rds ok pr g B N S r)) : ∀ j, r ≤ j → rds ok pr g B N S j = rds ok pr g B N S r := by
  intro j
  induction j with
  | zero =>
    intro hj
    obtain rfl : r = 0 := by omega
    rfl
  | succ j ih =>
    intro hj
    rcases Nat.lt_or_ge j r with q | q
    · obtain rfl : r = j + 1 := by omega
      rfl
    · show psQ ok pr g B (rds ok pr g B N S j) N = _
      rw [ih q]
      exact psQ_stb h N (Nat.le_refl _)
theorem rx_mono {d d' : Nat → Option Int} {q a b : Nat} (h : rx ok pr d q a b = none) (ha : d' a = d a) (hb : leO (d' b) (d b)) : rx ok pr d' q a b = none := by
  unfold rx at h ⊢
  split
  · rfl
  · rename_i h1
    rw [if_neg h1] at h
    rw [ha]
    cases hx : d a with
    | none => rfl
    | some x =>
      rw [hx] at h
      simp only at h ⊢
      split at h
      · cases h
      · rename_i h2
        rw [if_neg]
        intro h3
        apply h2
        cases hy : d b with
        | none => rfl
        | some y =>
          rw [hy] at hb
          cases hy' : d' b with
          | none => rw [hy'] at hb; cases hb
          | some y' =>
            rw [hy'] at hb h3
            have h3 : x + pr q b - pr q a < y' := of_decide_eq_true h3
            have hb : y' ≤ y := hb
            exact decide_eq_true (by omega)
theorem rx_after {q a b : Nat} : rx ok pr (st1 ok pr S q a b).1 q a b = none := by
  unfold st1
  cases h : rx ok pr S.1 q a b with
  | none => exact h
  | some n =>
    obtain ⟨h1, h2, x, h3, h4, -⟩ := rx_some h
    show rx ok pr (va_up S.1 b (some n)) q a b = none
    unfold rx
    rw [va_up_ne _ _ (fun z => h1 z.symm), h3, va_up_self]
    split
    · rfl
    · simp only
      rw [if_neg]
      intro z
      have : x + pr q b - pr q a < n := of_decide_eq_true z
      omega
/-- u and the beds of G are settled, the edges of G are relaxed, and of u those of E -/
def Inv (ok : Nat → Nat → Bool) (pr : Nat → Nat → Int) (g : Nat → Option Nat) (B N : Nat) (π : Nat → Int) (G : List Nat) (u : Nat) (z : Int) (E : Nat → Nat → Prop) (S : Lb) : Prop :=
  S.1 u = some z ∧ u < B ∧ (∀ f, f ∈ G → f < B ∧ ∃ x, S.1 f = some x ∧ x - π f ≤ z - π u) ∧ (∀ v y, v < B → v ∉ u :: G → S.1 v = some y → z - π u ≤ y - π v) ∧
  (∀ q f b, q < N → g q = some f → f ∈ G → b < B → rx ok pr S.1 q f b = none) ∧ (∀ q b, q < N → g q = some u → b < B → E q b → rx ok pr S.1 q u b = none)
theorem Inv.keep {G : List Nat} {u : Nat} {z : Int} {E : Nat → Nat → Prop} {q a b : Nat} (hP : Pot ok pr g B N π) (hgB : ∀ q a, q < N → g q = some a → a < B) (h : Inv ok pr g B N π G u z E S) (hq : q < N) (hg : g q = some a) (hb : b < B) : Inv ok pr g B N π G u z (fun q' b' => E q' b' ∨ (q' = q ∧ b' = b)) (st1 ok pr S q a b) := by
  have haf : rx ok pr (st1 ok pr S q a b).1 q a b = none := rx_after
  obtain ⟨h1, h2, h3, h4, h5, h6⟩ := h
  cases hr : rx ok pr S.1 q a b with
  | none =>
    have e : st1 ok pr S q a b = S := by unfold st1; rw [hr]
    rw [e]
    refine ⟨h1, h2, h3, h4, h5, fun q' b' k1 k2 k3 k4 => ?_⟩
    rcases k4 with k4 | ⟨rfl, rfl⟩
    · exact h6 q' b' k1 k2 k3 k4
    · rw [hg] at k2
      cases k2
      exact hr
  | some n =>
    have e : (st1 ok pr S q a b).1 = va_up S.1 b (some n) := by unfold st1; rw [hr]
    obtain ⟨n1, n2, x, n3, n4, n5⟩ := rx_some hr
    have ha := hgB q a hq hg
    have hPot := hP q a b hq hg hb n2
    have haG : a ∉ G := fun z => by rw [h5 q a b hq hg z hb] at hr; cases hr
    have hra : z - π u ≤ x - π a := by
      by_cases ea : a = u
      · subst ea
        rw [h1] at n3
        have := Option.some.inj n3
        omega
      · exact h4 a x ha (fun w => by rcases List.mem_cons.mp w with w | w; exact ea w; exact haG w) n3
    have hbF : b ∉ u :: G := by
      intro w
      rcases List.mem_cons.mp w with w | w
      · subst w
        have := n5 z h1
        omega
      · obtain ⟨-, y, y1, y2⟩ := h3 b w
        have := n5 y y1
        omega
    have hbu : ¬ u = b := fun w => hbF (by rw [w]; exact List.mem_cons_self)
    have hbG : ∀ f, f ∈ G → ¬ f = b := fun f hf w => hbF (by rw [← w]; exact List.mem_cons_of_mem _ hf)
    have hle : ∀ c, leO ((st1 ok pr S q a b).1 c) (S.1 c) := fun c => st1_le
    rw [e] at hle haf
    unfold Inv
    rw [e]
    refine ⟨by rw [va_up_ne _ _ hbu]; exact h1, h2, fun f hf => ?_, fun v y k1 k2 k3 => ?_, fun q' f b' k1 k2 k3 k4 => ?_, fun q' b' k1 k2 k3 k4 => ?_⟩
    · rw [va_up_ne _ _ (hbG f hf)]; exact h3 f hf
    · by_cases ev : v = b
      · subst ev
        rw [va_up_self] at k3
        have := Option.some.inj k3
        omega
      · rw [va_up_ne _ _ ev] at k3; exact h4 v y k1 k2 k3
    · exact rx_mono (h5 q' f b' k1 k2 k3 k4) (va_up_ne _ _ (hbG f k3)) (hle b')
    · rcases k4 with k4 | ⟨rfl, rfl⟩
      · exact rx_mono (h6 q' b' k1 k2 k3 k4) (va_up_ne _ _ hbu) (hle b')
      · rw [hg] at k2
        cases k2
        exact haf
theorem Inv.mono {G : List Nat} {u : Nat} {z : Int} {E E' : Nat → Nat → Prop} (h : Inv ok pr g B N π G u z E S) (hE : ∀ q b, q < N → g q = some u → b < B → E' q b → E q b) : Inv ok pr g B N π G u z E' S := by
  obtain ⟨h1, h2, h3, h4, h5, h6⟩ := h
  exact ⟨h1, h2, h3, h4, h5, fun q b k1 k2 k3 k4 => h6 q b k1 k2 k3 (hE q b k1 k2 k3 k4)⟩
theorem Inv.pass {G : List Nat} {u : Nat} {z : Int} (hP : Pot ok pr g B N π) (hgB : ∀ q a, q < N → g q = some a → a < B) (h : Inv ok pr g B N π G u z (fun _ _ => False) S) : Inv ok pr g B N π G u z (fun _ _ => True) (psQ ok pr g B S N) := by
  have hQ : ∀ m, m ≤ N → Inv ok pr g B N π G u z (fun q _ => q < m) (psQ ok pr g B S m) := by
    intro m
    induction m with
    | zero => intro _; exact h.mono (fun q b _ _ _ k => absurd k (by omega))
    | succ m ih =>
      intro hm
      have h1 := ih (by omega)
      unfold psQ
      cases hg : g m with
      | none =>
        refine h1.mono (fun q b _ k2 _ k => ?_)
        have : q ≠ m := fun w => by rw [w, hg] at k2; cases k2
        omega
      | some a =>
        have hB : ∀ m', m' ≤ B → Inv ok pr g B N π G u z (fun q b => q < m ∨ (q = m ∧ b < m')) (psB ok pr (psQ ok pr g B S m) m a m') := by
          intro m'
          induction m' with
          | zero => intro _; exact h1.mono (fun q b _ _ _ k => by omega)
          | succ m' ih' =>
            intro hm'
            exact ((ih' (by omega)).keep hP hgB (by omega) hg (by omega)).mono (fun q b _ _ _ k => by omega)
        exact (hB B (Nat.le_refl _)).mono (fun q b _ _ k3 k => by omega)
  exact (hQ N (Nat.le_refl _)).mono (fun q b k1 _ _ _ => k1)
theorem minE (f : Nat → Option Int) : ∀ B, (∀ v, v < B → f v = none) ∨ ∃ u z, u < B ∧ f u = some z ∧ ∀ v y, v < B → f v = some y → z ≤ y := by
  intro B
  induction B with
  | zero => exact Or.inl (fun v hv => absurd hv (by omega))
  | succ B ih =>
    cases hB : f B with
    | none =>
      rcases ih with ih | ⟨u, z, h1, h2, h3⟩
      · refine Or.inl (fun v hv => ?_)
        by_cases e : v = B
        · rw [e]; exact hB
        · exact ih v (by omega)
      · refine Or.inr ⟨u, z, by omega, h2, fun v y hv hy => ?_⟩
        by_cases e : v = B
        · rw [e, hB] at hy; cases hy
        · exact h3 v y (by omega) hy
    | some w =>
      rcases ih with ih | ⟨u, z, h1, h2, h3⟩
      · refine Or.inr ⟨B, w, by omega, hB, fun v y hv hy => ?_⟩
        by_cases e : v = B
        · rw [e, hB] at hy; have := Option.some.inj hy; omega
        · rw [ih v (by omega)] at hy; cases hy
      · by_cases c : z ≤ w
        · refine Or.inr ⟨u, z, by omega, h2, fun v y hv hy => ?_⟩
          by_cases e : v = B
          · rw [e, hB] at hy; have := Option.some.inj hy; omega
          · exact h3 v y (by omega) hy
        · refine Or.inr ⟨B, w, by omega, hB, fun v y hv hy => ?_⟩
          by_cases e : v = B
          · rw [e, hB] at hy; have := Option.some.inj hy; omega
          · have := h3 v y (by omega) hy; omega
theorem nd_le : ∀ (B : Nat) (F : List Nat), F.Nodup → (∀ f, f ∈ F → f < B) → F.length ≤ B := by
  intro B
  induction B with
  | zero =>
    intro F _ h
    cases F with
    | nil => exact Nat.le_refl _
    | cons x r => exact absurd (h x List.mem_cons_self) (by omega)
  | succ B ih =>
    intro F hn h
    by_cases hB : B ∈ F
    · have h1 := ih (F.erase B) (hn.erase B) (fun f hf => by
        have := (List.Nodup.mem_erase_iff hn).mp hf
        have := h f this.2
        omega)
      rw [List.length_erase_of_mem hB] at h1
      omega
    · have := ih F hn (fun f hf => by
        have h1 := h f hf
        have : f ≠ B := fun w => hB (by rw [← w]; exact hf)
        omega)
      omega
/-- after B rounds nothing is to be had any more -/
theorem rds_B (hP : Pot ok pr g B N π) (hgB : ∀ q a, q < N → g q = some a → a < B) (S : Lb) : Stb ok pr g B N (rds ok pr g B N S B) := by
  have main : ∀ k, k ≤ B → Stb ok pr g B N (rds ok pr g B N S k) ∨ ∃ F : List Nat, F.Nodup ∧ F.length = k ∧ (∀ f, f ∈ F → f < B ∧ ∃ x, (rds ok pr g B N S k).1 f = some x ∧ ∀ v y, v < B → v ∉ F → (rds ok pr g B N S k).1 v = some y → x - π f ≤ y - π v) ∧ (∀ q f b, q < N → g q = some f → f ∈ F → b < B → rx ok pr (rds ok pr g B N S k).1 q f b = none) := by
    intro k
    induction k with
    | zero => intro _; exact Or.inr ⟨[], List.nodup_nil, rfl, fun f hf => by simp at hf, fun q f b _ _ hf => by simp at hf⟩
    | succ k ih =>
      intro hk
      rcases ih (by omega) with h | ⟨F, h1, h2, h3, h4⟩
      · refine Or.inl ?_
        have e : rds ok pr g B N S (k + 1) = rds ok pr g B N S k := rds_stb h (k + 1) (by omega)
        rw [e]; exact h
      · rcases minE (fun v => if v ∈ F then none else ((rds ok pr g B N S k).1 v).map (fun x => x - π v)) B with hm | ⟨u, z, m1, m2, m3⟩
        · have hst : Stb ok pr g B N (rds ok pr g B N S k) := by
            intro q a b hq hg hb
            by_cases ha : a ∈ F
            · exact h4 q a b hq hg ha hb
            · have := hm a (hgB q a hq hg)
              simp only [if_neg ha, Option.map_eq_none_iff] at this
              unfold rx
              rw [this]
              split <;> rfl
          refine Or.inl ?_
          have e : rds ok pr g B N S (k + 1) = rds ok pr g B N S k := rds_stb hst (k + 1) (by omega)
          rw [e]; exact hst
        · have huF : u ∉ F := fun w => by simp only [if_pos w] at m2; cases m2
          simp only [if_neg huF, Option.map_eq_some_iff] at m2
          obtain ⟨zu, e1, e2⟩ := m2
          have hI : Inv ok pr g B N π F u zu (fun _ _ => False) (rds ok pr g B N S k) := by
            refine ⟨e1, m1, fun f hf => ⟨(h3 f hf).1, ?_⟩, fun v y k1 k2 k3 => ?_, h4, fun _ _ _ _ _ w => False.elim w⟩
            · obtain ⟨-, x, x1, x2⟩ := h3 f hf
              exact ⟨x, x1, x2 u zu m1 huF e1⟩
            · have hvF : v ∉ F := fun w => k2 (List.mem_cons_of_mem _ w)
              have := m3 v (y - π v) k1 (by simp only [if_neg hvF]; rw [k3]; rfl)
              omega
          obtain ⟨i1, i2, i3, i4, i5, i6⟩ := hI.pass hP hgB
          refine Or.inr ⟨u :: F, List.nodup_cons.mpr ⟨huF, h1⟩, by simp [h2], fun f hf => ?_, fun q f b k1 k2 k3 k4 => ?_⟩
          · rcases List.mem_cons.mp hf with w | w
            · subst w
              exact ⟨i2, zu, i1, fun v y k1 k2 k3 => i4 v y k1 k2 k3⟩
            · obtain ⟨j1, x, j2, j3⟩ := i3 f w
              exact ⟨j1, x, j2, fun v y k1 k2 k3 => by have := i4 v y k1 k2 k3; omega⟩
          · rcases List.mem_cons.mp k3 with w | w
            · subst w
              exact i6 q b k1 k2 k4 trivial
            · exact i5 q f b k1 k2 w k4
  rcases main B (Nat.le_refl _) with h | ⟨F, h1, h2, h3, h4⟩
  · exact h
  · intro q a b hq hg hb
    have ha : a ∈ F := by
      refine Decidable.byContradiction fun w => ?_
      have := nd_le B (a :: F) (List.nodup_cons.mpr ⟨w, h1⟩) (fun f hf => by
        rcases List.mem_cons.mp hf with z | z
        · rw [z]; exact hgB q a hq hg
        · exact (h3 f z).1)
      simp [h2] at this
      omega
    exact h4 q a b hq hg ha hb
end BF2
