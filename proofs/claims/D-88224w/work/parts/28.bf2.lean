/-! plain: chains of plants, what they cost; the next potential -/
set_option maxRecDepth 100000
/-- the chain of beds from c on -/
def ch (fr : Nat → Option Nat) : Nat → Nat → Option Nat
  | 0, c => some c
  | n + 1, c => match fr c with
    | none => none
    | some a => ch fr n a
def onC (fr : Nat → Option Nat) (b c : Nat) : Prop := ∃ n, ch fr n b = some c
theorem onC_self (fr : Nat → Option Nat) (b : Nat) : onC fr b b := ⟨0, rfl⟩
theorem onC_next {fr : Nat → Option Nat} {b a c : Nat} (h : fr b = some a) (hc : onC fr a c) : onC fr b c := by
  obtain ⟨n, hn⟩ := hc
  exact ⟨n + 1, by unfold ch; rw [h]; exact hn⟩
theorem onC_cases {fr : Nat → Option Nat} {b c : Nat} (h : onC fr b c) : c = b ∨ ∃ a, fr b = some a ∧ onC fr a c := by
  obtain ⟨n, hn⟩ := h
  cases n with
  | zero => exact Or.inl (Option.some.inj hn).symm
  | succ n =>
    unfold ch at hn
    cases hf : fr b with
    | none => rw [hf] at hn; cases hn
    | some a => rw [hf] at hn; exact Or.inr ⟨a, rfl, n, hn⟩
section BF3
variable (ok : Nat → Nat → Bool) (pr : Nat → Nat → Int)
/-- where a label comes from -/
def Prd (g : Nat → Option Nat) (B N p : Nat) (S : Lb) : Prop := ∀ b x, b < B → S.1 b = some x → (S.2.2 b = none ∧ S.2.1 b = p ∧ ok p b = true ∧ x = pr p b) ∨ (∃ a y, a < B ∧ S.2.2 b = some a ∧ S.2.1 b < N ∧ g (S.2.1 b) = some a ∧ ok (S.2.1 b) b = true ∧ a ≠ b ∧ S.1 a = some y ∧ y + pr (S.2.1 b) b - pr (S.2.1 b) a ≤ x)
def Nlb (B : Nat) (S : Lb) : Prop := ∀ b, b < B → S.1 b = none → S.2.2 b = none
def Rk (B : Nat) (S : Lb) (ρ : Nat → Nat) : Prop := ∀ b a, b < B → S.2.2 b = some a → ρ a < ρ b
def cn (d : Nat → Option Int) : Nat → Nat
  | 0 => 0
  | m + 1 => cn d m + (if (d m).isSome then 1 else 0)
/-- labels are small -/
def Sml (B k : Nat) (S : Lb) : Prop := ∀ b x, b < B → S.1 b = some x → x ≤ 1 + (cn S.1 B : Int) ∧ -(k : Int) ≤ x
def aug (S : Lb) : Nat → (Nat → Option Nat) → Nat → (Nat → Option Nat)
  | 0, g, _ => g
  | n + 1, g, b => match S.2.2 b with
    | none => va_up g (S.2.1 b) (some b)
    | some a => aug S n (va_up g (S.2.1 b) (some b)) a
def prO (k : Nat) : Option Nat → Int
  | none => 0
  | some b => pr k b
def tc (g : Nat → Option Nat) : Nat → Int
  | 0 => 0
  | m + 1 => tc g m + prO pr m (g m)
end BF3
section BF4
variable {ok : Nat → Nat → Bool} {pr : Nat → Nat → Int} {g : Nat → Option Nat} {B N p : Nat} {S : Lb} {π : Nat → Int}
theorem st1_n {q a b : Nat} (h : rx ok pr S.1 q a b = none) : st1 ok pr S q a b = S := by unfold st1; rw [h]
theorem st1_s {q a b : Nat} {n : Int} (h : rx ok pr S.1 q a b = some n) : st1 ok pr S q a b = (va_up S.1 b (some n), va_up S.2.1 b q, va_up S.2.2 b (some a)) := by unfold st1; rw [h]
theorem Prd_st1 {q a b : Nat} (h : Prd ok pr g B N p S) (hgB : ∀ q a, q < N → g q = some a → a < B) (hq : q < N) (hg : g q = some a) (hb : b < B) : Prd ok pr g B N p (st1 ok pr S q a b) := by
  cases hr : rx ok pr S.1 q a b with
  | none => rw [st1_n hr]; exact h
  | some n =>
    obtain ⟨n1, n2, x, n3, n4, n5⟩ := rx_some hr
    rw [st1_s hr]
    intro c z hc hz
    by_cases e : c = b
    · subst e
      have hz : va_up S.1 c (some n) c = some z := hz
      rw [va_up_self] at hz
      have hz := Option.some.inj hz
      refine Or.inr ⟨a, x, hgB q a hq hg, ?_, ?_, ?_, ?_, fun w => n1 w.symm, ?_, ?_⟩
      · exact va_up_self _ _ _
      · show va_up S.2.1 c q c < N; rw [va_up_self]; exact hq
      · show g (va_up S.2.1 c q c) = some a; rw [va_up_self]; exact hg
      · show ok (va_up S.2.1 c q c) c = true; rw [va_up_self]; exact n2
      · show va_up S.1 c (some n) a = some x; rw [va_up_ne _ _ (fun w => n1 w.symm)]; exact n3
      · show x + pr (va_up S.2.1 c q c) c - pr (va_up S.2.1 c q c) a ≤ z; rw [va_up_self]; omega
    · have hz : va_up S.1 b (some n) c = some z := hz
      rw [va_up_ne _ _ e] at hz
      have e1 : va_up S.2.1 b q c = S.2.1 c := va_up_ne _ _ e
      have e2 : va_up S.2.2 b (some a) c = S.2.2 c := va_up_ne _ _ e
      show (va_up S.2.2 b (some a) c = none ∧ va_up S.2.1 b q c = p ∧ _) ∨ (∃ a' y, a' < B ∧ va_up S.2.2 b (some a) c = some a' ∧ va_up S.2.1 b q c < N ∧ g (va_up S.2.1 b q c) = some a' ∧ ok (va_up S.2.1 b q c) c = true ∧ a' ≠ c ∧ va_up S.1 b (some n) a' = some y ∧ y + pr (va_up S.2.1 b q c) c - pr (va_up S.2.1 b q c) a' ≤ z)
      rw [e1, e2]
      rcases h c z hc hz with h | ⟨a', y, k0, k1, k2, k3, k4, k5, k6, k7⟩
      · exact Or.inl h
      · by_cases ea : a' = b
        · subst ea
          have := n5 y k6
          exact Or.inr ⟨a', n, k0, k1, k2, k3, k4, k5, va_up_self _ _ _, by omega⟩
        · exact Or.inr ⟨a', y, k0, k1, k2, k3, k4, k5, by rw [va_up_ne _ _ ea]; exact k6, k7⟩
theorem Nlb_st1 {q a b : Nat} (h : Nlb B S) : Nlb B (st1 ok pr S q a b) := by
  cases hr : rx ok pr S.1 q a b with
  | none => rw [st1_n hr]; exact h
  | some n =>
    rw [st1_s hr]
    intro c hc hz
    have hz : va_up S.1 b (some n) c = none := hz
    by_cases e : c = b
    · subst e
      rw [va_up_self] at hz; cases hz
    · rw [va_up_ne _ _ e] at hz
      show va_up S.2.2 b (some a) c = none
      rw [va_up_ne _ _ e]
      exact h c hc hz
/-- along a chain labels, less the potential, do not grow -/
theorem ch_r (hP : Pot ok pr g B N π) (h : Prd ok pr g B N p S) : ∀ n a b x, a < B → S.1 a = some x → ch S.2.2 n a = some b → b < B ∧ ∃ y, S.1 b = some y ∧ y - π b ≤ x - π a := by
  intro n
  induction n with
  | zero =>
    intro a b x ha hx hc
    have := Option.some.inj hc
    subst this
    exact ⟨ha, x, hx, Int.le_refl _⟩
  | succ n ih =>
    intro a b x ha hx hc
    unfold ch at hc
    rcases h a x ha hx with ⟨k1, -⟩ | ⟨a', y, k0, k1, k2, k3, k4, k5, k6, k7⟩
    · rw [k1] at hc; cases hc
    · rw [k1] at hc
      obtain ⟨j1, z, j2, j3⟩ := ih a' b y k0 k6 hc
      have := hP _ a' a k2 k3 ha k4
      exact ⟨j1, z, j2, by omega⟩
theorem Rk_st1 {q a b : Nat} (hP : Pot ok pr g B N π) (h : Prd ok pr g B N p S) (hgB : ∀ q a, q < N → g q = some a → a < B) (hk : ∃ ρ, Rk B S ρ) (hq : q < N) (hg : g q = some a) (hb : b < B) : ∃ ρ, Rk B (st1 ok pr S q a b) ρ := by
  cases hr : rx ok pr S.1 q a b with
  | none => rw [st1_n hr]; exact hk
  | some n =>
    obtain ⟨ρ, hρ⟩ := hk
    obtain ⟨n1, n2, x, n3, n4, n5⟩ := rx_some hr
    have hno : ¬ onC S.2.2 a b := by
      rintro ⟨m, hm⟩
      obtain ⟨-, y, y1, y2⟩ := ch_r hP h m a b x (hgB q a hq hg) n3 hm
      have h1 := n5 y y1
      have h2 := hP q a b hq hg hb n2
      omega
    have hex : ∀ c, ∃ v, (onC S.2.2 c b → v = ρ c + (ρ a + 1)) ∧ (¬ onC S.2.2 c b → v = ρ c) := by
      intro c
      rcases Classical.em (onC S.2.2 c b) with w | w
      · exact ⟨ρ c + (ρ a + 1), fun _ => rfl, fun z => absurd w z⟩
      · exact ⟨ρ c, fun z => absurd z w, fun _ => rfl⟩
    refine ⟨fun c => Classical.choose (hex c), fun c e hc he => ?_⟩
    have s1 := Classical.choose_spec (hex c)
    have s2 := Classical.choose_spec (hex e)
    rw [st1_s hr] at he
    have he : va_up S.2.2 b (some a) c = some e := he
    show Classical.choose (hex e) < Classical.choose (hex c)
    by_cases ec : c = b
    · subst ec
      rw [va_up_self] at he
      have he := Option.some.inj he
      subst he
      rw [s1.1 (onC_self _ _), s2.2 hno]
      omega
    · rw [va_up_ne _ _ ec] at he
      have hlt := hρ c e hc he
      rcases Classical.em (onC S.2.2 c b) with w | w
      · have w2 : onC S.2.2 e b := by
          rcases onC_cases w with z | ⟨e', z1, z2⟩
          · exact absurd z.symm ec
          · rw [he] at z1
            cases z1
            exact z2
        rw [s1.1 w, s2.1 w2]
        omega
      · have w2 : ¬ onC S.2.2 e b := fun z => w (onC_next he z)
        rw [s1.2 w, s2.2 w2]
        exact hlt
theorem cn_le (d : Nat → Option Int) : ∀ m, cn d m ≤ m := by
  intro m
  induction m with
  | zero => exact Nat.le_refl _
  | succ m ih => unfold cn; split <;> omega
theorem cn_up {d : Nat → Option Int} {b : Nat} {n : Int} : ∀ m, cn (va_up d b (some n)) m = cn d m + (if b < m ∧ d b = none then 1 else 0) := by
  intro m
  induction m with
  | zero => simp [cn]
  | succ m ih =>
    unfold cn
    rw [ih]
    by_cases e : m = b
    · subst e
      rw [va_up_self]
      cases hd : d m with
      | none => simp
      | some x => simp
    · rw [va_up_ne _ _ e]
      have e2 : (b < m + 1 ∧ d b = none) ↔ (b < m ∧ d b = none) := ⟨fun z => ⟨by omega, z.2⟩, fun z => ⟨by omega, z.2⟩⟩
      simp only [e2]
      omega
theorem Sml_st1 {q a b k : Nat} (hpr : ∀ q b, 0 ≤ pr q b ∧ pr q b ≤ 1) (h : Sml B k S) (hgB : ∀ q a, q < N → g q = some a → a < B) (hq : q < N) (hg : g q = some a) (hb : b < B) : Sml B (k + 1) (st1 ok pr S q a b) := by
  cases hr : rx ok pr S.1 q a b with
  | none =>
    rw [st1_n hr]
    intro c x hc hx
    have := h c x hc hx
    exact ⟨this.1, by omega⟩
  | some n =>
    obtain ⟨n1, n2, x, n3, n4, n5⟩ := rx_some hr
    have hx := h a x (hgB q a hq hg) n3
    have p1 := hpr q a
    have p2 := hpr q b
    rw [st1_s hr]
    intro c z hc hz
    have hz : va_up S.1 b (some n) c = some z := hz
    show z ≤ 1 + (cn (va_up S.1 b (some n)) B : Int) ∧ _
    rw [cn_up]
    by_cases e : c = b
    · subst e
      rw [va_up_self] at hz
      have hz := Option.some.inj hz
      refine ⟨?_, by omega⟩
      cases hd : S.1 c with
      | none => rw [if_pos ⟨hc, rfl⟩]; omega
      | some y =>
        have := n5 y hd
        have := h c y hc hd
        rw [if_neg (fun w => by cases w.2)]
        omega
    · rw [va_up_ne _ _ e] at hz
      have := h c z hc hz
      refine ⟨?_, by omega⟩
      split <;> omega
theorem prO_up {k b : Nat} : ∀ m, tc pr (va_up g k (some b)) m = tc pr g m + (if k < m then pr k b - prO pr k (g k) else 0) := by
  intro m
  induction m with
  | zero => simp [tc]
  | succ m ih =>
    unfold tc
    rw [ih]
    by_cases e : m = k
    · subst e
      rw [va_up_self, if_neg (by omega), if_pos (by omega)]
      show _ + pr m b = _
      omega
    · rw [va_up_ne _ _ e]
      by_cases c : k < m
      · rw [if_pos c, if_pos (by omega)]; omega
      · rw [if_neg c, if_neg (by omega)]; omega
/-- along the chain labels are as chains cost -/
theorem tight (hS : Stb ok pr g B N S) (h : Prd ok pr g B N p S) {b : Nat} {x : Int} (hb : b < B) (hx : S.1 b = some x) : (S.2.2 b = none ∧ S.2.1 b = p ∧ ok p b = true ∧ x = pr p b) ∨ (∃ a y, a < B ∧ S.2.2 b = some a ∧ S.2.1 b < N ∧ g (S.2.1 b) = some a ∧ ok (S.2.1 b) b = true ∧ a ≠ b ∧ S.1 a = some y ∧ x = y + pr (S.2.1 b) b - pr (S.2.1 b) a) := by
  rcases h b x hb hx with h | ⟨a, y, k0, k1, k2, k3, k4, k5, k6, k7⟩
  · exact Or.inl h
  · obtain ⟨z, z1, z2⟩ := rx_none (hS _ a b k2 k3 hb) (fun w => k5 w.symm) k4 k6
    rw [hx] at z1
    have := Option.some.inj z1
    exact Or.inr ⟨a, y, k0, k1, k2, k3, k4, k5, k6, by omega⟩
theorem onC_fin (h : Prd ok pr g B N p S) : ∀ n b c x, b < B → S.1 b = some x → ch S.2.2 n b = some c → c < B ∧ ∃ y, S.1 c = some y := by
  intro n
  induction n with
  | zero =>
    intro b c x hb hx hc
    have := Option.some.inj hc
    subst this
    exact ⟨hb, x, hx⟩
  | succ n ih =>
    intro b c x hb hx hc
    unfold ch at hc
    rcases h b x hb hx with ⟨k1, -⟩ | ⟨a', y, k0, k1, k2, k3, k4, k5, k6, k7⟩
    · rw [k1] at hc; cases hc
    · rw [k1] at hc
      exact ih a' c y k0 k6 hc
theorem onC_rk (h : Prd ok pr g B N p S) {ρ : Nat → Nat} (hρ : Rk B S ρ) : ∀ n b c x, b < B → S.1 b = some x → ch S.2.2 n b = some c → ρ c ≤ ρ b := by
  intro n
  induction n with
  | zero =>
    intro b c x hb hx hc
    have := Option.some.inj hc
    subst this
    exact Nat.le_refl _
  | succ n ih =>
    intro b c x hb hx hc
    unfold ch at hc
    rcases h b x hb hx with ⟨k1, -⟩ | ⟨a', y, k0, k1, k2, k3, k4, k5, k6, k7⟩
    · rw [k1] at hc; cases hc
    · rw [k1] at hc
      have := ih a' c y k0 k6 hc
      have := hρ b a' hb k1
      omega
theorem aug_tc (hS : Stb ok pr g B N S) (h : Prd ok pr g B N p S) {ρ : Nat → Nat} (hρ : Rk B S ρ) (hp : p < N) (hgp : g p = none) : ∀ n g1 b x, ρ b < n → b < B → S.1 b = some x → (∀ c, onC S.2.2 b c → g1 (S.2.1 c) = g (S.2.1 c)) → tc pr (aug S n g1 b) N = tc pr g1 N + x := by
  intro n
  induction n with
  | zero => intro g1 b x hn; omega
  | succ n ih =>
    intro g1 b x hn hb hx hg1
    have hgb := hg1 b (onC_self _ _)
    unfold aug
    rcases tight hS h hb hx with ⟨k1, k2, k3, k4⟩ | ⟨a, y, k0, k1, k2, k3, k4, k5, k6, k7⟩
    · rw [k1]
      simp only
      rw [prO_up, k2, if_pos hp]
      rw [k2] at hgb
      rw [hgb, hgp, k4]
      simp [prO]
    · rw [k1]
      simp only
      rw [ih _ a y (by have := hρ b a hb k1; omega) k0 k6 (fun c hc => ?_), prO_up, if_pos k2, hgb, k3, k7]
      · simp only [prO]
        omega
      · have hcb : S.2.1 c ≠ S.2.1 b := by
          intro w
          obtain ⟨m, hm⟩ := hc
          obtain ⟨hcB, z, hz⟩ := onC_fin h m a c y k0 k6 hm
          have hr := onC_rk h hρ m a c y k0 k6 hm
          rcases h c z hcB hz with ⟨j1, j2, -⟩ | ⟨a', y', j0, j1, j2, j3, j4, j5, j6, j7⟩
          · rw [← w, j2, hgp] at k3; cases k3
          · rw [w, k3] at j3
            cases j3
            have := hρ c a hcB j1
            omega
        rw [va_up_ne _ _ hcb]
        exact hg1 c (onC_next k1 hc)
theorem aug_pt : ∀ n g1 b k, aug S n g1 b k = g1 k ∨ ∃ c, onC S.2.2 b c ∧ S.2.1 c = k ∧ aug S n g1 b k = some c := by
  intro n
  induction n with
  | zero => intro g1 b k; exact Or.inl rfl
  | succ n ih =>
    intro g1 b k
    unfold aug
    cases hf : S.2.2 b with
    | none =>
      by_cases e : k = S.2.1 b
      · exact Or.inr ⟨b, onC_self _ _, e.symm, by simp only; rw [e, va_up_self]⟩
      · exact Or.inl (by simp only; rw [va_up_ne _ _ e])
    | some a =>
      simp only
      rcases ih (va_up g1 (S.2.1 b) (some b)) a k with h | ⟨c, c1, c2, c3⟩
      · by_cases e : k = S.2.1 b
        · exact Or.inr ⟨b, onC_self _ _, e.symm, by rw [h, e, va_up_self]⟩
        · exact Or.inl (by rw [h, va_up_ne _ _ e])
      · exact Or.inr ⟨c, onC_next hf c1, c2, c3⟩
def absSum (f : Nat → Int) : Nat → Int
  | 0 => 0
  | m + 1 => absSum f m + (if 0 ≤ f m then f m else - f m)
theorem absSum_ge (f : Nat → Int) : ∀ m, 0 ≤ absSum f m ∧ ∀ j, j < m → f j ≤ absSum f m ∧ - f j ≤ absSum f m := by
  intro m
  induction m with
  | zero => exact ⟨Int.le_refl _, fun j hj => absurd hj (by omega)⟩
  | succ m ih =>
    unfold absSum
    obtain ⟨i1, i2⟩ := ih
    refine ⟨by split <;> omega, fun j hj => ?_⟩
    by_cases e : j = m
    · subst e
      split <;> omega
    · have := i2 j (by omega)
      split <;> omega
def pnx (S : Lb) (π : Nat → Int) (K : Int) (v : Nat) : Int := match S.1 v with
  | some y => y
  | none => π v + K
theorem pnx_s {K : Int} {v : Nat} {y : Int} (h : S.1 v = some y) : pnx S π K v = y := by unfold pnx; rw [h]
theorem pnx_n {K : Int} {v : Nat} (h : S.1 v = none) : pnx S π K v = π v + K := by unfold pnx; rw [h]
/-- the next potential -/
theorem Pot.next (hpr : ∀ q b, 0 ≤ pr q b ∧ pr q b ≤ 1) (hP : Pot ok pr g B N π) (hgB : ∀ q a, q < N → g q = some a → a < B) (hS : Stb ok pr g B N S) (h : Prd ok pr g B N p S) (hI : ∀ b, b < B → ok p b = true → leO (S.1 b) (some (pr p b))) {b : Nat} {x : Int} (hb : b < B) (hx : S.1 b = some x) (n : Nat) : ∃ π', Pot ok pr (aug S n g b) B N π' := by
  obtain ⟨k1, k2⟩ := absSum_ge (fun v => (S.1 v).getD 0) B
  obtain ⟨k3, k4⟩ := absSum_ge π B
  refine ⟨pnx S π (absSum (fun v => (S.1 v).getD 0) B + absSum π B + 2), ?_⟩
  intro k c v hk hg hv hok
  have hpk := hpr k c
  have hpv := hpr k v
  rcases aug_pt (S := S) n g b k with e | ⟨c', c1, c2, c3⟩
  · rw [e] at hg
    have hc := hgB k c hk hg
    cases hdc : S.1 c with
    | some y =>
      rw [pnx_s hdc]
      by_cases ev : v = c
      · subst ev
        rw [pnx_s hdc]
        omega
      · obtain ⟨z, z1, z2⟩ := rx_none (hS k c v hk hg hv) ev hok hdc
        rw [pnx_s z1]
        exact z2
    | none =>
      rw [pnx_n hdc]
      cases hdv : S.1 v with
      | none =>
        rw [pnx_n hdv]
        have := hP k c v hk hg hv hok
        omega
      | some y =>
        rw [pnx_s hdv]
        have a1 := (k2 v hv).1
        have a2 := (k4 c hc).2
        simp only [hdv, Option.getD_some] at a1
        omega
  · rw [c3] at hg
    have hg := Option.some.inj hg
    subst hg
    obtain ⟨m, hm⟩ := c1
    obtain ⟨hcB, y, hy⟩ := onC_fin h m b c' x hb hx hm
    rw [pnx_s hy]
    rcases tight hS h hcB hy with ⟨j1, j2, j3, j4⟩ | ⟨a, z, j0, j1, j2, j3, j4, j5, j6, j7⟩
    · rw [c2] at j2
      subst j2
      have := hI v hv hok
      cases hdv : S.1 v with
      | none => rw [hdv] at this; cases this
      | some w =>
        rw [hdv] at this
        rw [pnx_s hdv]
        have this : w ≤ pr k v := this
        omega
    · rw [c2] at j2 j3 j4 j7
      by_cases ev : v = a
      · subst ev
        rw [pnx_s j6]
        omega
      · obtain ⟨w, w1, w2⟩ := rx_none (hS k a v j2 j3 hv) ev hok j6
        rw [pnx_s w1]
        omega
/-- what holds of the labels all along -/
def Lbl (ok : Nat → Nat → Bool) (pr : Nat → Nat → Int) (g : Nat → Option Nat) (B N p k : Nat) (S : Lb) : Prop := Prd ok pr g B N p S ∧ Nlb B S ∧ (∃ ρ, Rk B S ρ) ∧ Sml B k S ∧ ∀ b, b < B → ok p b = true → leO (S.1 b) (some (pr p b))
theorem Lbl_st1 {q a b k : Nat} (hpr : ∀ q b, 0 ≤ pr q b ∧ pr q b ≤ 1) (hP : Pot ok pr g B N π) (hgB : ∀ q a, q < N → g q = some a → a < B) (h : Lbl ok pr g B N p k S) (hq : q < N) (hg : g q = some a) (hb : b < B) : Lbl ok pr g B N p (k + 1) (st1 ok pr S q a b) :=
  ⟨Prd_st1 h.1 hgB hq hg hb, Nlb_st1 h.2.1, Rk_st1 hP h.1 hgB h.2.2.1 hq hg hb, Sml_st1 hpr h.2.2.2.1 hgB hq hg hb, fun c hc ho => leO_trans st1_le (h.2.2.2.2 c hc ho)⟩
theorem Lbl_ini (hpr : ∀ q b, 0 ≤ pr q b ∧ pr q b ≤ 1) : Lbl ok pr g B N p 0 (ini ok pr p) := by
  have hd : ∀ b x, (ini ok pr p).1 b = some x → ok p b = true ∧ x = pr p b := by
    intro b x hx
    have hx : (if ok p b = true then some (pr p b) else none) = some x := hx
    split at hx
    · rename_i h
      exact ⟨h, (Option.some.inj hx).symm⟩
    · cases hx
  refine ⟨fun b x hb hx => ?_, fun _ _ _ => rfl, ⟨fun _ => 0, fun b a _ h => by cases h⟩, fun b x hb hx => ?_, fun b hb ho => ?_⟩
  · obtain ⟨h1, h2⟩ := hd b x hx
    exact Or.inl ⟨rfl, rfl, h1, h2⟩
  · obtain ⟨h1, h2⟩ := hd b x hx
    have := hpr p b
    omega
  · show leO (if ok p b = true then some (pr p b) else none) _
    rw [if_pos ho]
    exact leO_refl _
theorem Lbl_psB {q a k : Nat} (hpr : ∀ q b, 0 ≤ pr q b ∧ pr q b ≤ 1) (hP : Pot ok pr g B N π) (hgB : ∀ q a, q < N → g q = some a → a < B) (h : Lbl ok pr g B N p k S) (hq : q < N) (hg : g q = some a) : ∀ m, m ≤ B → Lbl ok pr g B N p (k + m) (psB ok pr S q a m) := by
  intro m
  induction m with
  | zero => intro _; exact h
  | succ m ih => intro hm; exact Lbl_st1 hpr hP hgB (ih (by omega)) hq hg (by omega)
theorem Lbl_mono {k k' : Nat} (h : Lbl ok pr g B N p k S) (hk : k ≤ k') : Lbl ok pr g B N p k' S := ⟨h.1, h.2.1, h.2.2.1, fun b x hb hx => ⟨(h.2.2.2.1 b x hb hx).1, by have := (h.2.2.2.1 b x hb hx).2; omega⟩, h.2.2.2.2⟩
theorem Lbl_psQ {k : Nat} (hpr : ∀ q b, 0 ≤ pr q b ∧ pr q b ≤ 1) (hP : Pot ok pr g B N π) (hgB : ∀ q a, q < N → g q = some a → a < B) (h : Lbl ok pr g B N p k S) : ∀ m, m ≤ N → Lbl ok pr g B N p (k + m * B) (psQ ok pr g B S m) := by
  intro m
  induction m with
  | zero => intro _; rw [Nat.zero_mul]; exact h
  | succ m ih =>
    intro hm
    have h1 := ih (by omega)
    unfold psQ
    cases hg : g m with
    | none => exact Lbl_mono h1 (by rw [Nat.succ_mul]; omega)
    | some a => exact Lbl_mono (Lbl_psB hpr hP hgB h1 (by omega) hg B (Nat.le_refl _)) (by rw [Nat.succ_mul]; omega)
theorem Lbl_rds {k : Nat} (hpr : ∀ q b, 0 ≤ pr q b ∧ pr q b ≤ 1) (hP : Pot ok pr g B N π) (hgB : ∀ q a, q < N → g q = some a → a < B) (h : Lbl ok pr g B N p k S) : ∀ r, Lbl ok pr g B N p (k + r * (N * B)) (rds ok pr g B N S r) := by
  intro r
  induction r with
  | zero => rw [Nat.zero_mul]; exact h
  | succ r ih => exact Lbl_mono (Lbl_psQ hpr hP hgB ih N (Nat.le_refl _)) (by rw [Nat.succ_mul]; omega)
end BF4
