/-! plain: all plants come to beds -/
set_option maxRecDepth 100000
/-- is m better than what was found so far -/
def btr (d : Nat → Option Int) (o : Option Nat) (m : Nat) : Bool := match o with
  | none => true
  | some c => match d m with
    | some x => ltO x (d c)
    | none => false
def bst (d : Nat → Option Int) (fb : Nat → Bool) : Nat → Option Nat
  | 0 => none
  | m + 1 => if fb m = true ∧ (d m).isSome = true ∧ btr d (bst d fb m) m = true then some m else bst d fb m
theorem bst_s {d : Nat → Option Int} {fb : Nat → Bool} : ∀ m b, bst d fb m = some b → b < m ∧ ∃ x, d b = some x := by
  intro m
  induction m with
  | zero => intro b h; cases h
  | succ m ih =>
    intro b h
    unfold bst at h
    split at h
    · rename_i c
      have := Option.some.inj h
      subst this
      exact ⟨by omega, Option.isSome_iff_exists.mp c.2.1⟩
    · obtain ⟨h1, h2⟩ := ih b h
      exact ⟨by omega, h2⟩
section MV
variable (ok : Nat → Nat → Bool) (pr : Nat → Nat → Int) (N B : Nat) (rm : Nat → Int32)
/-- one more comes: where plants go then, how many are where, what it cost -/
def brg (g : Nat → Option Nat) (mn : Nat → Int32) (p : Nat) : Option ((Nat → Option Nat) × (Nat → Int32) × Int) := match bst (rds ok pr g B N (ini ok pr p) B).1 (fun b => decide (¬ rm b ≤ mn b)) B with
  | none => none
  | some b => some (aug (rds ok pr g B N (ini ok pr p) B) 9 g b, va_up mn b (mn b + 1), ((rds ok pr g B N (ini ok pr p) B).1 b).getD 0)
def mvs (li : Nat → Bool) : Nat → Option ((Nat → Option Nat) × (Nat → Int32) × Int)
  | 0 => some (fun _ => none, fun _ => 0, 0)
  | m + 1 => match mvs li m with
    | none => none
    | some r => if li m = true then (match brg ok pr N B rm r.1 r.2.1 m with
      | none => none
      | some r' => some (r'.1, r'.2.1, r.2.2 + r'.2.2)) else some r
end MV
section MV2
variable {ok : Nat → Nat → Bool} {pr : Nat → Nat → Int} {g : Nat → Option Nat} {B N p : Nat} {S : Lb} {π : Nat → Int}
theorem ch_lt (h : Prd ok pr g B N p S) {ρ : Nat → Nat} (hρ : Rk B S ρ) : ∀ n b c x, b < B → S.1 b = some x → ch S.2.2 (n + 1) b = some c → ρ c < ρ b := by
  intro n b c x hb hx hc
  unfold ch at hc
  rcases h b x hb hx with ⟨k1, -⟩ | ⟨a', y, k0, k1, k2, k3, k4, k5, k6, k7⟩
  · rw [k1] at hc; cases hc
  · rw [k1] at hc
    have := onC_rk h hρ n a' c y k0 k6 hc
    have := hρ b a' hb k1
    omega
/-- a chain of n beds more is n beds -/
theorem ch_list (h : Prd ok pr g B N p S) {ρ : Nat → Nat} (hρ : Rk B S ρ) : ∀ n b x, b < B → S.1 b = some x → ¬ ch S.2.2 n b = none → ∃ F : List Nat, F.Nodup ∧ F.length = n + 1 ∧ (∀ f, f ∈ F → f < B ∧ ρ f ≤ ρ b) := by
  intro n
  induction n with
  | zero => intro b x hb hx _; exact ⟨[b], List.nodup_cons.mpr ⟨by simp, List.nodup_nil⟩, rfl, fun f hf => by simp at hf; rw [hf]; exact ⟨hb, Nat.le_refl _⟩⟩
  | succ n ih =>
    intro b x hb hx hc
    unfold ch at hc
    rcases h b x hb hx with ⟨k1, -⟩ | ⟨a', y, k0, k1, k2, k3, k4, k5, k6, k7⟩
    · rw [k1] at hc; exact absurd rfl hc
    · rw [k1] at hc
      obtain ⟨F, f1, f2, f3⟩ := ih a' y k0 k6 hc
      have hr := hρ b a' hb k1
      refine ⟨b :: F, List.nodup_cons.mpr ⟨fun w => ?_, f1⟩, by simp [f2], fun f hf => ?_⟩
      · have := (f3 b w).2
        omega
      · rcases List.mem_cons.mp hf with w | w
        · rw [w]; exact ⟨hb, Nat.le_refl _⟩
        · have := f3 f w
          exact ⟨this.1, by omega⟩
theorem ch_B (h : Prd ok pr g B N p S) (hk : ∃ ρ, Rk B S ρ) {n b : Nat} {x : Int} (hb : b < B) (hx : S.1 b = some x) (hn : B ≤ n) : ch S.2.2 n b = none := by
  obtain ⟨ρ, hρ⟩ := hk
  cases hc : ch S.2.2 n b with
  | none => rfl
  | some c =>
    exfalso
    obtain ⟨F, f1, f2, f3⟩ := ch_list h hρ n b x hb hx (by rw [hc]; exact fun w => by cases w)
    have := nd_le B F f1 (fun f hf => (f3 f hf).1)
    omega
theorem aug_more : ∀ n m g1 b, ch S.2.2 n b = none → n ≤ m → aug S m g1 b = aug S n g1 b := by
  intro n
  induction n with
  | zero => intro m g1 b h; cases h
  | succ n ih =>
    intro m g1 b h hm
    obtain ⟨m', rfl⟩ : ∃ m', m = m' + 1 := ⟨m - 1, by omega⟩
    unfold ch at h
    unfold aug
    cases hf : S.2.2 b with
    | none => rfl
    | some a =>
      rw [hf] at h
      exact ih m' _ a h (by omega)
theorem aug_keep : ∀ n g1 b k, g1 k ≠ none → aug S n g1 b k ≠ none := by
  intro n
  induction n with
  | zero => intro g1 b k h; exact h
  | succ n ih =>
    intro g1 b k h
    have h2 : va_up g1 (S.2.1 b) (some b) k ≠ none := by
      by_cases e : k = S.2.1 b
      · rw [e, va_up_self]; exact fun w => by cases w
      · rw [va_up_ne _ _ e]; exact h
    unfold aug
    cases hf : S.2.2 b with
    | none => exact h2
    | some a => exact ih _ a k h2
/-- the one that came lies somewhere -/
theorem aug_srcN (h : Prd ok pr g B N p S) : ∀ n g1 b x, b < B → S.1 b = some x → ch S.2.2 n b = none → aug S n g1 b p ≠ none := by
  intro n
  induction n with
  | zero => intro g1 b x _ _ hc; cases hc
  | succ n ih =>
    intro g1 b x hb hx hc
    unfold ch at hc
    unfold aug
    rcases h b x hb hx with ⟨k1, k2, -⟩ | ⟨a', y, k0, k1, k2, k3, k4, k5, k6, k7⟩
    · rw [k1]
      simp only
      rw [k2, va_up_self]
      exact fun w => by cases w
    · rw [k1] at hc ⊢
      exact ih _ a' y k0 k6 hc
theorem aug_src (hS : Stb ok pr g B N S) (h : Prd ok pr g B N p S) (hk : ∃ ρ, Rk B S ρ) (hB9 : B ≤ 9) {g1 : Nat → Option Nat} {b : Nat} {x : Int} (hb : b < B) (hx : S.1 b = some x) : aug S 9 g1 b p ≠ none := aug_srcN h 9 g1 b x hb hx (ch_B h hk hb hx hB9)
/-- the invariant of the coming -/
def mvI (ok : Nat → Nat → Bool) (pr : Nat → Nat → Int) (N B : Nat) (li : Nat → Bool) (m : Nat) (r : (Nat → Option Nat) × (Nat → Int32) × Int) : Prop := mvC ok pr N B r.1 ∧ r.2.2 = tc pr r.1 N ∧ (∀ k, k < N → (r.1 k ≠ none ↔ k < m ∧ li k = true))
theorem tc_none (pr : Nat → Nat → Int) : ∀ m, tc pr (fun _ => none) m = 0 := by
  intro m
  induction m with
  | zero => rfl
  | succ m ih => unfold tc; rw [ih]; rfl
theorem mvI_0 {li : Nat → Bool} : mvI ok pr N B li 0 (fun _ => none, fun _ => 0, 0) :=
  ⟨⟨fun q a _ h => (by cases h), fun q a _ h => (by cases h), fun _ => 0, fun q a b _ h => (by cases h)⟩, (tc_none pr N).symm, fun k _ => ⟨fun h => absurd rfl h, fun h => absurd h.1 (by omega)⟩⟩
theorem mvI_skip {li : Nat → Bool} {m : Nat} {r : (Nat → Option Nat) × (Nat → Int32) × Int} (h : mvI ok pr N B li m r) (hl : ¬ li m = true) : mvI ok pr N B li (m + 1) r := by
  refine ⟨h.1, h.2.1, fun k hk => (h.2.2 k hk).trans ⟨fun q => ⟨by omega, q.2⟩, fun q => ⟨?_, q.2⟩⟩⟩
  have : k ≠ m := fun w => hl (by rw [← w]; exact q.2)
  omega
theorem mvI_brg {li : Nat → Bool} {rm : Nat → Int32} {m : Nat} {r r' : (Nat → Option Nat) × (Nat → Int32) × Int} (hpr : ∀ q b, 0 ≤ pr q b ∧ pr q b ≤ 1) (hB8 : B ≤ 8) (h : mvI ok pr N B li m r) (hm : m < N) (hl : li m = true) (hb : brg ok pr N B rm r.1 r.2.1 m = some r') : mvI ok pr N B li (m + 1) (r'.1, r'.2.1, r.2.2 + r'.2.2) := by
  obtain ⟨⟨hgB, hgO, π, hPot⟩, hc, hg⟩ := h
  have hL := Lbl_rds hpr hPot hgB (Lbl_ini hpr (p := m)) B
  have hS := rds_B hPot hgB (ini ok pr m)
  unfold brg at hb
  generalize rds ok pr r.1 B N (ini ok pr m) B = S at hL hS hb
  cases hbs : bst S.1 (fun b => decide (¬ rm b ≤ r.2.1 b)) B with
  | none => rw [hbs] at hb; cases hb
  | some b =>
    rw [hbs] at hb
    have hb := Option.some.inj hb
    subst hb
    obtain ⟨hbB, x, hx⟩ := bst_s B b hbs
    have hgm : r.1 m = none := by
      cases hh : r.1 m with
      | none => rfl
      | some a => have := ((hg m hm).mp (by rw [hh]; exact fun w => by cases w)).1; omega
    have hon : ∀ k c, aug S 9 r.1 b k = some c → (r.1 k = some c) ∨ (onC S.2.2 b c ∧ S.2.1 c = k) := by
      intro k c hk
      rcases aug_pt (S := S) 9 r.1 b k with e | ⟨c', c1, c2, c3⟩
      · exact Or.inl (by rw [← e]; exact hk)
      · rw [c3] at hk
        have := Option.some.inj hk
        subst this
        exact Or.inr ⟨c1, c2⟩
    have hfin : ∀ c, onC S.2.2 b c → c < B ∧ ∃ y, S.1 c = some y := fun c ⟨n, hn⟩ => onC_fin hL.1 n b c x hbB hx hn
    refine ⟨⟨fun q a hq ha => ?_, fun q a hq ha => ?_, Pot.next hpr hPot hgB hS hL.1 hL.2.2.2.2 hbB hx 9⟩, ?_, fun k hk => ?_⟩
    · rcases hon q a ha with h1 | ⟨h1, -⟩
      · exact hgB q a hq h1
      · exact (hfin a h1).1
    · rcases hon q a ha with h1 | ⟨h1, h2⟩
      · exact hgO q a hq h1
      · obtain ⟨f1, y, f2⟩ := hfin a h1
        rcases hL.1 a y f1 f2 with ⟨-, k2, k3, -⟩ | ⟨-, -, -, -, -, -, k4, -⟩
        · rw [← h2, k2]; exact k3
        · rw [← h2]; exact k4
    · obtain ⟨ρ, hρ⟩ := hL.2.2.1
      show r.2.2 + (S.1 b).getD 0 = tc pr (aug S 9 r.1 b) N
      have h1 := aug_tc hS hL.1 hρ hm hgm (ρ b + 10) r.1 b x (by omega) hbB hx (fun _ _ => rfl)
      rw [aug_more 9 (ρ b + 10) r.1 b (ch_B hL.1 ⟨ρ, hρ⟩ hbB hx (by omega)) (by omega)] at h1
      rw [h1, hc, hx]
      rfl
    · show aug S 9 r.1 b k ≠ none ↔ _
      constructor
      · intro hne
        rcases aug_pt (S := S) 9 r.1 b k with e | ⟨c', c1, c2, c3⟩
        · rw [e] at hne
          have := (hg k hk).mp hne
          exact ⟨by omega, this.2⟩
        · obtain ⟨f1, y, f2⟩ := hfin c' c1
          rcases hL.1 c' y f1 f2 with ⟨-, k2, -⟩ | ⟨a, y', k0, k1, k2, k3, k4, k5, k6, k7⟩
          · rw [c2] at k2
            rw [k2]; exact ⟨by omega, hl⟩
          · rw [c2] at k3
            have := (hg k hk).mp (by rw [k3]; exact fun w => by cases w)
            exact ⟨by omega, this.2⟩
      · rintro ⟨h1, h2⟩
        rcases aug_pt (S := S) 9 r.1 b k with e | ⟨c', c1, c2, c3⟩
        · by_cases e2 : k = m
          · subst e2
            exact aug_src hS hL.1 hL.2.2.1 (by omega) hbB hx
          · rw [e]
            exact (hg k hk).mpr ⟨by omega, h2⟩
        · rw [c3]; exact fun w => by cases w
end MV2
