/-! plain: words of at most eight letters and their numbers -/
set_option maxRecDepth 100000
def hN (d : Nat → Nat) : Nat → Nat
  | 0 => 0
  | m + 1 => 37 * hN d m + d m
theorem hN_b {d : Nat → Nat} : ∀ m, (∀ j, j < m → d j < 37) → hN d m < 37 ^ m := by
  intro m
  induction m with
  | zero => intro _; exact Nat.one_pos
  | succ m ih =>
    intro h
    have h1 := ih fun j hj => h j (by omega)
    have h2 := h m (by omega)
    show 37 * hN d m + d m < 37 ^ (m + 1)
    rw [Nat.pow_succ]
    omega
theorem hN_inj {d e : Nat → Nat} : ∀ m n, (∀ j, j < m → 1 ≤ d j ∧ d j < 37) → (∀ j, j < n → 1 ≤ e j ∧ e j < 37) → hN d m = hN e n → m = n ∧ ∀ j, j < m → d j = e j := by
  intro m
  induction m with
  | zero =>
    intro n _ h2 h
    cases n with
    | zero => exact ⟨rfl, fun j hj => absurd hj (by omega)⟩
    | succ n =>
      have := (h2 n (by omega)).1
      have h : 0 = 37 * hN e n + e n := h
      omega
  | succ m ih =>
    intro n h1 h2 h
    cases n with
    | zero =>
      have := (h1 m (by omega)).1
      have h : 37 * hN d m + d m = 0 := h
      omega
    | succ n =>
      have a := h1 m (by omega)
      have b := h2 n (by omega)
      have h : 37 * hN d m + d m = 37 * hN e n + e n := h
      obtain ⟨g1, g2⟩ := ih n (fun j hj => h1 j (by omega)) (fun j hj => h2 j (by omega)) (by omega)
      subst g1
      refine ⟨rfl, fun j hj => ?_⟩
      by_cases c : j = m
      · rw [c]; omega
      · exact g2 j (by omega)
theorem lt_nI {x : Int32} (h : isLt x) : ∃ q : Nat, 1 ≤ q ∧ q ≤ 26 ∧ x = nI (q + 96) := by
  obtain ⟨h1, h2⟩ := h
  obtain ⟨j, hj, rfl⟩ := nI_of (x := x) (fun z => h1 (Int32.lt_trans z (by decide)))
  have a := nI_nlt' (a := j) (b := 97) hj (by decide) h1
  have b := nI_nlt' (a := 122) (b := j) (by decide) hj h2
  exact ⟨j - 96, by omega, by omega, by rw [Nat.sub_add_cancel (by omega)]⟩
def dgt (t : Nat → Int32) (f j : Nat) : Nat := (t (f + j)).toNatClampNeg - 96
theorem dgt_of {t : Nat → Int32} {f j : Nat} (h : isLt (t (f + j))) : 1 ≤ dgt t f j ∧ dgt t f j < 37 ∧ t (f + j) = nI (dgt t f j + 96) := by
  obtain ⟨q, h1, h2, h3⟩ := lt_nI h
  have : dgt t f j = q := by unfold dgt; rw [h3, nI_clamp (by omega)]; omega
  rw [this]
  exact ⟨h1, by omega, h3⟩
theorem l64_96 {q : Nat} (h : q < 37) : (nI (q + 96) - 96).toInt64 = Int64.ofNat q := by
  have : ∀ q, q < 37 → (nI (q + 96) - 96).toInt64 = Int64.ofNat q := by decide
  exact this q h
theorem hsh_N {t : Nat → Int32} {f : Nat} : ∀ m, (∀ j, j < m → isLt (t (f + j))) → hsh t f m = Int64.ofNat (hN (dgt t f) m) := by
  intro m
  induction m with
  | zero => intro _; rfl
  | succ m ih =>
    intro h
    obtain ⟨h1, h2, h3⟩ := dgt_of (h m (by omega))
    show 37 * hsh t f m + (t (f + m) - 96).toInt64 = Int64.ofNat (37 * hN (dgt t f) m + dgt t f m)
    rw [ih (fun j hj => h j (by omega)), h3, l64_96 h2, Int64.ofNat_add, Int64.ofNat_mul]
    rfl
theorem i64_inj {a b : Nat} (ha : a < 2 ^ 63) (hb : b < 2 ^ 63) (h : Int64.ofNat a = Int64.ofNat b) : a = b := by
  have h1 := congrArg Int64.toInt h
  rw [Int64.toInt_ofNat_of_lt (by omega), Int64.toInt_ofNat_of_lt (by omega)] at h1
  omega
theorem hN_8 {d : Nat → Nat} {m : Nat} (hm : m ≤ 8) (h : ∀ j, j < m → d j < 37) : hN d m < 2 ^ 63 := by
  have h1 := hN_b m h
  have h2 : 37 ^ m ≤ 37 ^ 8 := Nat.pow_le_pow_right (by decide) hm
  have h3 : (37 : Nat) ^ 8 < 2 ^ 63 := by decide
  omega
theorem hsh_inj {t s : Nat → Int32} {f o m n : Nat} (ht : ∀ j, j < m → isLt (t (f + j))) (hs : ∀ j, j < n → isLt (s (o + j))) (hm : m ≤ 8) (hn : n ≤ 8) (h : hsh t f m = hsh s o n) : m = n ∧ ∀ j, j < m → t (f + j) = s (o + j) := by
  rw [hsh_N m ht, hsh_N n hs] at h
  have h := i64_inj (hN_8 hm fun j hj => (dgt_of (ht j hj)).2.1) (hN_8 hn fun j hj => (dgt_of (hs j hj)).2.1) h
  obtain ⟨g1, g2⟩ := hN_inj m n (fun j hj => ⟨(dgt_of (ht j hj)).1, (dgt_of (ht j hj)).2.1⟩) (fun j hj => ⟨(dgt_of (hs j hj)).1, (dgt_of (hs j hj)).2.1⟩) h
  refine ⟨g1, fun j hj => ?_⟩
  rw [(dgt_of (ht j hj)).2.2, (dgt_of (hs j (by omega))).2.2, g2 j hj]
theorem hsh_cg {t s : Nat → Int32} {f o : Nat} : ∀ m, (∀ j, j < m → t (f + j) = s (o + j)) → hsh t f m = hsh s o m := by
  intro m
  induction m with
  | zero => intro _; rfl
  | succ m ih =>
    intro h
    show 37 * hsh t f m + (t (f + m) - 96).toInt64 = 37 * hsh s o m + (s (o + m) - 96).toInt64
    rw [ih (fun j hj => h j (by omega)), h m (by omega)]
/-- the number of the k-th word of string i -/
def wno (i k : Nat) : Nat := if i = 1 then k else if i = 2 then 2 else if i = 4 then 3 else 4 + k
theorem w_nums : ∀ i, i < 5 → 1 ≤ i → ∀ k, k < wcn i → hsh (fun j => (strB.getD i []).getD j 0) (wof i k) (wln i k) = wv (wno i k) ∧ ∀ j, j < wln i k → isLt ((strB.getD i []).getD (wof i k + j) 0) := by decide
theorem mt_hsh {t : Nat → Int32} {f m i k : Nat} (ht : ∀ j, j < m → isLt (t (f + j))) (hm : m ≤ 8) (hi1 : 1 ≤ i) (hi : i < 5) (hk : k < wcn i) : mt t f m i k ↔ hsh t f m = wv (wno i k) := by
  have a := (w_nums i hi hi1 k hk).1
  have b := (w_nums i hi hi1 k hk).2
  have c := ((w_facts i hi hi1).2.2 k hk).2.2.2.1
  unfold mt
  generalize (strB.getD i []) = B at a b ⊢
  generalize wof i k = o at a b ⊢
  generalize wln i k = n at a b c ⊢
  generalize wv (wno i k) = v at a ⊢
  generalize es : (fun j => B.getD j 0) = s at a
  have e : ∀ j, B.getD (o + j) 0 = s (o + j) := fun j => by rw [← es]
  constructor
  · intro h
    rw [← a, ← h.1]
    exact hsh_cg m fun j hj => by rw [← e j]; exact h.2 j hj
  · intro h
    rw [← a] at h
    obtain ⟨g1, g2⟩ := hsh_inj ht (fun j hj => by rw [← e j]; exact b j hj) hm c h
    exact ⟨g1, fun j hj => by rw [e j]; exact g2 j hj⟩
