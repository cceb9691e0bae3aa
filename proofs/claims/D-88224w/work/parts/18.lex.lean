/-! plain: the tape cut into tokens; the machine that reads a text -/
set_option maxRecDepth 100000
def scF (p : Int32 → Bool) (t : Nat → Int32) (n : Nat) : Nat → Nat → Nat
  | 0, k => k
  | f + 1, k => if k < n ∧ p (t k) = true then scF p t n f (k + 1) else k
/-- the first place from k on, up to n, where p does not hold -/
def sc (p : Int32 → Bool) (t : Nat → Int32) (n k : Nat) : Nat := scF p t n (n - k) k
theorem scn_eq (p : Int32 → Bool) (t : Nat → Int32) (n k : Nat) : sc p t n k = if k < n ∧ p (t k) = true then sc p t n (k + 1) else k := by
  unfold sc
  by_cases h : k < n
  · rw [show n - k = (n - (k + 1)) + 1 by omega]; rfl
  · rw [show n - k = 0 by omega, if_neg (fun q => h q.1)]; rfl
theorem sc_y {p : Int32 → Bool} {t : Nat → Int32} {n k : Nat} (h : k < n) (hp : p (t k) = true) : sc p t n k = sc p t n (k + 1) := by rw [scn_eq, if_pos ⟨h, hp⟩]
theorem sc_n {p : Int32 → Bool} {t : Nat → Int32} {n k : Nat} (h : ¬ (k < n ∧ p (t k) = true)) : sc p t n k = k := by rw [scn_eq, if_neg h]
theorem sc_ind {p : Int32 → Bool} {t : Nat → Int32} {n : Nat} : ∀ m k, n - k = m → k ≤ n → k ≤ sc p t n k ∧ sc p t n k ≤ n ∧ (sc p t n k < n → ¬ p (t (sc p t n k)) = true) ∧ ∀ j, k ≤ j → j < sc p t n k → p (t j) = true := by
  intro m
  induction m with
  | zero =>
    intro k h1 h2
    rw [sc_n (fun q => by omega)]
    exact ⟨Nat.le_refl _, h2, fun q => by omega, fun j a b => by omega⟩
  | succ m ih =>
    intro k h1 h2
    by_cases h : k < n ∧ p (t k) = true
    · rw [sc_y h.1 h.2]
      obtain ⟨a, b, c, d⟩ := ih (k + 1) (by omega) (by omega)
      refine ⟨by omega, b, c, fun j q1 q2 => ?_⟩
      by_cases e : j = k
      · rw [e]; exact h.2
      · exact d j (by omega) q2
    · rw [sc_n h]
      exact ⟨Nat.le_refl _, h2, fun q w => h ⟨q, w⟩, fun j a b => by omega⟩
theorem sc_ge {p : Int32 → Bool} {t : Nat → Int32} {n k : Nat} (h : k ≤ n) : k ≤ sc p t n k := (sc_ind _ k rfl h).1
theorem sc_le {p : Int32 → Bool} {t : Nat → Int32} {n k : Nat} (h : k ≤ n) : sc p t n k ≤ n := (sc_ind _ k rfl h).2.1
theorem sc_end {p : Int32 → Bool} {t : Nat → Int32} {n k : Nat} (h : k ≤ n) (h2 : sc p t n k < n) : ¬ p (t (sc p t n k)) = true := (sc_ind _ k rfl h).2.2.1 h2
theorem sc_all {p : Int32 → Bool} {t : Nat → Int32} {n k j : Nat} (h : k ≤ n) (h1 : k ≤ j) (h2 : j < sc p t n k) : p (t j) = true := (sc_ind _ k rfl h).2.2.2 j h1 h2
def bW (c : Int32) : Bool := decide (c = 10 ∨ c = 32)
def bL (c : Int32) : Bool := decide (isLt c)
def bD (c : Int32) : Bool := decide (isDg c)
theorem bW_iff {c : Int32} : bW c = true ↔ (c = 10 ∨ c = 32) := by unfold bW; exact decide_eq_true_iff
theorem bL_iff {c : Int32} : bL c = true ↔ isLt c := by unfold bL; exact decide_eq_true_iff
theorem bD_iff {c : Int32} : bD c = true ↔ isDg c := by unfold bD; exact decide_eq_true_iff
/-- where the token from k on begins, ends; its kind; its value -/
def tkF (t : Nat → Int32) (n k : Nat) : Nat := sc bW t n k
def tkE (t : Nat → Int32) (n k : Nat) : Nat := if tkF t n k < n then (if isLt (t (tkF t n k)) then sc bL t n (tkF t n k) else if isDg (t (tkF t n k)) then sc bD t n (tkF t n k) else tkF t n k + 1) else tkF t n k
def tkK (t : Nat → Int32) (n k : Nat) : Nat := if tkF t n k < n then (if isLt (t (tkF t n k)) then (if 8 < tkE t n k - tkF t n k then 4 else 1) else if isDg (t (tkF t n k)) then (if 4 < tkE t n k - tkF t n k then 4 else 2) else if isSg (t (tkF t n k)) then 3 else 4) else 0
def hsh (t : Nat → Int32) (f : Nat) : Nat → Int64
  | 0 => 0
  | m + 1 => 37 * hsh t f m + (t (f + m) - 96).toInt64
def dgs (t : Nat → Int32) (f : Nat) : Nat → Int64
  | 0 => 0
  | m + 1 => 10 * dgs t f m + (t (f + m)).toInt64 - 48
def tkV (t : Nat → Int32) (n k : Nat) : Int64 := if isLt (t (tkF t n k)) then hsh t (tkF t n k) (min (tkE t n k - tkF t n k) 8) else if isDg (t (tkF t n k)) then dgs t (tkF t n k) (min (tkE t n k - tkF t n k) 4) else (t (tkF t n k)).toInt64
/-- where the i-th token is looked for -/
def pos (t : Nat → Int32) (n : Nat) : Nat → Nat
  | 0 => 0
  | i + 1 => tkE t n (pos t n i)
def srt (t : Nat → Int32) (n i : Nat) : Nat := tkK t n (pos t n i)
def plc (t : Nat → Int32) (n i : Nat) : Nat := tkF t n (pos t n i)
def vl (t : Nat → Int32) (n i : Nat) : Int64 := tkV t n (pos t n i)
theorem tkF_ge {t : Nat → Int32} {n k : Nat} (h : k ≤ n) : k ≤ tkF t n k := sc_ge h
theorem tkF_le {t : Nat → Int32} {n k : Nat} (h : k ≤ n) : tkF t n k ≤ n := sc_le h
theorem tkE_b {t : Nat → Int32} {n k : Nat} (h : k ≤ n) : tkF t n k ≤ tkE t n k ∧ tkE t n k ≤ n ∧ (tkF t n k < n → tkF t n k < tkE t n k) := by
  have h1 := tkF_le (t := t) h
  unfold tkE
  split
  · rename_i h2
    split
    · rename_i h3
      have a := sc_ge (p := bL) (t := t) (n := n) (k := tkF t n k + 1) (by omega)
      have b := sc_le (p := bL) (t := t) (n := n) (k := tkF t n k + 1) (by omega)
      rw [sc_y h2 (bL_iff.mpr h3)]
      exact ⟨by omega, b, fun _ => by omega⟩
    · split
      · rename_i h3
        have a := sc_ge (p := bD) (t := t) (n := n) (k := tkF t n k + 1) (by omega)
        have b := sc_le (p := bD) (t := t) (n := n) (k := tkF t n k + 1) (by omega)
        rw [sc_y h2 (bD_iff.mpr h3)]
        exact ⟨by omega, b, fun _ => by omega⟩
      · exact ⟨by omega, by omega, fun _ => by omega⟩
  · rename_i h2
    exact ⟨Nat.le_refl _, h1, fun q => absurd q h2⟩
theorem pos_le {t : Nat → Int32} {n : Nat} : ∀ i, pos t n i ≤ n := by
  intro i
  induction i with
  | zero => exact Nat.zero_le _
  | succ i ih => exact (tkE_b ih).2.1
theorem plc_le {t : Nat → Int32} {n i : Nat} : plc t n i ≤ n := tkF_le (pos_le i)
theorem srt_0 {t : Nat → Int32} {n i : Nat} : srt t n i = 0 ↔ plc t n i = n := by
  have h := plc_le (t := t) (n := n) (i := i)
  unfold srt tkK
  show _ ↔ tkF t n (pos t n i) = n
  have h' : tkF t n (pos t n i) ≤ n := h
  split
  · rename_i h2
    constructor
    · intro q
      exfalso
      split at q
      · split at q <;> cases q
      · split at q
        · split at q <;> cases q
        · split at q <;> cases q
    · intro q; omega
  · constructor
    · intro _; omega
    · intro _; rfl
theorem pos_grow {t : Nat → Int32} {n i : Nat} (h : ¬ srt t n i = 0) : pos t n i + 1 ≤ pos t n (i + 1) := by
  have h1 := tkE_b (t := t) (pos_le (t := t) (n := n) i)
  have h2 := plc_le (t := t) (n := n) (i := i)
  have h3 : ¬ plc t n i = n := fun q => h (srt_0.mpr q)
  have h4 := tkF_ge (t := t) (pos_le (t := t) (n := n) i)
  have h5 : plc t n i = tkF t n (pos t n i) := rfl
  have h6 : pos t n (i + 1) = tkE t n (pos t n i) := rfl
  omega
/-- as long as there are tokens, there are no more than places -/
theorem tok_le {t : Nat → Int32} {n : Nat} : ∀ i, (∀ j, j < i → ¬ srt t n j = 0) → i ≤ pos t n i := by
  intro i
  induction i with
  | zero => intro _; exact Nat.zero_le _
  | succ i ih =>
    intro h
    have h1 := ih (fun j hj => h j (by omega))
    have h2 := pos_grow (h i (by omega))
    omega
/-- the state of the reading: mode, token, waiting signs by depth, codes of the line, is it a bar, lines. Modes: 0 a part, 1 behind a part, 2 behind a sum, 3 behind a test, 4 behind an expression, 5 a line, 6 its when, 8 all is read, 11 and 15 a fault -/
abbrev Wt : Type := Nat × Nat × Nat
abbrev Cd : Type := Nat × Int32
abbrev Ms : Type := Nat × Nat × List Wt × List Cd × Bool × List (Bool × List Cd)
def wv (w : Nat) : Int64 := match w with
  | 0 => 16633
  | 1 => 2793
  | 2 => 1176170
  | 3 => 1891
  | 4 => 30595897
  | 5 => 710997
  | 6 => 15782540
  | 7 => 1715
  | 8 => 4904
  | 9 => 1126628337
  | _ => 5538
abbrev tS (S : Nat → Nat) (v : Nat → Int64) (i : Nat) (c : Int32) : Prop := S i = 3 ∧ v i = c.toInt64
abbrev tW (S : Nat → Nat) (v : Nat → Int64) (i w : Nat) : Prop := S i = 1 ∧ v i = wv w
/-- which of the seven words of a part the token is; 7 for none -/
def aw (S : Nat → Nat) (v : Nat → Int64) (i : Nat) : Nat := if tW S v i 4 then 0 else if tW S v i 5 then 1 else if tW S v i 6 then 2 else if tW S v i 7 then 3 else if tW S v i 8 then 4 else if tW S v i 9 then 5 else if tW S v i 10 then 6 else 7
def pn (c : Nat) : List Cd := if c = 0 then [] else [(c, 0)]
def stp (S : Nat → Nat) (v : Nat → Int64) : Ms → Ms
  | (0, i, w, cs, b, ls) => if ¬ S i = 2 ∧ ¬ tS S v i 40 ∧ ¬ aw S v i < 7 then (11, i, w, cs, b, ls) else if w.length = 6 then (15, i, w, cs, b, ls) else if tS S v i 40 then (0, i + 1, (0, 0, 0) :: w, cs, b, ls) else if aw S v i < 7 then (1, i + 1, w, cs ++ [(2, nI (aw S v i))], b, ls) else (1, i + 1, w, cs ++ [(1, (v i).toInt32)], b, ls)
  | (1, i, (su, sg, an) :: r, cs, b, ls) => if tS S v i 43 then (0, i + 1, (3, sg, an) :: r, cs ++ pn su, b, ls) else if tS S v i 45 then (0, i + 1, (4, sg, an) :: r, cs ++ pn su, b, ls) else (2, i, (0, sg, an) :: r, cs ++ pn su, b, ls)
  | (2, i, (su, sg, an) :: r, cs, b, ls) => if ¬ sg = 0 then (3, i, (su, 0, an) :: r, cs ++ [(sg, 0)], b, ls) else if tS S v i 60 then (0, i + 1, (su, 5, an) :: r, cs, b, ls) else if tS S v i 61 then (0, i + 1, (su, 6, an) :: r, cs, b, ls) else (3, i, (su, 0, an) :: r, cs, b, ls)
  | (3, i, (su, sg, an) :: r, cs, b, ls) => if tW S v i 3 then (0, i + 1, (su, sg, 7) :: r, cs ++ pn an, b, ls) else (4, i, (su, sg, 0) :: r, cs ++ pn an, b, ls)
  | (4, i, [x], cs, b, ls) => if tS S v i 59 then (5, i + 1, [], [], b, ls ++ [(b, cs)]) else (11, i, [x], cs, b, ls)
  | (4, i, x :: y :: r, cs, b, ls) => if tS S v i 41 then (1, i + 1, y :: r, cs, b, ls) else (11, i, y :: r, cs, b, ls)
  | (5, i, w, cs, b, ls) => if S i = 0 then (8, i, w, cs, b, ls) else if ¬ tW S v i 1 ∧ ¬ tW S v i 0 then (11, i, w, cs, b, ls) else if ls.length = 16 then (15, i, w, cs, b, ls) else (6, i + 1, [], [], decide (tW S v i 1), ls)
  | (6, i, w, cs, b, ls) => if tW S v i 2 then (0, i + 1, [(0, 0, 0)], [], b, ls) else (11, i, w, cs, b, ls)
  | s => s
def rn (S : Nat → Nat) (v : Nat → Int64) : Nat → Ms → Ms
  | 0, s => s
  | n + 1, s => rn S v n (stp S v s)
theorem rn_add (S : Nat → Nat) (v : Nat → Int64) : ∀ m n s, rn S v (m + n) s = rn S v n (rn S v m s) := by
  intro m
  induction m with
  | zero => intro n s; rw [Nat.zero_add]; rfl
  | succ m ih => intro n s; rw [Nat.succ_add]; exact ih n (stp S v s)
/-- it comes from s to s' -/
def Rc (S : Nat → Nat) (v : Nat → Int64) (s s' : Ms) : Prop := ∃ n, rn S v n s = s'
theorem Rc.refl {S : Nat → Nat} {v : Nat → Int64} (s : Ms) : Rc S v s s := ⟨0, rfl⟩
theorem Rc.trans {S : Nat → Nat} {v : Nat → Int64} {a b c : Ms} (h : Rc S v a b) (h2 : Rc S v b c) : Rc S v a c := by
  obtain ⟨m, h⟩ := h
  obtain ⟨n, h2⟩ := h2
  exact ⟨m + n, by rw [rn_add, h, h2]⟩
theorem Rc.step {S : Nat → Nat} {v : Nat → Int64} {a b c : Ms} (h : stp S v a = b) (h2 : Rc S v b c) : Rc S v a c := Rc.trans ⟨1, h⟩ h2
theorem Rc.one {S : Nat → Nat} {v : Nat → Int64} {a b : Ms} (h : stp S v a = b) : Rc S v a b := ⟨1, h⟩
/-- the fault of a state -/
def flt (P : Nat → Nat) (s : Ms) : Int32 := if s.1 = 8 then 0 else nI (s.1 - 10) + 16 * nI (P s.2.1)
