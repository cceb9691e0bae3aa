/-! BedBookModel: moves (printed out of tmpl/t_model16.txt) -/
set_option maxRecDepth 100000
def iN (x : Int) : Int32 := Int32.ofInt x
theorem iN_T {x : Int} (h1 : -1073741824 ≤ x) (h2 : x ≤ 1073741824) : (iN x).toInt = x := Int32.toInt_ofInt_of_le (by omega) (by omega)
theorem iN_lt {x y : Int} (h1 : -1073741824 ≤ x) (h2 : x ≤ 1073741824) (h3 : -1073741824 ≤ y) (h4 : y ≤ 1073741824) : iN x < iN y ↔ x < y := by rw [Int32.lt_iff_toInt_lt, iN_T h1 h2, iN_T h3 h4]
theorem iN_le {x y : Int} (h1 : -1073741824 ≤ x) (h2 : x ≤ 1073741824) (h3 : -1073741824 ≤ y) (h4 : y ≤ 1073741824) : iN x ≤ iN y ↔ x ≤ y := by rw [Int32.le_iff_toInt_le, iN_T h1 h2, iN_T h3 h4]
theorem iN_eq {x y : Int} (h1 : -1073741824 ≤ x) (h2 : x ≤ 1073741824) (h3 : -1073741824 ≤ y) (h4 : y ≤ 1073741824) : iN x = iN y ↔ x = y := by rw [← Int32.toInt_inj, iN_T h1 h2, iN_T h3 h4]
theorem iN_add (x y : Int) : iN x + iN y = iN (x + y) := (Int32.ofInt_add x y).symm
theorem iN_sub (x y : Int) : iN x - iN y = iN (x - y) := (Int32.ofInt_sub x y).symm
def eL (F : Int) (o : Option Int) : Int32 := iN (o.getD F)
def eN : Option Nat → Int32
  | none => -1
  | some a => nI a
def okM (I : It) (q b : Nat) : Bool := decide (suit I q b)
def prM (I : It) (q b : Nat) : Int := if I 32 q = nI b then 0 else 1
theorem prM_01 (I : It) (q b : Nat) : 0 ≤ prM I q b ∧ prM I q b ≤ 1 := by unfold prM; split <;> omega
def cst (F : Int) (ok : Nat → Nat → Bool) (pr : Nat → Nat → Int) (q b : Nat) : Int32 := if ok q b = true then iN (pr q b) else iN F
theorem cstF_eq (I : It) (P b : Nat) : cstF I P b = cst 1000000 (okM I) (prM I) P b := by
  unfold cst okM prM cstF
  by_cases h : suit I P b
  · rw [if_neg (fun q => q h), if_pos (decide_eq_true h)]
    split <;> rfl
  · rw [if_pos h, if_neg (fun q => h (of_decide_eq_true q))]
    rfl
theorem suit_cg {I I' : It} (h1 : I' 46 = I 46) (h2 : I' 47 = I 47) (h3 : I' 31 = I 31) (P b : Nat) : suit I' P b ↔ suit I P b := by unfold suit; rw [h1, h2, h3]
theorem cstF_cg {I I' : It} (h1 : I' 46 = I 46) (h2 : I' 47 = I 47) (h3 : I' 31 = I 31) (h4 : I' 32 = I 32) (P b : Nat) : cstF I' P b = cstF I P b := by
  unfold cstF suit
  rw [h1, h2, h3, h4]
/-- rows c, b, f hold the labels -/
def LbA (F : Int) (B : Nat) (S : Lb) (c b f : Nat → Int32) : Prop := ∀ v, v < B → c v = eL F (S.1 v) ∧ b v = nI (S.2.1 v) ∧ f v = eN (S.2.2 v)
theorem u2_row {α : Type} (f : Nat → Nat → α) (a b : Nat) (v : α) : u2 f a b v a = va_up (f a) b v := by
  funext y
  unfold u2 va_up
  by_cases h : y = b
  · rw [if_pos ⟨rfl, h⟩, if_pos h]
  · rw [if_neg (fun q => h q.2), if_neg h]
/-- what q would cost at b, coming from a -/
def nvF (ok : Nat → Nat → Bool) (pr : Nat → Nat → Int) (d : Nat → Option Int) (q a b : Nat) : Option Int := if ok q b = true then (d a).map (fun x => x + pr q b - pr q a) else none
section RX
variable {ok : Nat → Nat → Bool} {pr : Nat → Nat → Int} {d : Nat → Option Int} {q a b : Nat} {n : Int}
theorem rx_1 (h : b = a) : rx ok pr d q a b = none := by unfold rx; rw [if_pos (Or.inl h)]
theorem rx_2 (h : nvF ok pr d q a b = none) : rx ok pr d q a b = none := by
  unfold nvF at h
  unfold rx
  by_cases ho : ok q b = true
  · rw [if_pos ho] at h
    have h : d a = none := by simpa using h
    rw [h]
    split <;> rfl
  · rw [if_pos (Or.inr (by cases hh : ok q b; rfl; exact absurd hh ho))]
theorem nv_some (h : nvF ok pr d q a b = some n) : ok q b = true ∧ ∃ x, d a = some x ∧ n = x + pr q b - pr q a := by
  unfold nvF at h
  by_cases ho : ok q b = true
  · rw [if_pos ho] at h
    cases hd : d a with
    | none => rw [hd] at h; cases h
    | some x => rw [hd] at h; exact ⟨ho, x, rfl, (Option.some.inj h).symm⟩
  · rw [if_neg ho] at h; cases h
theorem rx_3 (h : nvF ok pr d q a b = some n) (hl : ¬ ltO n (d b) = true) : rx ok pr d q a b = none := by
  obtain ⟨h1, x, h2, h3⟩ := nv_some h
  unfold rx
  rw [h2]
  split
  · rfl
  · simp only
    rw [if_neg (by rw [← h3]; exact hl)]
theorem rx_4 (hb : b ≠ a) (h : nvF ok pr d q a b = some n) (hl : ltO n (d b) = true) : rx ok pr d q a b = some n := by
  obtain ⟨h1, x, h2, h3⟩ := nv_some h
  unfold rx
  rw [h2, if_neg (fun w => by rcases w with w | w; exact hb w; rw [h1] at w; cases w)]
  simp only
  rw [← h3, if_pos hl]
end RX
/-- the rows after a relaxing -/
theorem LbA_s {ok : Nat → Nat → Bool} {pr : Nat → Nat → Int} {F : Int} {B : Nat} {S : Lb} {c bb f : Nat → Int32} {q a b : Nat} {n : Int} (h : LbA F B S c bb f) (hr : rx ok pr S.1 q a b = some n) : LbA F B (st1 ok pr S q a b) (va_up c b (iN n)) (va_up bb b (nI q)) (va_up f b (nI a)) := by
  rw [st1_s hr]
  intro v hv
  by_cases e : v = b
  · subst e
    rw [va_up_self, va_up_self, va_up_self]
    show iN n = eL F (va_up S.1 v (some n) v) ∧ nI q = nI (va_up S.2.1 v q v) ∧ nI a = eN (va_up S.2.2 v (some a) v)
    rw [va_up_self, va_up_self, va_up_self]
    exact ⟨rfl, rfl, rfl⟩
  · rw [va_up_ne _ _ e, va_up_ne _ _ e, va_up_ne _ _ e]
    show c v = eL F (va_up S.1 b (some n) v) ∧ bb v = nI (va_up S.2.1 b q v) ∧ f v = eN (va_up S.2.2 b (some a) v)
    rw [va_up_ne _ _ e, va_up_ne _ _ e, va_up_ne _ _ e]
    exact h v hv
/-- a round that changes nothing was the last -/
theorem rds_same {ok : Nat → Nat → Bool} {pr : Nat → Nat → Int} {g : Nat → Option Nat} {B N r : Nat} {S : Lb} (h : psQ ok pr g B (rds ok pr g B N S r) N = rds ok pr g B N S r) : ∀ j, r ≤ j → rds ok pr g B N S j = rds ok pr g B N S r := by
  intro j
  induction j with
  | zero =>
    intro hj
    obtain rfl : r = 0 := by omega
    rfl
  | succ j ih =>
    intro hj
    rcases Nat.lt_or_ge j r with q | q
    · obtain rfl : r = j + 1 := by omega
      rfl
    · show psQ ok pr g B (rds ok pr g B N S j) N = _
      rw [ih q]
      exact h
/-- what the brought plants need: rooms, beds, a potential -/
def mvC (ok : Nat → Nat → Bool) (pr : Nat → Nat → Int) (N B : Nat) (g : Nat → Option Nat) : Prop := (∀ q a, q < N → g q = some a → a < B) ∧ (∀ q a, q < N → g q = some a → ok q a = true) ∧ ∃ π, Pot ok pr g B N π
theorem Sml_b {B k : Nat} {S : Lb} {b : Nat} {x : Int} (h : Sml B k S) (hB : B ≤ 8) (hk : k ≤ 4000) (hb : b < B) (hx : S.1 b = some x) : -4000 ≤ x ∧ x ≤ 9 := by
  have h1 := h b x hb hx
  have h2 := cn_le S.1 B
  omega
theorem eL_b {B k : Nat} {S : Lb} {b : Nat} {F : Int} (h : Sml B k S) (hB : B ≤ 8) (hk : k ≤ 4000) (hb : b < B) (hF : 900 ≤ F ∧ F ≤ 1000000) : -4000 ≤ (S.1 b).getD F ∧ (S.1 b).getD F ≤ F := by
  cases hx : S.1 b with
  | none => simp; omega
  | some x =>
    have := Sml_b h hB hk hb hx
    simp
    omega
abbrev spX4_begins : Sp := fun av T I L R uc us k => ∃ p : Nat, ∃ N : Nat, ∃ B : Nat, ∃ g : Nat → Option Nat, av = [.ref 0, .int (nI p)] ∧ T = TM ∧ R = RM ∧ I 0 25 = nI N ∧ N ≤ 40 ∧ I 0 45 = nI B ∧ B ≤ 8 ∧ p < N ∧ (∀ q, q < N → I 49 q = eN (g q)) ∧ mvC (okM I) (prM I) N B g ∧ (∀ I', LbA 1000000 B (rds (okM I) (prM I) g B N (ini (okM I) (prM I) p) B) (I' 51) (I' 52) (I' 53) → (∀ a, a ≠ 51 → a ≠ 52 → a ≠ 53 → I' a = I a) → k (.inl none) T I' L R uc us)
theorem eX4_begins_44 : dc cX4_begins 44 (.iload_n 2) 1 45 := ⟨by decide +kernel, rfl⟩
theorem eX4_begins_45 : dj cX4_begins 45 (.ifCond .eq 159) 159 204 48 := ⟨by decide +kernel, by decide, rfl⟩
theorem eX4_begins_204 : dc cX4_begins 204 (.return_) 1 205 := ⟨by decide +kernel, rfl⟩
theorem eX4_begins_195 : dc cX4_begins 195 (.iinc 3 1) 3 198 := ⟨by decide +kernel, rfl⟩
theorem eX4_begins_198 : dj cX4_begins 198 (.goto (-146)) (-146) 52 201 := ⟨by decide +kernel, by decide, rfl⟩
theorem eX4_begins_71 : dc cX4_begins 71 (.iload 5) 2 73 := ⟨by decide +kernel, rfl⟩
theorem eX4_begins_73 : dc cX4_begins 73 (.aload_n 0) 1 74 := ⟨by decide +kernel, rfl⟩
theorem eX4_begins_74 : dc cX4_begins 74 (.getfield 308) 3 77 := ⟨by decide +kernel, rfl⟩
theorem eX4_begins_77 : dj cX4_begins 77 (.if_icmp .ge 118) 118 195 80 := ⟨by decide +kernel, by decide, rfl⟩
theorem eX4_begins_80 : dc cX4_begins 80 (.iload 4) 2 82 := ⟨by decide +kernel, rfl⟩
theorem eX4_begins_82 : dj cX4_begins 82 (.ifCond .lt 113) 113 195 85 := ⟨by decide +kernel, by decide, rfl⟩
theorem eX4_begins_189 : dc cX4_begins 189 (.iinc 5 1) 3 192 := ⟨by decide +kernel, rfl⟩
theorem eX4_begins_192 : dj cX4_begins 192 (.goto (-121)) (-121) 71 195 := ⟨by decide +kernel, by decide, rfl⟩
theorem eX4_begins_140 : dc cX4_begins 140 (.istore 6) 2 142 := ⟨by decide +kernel, rfl⟩
theorem eX4_begins_142 : dc cX4_begins 142 (.iload 5) 2 144 := ⟨by decide +kernel, rfl⟩
theorem eX4_begins_144 : dc cX4_begins 144 (.iload 4) 2 146 := ⟨by decide +kernel, rfl⟩
theorem eX4_begins_146 : dj cX4_begins 146 (.if_icmp .eq 43) 43 189 149 := ⟨by decide +kernel, by decide, rfl⟩
theorem eX4_begins_149 : dc cX4_begins 149 (.iload 6) 2 151 := ⟨by decide +kernel, rfl⟩
theorem eX4_begins_151 : dc cX4_begins 151 (.aload_n 0) 1 152 := ⟨by decide +kernel, rfl⟩
theorem eX4_begins_152 : dc cX4_begins 152 (.getfield 156) 3 155 := ⟨by decide +kernel, rfl⟩
theorem flX4_156 : FL RX4 156 3 51 := ⟨_, _, _, _, rfl, by decide, by decide, Or.inl (lk q1290), Or.inl rfl⟩
theorem eX4_begins_155 : dc cX4_begins 155 (.iload 5) 2 157 := ⟨by decide +kernel, rfl⟩
theorem eX4_begins_157 : dc cX4_begins 157 (.iaload) 1 158 := ⟨by decide +kernel, rfl⟩
theorem eX4_begins_158 : dj cX4_begins 158 (.if_icmp .ge 31) 31 189 161 := ⟨by decide +kernel, by decide, rfl⟩
theorem eX4_begins_161 : dc cX4_begins 161 (.aload_n 0) 1 162 := ⟨by decide +kernel, rfl⟩
theorem eX4_begins_162 : dc cX4_begins 162 (.getfield 156) 3 165 := ⟨by decide +kernel, rfl⟩
theorem eX4_begins_165 : dc cX4_begins 165 (.iload 5) 2 167 := ⟨by decide +kernel, rfl⟩
theorem eX4_begins_167 : dc cX4_begins 167 (.iload 6) 2 169 := ⟨by decide +kernel, rfl⟩
theorem eX4_begins_169 : dc cX4_begins 169 (.iastore) 1 170 := ⟨by decide +kernel, rfl⟩
theorem eX4_begins_170 : dc cX4_begins 170 (.aload_n 0) 1 171 := ⟨by decide +kernel, rfl⟩
theorem eX4_begins_171 : dc cX4_begins 171 (.getfield 159) 3 174 := ⟨by decide +kernel, rfl⟩
theorem flX4_159 : FL RX4 159 3 52 := ⟨_, _, _, _, rfl, by decide, by decide, Or.inl (lk q1291), Or.inl rfl⟩
theorem eX4_begins_174 : dc cX4_begins 174 (.iload 5) 2 176 := ⟨by decide +kernel, rfl⟩
theorem eX4_begins_176 : dc cX4_begins 176 (.iload_n 3) 1 177 := ⟨by decide +kernel, rfl⟩
theorem eX4_begins_177 : dc cX4_begins 177 (.iastore) 1 178 := ⟨by decide +kernel, rfl⟩
theorem eX4_begins_178 : dc cX4_begins 178 (.aload_n 0) 1 179 := ⟨by decide +kernel, rfl⟩
theorem eX4_begins_179 : dc cX4_begins 179 (.getfield 162) 3 182 := ⟨by decide +kernel, rfl⟩
theorem flX4_162 : FL RX4 162 3 53 := ⟨_, _, _, _, rfl, by decide, by decide, Or.inl (lk q1292), Or.inl rfl⟩
theorem eX4_begins_182 : dc cX4_begins 182 (.iload 5) 2 184 := ⟨by decide +kernel, rfl⟩
theorem eX4_begins_184 : dc cX4_begins 184 (.iload 4) 2 186 := ⟨by decide +kernel, rfl⟩
theorem eX4_begins_186 : dc cX4_begins 186 (.iastore) 1 187 := ⟨by decide +kernel, rfl⟩
theorem eX4_begins_187 : dc cX4_begins 187 (.iconst 1) 1 188 := ⟨by decide +kernel, rfl⟩
theorem eX4_begins_188 : dc cX4_begins 188 (.istore_n 2) 1 189 := ⟨by decide +kernel, rfl⟩
theorem eX4_begins_85 : dc cX4_begins 85 (.aload_n 0) 1 86 := ⟨by decide +kernel, rfl⟩
theorem eX4_begins_86 : dc cX4_begins 86 (.iload_n 3) 1 87 := ⟨by decide +kernel, rfl⟩
theorem eX4_begins_87 : dc cX4_begins 87 (.iload 5) 2 89 := ⟨by decide +kernel, rfl⟩
theorem eX4_begins_89 : dc cX4_begins 89 (.invokevirtual 318) 3 92 := ⟨by decide +kernel, rfl⟩
theorem pkX4_318 : PkV RX4 318 yX4_costOf (.code yX4_costOf cX4_costOf 3 (some .int)) 3 "BedBookModel" 2 := ⟨cwd_c, (lk q1613), Or.inl (lk q1610), (lk q1612), (lk qs53), ⟨⟨by decide, by decide⟩, by decide +kernel⟩, (lk q67), by decide⟩
theorem eX4_begins_92 : dc cX4_begins 92 (.ldc_w 317) 3 95 := ⟨by decide +kernel, rfl⟩
theorem eX4_begins_95 : dj cX4_begins 95 (.if_icmp .eq 16) 16 111 98 := ⟨by decide +kernel, by decide, rfl⟩
theorem eX4_begins_111 : dc cX4_begins 111 (.ldc_w 317) 3 114 := ⟨by decide +kernel, rfl⟩
theorem eX4_begins_114 : dj cX4_begins 114 (.goto 26) 26 140 117 := ⟨by decide +kernel, by decide, rfl⟩
theorem eX4_begins_98 : dc cX4_begins 98 (.aload_n 0) 1 99 := ⟨by decide +kernel, rfl⟩
theorem eX4_begins_99 : dc cX4_begins 99 (.getfield 156) 3 102 := ⟨by decide +kernel, rfl⟩
theorem eX4_begins_102 : dc cX4_begins 102 (.iload 4) 2 104 := ⟨by decide +kernel, rfl⟩
theorem eX4_begins_104 : dc cX4_begins 104 (.iaload) 1 105 := ⟨by decide +kernel, rfl⟩
theorem eX4_begins_105 : dc cX4_begins 105 (.ldc_w 317) 3 108 := ⟨by decide +kernel, rfl⟩
theorem eX4_begins_108 : dj cX4_begins 108 (.if_icmp .lt 9) 9 117 111 := ⟨by decide +kernel, by decide, rfl⟩
theorem eX4_begins_117 : dc cX4_begins 117 (.aload_n 0) 1 118 := ⟨by decide +kernel, rfl⟩
theorem eX4_begins_118 : dc cX4_begins 118 (.getfield 156) 3 121 := ⟨by decide +kernel, rfl⟩
theorem eX4_begins_121 : dc cX4_begins 121 (.iload 4) 2 123 := ⟨by decide +kernel, rfl⟩
theorem eX4_begins_123 : dc cX4_begins 123 (.iaload) 1 124 := ⟨by decide +kernel, rfl⟩
theorem eX4_begins_124 : dc cX4_begins 124 (.aload_n 0) 1 125 := ⟨by decide +kernel, rfl⟩
theorem eX4_begins_125 : dc cX4_begins 125 (.iload_n 3) 1 126 := ⟨by decide +kernel, rfl⟩
theorem eX4_begins_126 : dc cX4_begins 126 (.iload 5) 2 128 := ⟨by decide +kernel, rfl⟩
theorem eX4_begins_128 : dc cX4_begins 128 (.invokevirtual 318) 3 131 := ⟨by decide +kernel, rfl⟩
theorem eX4_begins_131 : dc cX4_begins 131 (.iadd) 1 132 := ⟨by decide +kernel, rfl⟩
theorem eX4_begins_132 : dc cX4_begins 132 (.aload_n 0) 1 133 := ⟨by decide +kernel, rfl⟩
theorem eX4_begins_133 : dc cX4_begins 133 (.iload_n 3) 1 134 := ⟨by decide +kernel, rfl⟩
theorem eX4_begins_134 : dc cX4_begins 134 (.iload 4) 2 136 := ⟨by decide +kernel, rfl⟩
theorem eX4_begins_136 : dc cX4_begins 136 (.invokevirtual 318) 3 139 := ⟨by decide +kernel, rfl⟩
theorem eX4_begins_139 : dc cX4_begins 139 (.isub) 1 140 := ⟨by decide +kernel, rfl⟩
theorem eX4_begins_52 : dc cX4_begins 52 (.iload_n 3) 1 53 := ⟨by decide +kernel, rfl⟩
theorem eX4_begins_53 : dc cX4_begins 53 (.aload_n 0) 1 54 := ⟨by decide +kernel, rfl⟩
theorem eX4_begins_54 : dc cX4_begins 54 (.getfield 258) 3 57 := ⟨by decide +kernel, rfl⟩
theorem eX4_begins_57 : dj cX4_begins 57 (.if_icmp .ge 144) 144 201 60 := ⟨by decide +kernel, by decide, rfl⟩
theorem eX4_begins_201 : dj cX4_begins 201 (.goto (-157)) (-157) 44 204 := ⟨by decide +kernel, by decide, rfl⟩
theorem eX4_begins_60 : dc cX4_begins 60 (.aload_n 0) 1 61 := ⟨by decide +kernel, rfl⟩
theorem eX4_begins_61 : dc cX4_begins 61 (.getfield 150) 3 64 := ⟨by decide +kernel, rfl⟩
theorem flX4_150 : FL RX4 150 3 49 := ⟨_, _, _, _, rfl, by decide, by decide, Or.inl (lk q1288), Or.inl rfl⟩
theorem eX4_begins_64 : dc cX4_begins 64 (.iload_n 3) 1 65 := ⟨by decide +kernel, rfl⟩
theorem eX4_begins_65 : dc cX4_begins 65 (.iaload) 1 66 := ⟨by decide +kernel, rfl⟩
theorem eX4_begins_66 : dc cX4_begins 66 (.istore 4) 2 68 := ⟨by decide +kernel, rfl⟩
theorem eX4_begins_68 : dc cX4_begins 68 (.iconst 0) 1 69 := ⟨by decide +kernel, rfl⟩
theorem eX4_begins_69 : dc cX4_begins 69 (.istore 5) 2 71 := ⟨by decide +kernel, rfl⟩
theorem eX4_begins_48 : dc cX4_begins 48 (.iconst 0) 1 49 := ⟨by decide +kernel, rfl⟩
theorem eX4_begins_49 : dc cX4_begins 49 (.istore_n 2) 1 50 := ⟨by decide +kernel, rfl⟩
theorem eX4_begins_50 : dc cX4_begins 50 (.iconst 0) 1 51 := ⟨by decide +kernel, rfl⟩
theorem eX4_begins_51 : dc cX4_begins 51 (.istore_n 3) 1 52 := ⟨by decide +kernel, rfl⟩
theorem eX4_begins_2 : dc cX4_begins 2 (.iload_n 2) 1 3 := ⟨by decide +kernel, rfl⟩
theorem eX4_begins_3 : dc cX4_begins 3 (.aload_n 0) 1 4 := ⟨by decide +kernel, rfl⟩
theorem eX4_begins_4 : dc cX4_begins 4 (.getfield 308) 3 7 := ⟨by decide +kernel, rfl⟩
theorem eX4_begins_7 : dj cX4_begins 7 (.if_icmp .ge 35) 35 42 10 := ⟨by decide +kernel, by decide, rfl⟩
theorem eX4_begins_42 : dc cX4_begins 42 (.iconst 1) 1 43 := ⟨by decide +kernel, rfl⟩
theorem eX4_begins_43 : dc cX4_begins 43 (.istore_n 2) 1 44 := ⟨by decide +kernel, rfl⟩
theorem eX4_begins_10 : dc cX4_begins 10 (.aload_n 0) 1 11 := ⟨by decide +kernel, rfl⟩
theorem eX4_begins_11 : dc cX4_begins 11 (.getfield 156) 3 14 := ⟨by decide +kernel, rfl⟩
theorem eX4_begins_14 : dc cX4_begins 14 (.iload_n 2) 1 15 := ⟨by decide +kernel, rfl⟩
theorem eX4_begins_15 : dc cX4_begins 15 (.aload_n 0) 1 16 := ⟨by decide +kernel, rfl⟩
theorem eX4_begins_16 : dc cX4_begins 16 (.iload_n 1) 1 17 := ⟨by decide +kernel, rfl⟩
theorem eX4_begins_17 : dc cX4_begins 17 (.iload_n 2) 1 18 := ⟨by decide +kernel, rfl⟩
theorem eX4_begins_18 : dc cX4_begins 18 (.invokevirtual 318) 3 21 := ⟨by decide +kernel, rfl⟩
theorem eX4_begins_21 : dc cX4_begins 21 (.iastore) 1 22 := ⟨by decide +kernel, rfl⟩
theorem eX4_begins_22 : dc cX4_begins 22 (.aload_n 0) 1 23 := ⟨by decide +kernel, rfl⟩
theorem eX4_begins_23 : dc cX4_begins 23 (.getfield 159) 3 26 := ⟨by decide +kernel, rfl⟩
theorem eX4_begins_26 : dc cX4_begins 26 (.iload_n 2) 1 27 := ⟨by decide +kernel, rfl⟩
theorem eX4_begins_27 : dc cX4_begins 27 (.iload_n 1) 1 28 := ⟨by decide +kernel, rfl⟩
theorem eX4_begins_28 : dc cX4_begins 28 (.iastore) 1 29 := ⟨by decide +kernel, rfl⟩
theorem eX4_begins_29 : dc cX4_begins 29 (.aload_n 0) 1 30 := ⟨by decide +kernel, rfl⟩
theorem eX4_begins_30 : dc cX4_begins 30 (.getfield 162) 3 33 := ⟨by decide +kernel, rfl⟩
theorem eX4_begins_33 : dc cX4_begins 33 (.iload_n 2) 1 34 := ⟨by decide +kernel, rfl⟩
theorem eX4_begins_34 : dc cX4_begins 34 (.iconst (-1)) 1 35 := ⟨by decide +kernel, rfl⟩
theorem eX4_begins_35 : dc cX4_begins 35 (.iastore) 1 36 := ⟨by decide +kernel, rfl⟩
theorem eX4_begins_36 : dc cX4_begins 36 (.iinc 2 1) 3 39 := ⟨by decide +kernel, rfl⟩
theorem eX4_begins_39 : dj cX4_begins 39 (.goto (-37)) (-37) 2 42 := ⟨by decide +kernel, by decide, rfl⟩
theorem eX4_begins_0 : dc cX4_begins 0 (.iconst 0) 1 1 := ⟨by decide +kernel, rfl⟩
theorem eX4_begins_1 : dc cX4_begins 1 (.istore_n 2) 1 2 := ⟨by decide +kernel, rfl⟩
set_option maxHeartbeats 8000000 in
theorem ctX4_begins (l : Launch) : Ct l yX4_begins (.code yX4_begins cX4_begins 7 none) 3 spX4_begins := by
  refine Ct.of (own := RX4) (nm := "begins") (by decide) rfl rfl ?_
  rintro X av T I L R uc us rfl g hN hu hz ⟨p, N, B, gg, rfl, rfl, rfl, hN, hN4, hB, hB8, hp, hgT, hC, hk⟩
  refine VE.go (ls := [some (.ref 0), some (.int (nI p)), none, none, none, none, none]) g hu hz (fun _ => rfl) (fun _ => Nat.le_of_ble_eq_true rfl) ?_
  obtain ⟨hgB, hgO, π, hPot⟩ := hC
  have hcst : ∀ I', (∀ a, a ≠ 51 → a ≠ 52 → a ≠ 53 → I' a = I a) → ∀ q b, cstF I' q b = cst 1000000 (okM I) (prM I) q b := fun I' h q b => by
    rw [cstF_cg (h 46 (by decide) (by decide) (by decide)) (h 47 (by decide) (by decide) (by decide)) (h 31 (by decide) (by decide) (by decide)) (h 32 (by decide) (by decide) (by decide)), cstF_eq]
  have hpr := prM_01 I
  generalize okM I = ok at *
  generalize prM I = pr at *
  have hL0 : Lbl ok pr gg B N p 0 (ini ok pr p) := Lbl_ini hpr
  have hS0B := rds_B hPot hgB (ini ok pr p)
  have hNB : N * B ≤ 320 := by
    have h1 := Nat.mul_le_mul hN4 hB8
    omega
  have stop : ∀ (I2 : It) (x : Int32), LbA 1000000 B (rds ok pr gg B N (ini ok pr p) B) (I2 51) (I2 52) (I2 53) → (∀ a, a ≠ 51 → a ≠ 52 → a ≠ 53 → I2 a = I a) → V X TM I2 L RM uc us 44 [some (.ref 0), some (.int x), some (.int 0), none, none, none, none] [] := by
    intro I2 x h1 h2
    refine V_iload_2 g eX4_begins_44 ?_
    refine V_if_eq g eX4_begins_45 (fun _ => ?_) (fun c_45 => absurd c_45 (fun q => q rfl))
    refine V_vret g eX4_begins_204 ?_
    exact hk I2 h1 h2
  have outer : ∀ (n r : Nat) (I1 : It), r ≤ B → B + 1 ≤ r + n → LbA 1000000 B (rds ok pr gg B N (ini ok pr p) r) (I1 51) (I1 52) (I1 53) → (∀ a, a ≠ 51 → a ≠ 52 → a ≠ 53 → I1 a = I a) → V X TM I1 L RM uc us 44 [some (.ref 0), some (.int (nI p)), some (.int 1), none, none, none, none] [] := by
    intro n
    induction n with
    | zero => intro r I1 h1 h2; exact absurd h2 (by omega)
    | succ n ih =>
      intro r I1 hr1 hr2 hA1 hM1
      have hLr := Lbl_rds hpr hPot hgB hL0 r
      have hrk : 0 + r * (N * B) ≤ 2560 := by
        have := Nat.mul_le_mul (show r ≤ 8 by omega) hNB
        omega
      generalize hS0 : rds ok pr gg B N (ini ok pr p) r = S0 at hA1 hLr
      have mid : ∀ (n2 q : Nat) (I2 : It) (f : Int32), q ≤ N → N + 1 ≤ q + n2 → LbA 1000000 B (psQ ok pr gg B S0 q) (I2 51) (I2 52) (I2 53) → (∀ a, a ≠ 51 → a ≠ 52 → a ≠ 53 → I2 a = I a) → ((f = 0 ∧ psQ ok pr gg B S0 q = S0) ∨ (f = 1 ∧ ¬ Stb ok pr gg B N S0)) → V X TM I2 L RM uc us 52 [some (.ref 0), some (.int (nI p)), some (.int f), some (.int (nI q)), none, none, none] [] := by
        intro n2
        induction n2 with
        | zero => intro q I2 f h1 h2; exact absurd h2 (by omega)
        | succ n2 ih2 =>
          intro q I2 f hq1 hq2 hA2 hM2 hfl
          have nx : ∀ (I3 : It) (f3 : Int32) (l4 l5 l6 : Option Value), q < N → LbA 1000000 B (psQ ok pr gg B S0 (q + 1)) (I3 51) (I3 52) (I3 53) → (∀ a, a ≠ 51 → a ≠ 52 → a ≠ 53 → I3 a = I a) → ((f3 = 0 ∧ psQ ok pr gg B S0 (q + 1) = S0) ∨ (f3 = 1 ∧ ¬ Stb ok pr gg B N S0)) → V X TM I3 L RM uc us 195 [some (.ref 0), some (.int (nI p)), some (.int f3), some (.int (nI q)), l4, l5, l6] [] := by
            intro I3 f3 l4 l5 l6 g1 g2 g3 g4
            refine V_iinc_3 (v := 1) g eX4_begins_195 (by decide) (by decide) rfl ?_
            refine V_goto g eX4_begins_198 ?_
            rw [nI_1]
            refine V_kill_4 (V_kill_5 (V_kill_6 ?_))
            exact ih2 (q + 1) I3 f3 (by omega) (by omega) g2 g3 g4
          have non : ∀ (I3 : It) (f3 : Int32), q < N → LbA 1000000 B (psQ ok pr gg B S0 (q + 1)) (I3 51) (I3 52) (I3 53) → (∀ a, a ≠ 51 → a ≠ 52 → a ≠ 53 → I3 a = I a) → ((f3 = 0 ∧ psQ ok pr gg B S0 (q + 1) = S0) ∨ (f3 = 1 ∧ ¬ Stb ok pr gg B N S0)) → V X TM I3 L RM uc us 71 [some (.ref 0), some (.int (nI p)), some (.int f3), some (.int (nI q)), some (.int (-1)), some (.int 0), none] [] := by
            intro I3 f3 g1 g2 g3 g4
            refine V_iload_5 g eX4_begins_71 ?_
            refine V_aload_0 g eX4_begins_73 ?_
            refine V_getI g eX4_begins_74 flX4_308 rfl rfl ?_
            refine V_top (y := nI B) (by rw [g3 0 (by decide) (by decide) (by decide)]; exact hB) ?_
            refine V_icmp_ge g eX4_begins_77 (fun c_77 => ?_) (fun c_77 => ?_)
            · exact nx I3 f3 _ _ _ g1 g2 g3 g4
            · refine V_iload_4 g eX4_begins_80 ?_
              refine V_if_lt g eX4_begins_82 (fun _ => ?_) (fun c_82 => absurd c_82 (fun q => q (by decide)))
              exact nx I3 f3 _ _ _ g1 g2 g3 g4
          have inn : ∀ a, q < N → gg q = some a → ∀ (n3 m : Nat) (I3 : It) (f3 : Int32) (l6 : Option Value), m ≤ B → B + 1 ≤ m + n3 → LbA 1000000 B (psB ok pr (psQ ok pr gg B S0 q) q a m) (I3 51) (I3 52) (I3 53) → (∀ a, a ≠ 51 → a ≠ 52 → a ≠ 53 → I3 a = I a) → ((f3 = 0 ∧ psB ok pr (psQ ok pr gg B S0 q) q a m = S0) ∨ (f3 = 1 ∧ ¬ Stb ok pr gg B N S0)) → V X TM I3 L RM uc us 71 [some (.ref 0), some (.int (nI p)), some (.int f3), some (.int (nI q)), some (.int (nI a)), some (.int (nI m)), l6] [] := by
            intro a hqN hga n3
            have ha := hgB q a hqN hga
            have hoa := hgO q a hqN hga
            induction n3 with
            | zero => intro m I3 f3 l6 h1 h2; exact absurd h2 (by omega)
            | succ n3 ih3 =>
              intro m I3 f3 l6 hm1 hm2 hA3 hM3 hfl3
              have hLq := Lbl_psB hpr hPot hgB (Lbl_psQ hpr hPot hgB hLr q (by omega)) hqN hga m hm1
              have hkk : 0 + r * (N * B) + q * B + m ≤ 4000 := by
                have h1 := Nat.mul_le_mul hq1 (Nat.le_refl B)
                omega
              have hSm := hLq.2.2.2.1
              generalize hS' : psB ok pr (psQ ok pr gg B S0 q) q a m = S' at hA3 hfl3 hSm
              have hc3 := hcst I3 hM3
              have h45 : I3 0 45 = nI B := by rw [hM3 0 (by decide) (by decide) (by decide)]; exact hB
              have at189 : ∀ (I4 : It) (f4 : Int32) (l6 : Option Value), m < B → LbA 1000000 B (psB ok pr (psQ ok pr gg B S0 q) q a (m + 1)) (I4 51) (I4 52) (I4 53) → (∀ a, a ≠ 51 → a ≠ 52 → a ≠ 53 → I4 a = I a) → ((f4 = 0 ∧ psB ok pr (psQ ok pr gg B S0 q) q a (m + 1) = S0) ∨ (f4 = 1 ∧ ¬ Stb ok pr gg B N S0)) → V X TM I4 L RM uc us 189 [some (.ref 0), some (.int (nI p)), some (.int f4), some (.int (nI q)), some (.int (nI a)), some (.int (nI m)), l6] [] := by
                intro I4 f4 l6 g0 g1 g2 g3
                refine V_iinc_5 (v := 1) g eX4_begins_189 (by decide) (by decide) rfl ?_
                refine V_goto g eX4_begins_192 ?_
                rw [nI_1]
                exact ih3 (m + 1) I4 f4 _ (by omega) (by omega) g1 g2 g3
              have at140 : m < B → V X TM I3 L RM uc us 140 [some (.ref 0), some (.int (nI p)), some (.int f3), some (.int (nI q)), some (.int (nI a)), some (.int (nI m)), l6] [.int (eL 1000000 (nvF ok pr S'.1 q a m))] := by
                intro hmB
                have hm := hA3 m hmB
                have ub := eL_b (F := 1000000) hSm hB8 hkk hmB (by omega)
                have hp1 := hpr q m
                have hp2 := hpr q a
                have nvb : ∀ n, nvF ok pr S'.1 q a m = some n → -4001 ≤ n ∧ n ≤ 10 := by
                  intro n hn
                  obtain ⟨-, x, x1, x2⟩ := nv_some hn
                  have := Sml_b hSm hB8 hkk ha x1
                  omega
                have same : rx ok pr S'.1 q a m = none → psB ok pr (psQ ok pr gg B S0 q) q a (m + 1) = S' := by
                  intro hn
                  show st1 ok pr (psB ok pr (psQ ok pr gg B S0 q) q a m) q a m = S'
                  rw [hS', st1_n hn]
                refine V_istore_6 g eX4_begins_140 (by decide) rfl ?_
                refine V_iload_5 g eX4_begins_142 ?_
                refine V_iload_4 g eX4_begins_144 ?_
                refine V_icmp_eq g eX4_begins_146 (fun c_146 => ?_) (fun c_146 => ?_)
                · have e := same (rx_1 (nI_eq' (by omega) (by omega) c_146))
                  exact at189 I3 f3 _ hmB (by rw [e]; exact hA3) hM3 (by rw [e]; exact hfl3)
                · refine V_iload_6 g eX4_begins_149 ?_
                  refine V_aload_0 g eX4_begins_151 ?_
                  refine V_getR g eX4_begins_152 flX4_156 rfl rfl rfl ?_
                  refine V_iload_5 g eX4_begins_155 ?_
                  refine V_ialdN g eX4_begins_157 rfl (by omega) (by decide) ?_
                  refine V_top (y := eL 1000000 (S'.1 m)) hm.1 ?_
                  refine V_icmp_ge g eX4_begins_158 (fun c_158 => ?_) (fun c_158 => ?_)
                  · have e := same ?_
                    · exact at189 I3 f3 _ hmB (by rw [e]; exact hA3) hM3 (by rw [e]; exact hfl3)
                    · cases hn : nvF ok pr S'.1 q a m with
                      | none => exact rx_2 hn
                      | some n =>
                        have hb := nvb n hn
                        rw [hn] at c_158
                        refine rx_3 hn (fun w => ?_)
                        have c := (iN_le (by omega) (by omega) (by simp; omega) (by simp; omega)).mp c_158
                        cases hd : S'.1 m with
                        | none => rw [hd] at c; simp at c; omega
                        | some y => rw [hd] at c w; have w := of_decide_eq_true w; simp at c; omega
                  · refine V_aload_0 g eX4_begins_161 ?_
                    refine V_getR g eX4_begins_162 flX4_156 rfl rfl rfl ?_
                    refine V_iload_5 g eX4_begins_165 ?_
                    refine V_iload_6 g eX4_begins_167 ?_
                    refine V_iastN g eX4_begins_169 rfl (by omega) (by decide) ?_
                    refine V_aload_0 g eX4_begins_170 ?_
                    refine V_getR g eX4_begins_171 flX4_159 rfl rfl rfl ?_
                    refine V_iload_5 g eX4_begins_174 ?_
                    refine V_iload_3 g eX4_begins_176 ?_
                    refine V_iastN g eX4_begins_177 rfl (by omega) (by decide) ?_
                    refine V_aload_0 g eX4_begins_178 ?_
                    refine V_getR g eX4_begins_179 flX4_162 rfl rfl rfl ?_
                    refine V_iload_5 g eX4_begins_182 ?_
                    refine V_iload_4 g eX4_begins_184 ?_
                    refine V_iastN g eX4_begins_186 rfl (by omega) (by decide) ?_
                    refine V_iconst (v := 1) g eX4_begins_187 (by decide) ?_
                    refine V_istore_2 g eX4_begins_188 (by decide) rfl ?_
                    cases hn : nvF ok pr S'.1 q a m with
                    | none => exact absurd ((iN_le (by omega) (by omega) (by rw [hn]; simp) (by rw [hn]; simp)).mpr (by rw [hn]; simp; exact ub.2)) c_158
                    | some n =>
                      have hb := nvb n hn
                      have hlt : ltO n (S'.1 m) = true := by
                        cases hd : S'.1 m with
                        | none => rfl
                        | some y =>
                          refine decide_eq_true ?_
                          refine Int.not_le.mp (fun w => c_158 ?_)
                          rw [hn, hd]
                          have := Sml_b hSm hB8 hkk hmB hd
                          exact (iN_le (by simp; omega) (by simp; omega) (by simp; omega) (by simp; omega)).mpr w
                      have hrx := rx_4 (fun w => c_146 (by rw [w])) hn hlt
                      have e : psB ok pr (psQ ok pr gg B S0 q) q a (m + 1) = st1 ok pr S' q a m := by show st1 ok pr (psB ok pr (psQ ok pr gg B S0 q) q a m) q a m = _; rw [hS']
                      refine at189 _ 1 _ hmB ?_ (fun b b1 b2 b3 => by rw [u2_o _ _ b3, u2_o _ _ b2, u2_o _ _ b1]; exact hM3 b b1 b2 b3) (Or.inr ⟨rfl, fun hst => ?_⟩)
                      · rw [e]
                        have := LbA_s hA3 hrx
                        rw [u2_o _ _ (by decide), u2_o _ _ (by decide), u2_row, u2_o _ _ (by decide), u2_row, u2_o _ _ (by decide), u2_row, u2_o _ _ (by decide), u2_o _ _ (by decide)]
                        exact this
                      · rcases hfl3 with ⟨-, z⟩ | ⟨-, z⟩
                        · rw [z, hst q a m hqN hga hmB] at hrx; cases hrx
                        · exact z hst
              refine V_iload_5 g eX4_begins_71 ?_
              refine V_aload_0 g eX4_begins_73 ?_
              refine V_getI g eX4_begins_74 flX4_308 rfl rfl ?_
              refine V_top (y := nI B) h45 ?_
              refine V_icmp_ge g eX4_begins_77 (fun c_77 => ?_) (fun c_77 => ?_)
              · have hmB : m = B := by have := nI_le' (a := B) (b := m) (by omega) (by omega) c_77; omega
                have e : psQ ok pr gg B S0 (q + 1) = S' := by rw [← hS', hmB]; show (match gg q with | none => _ | some a => _) = _; rw [hga]
                exact nx I3 f3 _ _ _ hqN (by rw [e]; exact hA3) hM3 (by rw [e]; exact hfl3)
              · have hmB := nI_nle' (a := B) (b := m) (by omega) (by omega) c_77
                have hca := (hA3 a ha).1
                have uba := eL_b (F := 1000000) hSm hB8 hkk ha (by omega)
                have hp1 := hpr q m
                refine V_iload_4 g eX4_begins_80 ?_
                refine V_if_lt g eX4_begins_82 (fun c_82 => absurd c_82 (nI_pos (by omega))) (fun _ => ?_)
                refine V_aload_0 g eX4_begins_85 ?_
                refine V_iload_3 g eX4_begins_86 ?_
                refine V_iload_5 g eX4_begins_87 ?_
                refine V_cv2 g (ctX4_costOf _) eX4_begins_89 pkX4_318 rfl rfl (by decide) (by decide) (Nat.le_of_ble_eq_true rfl) ?_
                refine ⟨q, m, rfl, rfl, rfl, by omega, by omega, ?_⟩
                rw [hc3 q m]
                refine V_ldcw g eX4_begins_92 (lk q1614) ?_
                refine V_icmp_eq g eX4_begins_95 (fun c_95 => ?_) (fun c_95 => ?_)
                · refine V_ldcw g eX4_begins_111 (lk q1614) ?_
                  refine V_goto g eX4_begins_114 ?_
                  have hno : ¬ ok q m = true := fun w => by unfold cst at c_95; rw [if_pos w] at c_95; have := (iN_eq (y := 1000000) (by omega) (by omega) (by decide) (by decide)).mp c_95; omega
                  have e : nvF ok pr S'.1 q a m = none := by unfold nvF; rw [if_neg hno]
                  have := at140 hmB
                  rw [e] at this
                  exact this
                · refine V_aload_0 g eX4_begins_98 ?_
                  refine V_getR g eX4_begins_99 flX4_156 rfl rfl rfl ?_
                  refine V_iload_4 g eX4_begins_102 ?_
                  refine V_ialdN g eX4_begins_104 rfl (by omega) (by decide) ?_
                  refine V_top (y := eL 1000000 (S'.1 a)) hca ?_
                  refine V_ldcw g eX4_begins_105 (lk q1614) ?_
                  refine V_icmp_lt g eX4_begins_108 (fun c_108 => ?_) (fun c_108 => ?_)
                  · refine V_aload_0 g eX4_begins_117 ?_
                    refine V_getR g eX4_begins_118 flX4_156 rfl rfl rfl ?_
                    refine V_iload_4 g eX4_begins_121 ?_
                    refine V_ialdN g eX4_begins_123 rfl (by omega) (by decide) ?_
                    refine V_top (y := eL 1000000 (S'.1 a)) hca ?_
                    refine V_aload_0 g eX4_begins_124 ?_
                    refine V_iload_3 g eX4_begins_125 ?_
                    refine V_iload_5 g eX4_begins_126 ?_
                    refine V_cv2 g (ctX4_costOf _) eX4_begins_128 pkX4_318 rfl rfl (by decide) (by decide) (Nat.le_of_ble_eq_true rfl) ?_
                    refine ⟨q, m, rfl, rfl, rfl, by omega, by omega, ?_⟩
                    rw [hc3 q m]
                    refine V_iadd g eX4_begins_131 ?_
                    refine V_aload_0 g eX4_begins_132 ?_
                    refine V_iload_3 g eX4_begins_133 ?_
                    refine V_iload_4 g eX4_begins_134 ?_
                    refine V_cv2 g (ctX4_costOf _) eX4_begins_136 pkX4_318 rfl rfl (by decide) (by decide) (Nat.le_of_ble_eq_true rfl) ?_
                    refine ⟨q, a, rfl, rfl, rfl, by omega, by omega, ?_⟩
                    rw [hc3 q a]
                    refine V_isub g eX4_begins_139 ?_
                    have hok : ok q m = true := Decidable.byContradiction fun w => c_95 (by unfold cst; rw [if_neg w]; rfl)
                    obtain ⟨x, hx⟩ : ∃ x, S'.1 a = some x := by cases hd : S'.1 a with | some x => exact ⟨x, rfl⟩ | none => rw [hd] at c_108; exact absurd c_108 (by decide)
                    have e : nvF ok pr S'.1 q a m = some (x + pr q m - pr q a) := by unfold nvF; rw [if_pos hok, hx]; rfl
                    have := at140 hmB
                    rw [e] at this
                    refine V_top ?_ this
                    unfold cst
                    rw [if_pos hok, if_pos hoa, hx]
                    show iN x + iN (pr q m) - iN (pr q a) = iN (x + pr q m - pr q a)
                    rw [iN_add, iN_sub]
                  · refine V_ldcw g eX4_begins_111 (lk q1614) ?_
                    refine V_goto g eX4_begins_114 ?_
                    have e : nvF ok pr S'.1 q a m = none := by unfold nvF; cases hd : S'.1 a with | none => simp | some x => exfalso; apply c_108; rw [hd]; have := Sml_b hSm hB8 hkk ha hd; exact (iN_lt (y := 1000000) (by simp; omega) (by simp; omega) (by decide) (by decide)).mpr (by simp; omega)
                    have := at140 hmB
                    rw [e] at this
                    exact this
          have h25 : I2 0 25 = nI N := by rw [hM2 0 (by decide) (by decide) (by decide)]; exact hN
          have h45 : I2 0 45 = nI B := by rw [hM2 0 (by decide) (by decide) (by decide)]; exact hB
          refine V_iload_3 g eX4_begins_52 ?_
          refine V_aload_0 g eX4_begins_53 ?_
          refine V_getI g eX4_begins_54 flX4_258 rfl rfl ?_
          refine V_top (y := nI N) h25 ?_
          refine V_icmp_ge g eX4_begins_57 (fun c_57 => ?_) (fun c_57 => ?_)
          · refine V_goto g eX4_begins_201 ?_
            have hqN : q = N := by have := nI_le' (a := N) (b := q) (by omega) (by omega) c_57; omega
            subst hqN
            refine V_kill_3 ?_
            rcases hfl with ⟨rfl, hf⟩ | ⟨rfl, hf⟩
            · rw [hf] at hA2
              refine stop I2 _ ?_ hM2
              rw [← hS0] at hA2 hf
              rw [rds_same hf B hr1]
              exact hA2
            · refine ih (r + 1) I2 ?_ (by omega) ?_ hM2
              · refine Decidable.byContradiction fun w => hf ?_
                obtain rfl : r = B := by omega
                rw [← hS0]; exact hS0B
              · show LbA 1000000 B (psQ ok pr gg B (rds ok pr gg B q (ini ok pr p) r) q) _ _ _
                rw [hS0]; exact hA2
          · have hqN := nI_nle' (a := N) (b := q) (by omega) (by omega) c_57
            have h49 : I2 49 q = eN (gg q) := by rw [hM2 49 (by decide) (by decide) (by decide)]; exact hgT q hqN
            refine V_aload_0 g eX4_begins_60 ?_
            refine V_getR g eX4_begins_61 flX4_150 rfl rfl rfl ?_
            refine V_iload_3 g eX4_begins_64 ?_
            refine V_ialdN g eX4_begins_65 rfl (by omega) (by decide) ?_
            refine V_top (y := eN (gg q)) h49 ?_
            refine V_istore_4 g eX4_begins_66 (by decide) rfl ?_
            refine V_iconst (v := 0) g eX4_begins_68 (by decide) ?_
            refine V_istore_5 g eX4_begins_69 (by decide) rfl ?_
            cases hga : gg q with
            | some a => exact inn a hqN hga (B + 1) 0 I2 f _ (by omega) (by omega) hA2 hM2 hfl
            | none =>
              have e : psQ ok pr gg B S0 (q + 1) = psQ ok pr gg B S0 q := by show (match gg q with | none => _ | some a => _) = _; rw [hga]
              exact non I2 f hqN (by rw [e]; exact hA2) hM2 (by rw [e]; exact hfl)
      refine V_iload_2 g eX4_begins_44 ?_
      refine V_if_eq g eX4_begins_45 (fun c_45 => absurd c_45 (by decide)) (fun _ => ?_)
      refine V_iconst (v := 0) g eX4_begins_48 (by decide) ?_
      refine V_istore_2 g eX4_begins_49 (by decide) rfl ?_
      refine V_iconst (v := 0) g eX4_begins_50 (by decide) ?_
      refine V_istore_3 g eX4_begins_51 (by decide) rfl ?_
      exact mid (N + 1) 0 I1 0 (by omega) (by omega) hA1 hM1 (Or.inl ⟨rfl, rfl⟩)
  have first : ∀ (n m : Nat) (I1 : It), m ≤ B → B + 1 ≤ m + n → LbA 1000000 m (ini ok pr p) (I1 51) (I1 52) (I1 53) → (∀ a, a ≠ 51 → a ≠ 52 → a ≠ 53 → I1 a = I a) → V X TM I1 L RM uc us 2 [some (.ref 0), some (.int (nI p)), some (.int (nI m)), none, none, none, none] [] := by
    intro n
    induction n with
    | zero => intro m I1 h1 h2; exact absurd h2 (by omega)
    | succ n ih =>
      intro m I1 h1 h2 hA hM
      have h45 : I1 0 45 = nI B := by rw [hM 0 (by decide) (by decide) (by decide)]; exact hB
      refine V_iload_2 g eX4_begins_2 ?_
      refine V_aload_0 g eX4_begins_3 ?_
      refine V_getI g eX4_begins_4 flX4_308 rfl rfl ?_
      refine V_top (y := nI B) h45 ?_
      refine V_icmp_ge g eX4_begins_7 (fun c_7 => ?_) (fun c_7 => ?_)
      · refine V_iconst (v := 1) g eX4_begins_42 (by decide) ?_
        refine V_istore_2 g eX4_begins_43 (by decide) rfl ?_
        have hmB : m = B := by have := nI_le' (a := B) (b := m) (by omega) (by omega) c_7; omega
        subst hmB
        exact outer (m + 1) 0 I1 (by omega) (by omega) hA hM
      · have hmB := nI_nle' (a := B) (b := m) (by omega) (by omega) c_7
        refine V_aload_0 g eX4_begins_10 ?_
        refine V_getR g eX4_begins_11 flX4_156 rfl rfl rfl ?_
        refine V_iload_2 g eX4_begins_14 ?_
        refine V_aload_0 g eX4_begins_15 ?_
        refine V_iload_1 g eX4_begins_16 ?_
        refine V_iload_2 g eX4_begins_17 ?_
        refine V_cv2 g (ctX4_costOf _) eX4_begins_18 pkX4_318 rfl rfl (by decide) (by decide) (Nat.le_of_ble_eq_true rfl) ?_
        refine ⟨p, m, rfl, rfl, rfl, by omega, by omega, ?_⟩
        rw [hcst I1 hM p m]
        refine V_iastN g eX4_begins_21 rfl (by omega) (by decide) ?_
        refine V_aload_0 g eX4_begins_22 ?_
        refine V_getR g eX4_begins_23 flX4_159 rfl rfl rfl ?_
        refine V_iload_2 g eX4_begins_26 ?_
        refine V_iload_1 g eX4_begins_27 ?_
        refine V_iastN g eX4_begins_28 rfl (by omega) (by decide) ?_
        refine V_aload_0 g eX4_begins_29 ?_
        refine V_getR g eX4_begins_30 flX4_162 rfl rfl rfl ?_
        refine V_iload_2 g eX4_begins_33 ?_
        refine V_iconst (v := (-1)) g eX4_begins_34 (by decide) ?_
        refine V_iastN g eX4_begins_35 rfl (by omega) (by decide) ?_
        refine V_iinc_2 (v := 1) g eX4_begins_36 (by decide) (by decide) rfl ?_
        refine V_goto g eX4_begins_39 ?_
        rw [nI_1]
        refine ih (m + 1) _ (by omega) (by omega) ?_ (fun b b1 b2 b3 => by rw [u2_o _ _ b3, u2_o _ _ b2, u2_o _ _ b1]; exact hM b b1 b2 b3)
        rw [u2_o _ _ (by decide), u2_o _ _ (by decide), u2_row, u2_o _ _ (by decide), u2_row, u2_o _ _ (by decide), u2_row, u2_o _ _ (by decide), u2_o _ _ (by decide)]
        intro v hv
        by_cases e : v = m
        · subst e
          rw [va_up_self, va_up_self, va_up_self]
          refine ⟨?_, rfl, rfl⟩
          show cst _ _ _ _ _ = eL _ (if ok p v = true then some (pr p v) else none)
          unfold cst
          split <;> rfl
        · rw [va_up_ne _ _ e, va_up_ne _ _ e, va_up_ne _ _ e]
          exact hA v (by omega)
  refine V_iconst (v := 0) g eX4_begins_0 (by decide) ?_
  refine V_istore_2 g eX4_begins_1 (by decide) rfl ?_
  exact first (B + 1) 0 I (by omega) (by omega) (fun v hv => absurd hv (by omega)) (fun _ _ _ _ => rfl)

