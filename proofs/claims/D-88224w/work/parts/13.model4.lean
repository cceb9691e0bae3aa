/-! BedBookModel: fits, names, joins (printed out of tmpl/t_model4.txt) -/
set_option maxRecDepth 100000
/-- the row r of the marks of P fits what A is of -/
abbrev fitR (I : It) (P A r : Nat) : Prop :=
  (¬ I 26 A < 2 ∧ I 30 (8 * P + 2 * r + 0) = I 30 (8 * (I 27 A).toNatClampNeg + 2 * r + 0) ∧ I 30 (8 * P + 2 * r + 1) = I 30 (8 * (I 27 A).toNatClampNeg + 2 * r + 1)) ∨
  (I 26 A < 2 ∧ I 28 A < 0 ∧ (hasM I (I 27 A).toNatClampNeg r (I 30 (8 * P + 2 * r + 0)) ∨ hasM I (I 27 A).toNatClampNeg r (I 30 (8 * P + 2 * r + 1)))) ∨
  (I 26 A < 2 ∧ ¬ I 28 A < 0 ∧ ((hasM I (I 27 A).toNatClampNeg r (I 30 (8 * P + 2 * r + 0)) ∧ hasM I (I 28 A).toNatClampNeg r (I 30 (8 * P + 2 * r + 1))) ∨ (hasM I (I 27 A).toNatClampNeg r (I 30 (8 * P + 2 * r + 1)) ∧ hasM I (I 28 A).toNatClampNeg r (I 30 (8 * P + 2 * r + 0)))))
abbrev fitA (I : It) (P A : Nat) : Prop := I 26 A = 0 ∨ ∀ r, r < 4 → fitR I P A r
/-- A's mother and father are plants -/
def ofOK (I : It) (A : Nat) : Prop := ¬ I 26 A = 0 → (∃ F : Nat, F < 40 ∧ I 27 A = nI F) ∧ (I 28 A < 0 ∨ ∃ D : Nat, D < 40 ∧ I 28 A = nI D)
theorem acc_s {p : Nat → Prop} {w : Nat} {x : Int32} [Decidable (∀ r, r < w → p r)] [Decidable (∀ r, r < w + 1 → p r)] {gd : Int32} (hg : gd = bI (∀ r, r < w → p r)) (h : (x = 1 ∧ ¬ gd = 0 ∧ p w) ∨ (x = 0 ∧ (gd = 0 ∨ ¬ p w))) : x = bI (∀ r, r < w + 1 → p r) := by
  rcases h with ⟨rfl, h1, h2⟩ | ⟨rfl, h⟩
  · refine (bI_t ?_).symm
    rw [hg] at h1
    exact lt_s (bI_n h1) h2
  · refine (bI_f ?_).symm
    intro q
    rcases h with h | h
    · rw [hg] at h
      exact (bI_0.mp h) (fun r hr => q r (by omega))
    · exact h (q w (by omega))
abbrev spX4_fitsAs : Sp := fun av T I L R uc us k => ∃ P : Nat, ∃ A : Nat, av = [.ref 0, .int (nI P), .int (nI A)] ∧ T = TM ∧ R = RM ∧ P < 40 ∧ A < 40 ∧ ofOK I A ∧ k (.inl (some (.int (bI (fitA I P A))))) T I L R uc us
theorem eX4_fitsAs_213 : dc cX4_fitsAs 213 (.iinc 4 1) 3 216 := ⟨by decide +kernel, rfl⟩
theorem eX4_fitsAs_216 : dj cX4_fitsAs 216 (.goto (-211)) (-211) 5 219 := ⟨by decide +kernel, by decide, rfl⟩
theorem eX4_fitsAs_5 : dc cX4_fitsAs 5 (.iload 4) 2 7 := ⟨by decide +kernel, rfl⟩
theorem eX4_fitsAs_7 : dc cX4_fitsAs 7 (.iconst 4) 1 8 := ⟨by decide +kernel, rfl⟩
theorem eX4_fitsAs_8 : dj cX4_fitsAs 8 (.if_icmp .ge 211) 211 219 11 := ⟨by decide +kernel, by decide, rfl⟩
theorem eX4_fitsAs_219 : dc cX4_fitsAs 219 (.iload_n 3) 1 220 := ⟨by decide +kernel, rfl⟩
theorem eX4_fitsAs_220 : dc cX4_fitsAs 220 (.ireturn) 1 221 := ⟨by decide +kernel, rfl⟩
theorem eX4_fitsAs_11 : dc cX4_fitsAs 11 (.aload_n 0) 1 12 := ⟨by decide +kernel, rfl⟩
theorem eX4_fitsAs_12 : dc cX4_fitsAs 12 (.getfield 90) 3 15 := ⟨by decide +kernel, rfl⟩
theorem eX4_fitsAs_15 : dc cX4_fitsAs 15 (.iload_n 2) 1 16 := ⟨by decide +kernel, rfl⟩
theorem eX4_fitsAs_16 : dc cX4_fitsAs 16 (.iaload) 1 17 := ⟨by decide +kernel, rfl⟩
theorem eX4_fitsAs_17 : dj cX4_fitsAs 17 (.ifCond .eq 202) 202 219 20 := ⟨by decide +kernel, by decide, rfl⟩
theorem eX4_fitsAs_20 : dc cX4_fitsAs 20 (.aload_n 0) 1 21 := ⟨by decide +kernel, rfl⟩
theorem eX4_fitsAs_21 : dc cX4_fitsAs 21 (.iload_n 1) 1 22 := ⟨by decide +kernel, rfl⟩
theorem eX4_fitsAs_22 : dc cX4_fitsAs 22 (.iload 4) 2 24 := ⟨by decide +kernel, rfl⟩
theorem eX4_fitsAs_24 : dc cX4_fitsAs 24 (.iconst 0) 1 25 := ⟨by decide +kernel, rfl⟩
theorem eX4_fitsAs_25 : dc cX4_fitsAs 25 (.invokevirtual 271) 3 28 := ⟨by decide +kernel, rfl⟩
theorem eX4_fitsAs_28 : dc cX4_fitsAs 28 (.istore 5) 2 30 := ⟨by decide +kernel, rfl⟩
theorem eX4_fitsAs_30 : dc cX4_fitsAs 30 (.aload_n 0) 1 31 := ⟨by decide +kernel, rfl⟩
theorem eX4_fitsAs_31 : dc cX4_fitsAs 31 (.iload_n 1) 1 32 := ⟨by decide +kernel, rfl⟩
theorem eX4_fitsAs_32 : dc cX4_fitsAs 32 (.iload 4) 2 34 := ⟨by decide +kernel, rfl⟩
theorem eX4_fitsAs_34 : dc cX4_fitsAs 34 (.iconst 1) 1 35 := ⟨by decide +kernel, rfl⟩
theorem eX4_fitsAs_35 : dc cX4_fitsAs 35 (.invokevirtual 271) 3 38 := ⟨by decide +kernel, rfl⟩
theorem eX4_fitsAs_38 : dc cX4_fitsAs 38 (.istore 6) 2 40 := ⟨by decide +kernel, rfl⟩
theorem eX4_fitsAs_40 : dc cX4_fitsAs 40 (.aload_n 0) 1 41 := ⟨by decide +kernel, rfl⟩
theorem eX4_fitsAs_41 : dc cX4_fitsAs 41 (.getfield 93) 3 44 := ⟨by decide +kernel, rfl⟩
theorem eX4_fitsAs_44 : dc cX4_fitsAs 44 (.iload_n 2) 1 45 := ⟨by decide +kernel, rfl⟩
theorem eX4_fitsAs_45 : dc cX4_fitsAs 45 (.iaload) 1 46 := ⟨by decide +kernel, rfl⟩
theorem eX4_fitsAs_46 : dc cX4_fitsAs 46 (.istore 7) 2 48 := ⟨by decide +kernel, rfl⟩
theorem eX4_fitsAs_48 : dc cX4_fitsAs 48 (.aload_n 0) 1 49 := ⟨by decide +kernel, rfl⟩
theorem eX4_fitsAs_49 : dc cX4_fitsAs 49 (.getfield 96) 3 52 := ⟨by decide +kernel, rfl⟩
theorem eX4_fitsAs_52 : dc cX4_fitsAs 52 (.iload_n 2) 1 53 := ⟨by decide +kernel, rfl⟩
theorem eX4_fitsAs_53 : dc cX4_fitsAs 53 (.iaload) 1 54 := ⟨by decide +kernel, rfl⟩
theorem eX4_fitsAs_54 : dc cX4_fitsAs 54 (.istore 8) 2 56 := ⟨by decide +kernel, rfl⟩
theorem eX4_fitsAs_56 : dc cX4_fitsAs 56 (.aload_n 0) 1 57 := ⟨by decide +kernel, rfl⟩
theorem eX4_fitsAs_57 : dc cX4_fitsAs 57 (.getfield 90) 3 60 := ⟨by decide +kernel, rfl⟩
theorem eX4_fitsAs_60 : dc cX4_fitsAs 60 (.iload_n 2) 1 61 := ⟨by decide +kernel, rfl⟩
theorem eX4_fitsAs_61 : dc cX4_fitsAs 61 (.iaload) 1 62 := ⟨by decide +kernel, rfl⟩
theorem eX4_fitsAs_62 : dc cX4_fitsAs 62 (.iconst 2) 1 63 := ⟨by decide +kernel, rfl⟩
theorem eX4_fitsAs_63 : dj cX4_fitsAs 63 (.if_icmp .lt 44) 44 107 66 := ⟨by decide +kernel, by decide, rfl⟩
theorem eX4_fitsAs_107 : dc cX4_fitsAs 107 (.iload 8) 2 109 := ⟨by decide +kernel, rfl⟩
theorem eX4_fitsAs_109 : dj cX4_fitsAs 109 (.ifCond .ge 42) 42 151 112 := ⟨by decide +kernel, by decide, rfl⟩
theorem eX4_fitsAs_151 : dc cX4_fitsAs 151 (.iload_n 3) 1 152 := ⟨by decide +kernel, rfl⟩
theorem eX4_fitsAs_152 : dj cX4_fitsAs 152 (.ifCond .eq 59) 59 211 155 := ⟨by decide +kernel, by decide, rfl⟩
theorem eX4_fitsAs_211 : dc cX4_fitsAs 211 (.iconst 0) 1 212 := ⟨by decide +kernel, rfl⟩
theorem eX4_fitsAs_212 : dc cX4_fitsAs 212 (.istore_n 3) 1 213 := ⟨by decide +kernel, rfl⟩
theorem eX4_fitsAs_155 : dc cX4_fitsAs 155 (.aload_n 0) 1 156 := ⟨by decide +kernel, rfl⟩
theorem eX4_fitsAs_156 : dc cX4_fitsAs 156 (.iload 7) 2 158 := ⟨by decide +kernel, rfl⟩
theorem eX4_fitsAs_158 : dc cX4_fitsAs 158 (.iload 4) 2 160 := ⟨by decide +kernel, rfl⟩
theorem eX4_fitsAs_160 : dc cX4_fitsAs 160 (.iload 5) 2 162 := ⟨by decide +kernel, rfl⟩
theorem eX4_fitsAs_162 : dc cX4_fitsAs 162 (.invokevirtual 275) 3 165 := ⟨by decide +kernel, rfl⟩
theorem pkX4_275 : PkV RX4 275 yX4_hasMark (.code yX4_hasMark cX4_hasMark 4 (some .boolean)) 4 "BedBookModel" 3 := ⟨cwd_c, (lk q1535), Or.inl (lk q1532), (lk q1534), (lk qs44), ⟨⟨by decide, by decide⟩, by decide +kernel⟩, (lk q67), by decide⟩
theorem eX4_fitsAs_165 : dj cX4_fitsAs 165 (.ifCond .eq 16) 16 181 168 := ⟨by decide +kernel, by decide, rfl⟩
theorem eX4_fitsAs_181 : dc cX4_fitsAs 181 (.aload_n 0) 1 182 := ⟨by decide +kernel, rfl⟩
theorem eX4_fitsAs_182 : dc cX4_fitsAs 182 (.iload 7) 2 184 := ⟨by decide +kernel, rfl⟩
theorem eX4_fitsAs_184 : dc cX4_fitsAs 184 (.iload 4) 2 186 := ⟨by decide +kernel, rfl⟩
theorem eX4_fitsAs_186 : dc cX4_fitsAs 186 (.iload 6) 2 188 := ⟨by decide +kernel, rfl⟩
theorem eX4_fitsAs_188 : dc cX4_fitsAs 188 (.invokevirtual 275) 3 191 := ⟨by decide +kernel, rfl⟩
theorem eX4_fitsAs_191 : dj cX4_fitsAs 191 (.ifCond .eq 20) 20 211 194 := ⟨by decide +kernel, by decide, rfl⟩
theorem eX4_fitsAs_194 : dc cX4_fitsAs 194 (.aload_n 0) 1 195 := ⟨by decide +kernel, rfl⟩
theorem eX4_fitsAs_195 : dc cX4_fitsAs 195 (.iload 8) 2 197 := ⟨by decide +kernel, rfl⟩
theorem eX4_fitsAs_197 : dc cX4_fitsAs 197 (.iload 4) 2 199 := ⟨by decide +kernel, rfl⟩
theorem eX4_fitsAs_199 : dc cX4_fitsAs 199 (.iload 5) 2 201 := ⟨by decide +kernel, rfl⟩
theorem eX4_fitsAs_201 : dc cX4_fitsAs 201 (.invokevirtual 275) 3 204 := ⟨by decide +kernel, rfl⟩
theorem eX4_fitsAs_204 : dj cX4_fitsAs 204 (.ifCond .eq 7) 7 211 207 := ⟨by decide +kernel, by decide, rfl⟩
theorem eX4_fitsAs_207 : dc cX4_fitsAs 207 (.iconst 1) 1 208 := ⟨by decide +kernel, rfl⟩
theorem eX4_fitsAs_208 : dj cX4_fitsAs 208 (.goto 4) 4 212 211 := ⟨by decide +kernel, by decide, rfl⟩
theorem eX4_fitsAs_168 : dc cX4_fitsAs 168 (.aload_n 0) 1 169 := ⟨by decide +kernel, rfl⟩
theorem eX4_fitsAs_169 : dc cX4_fitsAs 169 (.iload 8) 2 171 := ⟨by decide +kernel, rfl⟩
theorem eX4_fitsAs_171 : dc cX4_fitsAs 171 (.iload 4) 2 173 := ⟨by decide +kernel, rfl⟩
theorem eX4_fitsAs_173 : dc cX4_fitsAs 173 (.iload 6) 2 175 := ⟨by decide +kernel, rfl⟩
theorem eX4_fitsAs_175 : dc cX4_fitsAs 175 (.invokevirtual 275) 3 178 := ⟨by decide +kernel, rfl⟩
theorem eX4_fitsAs_178 : dj cX4_fitsAs 178 (.ifCond .ne 29) 29 207 181 := ⟨by decide +kernel, by decide, rfl⟩
theorem eX4_fitsAs_112 : dc cX4_fitsAs 112 (.iload_n 3) 1 113 := ⟨by decide +kernel, rfl⟩
theorem eX4_fitsAs_113 : dj cX4_fitsAs 113 (.ifCond .eq 33) 33 146 116 := ⟨by decide +kernel, by decide, rfl⟩
theorem eX4_fitsAs_146 : dc cX4_fitsAs 146 (.iconst 0) 1 147 := ⟨by decide +kernel, rfl⟩
theorem eX4_fitsAs_147 : dc cX4_fitsAs 147 (.istore_n 3) 1 148 := ⟨by decide +kernel, rfl⟩
theorem eX4_fitsAs_148 : dj cX4_fitsAs 148 (.goto 65) 65 213 151 := ⟨by decide +kernel, by decide, rfl⟩
theorem eX4_fitsAs_116 : dc cX4_fitsAs 116 (.aload_n 0) 1 117 := ⟨by decide +kernel, rfl⟩
theorem eX4_fitsAs_117 : dc cX4_fitsAs 117 (.iload 7) 2 119 := ⟨by decide +kernel, rfl⟩
theorem eX4_fitsAs_119 : dc cX4_fitsAs 119 (.iload 4) 2 121 := ⟨by decide +kernel, rfl⟩
theorem eX4_fitsAs_121 : dc cX4_fitsAs 121 (.iload 5) 2 123 := ⟨by decide +kernel, rfl⟩
theorem eX4_fitsAs_123 : dc cX4_fitsAs 123 (.invokevirtual 275) 3 126 := ⟨by decide +kernel, rfl⟩
theorem eX4_fitsAs_126 : dj cX4_fitsAs 126 (.ifCond .ne 16) 16 142 129 := ⟨by decide +kernel, by decide, rfl⟩
theorem eX4_fitsAs_142 : dc cX4_fitsAs 142 (.iconst 1) 1 143 := ⟨by decide +kernel, rfl⟩
theorem eX4_fitsAs_143 : dj cX4_fitsAs 143 (.goto 4) 4 147 146 := ⟨by decide +kernel, by decide, rfl⟩
theorem eX4_fitsAs_129 : dc cX4_fitsAs 129 (.aload_n 0) 1 130 := ⟨by decide +kernel, rfl⟩
theorem eX4_fitsAs_130 : dc cX4_fitsAs 130 (.iload 7) 2 132 := ⟨by decide +kernel, rfl⟩
theorem eX4_fitsAs_132 : dc cX4_fitsAs 132 (.iload 4) 2 134 := ⟨by decide +kernel, rfl⟩
theorem eX4_fitsAs_134 : dc cX4_fitsAs 134 (.iload 6) 2 136 := ⟨by decide +kernel, rfl⟩
theorem eX4_fitsAs_136 : dc cX4_fitsAs 136 (.invokevirtual 275) 3 139 := ⟨by decide +kernel, rfl⟩
theorem eX4_fitsAs_139 : dj cX4_fitsAs 139 (.ifCond .eq 7) 7 146 142 := ⟨by decide +kernel, by decide, rfl⟩
theorem eX4_fitsAs_66 : dc cX4_fitsAs 66 (.iload_n 3) 1 67 := ⟨by decide +kernel, rfl⟩
theorem eX4_fitsAs_67 : dj cX4_fitsAs 67 (.ifCond .eq 35) 35 102 70 := ⟨by decide +kernel, by decide, rfl⟩
theorem eX4_fitsAs_102 : dc cX4_fitsAs 102 (.iconst 0) 1 103 := ⟨by decide +kernel, rfl⟩
theorem eX4_fitsAs_103 : dc cX4_fitsAs 103 (.istore_n 3) 1 104 := ⟨by decide +kernel, rfl⟩
theorem eX4_fitsAs_104 : dj cX4_fitsAs 104 (.goto 109) 109 213 107 := ⟨by decide +kernel, by decide, rfl⟩
theorem eX4_fitsAs_70 : dc cX4_fitsAs 70 (.iload 5) 2 72 := ⟨by decide +kernel, rfl⟩
theorem eX4_fitsAs_72 : dc cX4_fitsAs 72 (.aload_n 0) 1 73 := ⟨by decide +kernel, rfl⟩
theorem eX4_fitsAs_73 : dc cX4_fitsAs 73 (.iload 7) 2 75 := ⟨by decide +kernel, rfl⟩
theorem eX4_fitsAs_75 : dc cX4_fitsAs 75 (.iload 4) 2 77 := ⟨by decide +kernel, rfl⟩
theorem eX4_fitsAs_77 : dc cX4_fitsAs 77 (.iconst 0) 1 78 := ⟨by decide +kernel, rfl⟩
theorem eX4_fitsAs_78 : dc cX4_fitsAs 78 (.invokevirtual 271) 3 81 := ⟨by decide +kernel, rfl⟩
theorem eX4_fitsAs_81 : dj cX4_fitsAs 81 (.if_icmp .ne 21) 21 102 84 := ⟨by decide +kernel, by decide, rfl⟩
theorem eX4_fitsAs_84 : dc cX4_fitsAs 84 (.iload 6) 2 86 := ⟨by decide +kernel, rfl⟩
theorem eX4_fitsAs_86 : dc cX4_fitsAs 86 (.aload_n 0) 1 87 := ⟨by decide +kernel, rfl⟩
theorem eX4_fitsAs_87 : dc cX4_fitsAs 87 (.iload 7) 2 89 := ⟨by decide +kernel, rfl⟩
theorem eX4_fitsAs_89 : dc cX4_fitsAs 89 (.iload 4) 2 91 := ⟨by decide +kernel, rfl⟩
theorem eX4_fitsAs_91 : dc cX4_fitsAs 91 (.iconst 1) 1 92 := ⟨by decide +kernel, rfl⟩
theorem eX4_fitsAs_92 : dc cX4_fitsAs 92 (.invokevirtual 271) 3 95 := ⟨by decide +kernel, rfl⟩
theorem eX4_fitsAs_95 : dj cX4_fitsAs 95 (.if_icmp .ne 7) 7 102 98 := ⟨by decide +kernel, by decide, rfl⟩
theorem eX4_fitsAs_98 : dc cX4_fitsAs 98 (.iconst 1) 1 99 := ⟨by decide +kernel, rfl⟩
theorem eX4_fitsAs_99 : dj cX4_fitsAs 99 (.goto 4) 4 103 102 := ⟨by decide +kernel, by decide, rfl⟩
theorem eX4_fitsAs_0 : dc cX4_fitsAs 0 (.iconst 1) 1 1 := ⟨by decide +kernel, rfl⟩
theorem eX4_fitsAs_1 : dc cX4_fitsAs 1 (.istore_n 3) 1 2 := ⟨by decide +kernel, rfl⟩
theorem eX4_fitsAs_2 : dc cX4_fitsAs 2 (.iconst 0) 1 3 := ⟨by decide +kernel, rfl⟩
theorem eX4_fitsAs_3 : dc cX4_fitsAs 3 (.istore 4) 2 5 := ⟨by decide +kernel, rfl⟩
set_option maxHeartbeats 8000000 in
theorem ctX4_fitsAs (l : Launch) : Ct l yX4_fitsAs (.code yX4_fitsAs cX4_fitsAs 9 (some .boolean)) 3 spX4_fitsAs := by
  refine Ct.of (own := RX4) (nm := "fitsAs") (by decide) rfl rfl ?_
  rintro X av T I L R uc us rfl g hN hu hz ⟨P, A, rfl, rfl, rfl, hP, hA, hof, hk⟩
  refine VE.go (ls := [some (.ref 0), some (.int (nI P)), some (.int (nI A)), none, none, none, none, none, none]) g hu hz (fun _ => rfl) (fun _ => Nat.le_of_ble_eq_true rfl) ?_
  have loop : ∀ (n w : Nat) (gd : Int32), w ≤ 4 → 5 ≤ w + n → gd = bI (∀ r, r < w → fitR I P A r) → (I 26 A = 0 → w = 0) → V X TM I L RM uc us 5 [some (.ref 0), some (.int (nI P)), some (.int (nI A)), some (.int gd), some (.int (nI w)), none, none, none, none] [] := by
    intro n
    induction n with
    | zero => intro w gd h1 h2; exact absurd h2 (by omega)
    | succ n ih =>
      intro w gd h1 h2 hg hw0
      have fin : ∀ x : Int32, ¬ I 26 A = 0 → w < 4 → (x = 1 ∧ ¬ gd = 0 ∧ fitR I P A w) ∨ (x = 0 ∧ (gd = 0 ∨ ¬ fitR I P A w)) → ∀ l5 l6 l7 l8, V X TM I L RM uc us 213 [some (.ref 0), some (.int (nI P)), some (.int (nI A)), some (.int x), some (.int (nI w)), l5, l6, l7, l8] [] := by
        intro x hk0 hw4 hx l5 l6 l7 l8
        refine V_iinc_4 (v := 1) g eX4_fitsAs_213 (by decide) (by decide) rfl ?_
        refine V_goto g eX4_fitsAs_216 ?_
        rw [nI_1]
        refine V_kill_5 (V_kill_6 (V_kill_7 (V_kill_8 ?_)))
        exact ih (w + 1) x (by omega) (by omega) (acc_s hg hx) (fun q => absurd q hk0)
      refine V_iload_4 g eX4_fitsAs_5 ?_
      refine V_iconst (v := 4) g eX4_fitsAs_7 (by decide) ?_
      refine V_icmp_ge g eX4_fitsAs_8 (fun c_8 => ?_) (fun c_8 => ?_)
      · refine V_iload_3 g eX4_fitsAs_219 ?_
        refine V_zret g eX4_fitsAs_220 (by rw [hg]; exact bI_nar) ?_
        have q_8 := nI_le' (a := 4) (b := w) (by decide) (by omega) c_8
        obtain rfl : w = 4 := by omega
        refine kI hk ?_
        rw [hg]
        unfold bI
        congr 1
        exact propext ⟨fun q => q.resolve_left (fun q => by have := hw0 q; omega), Or.inr⟩
      · have q_8 := nI_nle' (a := 4) (b := w) (by decide) (by omega) c_8
        refine V_aload_0 g eX4_fitsAs_11 ?_
        refine V_getR g eX4_fitsAs_12 flX4_90 rfl rfl rfl ?_
        refine V_iload_2 g eX4_fitsAs_15 ?_
        refine V_ialdN g eX4_fitsAs_16 rfl (by omega) (by decide) ?_
        refine V_if_eq g eX4_fitsAs_17 (fun c_17 => ?_) (fun c_17 => ?_)
        · refine V_iload_3 g eX4_fitsAs_219 ?_
          refine V_zret g eX4_fitsAs_220 (by rw [hg]; exact bI_nar) ?_
          obtain rfl := hw0 c_17
          refine kI hk ?_
          rw [hg, bI_t (Or.inl c_17), bI_t (fun r hr => absurd hr (Nat.not_lt_zero r))]
        · obtain ⟨⟨F, hF, eF⟩, hD⟩ := hof c_17
          have fin := fun x => fin x c_17 q_8
          unfold fitR at fin
          have eF2 : (I 27 A).toNatClampNeg = F := by rw [eF, nI_clamp (by omega)]
          rw [eF2] at fin
          refine V_aload_0 g eX4_fitsAs_20 ?_
          refine V_iload_1 g eX4_fitsAs_21 ?_
          refine V_iload_4 g eX4_fitsAs_22 ?_
          refine V_iconst (v := 0) g eX4_fitsAs_24 (by decide) ?_
          refine V_cv3 g (ctX4_markOf _) eX4_fitsAs_25 pkX4_271 rfl rfl (by decide) (by decide) (Nat.le_of_ble_eq_true rfl) ?_
          refine ⟨P, w, 0, rfl, rfl, rfl, hP, by omega, by omega, ?_⟩
          refine V_istore_5 g eX4_fitsAs_28 (by decide) rfl ?_
          refine V_aload_0 g eX4_fitsAs_30 ?_
          refine V_iload_1 g eX4_fitsAs_31 ?_
          refine V_iload_4 g eX4_fitsAs_32 ?_
          refine V_iconst (v := 1) g eX4_fitsAs_34 (by decide) ?_
          refine V_cv3 g (ctX4_markOf _) eX4_fitsAs_35 pkX4_271 rfl rfl (by decide) (by decide) (Nat.le_of_ble_eq_true rfl) ?_
          refine ⟨P, w, 1, rfl, rfl, rfl, hP, by omega, by omega, ?_⟩
          refine V_istore_6 g eX4_fitsAs_38 (by decide) rfl ?_
          refine V_aload_0 g eX4_fitsAs_40 ?_
          refine V_getR g eX4_fitsAs_41 flX4_93 rfl rfl rfl ?_
          refine V_iload_2 g eX4_fitsAs_44 ?_
          refine V_ialdN g eX4_fitsAs_45 rfl (by omega) (by decide) ?_
          refine V_istore_7 g eX4_fitsAs_46 (by decide) rfl ?_
          refine V_ls (ls' := [some (.ref 0), some (.int (nI P)), some (.int (nI A)), some (.int gd), some (.int (nI w)), some (.int (I 30 (8 * P + 2 * w + 0))), some (.int (I 30 (8 * P + 2 * w + 1))), some (.int (nI F)), none]) (by rw [eF]) ?_
          refine V_aload_0 g eX4_fitsAs_48 ?_
          refine V_getR g eX4_fitsAs_49 flX4_96 rfl rfl rfl ?_
          refine V_iload_2 g eX4_fitsAs_52 ?_
          refine V_ialdN g eX4_fitsAs_53 rfl (by omega) (by decide) ?_
          refine V_istore_8 g eX4_fitsAs_54 (by decide) rfl ?_
          refine V_aload_0 g eX4_fitsAs_56 ?_
          refine V_getR g eX4_fitsAs_57 flX4_90 rfl rfl rfl ?_
          refine V_iload_2 g eX4_fitsAs_60 ?_
          refine V_ialdN g eX4_fitsAs_61 rfl (by omega) (by decide) ?_
          refine V_iconst (v := 2) g eX4_fitsAs_62 (by decide) ?_
          refine V_icmp_lt g eX4_fitsAs_63 (fun c_63 => ?_) (fun c_63 => ?_)
          · refine V_iload_8 g eX4_fitsAs_107 ?_
            refine V_if_ge g eX4_fitsAs_109 (fun c_109 => ?_) (fun c_109 => ?_)
            · obtain ⟨D, hD4, eD⟩ := hD.resolve_left (fun q => absurd c_109 (Int32.not_le.mpr q))
              have eD2 : (I 28 A).toNatClampNeg = D := by rw [eD, nI_clamp (by omega)]
              rw [eD2] at fin
              refine V_ls (ls' := [some (.ref 0), some (.int (nI P)), some (.int (nI A)), some (.int gd), some (.int (nI w)), some (.int (I 30 (8 * P + 2 * w + 0))), some (.int (I 30 (8 * P + 2 * w + 1))), some (.int (nI F)), some (.int (nI D))]) (by rw [eD]) ?_
              refine V_iload_3 g eX4_fitsAs_151 ?_
              refine V_if_eq g eX4_fitsAs_152 (fun c_152 => ?_) (fun c_152 => ?_)
              · refine V_iconst (v := 0) g eX4_fitsAs_211 (by decide) ?_
                refine V_istore_3 g eX4_fitsAs_212 (by decide) rfl ?_
                refine fin _ ?_ _ _ _ _
                (try simp only [← Int32.not_le, Decidable.not_not] at c_8 c_17 c_63 c_109 c_152 ⊢)
                simp only [c_8, c_17, c_63, c_109, c_152, or_false, false_or, true_or, or_true, and_true, true_and, and_false, false_and, if_true, if_false, not_true_eq_false, not_false_eq_true, and_self, or_self, reduceCtorEq, true_or, or_true]
                try decide
              · refine V_aload_0 g eX4_fitsAs_155 ?_
                refine V_iload_7 g eX4_fitsAs_156 ?_
                refine V_iload_4 g eX4_fitsAs_158 ?_
                refine V_iload_5 g eX4_fitsAs_160 ?_
                refine V_cv3 g (ctX4_hasMark _) eX4_fitsAs_162 pkX4_275 rfl rfl (by decide) (by decide) (Nat.le_of_ble_eq_true rfl) ?_
                refine ⟨F, w, _, rfl, rfl, rfl, hF, by omega, ?_⟩
                refine V_if_eqB g eX4_fitsAs_165 (fun c_165 => ?_) (fun c_165 => ?_)
                · refine V_aload_0 g eX4_fitsAs_181 ?_
                  refine V_iload_7 g eX4_fitsAs_182 ?_
                  refine V_iload_4 g eX4_fitsAs_184 ?_
                  refine V_iload_6 g eX4_fitsAs_186 ?_
                  refine V_cv3 g (ctX4_hasMark _) eX4_fitsAs_188 pkX4_275 rfl rfl (by decide) (by decide) (Nat.le_of_ble_eq_true rfl) ?_
                  refine ⟨F, w, _, rfl, rfl, rfl, hF, by omega, ?_⟩
                  refine V_if_eqB g eX4_fitsAs_191 (fun c_191 => ?_) (fun c_191 => ?_)
                  · refine V_iconst (v := 0) g eX4_fitsAs_211 (by decide) ?_
                    refine V_istore_3 g eX4_fitsAs_212 (by decide) rfl ?_
                    refine fin _ ?_ _ _ _ _
                    (try simp only [← Int32.not_le, Decidable.not_not] at c_8 c_17 c_63 c_109 c_152 c_165 c_191 ⊢)
                    simp only [c_8, c_17, c_63, c_109, c_152, c_165, c_191, or_false, false_or, true_or, or_true, and_true, true_and, and_false, false_and, if_true, if_false, not_true_eq_false, not_false_eq_true, and_self, or_self, reduceCtorEq, true_or, or_true]
                    try decide
                  · refine V_aload_0 g eX4_fitsAs_194 ?_
                    refine V_iload_8 g eX4_fitsAs_195 ?_
                    refine V_iload_4 g eX4_fitsAs_197 ?_
                    refine V_iload_5 g eX4_fitsAs_199 ?_
                    refine V_cv3 g (ctX4_hasMark _) eX4_fitsAs_201 pkX4_275 rfl rfl (by decide) (by decide) (Nat.le_of_ble_eq_true rfl) ?_
                    refine ⟨D, w, _, rfl, rfl, rfl, hD4, by omega, ?_⟩
                    refine V_if_eqB g eX4_fitsAs_204 (fun c_204 => ?_) (fun c_204 => ?_)
                    · refine V_iconst (v := 0) g eX4_fitsAs_211 (by decide) ?_
                      refine V_istore_3 g eX4_fitsAs_212 (by decide) rfl ?_
                      refine fin _ ?_ _ _ _ _
                      (try simp only [← Int32.not_le, Decidable.not_not] at c_8 c_17 c_63 c_109 c_152 c_165 c_191 c_204 ⊢)
                      simp only [c_8, c_17, c_63, c_109, c_152, c_165, c_191, c_204, or_false, false_or, true_or, or_true, and_true, true_and, and_false, false_and, if_true, if_false, not_true_eq_false, not_false_eq_true, and_self, or_self, reduceCtorEq, true_or, or_true]
                      try decide
                    · refine V_iconst (v := 1) g eX4_fitsAs_207 (by decide) ?_
                      refine V_goto g eX4_fitsAs_208 ?_
                      refine V_istore_3 g eX4_fitsAs_212 (by decide) rfl ?_
                      refine fin _ ?_ _ _ _ _
                      (try simp only [← Int32.not_le, Decidable.not_not] at c_8 c_17 c_63 c_109 c_152 c_165 c_191 c_204 ⊢)
                      simp only [c_8, c_17, c_63, c_109, c_152, c_165, c_191, c_204, or_false, false_or, true_or, or_true, and_true, true_and, and_false, false_and, if_true, if_false, not_true_eq_false, not_false_eq_true, and_self, or_self, reduceCtorEq, true_or, or_true]
                      try decide
                · refine V_aload_0 g eX4_fitsAs_168 ?_
                  refine V_iload_8 g eX4_fitsAs_169 ?_
                  refine V_iload_4 g eX4_fitsAs_171 ?_
                  refine V_iload_6 g eX4_fitsAs_173 ?_
                  refine V_cv3 g (ctX4_hasMark _) eX4_fitsAs_175 pkX4_275 rfl rfl (by decide) (by decide) (Nat.le_of_ble_eq_true rfl) ?_
                  refine ⟨D, w, _, rfl, rfl, rfl, hD4, by omega, ?_⟩
                  refine V_if_neB g eX4_fitsAs_178 (fun c_178 => ?_) (fun c_178 => ?_)
                  · refine V_iconst (v := 1) g eX4_fitsAs_207 (by decide) ?_
                    refine V_goto g eX4_fitsAs_208 ?_
                    refine V_istore_3 g eX4_fitsAs_212 (by decide) rfl ?_
                    refine fin _ ?_ _ _ _ _
                    (try simp only [← Int32.not_le, Decidable.not_not] at c_8 c_17 c_63 c_109 c_152 c_165 c_178 ⊢)
                    simp only [c_8, c_17, c_63, c_109, c_152, c_165, c_178, or_false, false_or, true_or, or_true, and_true, true_and, and_false, false_and, if_true, if_false, not_true_eq_false, not_false_eq_true, and_self, or_self, reduceCtorEq, true_or, or_true]
                    try decide
                  · refine V_aload_0 g eX4_fitsAs_181 ?_
                    refine V_iload_7 g eX4_fitsAs_182 ?_
                    refine V_iload_4 g eX4_fitsAs_184 ?_
                    refine V_iload_6 g eX4_fitsAs_186 ?_
                    refine V_cv3 g (ctX4_hasMark _) eX4_fitsAs_188 pkX4_275 rfl rfl (by decide) (by decide) (Nat.le_of_ble_eq_true rfl) ?_
                    refine ⟨F, w, _, rfl, rfl, rfl, hF, by omega, ?_⟩
                    refine V_if_eqB g eX4_fitsAs_191 (fun c_191 => ?_) (fun c_191 => ?_)
                    · refine V_iconst (v := 0) g eX4_fitsAs_211 (by decide) ?_
                      refine V_istore_3 g eX4_fitsAs_212 (by decide) rfl ?_
                      refine fin _ ?_ _ _ _ _
                      (try simp only [← Int32.not_le, Decidable.not_not] at c_8 c_17 c_63 c_109 c_152 c_165 c_178 c_191 ⊢)
                      simp only [c_8, c_17, c_63, c_109, c_152, c_165, c_178, c_191, or_false, false_or, true_or, or_true, and_true, true_and, and_false, false_and, if_true, if_false, not_true_eq_false, not_false_eq_true, and_self, or_self, reduceCtorEq, true_or, or_true]
                      try decide
                    · refine V_aload_0 g eX4_fitsAs_194 ?_
                      refine V_iload_8 g eX4_fitsAs_195 ?_
                      refine V_iload_4 g eX4_fitsAs_197 ?_
                      refine V_iload_5 g eX4_fitsAs_199 ?_
                      refine V_cv3 g (ctX4_hasMark _) eX4_fitsAs_201 pkX4_275 rfl rfl (by decide) (by decide) (Nat.le_of_ble_eq_true rfl) ?_
                      refine ⟨D, w, _, rfl, rfl, rfl, hD4, by omega, ?_⟩
                      refine V_if_eqB g eX4_fitsAs_204 (fun c_204 => ?_) (fun c_204 => ?_)
                      · refine V_iconst (v := 0) g eX4_fitsAs_211 (by decide) ?_
                        refine V_istore_3 g eX4_fitsAs_212 (by decide) rfl ?_
                        refine fin _ ?_ _ _ _ _
                        (try simp only [← Int32.not_le, Decidable.not_not] at c_8 c_17 c_63 c_109 c_152 c_165 c_178 c_191 c_204 ⊢)
                        simp only [c_8, c_17, c_63, c_109, c_152, c_165, c_178, c_191, c_204, or_false, false_or, true_or, or_true, and_true, true_and, and_false, false_and, if_true, if_false, not_true_eq_false, not_false_eq_true, and_self, or_self, reduceCtorEq, true_or, or_true]
                        try decide
                      · refine V_iconst (v := 1) g eX4_fitsAs_207 (by decide) ?_
                        refine V_goto g eX4_fitsAs_208 ?_
                        refine V_istore_3 g eX4_fitsAs_212 (by decide) rfl ?_
                        refine fin _ ?_ _ _ _ _
                        (try simp only [← Int32.not_le, Decidable.not_not] at c_8 c_17 c_63 c_109 c_152 c_165 c_178 c_191 c_204 ⊢)
                        simp only [c_8, c_17, c_63, c_109, c_152, c_165, c_178, c_191, c_204, or_false, false_or, true_or, or_true, and_true, true_and, and_false, false_and, if_true, if_false, not_true_eq_false, not_false_eq_true, and_self, or_self, reduceCtorEq, true_or, or_true]
                        try decide
            · refine V_iload_3 g eX4_fitsAs_112 ?_
              refine V_if_eq g eX4_fitsAs_113 (fun c_113 => ?_) (fun c_113 => ?_)
              · refine V_iconst (v := 0) g eX4_fitsAs_146 (by decide) ?_
                refine V_istore_3 g eX4_fitsAs_147 (by decide) rfl ?_
                refine V_goto g eX4_fitsAs_148 ?_
                refine fin _ ?_ _ _ _ _
                (try simp only [← Int32.not_le, Decidable.not_not] at c_8 c_17 c_63 c_109 c_113 ⊢)
                simp only [c_8, c_17, c_63, c_109, c_113, or_false, false_or, true_or, or_true, and_true, true_and, and_false, false_and, if_true, if_false, not_true_eq_false, not_false_eq_true, and_self, or_self, reduceCtorEq, true_or, or_true]
                try decide
              · refine V_aload_0 g eX4_fitsAs_116 ?_
                refine V_iload_7 g eX4_fitsAs_117 ?_
                refine V_iload_4 g eX4_fitsAs_119 ?_
                refine V_iload_5 g eX4_fitsAs_121 ?_
                refine V_cv3 g (ctX4_hasMark _) eX4_fitsAs_123 pkX4_275 rfl rfl (by decide) (by decide) (Nat.le_of_ble_eq_true rfl) ?_
                refine ⟨F, w, _, rfl, rfl, rfl, hF, by omega, ?_⟩
                refine V_if_neB g eX4_fitsAs_126 (fun c_126 => ?_) (fun c_126 => ?_)
                · refine V_iconst (v := 1) g eX4_fitsAs_142 (by decide) ?_
                  refine V_goto g eX4_fitsAs_143 ?_
                  refine V_istore_3 g eX4_fitsAs_147 (by decide) rfl ?_
                  refine V_goto g eX4_fitsAs_148 ?_
                  refine fin _ ?_ _ _ _ _
                  (try simp only [← Int32.not_le, Decidable.not_not] at c_8 c_17 c_63 c_109 c_113 c_126 ⊢)
                  simp only [c_8, c_17, c_63, c_109, c_113, c_126, or_false, false_or, true_or, or_true, and_true, true_and, and_false, false_and, if_true, if_false, not_true_eq_false, not_false_eq_true, and_self, or_self, reduceCtorEq, true_or, or_true]
                  try decide
                · refine V_aload_0 g eX4_fitsAs_129 ?_
                  refine V_iload_7 g eX4_fitsAs_130 ?_
                  refine V_iload_4 g eX4_fitsAs_132 ?_
                  refine V_iload_6 g eX4_fitsAs_134 ?_
                  refine V_cv3 g (ctX4_hasMark _) eX4_fitsAs_136 pkX4_275 rfl rfl (by decide) (by decide) (Nat.le_of_ble_eq_true rfl) ?_
                  refine ⟨F, w, _, rfl, rfl, rfl, hF, by omega, ?_⟩
                  refine V_if_eqB g eX4_fitsAs_139 (fun c_139 => ?_) (fun c_139 => ?_)
                  · refine V_iconst (v := 0) g eX4_fitsAs_146 (by decide) ?_
                    refine V_istore_3 g eX4_fitsAs_147 (by decide) rfl ?_
                    refine V_goto g eX4_fitsAs_148 ?_
                    refine fin _ ?_ _ _ _ _
                    (try simp only [← Int32.not_le, Decidable.not_not] at c_8 c_17 c_63 c_109 c_113 c_126 c_139 ⊢)
                    simp only [c_8, c_17, c_63, c_109, c_113, c_126, c_139, or_false, false_or, true_or, or_true, and_true, true_and, and_false, false_and, if_true, if_false, not_true_eq_false, not_false_eq_true, and_self, or_self, reduceCtorEq, true_or, or_true]
                    try decide
                  · refine V_iconst (v := 1) g eX4_fitsAs_142 (by decide) ?_
                    refine V_goto g eX4_fitsAs_143 ?_
                    refine V_istore_3 g eX4_fitsAs_147 (by decide) rfl ?_
                    refine V_goto g eX4_fitsAs_148 ?_
                    refine fin _ ?_ _ _ _ _
                    (try simp only [← Int32.not_le, Decidable.not_not] at c_8 c_17 c_63 c_109 c_113 c_126 c_139 ⊢)
                    simp only [c_8, c_17, c_63, c_109, c_113, c_126, c_139, or_false, false_or, true_or, or_true, and_true, true_and, and_false, false_and, if_true, if_false, not_true_eq_false, not_false_eq_true, and_self, or_self, reduceCtorEq, true_or, or_true]
                    try decide
          · rw [eq_true c_63] at fin
            refine V_iload_3 g eX4_fitsAs_66 ?_
            refine V_if_eq g eX4_fitsAs_67 (fun c_67 => ?_) (fun c_67 => ?_)
            · refine V_iconst (v := 0) g eX4_fitsAs_102 (by decide) ?_
              refine V_istore_3 g eX4_fitsAs_103 (by decide) rfl ?_
              refine V_goto g eX4_fitsAs_104 ?_
              refine fin _ ?_ _ _ _ _
              (try simp only [← Int32.not_le, Decidable.not_not] at c_8 c_17 c_63 c_67 ⊢)
              simp only [c_8, c_17, c_63, c_67, or_false, false_or, true_or, or_true, and_true, true_and, and_false, false_and, if_true, if_false, not_true_eq_false, not_false_eq_true, and_self, or_self, reduceCtorEq, true_or, or_true]
              try decide
            · refine V_iload_5 g eX4_fitsAs_70 ?_
              refine V_aload_0 g eX4_fitsAs_72 ?_
              refine V_iload_7 g eX4_fitsAs_73 ?_
              refine V_iload_4 g eX4_fitsAs_75 ?_
              refine V_iconst (v := 0) g eX4_fitsAs_77 (by decide) ?_
              refine V_cv3 g (ctX4_markOf _) eX4_fitsAs_78 pkX4_271 rfl rfl (by decide) (by decide) (Nat.le_of_ble_eq_true rfl) ?_
              refine ⟨F, w, 0, rfl, rfl, rfl, hF, by omega, by omega, ?_⟩
              refine V_icmp_ne g eX4_fitsAs_81 (fun c_81 => ?_) (fun c_81 => ?_)
              · refine V_iconst (v := 0) g eX4_fitsAs_102 (by decide) ?_
                refine V_istore_3 g eX4_fitsAs_103 (by decide) rfl ?_
                refine V_goto g eX4_fitsAs_104 ?_
                refine fin _ ?_ _ _ _ _
                (try simp only [← Int32.not_le, Decidable.not_not] at c_8 c_17 c_63 c_67 c_81 ⊢)
                simp only [c_8, c_17, c_63, c_67, c_81, or_false, false_or, true_or, or_true, and_true, true_and, and_false, false_and, if_true, if_false, not_true_eq_false, not_false_eq_true, and_self, or_self, reduceCtorEq, true_or, or_true]
                try decide
              · refine V_iload_6 g eX4_fitsAs_84 ?_
                refine V_aload_0 g eX4_fitsAs_86 ?_
                refine V_iload_7 g eX4_fitsAs_87 ?_
                refine V_iload_4 g eX4_fitsAs_89 ?_
                refine V_iconst (v := 1) g eX4_fitsAs_91 (by decide) ?_
                refine V_cv3 g (ctX4_markOf _) eX4_fitsAs_92 pkX4_271 rfl rfl (by decide) (by decide) (Nat.le_of_ble_eq_true rfl) ?_
                refine ⟨F, w, 1, rfl, rfl, rfl, hF, by omega, by omega, ?_⟩
                refine V_icmp_ne g eX4_fitsAs_95 (fun c_95 => ?_) (fun c_95 => ?_)
                · refine V_iconst (v := 0) g eX4_fitsAs_102 (by decide) ?_
                  refine V_istore_3 g eX4_fitsAs_103 (by decide) rfl ?_
                  refine V_goto g eX4_fitsAs_104 ?_
                  refine fin _ ?_ _ _ _ _
                  (try simp only [← Int32.not_le, Decidable.not_not] at c_8 c_17 c_63 c_67 c_81 c_95 ⊢)
                  simp only [c_8, c_17, c_63, c_67, c_81, c_95, or_false, false_or, true_or, or_true, and_true, true_and, and_false, false_and, if_true, if_false, not_true_eq_false, not_false_eq_true, and_self, or_self, reduceCtorEq, true_or, or_true]
                  try decide
                · refine V_iconst (v := 1) g eX4_fitsAs_98 (by decide) ?_
                  refine V_goto g eX4_fitsAs_99 ?_
                  refine V_istore_3 g eX4_fitsAs_103 (by decide) rfl ?_
                  refine V_goto g eX4_fitsAs_104 ?_
                  refine fin _ ?_ _ _ _ _
                  (try simp only [← Int32.not_le, Decidable.not_not] at c_8 c_17 c_63 c_67 c_81 c_95 ⊢)
                  simp only [c_8, c_17, c_63, c_67, c_81, c_95, or_false, false_or, true_or, or_true, and_true, true_and, and_false, false_and, if_true, if_false, not_true_eq_false, not_false_eq_true, and_self, or_self, reduceCtorEq, true_or, or_true]
                  try decide
  refine V_iconst (v := 1) g eX4_fitsAs_0 (by decide) ?_
  refine V_istore_3 g eX4_fitsAs_1 (by decide) rfl ?_
  refine V_iconst (v := 0) g eX4_fitsAs_2 (by decide) ?_
  refine V_istore_4 g eX4_fitsAs_3 (by decide) rfl ?_
  exact loop 5 0 1 (by omega) (by omega) (by rw [bI_t (fun r hr => absurd hr (Nat.not_lt_zero r))]) (fun _ => rfl)

