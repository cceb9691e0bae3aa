/-! BedBookModel: a line, a text (printed out of tmpl/t_model12.txt) -/
set_option maxRecDepth 100000
theorem enc_add (ls : List (Bool × List Cd)) (b : Bool) (cs : List Cd) : enc (ls ++ [(b, cs)]) = enc ls ++ cs ++ [(0, 0)] := by simp [enc]
/-- a line is done -/
theorem PS_line {nt H i : Nat} {x : Wt} {cs : List Cd} {b : Bool} {ls : List (Bool × List Cd)} {I I' : It} (h : PS nt H (4, i, [x], cs, b, ls) I) (hi : i < nt) (h7 : I' 0 7 = nI (i + 1)) (h8 : I' 0 8 = 0) (h17 : I' 0 17 = nI ((enc ls).length + cs.length + 1)) (hC : codM H (enc ls ++ cs ++ [(0, 0)]) I') (h10 : I' 10 H = nI (ls.length + 1)) (h11 : ∀ j, I' 11 j = I 11 j) (h12 : ∀ j, I' 12 j = I 12 j) : PS nt H (5, i + 1, [], [], b, ls ++ [(b, cs)]) I' := by
  obtain ⟨a1, a2, a3, a4, a5, a6, a7, a8, a9⟩ := h
  obtain ⟨b1, b2, b3, b4, b5, b6, b7⟩ := a9 (by show 4 < 5; decide)
  have a8' : (enc ls).length + cs.length + (p1 x + 0) ≤ i := a8
  have b5' : ls.length < 16 := b5
  refine ⟨hi, h7, h8, ?_, ?_, ⟨?_, ?_⟩, ?_, ?_, fun q => absurd q (by show ¬ 5 < 5; decide)⟩
  · show I' 0 17 = nI ((enc (ls ++ [(b, cs)])).length + 0)
    rw [enc_add, h17]
    simp [Nat.add_assoc]
  · show codM H (enc (ls ++ [(b, cs)]) ++ []) I'
    rw [List.append_nil, enc_add]
    exact hC
  · show I' 10 H = nI (ls ++ [(b, cs)]).length
    rw [h10]; simp
  · intro q b' c' hq
    have hq : (ls ++ [(b, cs)])[q]? = some (b', c') := hq
    rw [h11, h12]
    show _ ∧ I 12 (16 * H + q) = nI (660 * H + (enc ((ls ++ [(b, cs)]).take q)).length)
    rcases Nat.lt_or_ge q ls.length with z | z
    · rw [List.getElem?_append_left z] at hq
      rw [List.take_append_of_le_length (by omega)]
      exact a6.2 q b' c' hq
    · rw [List.getElem?_append_right z] at hq
      obtain rfl : q = ls.length := by
        rcases Nat.lt_or_ge (q - ls.length) 1 with y | y
        · omega
        · rw [List.getElem?_eq_none (by simpa using y)] at hq; cases hq
      rw [Nat.sub_self] at hq
      cases hq
      rw [List.take_left]
      exact ⟨b6, b7⟩
  · show (ls ++ [(b, cs)]).length ≤ 16
    simp; omega
  · show (enc (ls ++ [(b, cs)])).length + 0 + 0 ≤ i + 1
    rw [enc_add]
    simp
    omega
/-- a line begins -/
theorem PS_begin {nt H i : Nat} {b b' : Bool} {ls : List (Bool × List Cd)} {I I' : It} (h : PS nt H (5, i, [], [], b, ls) I) (hi : i + 2 ≤ nt) (hl : ls.length < 16) (h7 : I' 0 7 = nI (i + 2)) (h8 : I' 0 8 = 0) (h17 : I' 0 17 = I 0 17) (h13 : ∀ j, I' 13 j = I 13 j) (h14 : ∀ j, I' 14 j = I 14 j) (h10 : ∀ j, I' 10 j = I 10 j) (h11 : ∀ j, j ≠ 16 * H + ls.length → I' 11 j = I 11 j) (h12 : ∀ j, j ≠ 16 * H + ls.length → I' 12 j = I 12 j) (hb : I' 11 (16 * H + ls.length) = (if b' = true then 1 else 0)) (ha : I' 12 (16 * H + ls.length) = nI (660 * H + (enc ls).length)) (hw : I' 19 0 = 0 ∧ I' 20 0 = 0 ∧ I' 21 0 = 0) (h18 : I' 0 18 = 0) : PS nt H (0, i + 2, [(0, 0, 0)], [], b', ls) I' := by
  obtain ⟨a1, a2, a3, a4, a5, a6, a7, a8, a9⟩ := h
  refine ⟨hi, h7, h8, h17.trans a4, codM_o a5 h13 h14, ⟨(h10 _).trans a6.1, ?_⟩, a7, ?_, fun _ => ⟨?_, h18, by show 0 < 1; decide, by show 1 ≤ 6; decide, hl, hb, ha⟩⟩
  · intro q b2 c2 hq
    have hlt : q < ls.length := by
      rcases Nat.lt_or_ge q ls.length with z | z
      · exact z
      · have hq : ls[q]? = some (b2, c2) := hq
        rw [List.getElem?_eq_none z] at hq; cases hq
    rw [h11 _ (by omega), h12 _ (by omega)]
    exact a6.2 q b2 c2 hq
  · have a8' : (enc ls).length + 0 + 0 ≤ i := a8
    show (enc ls).length + 0 + 0 ≤ i + 2
    omega
  · intro p su sg an hp
    cases p with
    | zero => cases hp; exact ⟨hw, by decide⟩
    | succ p => cases hp
theorem flt_pos {P : Nat → Nat} {F : Ms} (h : F.1 = 11 ∨ F.1 = 15) (hP : P F.2.1 ≤ 600) : ¬ flt P F = 0 := by
  have : ∃ e, 0 < e ∧ e < 6 ∧ flt P F = nI (e + 16 * P F.2.1) := by
    rcases h with h | h
    · refine ⟨1, by decide, by decide, ?_⟩
      unfold flt
      rw [h, if_neg (by decide)]
      exact nI_flt
    · refine ⟨5, by decide, by decide, ?_⟩
      unfold flt
      rw [h, if_neg (by decide)]
      exact nI_flt
  obtain ⟨e, h1, h2, h3⟩ := this
  rw [h3]
  exact nI_ne0 (by omega) (by omega)
theorem rn_fin {S : Nat → Nat} {v : Nat → Int64} {s : Ms} (h : s.1 = 11 ∨ s.1 = 15) (m : Nat) : rn S v m s = s := by
  obtain ⟨a, b⟩ := s
  obtain ⟨b1, b2, b3, b4, b5⟩ := b
  rcases h with h | h
  · have h : a = 11 := h
    subst h
    exact rn_fix (fun _ => rfl) m
  · have h : a = 15 := h
    subst h
    exact rn_fix (fun _ => rfl) m
abbrev spX4_line : Sp := fun av T I L R uc us k => ∃ S : Nat → Nat, ∃ P : Nat → Nat, ∃ v : Nat → Int64, ∃ nt : Nat, ∃ H : Nat, ∃ I0 : It, ∃ i : Nat, ∃ b : Bool, ∃ ls : List (Bool × List Cd), ∃ n : Nat, ∃ F : Ms, av = [.ref 0] ∧ T = TM ∧ R = RM ∧ TK S P v nt H I0 L ∧ rdF H I0 I ∧ PS nt H (5, i, [], [], b, ls) I ∧ ¬ S i = 0 ∧ rn S v n (5, i, [], [], b, ls) = F ∧ fnl F ∧ (P F.2.1 ≤ 600) ∧ (∀ I', (F.1 = 11 ∨ F.1 = 15) → I' 0 8 = flt P F → rdF H I0 I' → k (.inl none) T I' L R uc us) ∧ (∀ I' m i' b' ls', m < n → rn S v m (5, i', [], [], b', ls') = F → PS nt H (5, i', [], [], b', ls') I' → rdF H I0 I' → k (.inl none) T I' L R uc us)
theorem eX4_line_169 : dc cX4_line 169 (.aload_n 0) 1 170 := ⟨by decide +kernel, rfl⟩
theorem eX4_line_170 : dc cX4_line 170 (.getfield 59) 3 173 := ⟨by decide +kernel, rfl⟩
theorem eX4_line_173 : dc cX4_line 173 (.aload_n 0) 1 174 := ⟨by decide +kernel, rfl⟩
theorem eX4_line_174 : dc cX4_line 174 (.getfield 210) 3 177 := ⟨by decide +kernel, rfl⟩
theorem eX4_line_177 : dc cX4_line 177 (.dup2) 1 178 := ⟨by decide +kernel, rfl⟩
theorem eX4_line_178 : dc cX4_line 178 (.iaload) 1 179 := ⟨by decide +kernel, rfl⟩
theorem eX4_line_179 : dc cX4_line 179 (.iconst 1) 1 180 := ⟨by decide +kernel, rfl⟩
theorem eX4_line_180 : dc cX4_line 180 (.iadd) 1 181 := ⟨by decide +kernel, rfl⟩
theorem eX4_line_181 : dc cX4_line 181 (.iastore) 1 182 := ⟨by decide +kernel, rfl⟩
theorem eX4_line_182 : dc cX4_line 182 (.return_) 1 183 := ⟨by decide +kernel, rfl⟩
theorem eX4_line_157 : dc cX4_line 157 (.aload_n 0) 1 158 := ⟨by decide +kernel, rfl⟩
theorem eX4_line_158 : dc cX4_line 158 (.iconst 0) 1 159 := ⟨by decide +kernel, rfl⟩
theorem eX4_line_159 : dc cX4_line 159 (.iconst 0) 1 160 := ⟨by decide +kernel, rfl⟩
theorem eX4_line_160 : dc cX4_line 160 (.invokevirtual 241) 3 163 := ⟨by decide +kernel, rfl⟩
theorem eX4_line_163 : dc cX4_line 163 (.aload_n 0) 1 164 := ⟨by decide +kernel, rfl⟩
theorem eX4_line_164 : dc cX4_line 164 (.bipush 59) 2 166 := ⟨by decide +kernel, rfl⟩
theorem eX4_line_166 : dc cX4_line 166 (.invokevirtual 245) 3 169 := ⟨by decide +kernel, rfl⟩
theorem eX4_line_148 : dc cX4_line 148 (.iconst 1) 1 149 := ⟨by decide +kernel, rfl⟩
theorem eX4_line_149 : dj cX4_line 149 (.goto 4) 4 153 152 := ⟨by decide +kernel, by decide, rfl⟩
theorem eX4_line_153 : dc cX4_line 153 (.istore_n 3) 1 154 := ⟨by decide +kernel, rfl⟩
theorem eX4_line_154 : dj cX4_line 154 (.goto (-31)) (-31) 123 157 := ⟨by decide +kernel, by decide, rfl⟩
theorem eX4_line_152 : dc cX4_line 152 (.iconst 0) 1 153 := ⟨by decide +kernel, rfl⟩
theorem eX4_line_123 : dc cX4_line 123 (.iload_n 3) 1 124 := ⟨by decide +kernel, rfl⟩
theorem eX4_line_124 : dj cX4_line 124 (.ifCond .eq 33) 33 157 127 := ⟨by decide +kernel, by decide, rfl⟩
theorem eX4_line_145 : dj cX4_line 145 (.ifCond .eq 7) 7 152 148 := ⟨by decide +kernel, by decide, rfl⟩
theorem eX4_line_138 : dj cX4_line 138 (.ifCond .ne 10) 10 148 141 := ⟨by decide +kernel, by decide, rfl⟩
theorem eX4_line_141 : dc cX4_line 141 (.aload_n 0) 1 142 := ⟨by decide +kernel, rfl⟩
theorem eX4_line_142 : dc cX4_line 142 (.invokevirtual 238) 3 145 := ⟨by decide +kernel, rfl⟩
theorem pkX4_238 : PkV RX4 238 yX4_goesOnBehind (.code yX4_goesOnBehind cX4_goesOnBehind 1 (some .boolean)) 1 "BedBookModel" 0 := ⟨cwd_c, (lk q1480), Or.inl (lk q1477), (lk q1479), (lk qs38), ⟨⟨by decide, by decide⟩, by decide +kernel⟩, (lk q67), by decide⟩
theorem eX4_line_127 : dc cX4_line 127 (.aload_n 0) 1 128 := ⟨by decide +kernel, rfl⟩
theorem eX4_line_128 : dc cX4_line 128 (.getfield 194) 3 131 := ⟨by decide +kernel, rfl⟩
theorem eX4_line_131 : dj cX4_line 131 (.ifCond .ne 26) 26 157 134 := ⟨by decide +kernel, by decide, rfl⟩
theorem eX4_line_134 : dc cX4_line 134 (.aload_n 0) 1 135 := ⟨by decide +kernel, rfl⟩
theorem eX4_line_135 : dc cX4_line 135 (.invokevirtual 234) 3 138 := ⟨by decide +kernel, rfl⟩
theorem pkX4_234 : PkV RX4 234 yX4_part (.code yX4_part cX4_part 2 (some .boolean)) 2 "BedBookModel" 0 := ⟨cwd_c, (lk q1460), Or.inl (lk q1457), (lk q1459), (lk qs33), ⟨⟨by decide, by decide⟩, by decide +kernel⟩, (lk q67), by decide⟩
theorem eX4_line_45 : dc cX4_line 45 (.aload_n 0) 1 46 := ⟨by decide +kernel, rfl⟩
theorem eX4_line_46 : dc cX4_line 46 (.getfield 194) 3 49 := ⟨by decide +kernel, rfl⟩
theorem eX4_line_49 : dj cX4_line 49 (.ifCond .le 4) 4 53 52 := ⟨by decide +kernel, by decide, rfl⟩
theorem eX4_line_52 : dc cX4_line 52 (.return_) 1 53 := ⟨by decide +kernel, rfl⟩
theorem eX4_line_117 : dc cX4_line 117 (.aload_n 0) 1 118 := ⟨by decide +kernel, rfl⟩
theorem eX4_line_118 : dc cX4_line 118 (.invokevirtual 231) 3 121 := ⟨by decide +kernel, rfl⟩
theorem eX4_line_121 : dc cX4_line 121 (.iconst 1) 1 122 := ⟨by decide +kernel, rfl⟩
theorem eX4_line_122 : dc cX4_line 122 (.istore_n 3) 1 123 := ⟨by decide +kernel, rfl⟩
theorem eX4_line_93 : dc cX4_line 93 (.aload_n 0) 1 94 := ⟨by decide +kernel, rfl⟩
theorem eX4_line_94 : dc cX4_line 94 (.getfield 66) 3 97 := ⟨by decide +kernel, rfl⟩
theorem flX4_66 : FL RX4 66 3 12 := ⟨_, _, _, _, rfl, by decide, by decide, Or.inl (lk q1251), Or.inl rfl⟩
theorem eX4_line_97 : dc cX4_line 97 (.iload_n 2) 1 98 := ⟨by decide +kernel, rfl⟩
theorem eX4_line_98 : dc cX4_line 98 (.sipush 660) 3 101 := ⟨by decide +kernel, rfl⟩
theorem eX4_line_101 : dc cX4_line 101 (.aload_n 0) 1 102 := ⟨by decide +kernel, rfl⟩
theorem eX4_line_102 : dc cX4_line 102 (.getfield 210) 3 105 := ⟨by decide +kernel, rfl⟩
theorem eX4_line_105 : dc cX4_line 105 (.imul) 1 106 := ⟨by decide +kernel, rfl⟩
theorem eX4_line_106 : dc cX4_line 106 (.aload_n 0) 1 107 := ⟨by decide +kernel, rfl⟩
theorem eX4_line_107 : dc cX4_line 107 (.getfield 213) 3 110 := ⟨by decide +kernel, rfl⟩
theorem eX4_line_110 : dc cX4_line 110 (.iadd) 1 111 := ⟨by decide +kernel, rfl⟩
theorem eX4_line_111 : dc cX4_line 111 (.iastore) 1 112 := ⟨by decide +kernel, rfl⟩
theorem eX4_line_112 : dc cX4_line 112 (.aload_n 0) 1 113 := ⟨by decide +kernel, rfl⟩
theorem eX4_line_113 : dc cX4_line 113 (.iconst 0) 1 114 := ⟨by decide +kernel, rfl⟩
theorem eX4_line_114 : dc cX4_line 114 (.putfield 228) 3 117 := ⟨by decide +kernel, rfl⟩
theorem eX4_line_53 : dc cX4_line 53 (.aload_n 0) 1 54 := ⟨by decide +kernel, rfl⟩
theorem eX4_line_54 : dc cX4_line 54 (.dup) 1 55 := ⟨by decide +kernel, rfl⟩
theorem eX4_line_55 : dc cX4_line 55 (.getfield 191) 3 58 := ⟨by decide +kernel, rfl⟩
theorem eX4_line_58 : dc cX4_line 58 (.iconst 1) 1 59 := ⟨by decide +kernel, rfl⟩
theorem eX4_line_59 : dc cX4_line 59 (.iadd) 1 60 := ⟨by decide +kernel, rfl⟩
theorem eX4_line_60 : dc cX4_line 60 (.putfield 191) 3 63 := ⟨by decide +kernel, rfl⟩
theorem eX4_line_63 : dc cX4_line 63 (.bipush 16) 2 65 := ⟨by decide +kernel, rfl⟩
theorem eX4_line_65 : dc cX4_line 65 (.aload_n 0) 1 66 := ⟨by decide +kernel, rfl⟩
theorem eX4_line_66 : dc cX4_line 66 (.getfield 210) 3 69 := ⟨by decide +kernel, rfl⟩
theorem eX4_line_69 : dc cX4_line 69 (.imul) 1 70 := ⟨by decide +kernel, rfl⟩
theorem eX4_line_70 : dc cX4_line 70 (.aload_n 0) 1 71 := ⟨by decide +kernel, rfl⟩
theorem eX4_line_71 : dc cX4_line 71 (.getfield 59) 3 74 := ⟨by decide +kernel, rfl⟩
theorem eX4_line_74 : dc cX4_line 74 (.aload_n 0) 1 75 := ⟨by decide +kernel, rfl⟩
theorem eX4_line_75 : dc cX4_line 75 (.getfield 210) 3 78 := ⟨by decide +kernel, rfl⟩
theorem eX4_line_78 : dc cX4_line 78 (.iaload) 1 79 := ⟨by decide +kernel, rfl⟩
theorem eX4_line_79 : dc cX4_line 79 (.iadd) 1 80 := ⟨by decide +kernel, rfl⟩
theorem eX4_line_80 : dc cX4_line 80 (.istore_n 2) 1 81 := ⟨by decide +kernel, rfl⟩
theorem eX4_line_81 : dc cX4_line 81 (.aload_n 0) 1 82 := ⟨by decide +kernel, rfl⟩
theorem eX4_line_82 : dc cX4_line 82 (.getfield 62) 3 85 := ⟨by decide +kernel, rfl⟩
theorem flX4_62 : FL RX4 62 3 11 := ⟨_, _, _, _, rfl, by decide, by decide, Or.inl (lk q1250), Or.inl rfl⟩
theorem eX4_line_85 : dc cX4_line 85 (.iload_n 2) 1 86 := ⟨by decide +kernel, rfl⟩
theorem eX4_line_86 : dc cX4_line 86 (.iload_n 1) 1 87 := ⟨by decide +kernel, rfl⟩
theorem eX4_line_87 : dc cX4_line 87 (.bastore) 1 88 := ⟨by decide +kernel, rfl⟩
theorem eX4_line_88 : dc cX4_line 88 (.aload_n 0) 1 89 := ⟨by decide +kernel, rfl⟩
theorem eX4_line_89 : dc cX4_line 89 (.iconst 2) 1 90 := ⟨by decide +kernel, rfl⟩
theorem eX4_line_90 : dc cX4_line 90 (.invokevirtual 225) 3 93 := ⟨by decide +kernel, rfl⟩
theorem pkX4_225 : PkV RX4 225 yX4_takeWord (.code yX4_takeWord cX4_takeWord 2 none) 2 "BedBookModel" 1 := ⟨cwd_c, (lk q1448), Or.inl (lk q1445), (lk q1447), (lk qs30), ⟨⟨by decide, by decide⟩, by decide +kernel⟩, (lk q67), by decide⟩
theorem eX4_line_26 : dc cX4_line 26 (.aload_n 0) 1 27 := ⟨by decide +kernel, rfl⟩
theorem eX4_line_27 : dc cX4_line 27 (.getfield 59) 3 30 := ⟨by decide +kernel, rfl⟩
theorem eX4_line_30 : dc cX4_line 30 (.aload_n 0) 1 31 := ⟨by decide +kernel, rfl⟩
theorem eX4_line_31 : dc cX4_line 31 (.getfield 210) 3 34 := ⟨by decide +kernel, rfl⟩
theorem eX4_line_34 : dc cX4_line 34 (.iaload) 1 35 := ⟨by decide +kernel, rfl⟩
theorem eX4_line_35 : dc cX4_line 35 (.bipush 16) 2 37 := ⟨by decide +kernel, rfl⟩
theorem eX4_line_37 : dj cX4_line 37 (.if_icmp .ne 8) 8 45 40 := ⟨by decide +kernel, by decide, rfl⟩
theorem eX4_line_40 : dc cX4_line 40 (.aload_n 0) 1 41 := ⟨by decide +kernel, rfl⟩
theorem eX4_line_41 : dc cX4_line 41 (.iconst 5) 1 42 := ⟨by decide +kernel, rfl⟩
theorem eX4_line_42 : dc cX4_line 42 (.invokevirtual 200) 3 45 := ⟨by decide +kernel, rfl⟩
theorem eX4_line_0 : dc cX4_line 0 (.aload_n 0) 1 1 := ⟨by decide +kernel, rfl⟩
theorem eX4_line_1 : dc cX4_line 1 (.iconst 1) 1 2 := ⟨by decide +kernel, rfl⟩
theorem eX4_line_2 : dc cX4_line 2 (.invokevirtual 204) 3 5 := ⟨by decide +kernel, rfl⟩
theorem eX4_line_5 : dc cX4_line 5 (.istore_n 1) 1 6 := ⟨by decide +kernel, rfl⟩
theorem eX4_line_6 : dc cX4_line 6 (.iload_n 1) 1 7 := ⟨by decide +kernel, rfl⟩
theorem eX4_line_7 : dj cX4_line 7 (.ifCond .ne 19) 19 26 10 := ⟨by decide +kernel, by decide, rfl⟩
theorem eX4_line_10 : dc cX4_line 10 (.aload_n 0) 1 11 := ⟨by decide +kernel, rfl⟩
theorem eX4_line_11 : dc cX4_line 11 (.iconst 0) 1 12 := ⟨by decide +kernel, rfl⟩
theorem eX4_line_12 : dc cX4_line 12 (.invokevirtual 204) 3 15 := ⟨by decide +kernel, rfl⟩
theorem eX4_line_15 : dj cX4_line 15 (.ifCond .ne 11) 11 26 18 := ⟨by decide +kernel, by decide, rfl⟩
theorem eX4_line_18 : dc cX4_line 18 (.aload_n 0) 1 19 := ⟨by decide +kernel, rfl⟩
theorem eX4_line_19 : dc cX4_line 19 (.iconst 1) 1 20 := ⟨by decide +kernel, rfl⟩
theorem eX4_line_20 : dc cX4_line 20 (.invokevirtual 200) 3 23 := ⟨by decide +kernel, rfl⟩
theorem eX4_line_23 : dj cX4_line 23 (.goto 22) 22 45 26 := ⟨by decide +kernel, by decide, rfl⟩
set_option maxHeartbeats 8000000 in
theorem ctX4_line (l : Launch) : Ct l yX4_line (.code yX4_line cX4_line 4 none) 5 spX4_line := by
  refine Ct.of (own := RX4) (nm := "line") (by decide) rfl rfl ?_
  rintro X av T I L R uc us rfl g hN hu hz ⟨S, P, v, nt, H, I0, i, b, ls, n, F, rfl, rfl, rfl, hTK, hr, hPS, hS0, hrn, hF, hPF, hkF, hk5⟩
  refine VE.go (ls := [some (.ref 0), none, none, none]) g hu hz (fun _ => rfl) (fun _ => Nat.le_of_ble_eq_true rfl) ?_
  have hn6 : nt ≤ 600 := hTK.2.2.2.2.2.2
  have hH : H < 2 := hTK.2.2.2.2.2.1
  have h16 : ∀ I', rdF H I0 I' → I' 0 16 = nI H := fun I' hr => by rw [hr 0 16 (by unfold tch; omega)]; exact hTK.2.2.2.2.1
  have hi : i ≤ nt := hPS.1
  have hlt : i < nt := hTK.lt hi hS0
  have endl : ∀ (I2 : It) (x1 x2 x3 : Int32) (q : Nat), I2 0 16 = nI H → I2 10 H = nI q → x_k X (.inl none) TM (u2 I2 10 H (nI (q + 1))) L RM uc us → V X TM I2 L RM uc us 169 [some (.ref 0), some (.int x1), some (.int x2), some (.int x3)] [] := by
    intro I2 x1 x2 x3 q h1 h2 hk
    refine V_aload_0 g eX4_line_169 ?_
    refine V_getR g eX4_line_170 flX4_59 rfl rfl rfl ?_
    refine V_aload_0 g eX4_line_173 ?_
    refine V_getI g eX4_line_174 flX4_210 rfl rfl ?_
    refine V_top (y := nI H) h1 ?_
    refine V_dup2 g eX4_line_177 rfl rfl ?_
    refine V_ialdN g eX4_line_178 rfl (by omega) (by decide) ?_
    refine V_top (y := nI q) h2 ?_
    refine V_iconst (v := 1) g eX4_line_179 (by decide) ?_
    refine V_iaddN (b := 1) g eX4_line_180 ?_
    refine V_iastN g eX4_line_181 rfl (by omega) (by decide) ?_
    refine V_vret g eX4_line_182 ?_
    exact hk
  have tailF : ∀ (I2 : It) (x1 x2 x3 : Int32), (F.1 = 11 ∨ F.1 = 15) → FS nt H (flt P F) I2 → rdF H I0 I2 → V X TM I2 L RM uc us 157 [some (.ref 0), some (.int x1), some (.int x2), some (.int x3)] [] := by
    intro I2 x1 x2 x3 hF2 hfs hr2
    have hne := flt_pos hF2 hPF
    obtain ⟨f1, ⟨A, f2, f3⟩, ⟨C, f4, f5⟩, q, f6, f7⟩ := hfs
    refine V_aload_0 g eX4_line_157 ?_
    refine V_iconst (v := 0) g eX4_line_158 (by decide) ?_
    refine V_iconst (v := 0) g eX4_line_159 (by decide) ?_
    refine V_cv2 g (ctX4_emit _) eX4_line_160 pkX4_241 rfl rfl (by decide) (by decide) (Nat.le_of_ble_eq_true rfl) ?_
    refine ⟨_, _, H, C, rfl, rfl, rfl, h16 I2 hr2, hH, f5, by omega, ?_⟩
    refine V_aload_0 g eX4_line_163 ?_
    refine V_bipush (v := 59) g eX4_line_164 (by decide) ?_
    refine V_cv1 g (ctX4_takeSign _) eX4_line_166 pkX4_245 rfl rfl (by decide) (by decide) (Nat.le_of_ble_eq_true rfl) ?_
    refine ⟨_, A, rfl, rfl, rfl, by simp [emI, u2, f3], by omega, fun hs => absurd hs.1 (by simp [emI, u2, f1, hne]), fun _ => ?_⟩
    have e : wrI (emI I2 H C 0 0) A 1 = emI I2 H C 0 0 := by unfold wrI; rw [if_neg (by simp [emI, u2, f1, hne])]
    rw [e]
    refine endl _ _ _ _ q (by simp [emI, u2, h16 I2 hr2]) (by simp [emI, u2, f7]) ?_
    exact hkF _ hF2 (by simp [emI, u2, f1]) ((hr2.em (by omega)).u2 (by unfold tch; omega))
  have tailO : ∀ (I2 : It) (x1 x2 x3 : Int32) (m i2 : Nat) (x : Wt) (cs : List Cd) (b2 : Bool) (ls2 : List (Bool × List Cd)), m < n → PS nt H (4, i2, [x], cs, b2, ls2) I2 → rdF H I0 I2 → rn S v m (4, i2, [x], cs, b2, ls2) = F → V X TM I2 L RM uc us 157 [some (.ref 0), some (.int x1), some (.int x2), some (.int x3)] [] := by
    intro I2 x1 x2 x3 m i2 x cs b2 ls2 hm hPS2 hr2 hrm
    obtain ⟨m1, rfl, hrm1⟩ := rn_pos hrm hF (by show 4 < 8; decide)
    have hi2 : i2 ≤ nt := hPS2.1
    have hat : I2 0 7 = nI i2 := hPS2.2.1
    have h8 : I2 0 8 = 0 := hPS2.2.2.1
    have h17 : I2 0 17 = nI ((enc ls2).length + cs.length) := hPS2.2.2.2.1
    have hbud : (enc ls2).length + cs.length + (p1 x + 0) ≤ i2 := hPS2.2.2.2.2.2.2.2.1
    have h10 : I2 10 H = nI ls2.length := hPS2.2.2.2.2.2.1.1
    have hl16 : ls2.length < 16 := (hPS2.2.2.2.2.2.2.2.2 (by show 4 < 5; decide)).2.2.2.2.1
    have hr3 : rdF H I0 (emI I2 H ((enc ls2).length + cs.length) 0 0) := hr2.em (by omega)
    have h83 : emI I2 H ((enc ls2).length + cs.length) 0 0 0 8 = 0 := by simp [emI, u2, h8]
    refine V_aload_0 g eX4_line_157 ?_
    refine V_iconst (v := 0) g eX4_line_158 (by decide) ?_
    refine V_iconst (v := 0) g eX4_line_159 (by decide) ?_
    refine V_cv2 g (ctX4_emit _) eX4_line_160 pkX4_241 rfl rfl (by decide) (by decide) (Nat.le_of_ble_eq_true rfl) ?_
    refine ⟨_, _, H, (enc ls2).length + cs.length, rfl, rfl, rfl, h16 I2 hr2, hH, h17, by omega, ?_⟩
    refine V_aload_0 g eX4_line_163 ?_
    refine V_bipush (v := 59) g eX4_line_164 (by decide) ?_
    refine V_cv1 g (ctX4_takeSign _) eX4_line_166 pkX4_245 rfl rfl (by decide) (by decide) (Nat.le_of_ble_eq_true rfl) ?_
    refine ⟨_, i2, rfl, rfl, rfl, by simp [emI, u2, hat], by omega, fun hs => ?_, fun hs => ?_⟩
    · have hs := (hTK.sg hr3 h83 hi2 59).mp hs
      have hlt2 : i2 < nt := hTK.lt hi2 (by rw [hs.1]; decide)
      have e1 : stp S v (4, i2, [x], cs, b2, ls2) = (5, i2 + 1, [], [], b2, ls2 ++ [(b2, cs)]) := by show (if _ then _ else _) = _; rw [if_pos hs]
      rw [e1] at hrm1
      refine endl _ _ _ _ ls2.length (by simp [onI, emI, u2, h16 I2 hr2]) (by simp [onI, emI, u2, h10]) ?_
      refine hk5 _ m1 _ _ _ (by omega) hrm1 ?_ ((hr3.u2 (by unfold tch; omega)).u2 (by unfold tch; omega))
      refine PS_line hPS2 hlt2 (by simp [onI, emI, u2]) (by simp [onI, emI, u2, h8]) (by simp [onI, emI, u2]) ?_ (by simp [u2]) (fun j => by simp [onI, emI, u2]) (fun j => by simp [onI, emI, u2])
      have hC := codM_em hPS2.2.2.2.2.1 0 0
      have hC' : codM H (enc ls2 ++ cs ++ [(0, 0)]) (emI I2 H (enc ls2 ++ cs).length (nI 0) 0) := hC
      rw [List.length_append] at hC'
      exact codM_o hC' (fun j => by simp [onI, u2]; rfl) (fun j => by simp [onI, u2]; rfl)
    have hs := fun q => hs ((hTK.sg hr3 h83 hi2 59).mpr q)
    rw [hTK.wr hr3 h83 hi2]
    have e1 : stp S v (4, i2, [x], cs, b2, ls2) = (11, i2, [x], cs, b2, ls2) := by show (if _ then _ else _) = _; rw [if_neg hs]
    rw [e1, rn_fix (fun _ => rfl)] at hrm1
    refine endl _ _ _ _ ls2.length (by simp [emI, u2, h16 I2 hr2]) (by simp [emI, u2, h10]) ?_
    refine hkF _ (by rw [← hrm1]; exact Or.inl rfl) ?_ ((hr3.u2 (by unfold tch; omega)).u2 (by unfold tch; omega))
    rw [← hrm1]
    simp [u2]
    rfl
  have loop : ∀ (q m : Nat), m ≤ q → m < n → ∀ (I2 : It) (s : Ms) (x1 x2 : Int32), s.1 = 0 → PS nt H s I2 → rdF H I0 I2 → rn S v m s = F → V X TM I2 L RM uc us 123 [some (.ref 0), some (.int x1), some (.int x2), some (.int 1)] [] := by
    intro q
    induction q with
    | zero =>
      intro m hm _ I2 s x1 x2 hs0 _ _ hrm
      obtain ⟨m1, h3, -⟩ := rn_pos hrm hF (by omega)
      omega
    | succ q ih =>
      intro m hm hmn I2 s x1 x2 hs0 hPS2 hr2 hrm
      obtain ⟨md, i2, w2, cs2, b2, ls2⟩ := s
      have hs0 : md = 0 := hs0
      subst hs0
      obtain ⟨m1, rfl, hrm1⟩ := rn_pos hrm hF (by show 0 < 8; decide)
      have h8 : I2 0 8 = 0 := hPS2.2.2.1
      have r1 : ∀ (I3 : It) (s3 : Ms) (m3 : Nat) (x3 : Int32), m3 ≤ q → m3 < n → s3.1 = 0 → PS nt H s3 I3 → rdF H I0 I3 → rn S v m3 s3 = F → V X TM I3 L RM uc us 148 [some (.ref 0), some (.int x1), some (.int x2), some (.int x3)] [] := by
        intro I3 s3 m3 x3 g1 g2 g3 g4 g5 g6
        refine V_iconst (v := 1) g eX4_line_148 (by decide) ?_
        refine V_goto g eX4_line_149 ?_
        refine V_istore_3 g eX4_line_153 (by decide) rfl ?_
        refine V_goto g eX4_line_154 ?_
        exact ih m3 g1 g2 I3 s3 x1 x2 g3 g4 g5 g6
      have r0F : ∀ (I3 : It) (x3 : Int32), (F.1 = 11 ∨ F.1 = 15) → FS nt H (flt P F) I3 → rdF H I0 I3 → V X TM I3 L RM uc us 152 [some (.ref 0), some (.int x1), some (.int x2), some (.int x3)] [] := by
        intro I3 x3 g1 g2 g3
        refine V_iconst (v := 0) g eX4_line_152 (by decide) ?_
        refine V_istore_3 g eX4_line_153 (by decide) rfl ?_
        refine V_goto g eX4_line_154 ?_
        refine V_iload_3 g eX4_line_123 ?_
        refine V_if_eq g eX4_line_124 (fun _ => ?_) (fun c_124 => absurd c_124 (fun q => q rfl))
        exact tailF I3 x1 x2 0 g1 g2 g3
      have r04 : ∀ (I3 : It) (s3 : Ms) (m3 : Nat) (x3 : Int32), m3 < n → s3.1 = 4 → s3.2.2.1.length = 1 → PS nt H s3 I3 → rdF H I0 I3 → rn S v m3 s3 = F → V X TM I3 L RM uc us 152 [some (.ref 0), some (.int x1), some (.int x2), some (.int x3)] [] := by
        intro I3 s3 m3 x3 g1 g2 g3 g4 g5 g6
        obtain ⟨md, i3, w3, cs3, b3, ls3⟩ := s3
        have g2 : md = 4 := g2
        subst g2
        obtain ⟨x, hx⟩ : ∃ x, w3 = [x] := by
          have g3 : w3.length = 1 := g3
          match w3, g3 with
          | [x], _ => exact ⟨x, rfl⟩
        subst hx
        refine V_iconst (v := 0) g eX4_line_152 (by decide) ?_
        refine V_istore_3 g eX4_line_153 (by decide) rfl ?_
        refine V_goto g eX4_line_154 ?_
        refine V_iload_3 g eX4_line_123 ?_
        refine V_if_eq g eX4_line_124 (fun _ => ?_) (fun c_124 => absurd c_124 (fun q => q rfl))
        exact tailO I3 x1 x2 0 m3 i3 x cs3 b3 ls3 g1 g4 g5 g6
      have gF : ∀ (I3 : It) (x3 : Int32), (F.1 = 11 ∨ F.1 = 15) → FS nt H (flt P F) I3 → rdF H I0 I3 → V X TM I3 L RM uc us 145 [some (.ref 0), some (.int x1), some (.int x2), some (.int x3)] [.int 0] := by
        intro I3 x3 g1 g2 g3
        refine V_if_eq g eX4_line_145 (fun _ => ?_) (fun c_145 => absurd c_145 (fun q => q rfl))
        exact r0F I3 x3 g1 g2 g3
      have g0 : ∀ (I3 : It) (s3 : Ms) (m3 : Nat) (x3 : Int32), m3 ≤ q → m3 < n → s3.1 = 0 → PS nt H s3 I3 → rdF H I0 I3 → rn S v m3 s3 = F → V X TM I3 L RM uc us 145 [some (.ref 0), some (.int x1), some (.int x2), some (.int x3)] [.int 1] := by
        intro I3 s3 m3 x3 g1 g2 g3 g4 g5 g6
        refine V_if_eq g eX4_line_145 (fun c_145 => absurd c_145 (by decide)) (fun _ => ?_)
        exact r1 I3 s3 m3 x3 g1 g2 g3 g4 g5 g6
      have pF : ∀ (I3 : It) (x3 : Int32), (F.1 = 11 ∨ F.1 = 15) → FS nt H (flt P F) I3 → rdF H I0 I3 → V X TM I3 L RM uc us 138 [some (.ref 0), some (.int x1), some (.int x2), some (.int x3)] [.int 0] := by
        intro I3 x3 g1 g2 g3
        refine V_if_ne g eX4_line_138 (fun c_138 => absurd c_138 (by decide)) (fun _ => ?_)
        refine V_aload_0 g eX4_line_141 ?_
        refine V_cv0 g (ctX4_goesOnBehind _) eX4_line_142 pkX4_238 rfl rfl (by decide) (by decide) (Nat.le_of_ble_eq_true rfl) ?_
        refine ⟨rfl, rfl, rfl, Or.inl ⟨by rw [g2.1]; exact flt_pos g1 hPF, ?_⟩⟩
        exact gF I3 x3 g1 g2 g3
      have p0 : ∀ (I3 : It) (s3 : Ms) (m3 : Nat) (x3 : Int32), m3 ≤ q → m3 < n → s3.1 = 0 → PS nt H s3 I3 → rdF H I0 I3 → rn S v m3 s3 = F → V X TM I3 L RM uc us 138 [some (.ref 0), some (.int x1), some (.int x2), some (.int x3)] [.int 1] := by
        intro I3 s3 m3 x3 g1 g2 g3 g4 g5 g6
        refine V_if_ne g eX4_line_138 (fun _ => ?_) (fun c_138 => absurd c_138 (by decide))
        exact r1 I3 s3 m3 x3 g1 g2 g3 g4 g5 g6
      refine V_iload_3 g eX4_line_123 ?_
      refine V_if_eq g eX4_line_124 (fun c_124 => absurd c_124 (by decide)) (fun _ => ?_)
      refine V_aload_0 g eX4_line_127 ?_
      refine V_getI g eX4_line_128 flX4_194 rfl rfl ?_
      refine V_top (y := 0) h8 ?_
      refine V_if_ne g eX4_line_131 (fun c_131 => absurd c_131 (by decide)) (fun _ => ?_)
      refine V_aload_0 g eX4_line_134 ?_
      refine V_cv0 g (ctX4_part _) eX4_line_135 pkX4_234 rfl rfl (by decide) (by decide) (Nat.le_of_ble_eq_true rfl) ?_
      refine ⟨S, P, v, nt, H, I0, i2, w2, cs2, b2, ls2, rfl, rfl, rfl, hTK, hr2, hPS2, fun I3 e hfs hr3 => ?_, fun I3 e hps hr3 => ?_, fun I3 e hps hr3 => ?_⟩
      · have hFF : stp S v (0, i2, w2, cs2, b2, ls2) = F := by rw [← hrm1]; exact (rn_fin e m1).symm
        rw [hFF] at e hfs
        exact pF I3 1 e hfs hr3
      · exact p0 I3 _ m1 1 (by omega) (by omega) e hps hr3 hrm1
      refine V_if_ne g eX4_line_138 (fun c_138 => absurd c_138 (by decide)) (fun _ => ?_)
      obtain ⟨i3, w3, cs3, b3, ls3, hs3⟩ : ∃ i3 w3 cs3 b3 ls3, stp S v (0, i2, w2, cs2, b2, ls2) = (1, i3, w3, cs3, b3, ls3) := ⟨_, _, _, _, _, Prod.ext e rfl⟩
      rw [hs3] at hps hrm1
      obtain ⟨su, sg, an, r3, hw3⟩ : ∃ su sg an r3, w3 = (su, sg, an) :: r3 := by have hw : 0 < w3.length := (hps.2.2.2.2.2.2.2.2 (by show 1 < 5; decide)).2.2.1; cases w3 with | nil => simp at hw | cons x r => exact ⟨x.1, x.2.1, x.2.2, r, rfl⟩
      subst hw3
      refine V_aload_0 g eX4_line_141 ?_
      refine V_cv0 g (ctX4_goesOnBehind _) eX4_line_142 pkX4_238 rfl rfl (by decide) (by decide) (Nat.le_of_ble_eq_true rfl) ?_
      refine ⟨rfl, rfl, rfl, Or.inr ⟨S, P, v, nt, H, I0, i3, su, sg, an, r3, cs3, b3, ls3, m1, F, hTK, hr3, hps, hrm1, hF, fun I4 e hfs hr4 => gF I4 1 e hfs hr4, fun I4 m4 s4 hm4 hrm4 e4 hps4 hr4 => g0 I4 s4 m4 1 (by omega) (by omega) e4 hps4 hr4 hrm4, fun I4 m4 s4 hm4 hrm4 e4 hw4 hps4 hr4 => ?_⟩⟩
      refine V_if_eq g eX4_line_145 (fun _ => ?_) (fun c_145 => absurd c_145 (fun q => q rfl))
      exact r04 I4 s4 m4 1 (by omega) e4 hw4 hps4 hr4 hrm4
  obtain ⟨n1, rfl, hrn1⟩ := rn_pos hrn hF (by show 5 < 8; decide)
  have hat : I 0 7 = nI i := hPS.2.1
  have h8 : I 0 8 = 0 := hPS.2.2.1
  have h17 : I 0 17 = nI ((enc ls).length + 0) := hPS.2.2.2.1
  have hbud : (enc ls).length + 0 + 0 ≤ i := hPS.2.2.2.2.2.2.2.1
  have h10 : I 10 H = nI ls.length := hPS.2.2.2.2.2.1.1
  have hl16 : ls.length ≤ 16 := hPS.2.2.2.2.2.2.1
  have hP6 := (hTK.1 i hi).2.2.2
  have bad : ∀ (e : Nat) (x1 : Int32) (I2 : It), (e = 1 ∨ e = 5) → I2 = u2 I 0 8 (nI e + 16 * nI (P i)) → F = (10 + e, i, [], [], b, ls) → V X TM I2 L RM uc us 45 [some (.ref 0), some (.int x1), none, none] [] := by
    intro e x1 I2 he hI2 hFF
    subst hI2
    refine V_aload_0 g eX4_line_45 ?_
    refine V_getI g eX4_line_46 flX4_194 rfl rfl ?_
    refine V_top (y := nI (e + 16 * P i)) (by rw [u2_s, nI_flt]) ?_
    refine V_if_le g eX4_line_49 (fun c_49 => absurd c_49 (nI_nle (by omega) (by omega))) (fun _ => ?_)
    refine V_vret g eX4_line_52 ?_
    refine hkF _ (by rw [hFF]; rcases he with rfl | rfl; exact Or.inl rfl; exact Or.inr rfl) ?_ (hr.u2 (by unfold tch; omega))
    rw [hFF, u2_s]
    rcases he with rfl | rfl <;> rfl
  have f123 : ∀ (I2 : It) (x1 x2 : Int32), (F.1 = 11 ∨ F.1 = 15) → FS nt H (flt P F) I2 → rdF H I0 I2 → V X TM I2 L RM uc us 123 [some (.ref 0), some (.int x1), some (.int x2), some (.int 1)] [] := by
    intro I2 x1 x2 g1 g2 g3
    refine V_iload_3 g eX4_line_123 ?_
    refine V_if_eq g eX4_line_124 (fun c_124 => absurd c_124 (by decide)) (fun _ => ?_)
    refine V_aload_0 g eX4_line_127 ?_
    refine V_getI g eX4_line_128 flX4_194 rfl rfl ?_
    refine V_top (y := flt P F) g2.1 ?_
    refine V_if_ne g eX4_line_131 (fun _ => ?_) (fun c_131 => absurd c_131 (flt_pos g1 hPF))
    exact tailF I2 x1 x2 1 g1 g2 g3
  have from117 : ∀ (I2 : It) (x1 x2 : Int32), I2 0 18 = 0 → V X TM (opI I2 0) L RM uc us 123 [some (.ref 0), some (.int x1), some (.int x2), some (.int 1)] [] → V X TM I2 L RM uc us 117 [some (.ref 0), some (.int x1), some (.int x2), none] [] := by
    intro I2 x1 x2 h18 hk
    refine V_aload_0 g eX4_line_117 ?_
    refine V_cv0 g (ctX4_opens _) eX4_line_118 pkX4_231 rfl rfl (by decide) (by decide) (Nat.le_of_ble_eq_true rfl) ?_
    refine ⟨0, rfl, rfl, rfl, h18, by decide, ?_⟩
    refine V_iconst (v := 1) g eX4_line_121 (by decide) ?_
    refine V_istore_3 g eX4_line_122 (by decide) rfl ?_
    exact hk
  have from93 : ∀ (I2 : It) (x1 : Int32), ls.length < 16 → I2 0 16 = nI H → I2 0 17 = nI ((enc ls).length + 0) → V X TM (opI (u2 (u2 I2 12 (16 * H + ls.length) (nI (660 * H + ((enc ls).length + 0)))) 0 18 0) 0) L RM uc us 123 [some (.ref 0), some (.int x1), some (.int (nI (16 * H + ls.length))), some (.int 1)] [] → V X TM I2 L RM uc us 93 [some (.ref 0), some (.int x1), some (.int (nI (16 * H + ls.length))), none] [] := by
    intro I2 x1 hl g16 g17 hk
    refine V_aload_0 g eX4_line_93 ?_
    refine V_getR g eX4_line_94 flX4_66 rfl rfl rfl ?_
    refine V_iload_2 g eX4_line_97 ?_
    refine V_sipush (v := 660) g eX4_line_98 (by decide) ?_
    refine V_aload_0 g eX4_line_101 ?_
    refine V_getI g eX4_line_102 flX4_210 rfl rfl ?_
    refine V_top (y := nI H) g16 ?_
    refine V_imulN (a := 660) g eX4_line_105 ?_
    refine V_aload_0 g eX4_line_106 ?_
    refine V_getI g eX4_line_107 flX4_213 rfl rfl ?_
    refine V_top (y := nI ((enc ls).length + 0)) g17 ?_
    refine V_iaddN g eX4_line_110 ?_
    refine V_iastN g eX4_line_111 rfl (by omega) (by decide) ?_
    refine V_aload_0 g eX4_line_112 ?_
    refine V_iconst (v := 0) g eX4_line_113 (by decide) ?_
    refine V_putI g eX4_line_114 pflX4_228 rfl rfl rfl rfl ?_
    exact from117 _ _ _ (by rw [u2_s]) hk
  have good : ls.length < 16 → (tW S v i 1 ∨ tW S v i 0) → ∀ x1 : Int32, x1 = (if tW S v i 1 then 1 else 0) → V X TM I L RM uc us 53 [some (.ref 0), some (.int x1), none, none] [] := by
    intro hl hw x1 hx1
    have e1 : stp S v (5, i, [], [], b, ls) = (6, i + 1, [], [], decide (tW S v i 1), ls) := by
      show (if _ then _ else _) = _
      rw [if_neg hS0, if_neg (fun q => by rcases hw with z | z; exact q.1 z; exact q.2 z), if_neg (by omega)]
    rw [e1] at hrn1
    obtain ⟨n2, rfl, hrn2⟩ := rn_pos hrn1 hF (by show 6 < 8; decide)
    have hr3 : rdF H I0 (u2 (onI I i) 11 (16 * H + ls.length) x1) := (hr.u2 (by unfold tch; omega)).u2 (by unfold tch; omega)
    have h83 : u2 (onI I i) 11 (16 * H + ls.length) x1 0 8 = 0 := by simp [onI, u2, h8]
    have hnx : narrow .boolean (.int x1) = .int x1 := by rw [hx1]; split <;> rfl
    have hh := h16 I hr
    refine V_aload_0 g eX4_line_53 ?_
    refine V_dup g eX4_line_54 rfl ?_
    refine V_getI g eX4_line_55 flX4_191 rfl rfl ?_
    refine V_top (y := nI i) hat ?_
    refine V_iconst (v := 1) g eX4_line_58 (by decide) ?_
    refine V_iaddN (b := 1) g eX4_line_59 ?_
    refine V_putI g eX4_line_60 pflX4_191 rfl rfl rfl rfl ?_
    refine V_bipush (v := 16) g eX4_line_63 (by decide) ?_
    refine V_aload_0 g eX4_line_65 ?_
    refine V_getI g eX4_line_66 flX4_210 rfl rfl ?_
    refine V_top (y := nI H) (by simp [u2, hh]) ?_
    refine V_imulN (a := 16) g eX4_line_69 ?_
    refine V_aload_0 g eX4_line_70 ?_
    refine V_getR g eX4_line_71 flX4_59 rfl rfl rfl ?_
    refine V_aload_0 g eX4_line_74 ?_
    refine V_getI g eX4_line_75 flX4_210 rfl rfl ?_
    refine V_top (y := nI H) (by simp [u2, hh]) ?_
    refine V_ialdN g eX4_line_78 rfl (by omega) (by decide) ?_
    refine V_top (y := nI ls.length) (by simp [u2, h10]) ?_
    refine V_iaddN g eX4_line_79 ?_
    refine V_istore_2 g eX4_line_80 (by decide) rfl ?_
    refine V_aload_0 g eX4_line_81 ?_
    refine V_getR g eX4_line_82 flX4_62 rfl rfl rfl ?_
    refine V_iload_2 g eX4_line_85 ?_
    refine V_iload_1 g eX4_line_86 ?_
    refine V_zastN g eX4_line_87 rfl (by omega) (by decide) hnx ?_
    refine V_aload_0 g eX4_line_88 ?_
    refine V_iconst (v := 2) g eX4_line_89 (by decide) ?_
    refine V_cv1 g (ctX4_takeWord _) eX4_line_90 pkX4_225 rfl rfl (by decide) (by decide) (Nat.le_of_ble_eq_true rfl) ?_
    refine ⟨2, i + 1, rfl, rfl, rfl, by simp [u2], by omega, by decide, fun hs => ?_, fun hs => ?_⟩
    · have hw2 := (hTK.wd hr3 h83 (show i + 1 ≤ nt by omega) (by decide)).mp hs
      have hlt2 : i + 1 < nt := hTK.lt (by omega) (by rw [hw2.1]; decide)
      have e2 : stp S v (6, i + 1, [], [], decide (tW S v i 1), ls) = (0, i + 2, [(0, 0, 0)], [], decide (tW S v i 1), ls) := by show (if _ then _ else _) = _; rw [if_pos hw2]
      rw [e2] at hrn2
      refine from93 _ _ hl (by simp [onI, u2, hh]) (by simp [onI, u2]; exact h17) ?_
      refine loop n2 n2 (Nat.le_refl _) (by omega) _ (0, i + 2, [(0, 0, 0)], [], decide (tW S v i 1), ls) _ _ rfl ?_ ?_ hrn2
      · refine PS_begin hPS (by omega) hl (by simp [opI, onI, u2]) (by simp [opI, onI, u2, h8]) (by simp [opI, onI, u2]) (fun j => by simp [opI, onI, u2]) (fun j => by simp [opI, onI, u2]) (fun j => by simp [opI, onI, u2]) (fun j hj => by simp [opI, onI, u2, hj]) (fun j hj => by simp [opI, onI, u2, hj]) (by simp [opI, onI, u2, hx1]) (by simp [opI, onI, u2]) (by simp [opI, onI, u2]) (by simp [opI, onI, u2])
      · unfold opI onI; refine ((((((((hr.u2 ?_).u2 ?_).u2 ?_).u2 ?_).u2 ?_).u2 ?_).u2 ?_).u2 ?_) <;> (unfold tch; omega)
    have hw2 : ¬ tW S v (i + 1) 2 := fun q => hs ((hTK.wd hr3 h83 (show i + 1 ≤ nt by omega) (by decide)).mpr q)
    have e2 : stp S v (6, i + 1, [], [], decide (tW S v i 1), ls) = (11, i + 1, [], [], decide (tW S v i 1), ls) := by show (if _ then _ else _) = _; rw [if_neg hw2]
    rw [e2, rn_fix (fun _ => rfl)] at hrn2
    have ew : wrI (u2 (onI I i) 11 (16 * H + ls.length) x1) (i + 1) 1 = u2 (u2 (onI I i) 11 (16 * H + ls.length) x1) 0 8 (1 + 16 * nI (P (i + 1))) := hTK.wr hr3 h83 (by omega) 1
    have ef : flt P F = 1 + 16 * nI (P (i + 1)) := by rw [← hrn2]; rfl
    refine V_I (I' := u2 (u2 (onI I i) 11 (16 * H + ls.length) x1) 0 8 (1 + 16 * nI (P (i + 1)))) ew ?_
    refine from93 _ _ hl (by simp [onI, u2, hh]) (by simp [onI, u2]; exact h17) ?_
    refine f123 _ _ _ (by rw [← hrn2]; exact Or.inl rfl) ⟨by rw [ef]; simp [opI, u2], ⟨i + 1, by omega, by simp [opI, onI, u2]⟩, ⟨(enc ls).length + 0, by omega, by simp [opI, onI, u2]; exact h17⟩, ls.length, hl, by simp [opI, onI, u2, h10]⟩ ?_
    unfold opI
    refine ((((((hr3.u2 ?_).u2 ?_).u2 ?_).u2 ?_).u2 ?_).u2 ?_) <;> (unfold tch; omega)
  have at26 : (tW S v i 1 ∨ tW S v i 0) → ∀ x1 : Int32, x1 = (if tW S v i 1 then 1 else 0) → V X TM I L RM uc us 26 [some (.ref 0), some (.int x1), none, none] [] := by
    intro hw x1 hx1
    have hh := h16 I hr
    refine V_aload_0 g eX4_line_26 ?_
    refine V_getR g eX4_line_27 flX4_59 rfl rfl rfl ?_
    refine V_aload_0 g eX4_line_30 ?_
    refine V_getI g eX4_line_31 flX4_210 rfl rfl ?_
    refine V_top (y := nI H) hh ?_
    refine V_ialdN g eX4_line_34 rfl (by omega) (by decide) ?_
    refine V_top (y := nI ls.length) h10 ?_
    refine V_bipush (v := 16) g eX4_line_35 (by decide) ?_
    refine V_icmp_ne g eX4_line_37 (fun c_37 => ?_) (fun c_37 => ?_)
    · refine V_aload_0 g eX4_line_45 ?_
      refine V_getI g eX4_line_46 flX4_194 rfl rfl ?_
      refine V_top (y := 0) h8 ?_
      refine V_if_le g eX4_line_49 (fun _ => ?_) (fun c_49 => absurd c_49 (fun q => q (by decide)))
      exact good (by have : ls.length ≠ 16 := fun q => c_37 (by rw [q]; rfl); omega) hw x1 hx1
    · refine V_aload_0 g eX4_line_40 ?_
      refine V_iconst (v := 5) g eX4_line_41 (by decide) ?_
      refine V_cv1 g (ctX4_wrong _) eX4_line_42 pkX4_200 rfl rfl (by decide) (by decide) (Nat.le_of_ble_eq_true rfl) ?_
      refine ⟨_, i, rfl, rfl, rfl, hat, by omega, ?_⟩
      rw [hTK.wr hr h8 hi]
      have q_37 := nI_eq' (a := ls.length) (b := 16) (by omega) (by decide) c_37
      refine bad 5 _ _ (Or.inr rfl) rfl ?_
      have e1 : stp S v (5, i, [], [], b, ls) = (15, i, [], [], b, ls) := by show (if _ then _ else _) = _; rw [if_neg hS0, if_neg (fun q => by rcases hw with z | z; exact q.1 z; exact q.2 z), if_pos q_37]
      rw [e1, rn_fix (fun _ => rfl)] at hrn1
      exact hrn1.symm
  refine V_aload_0 g eX4_line_0 ?_
  refine V_iconst (v := 1) g eX4_line_1 (by decide) ?_
  refine V_cv1 g (ctX4_isWord _) eX4_line_2 pkX4_204 rfl rfl (by decide) (by decide) (Nat.le_of_ble_eq_true rfl) ?_
  refine ⟨1, i, rfl, rfl, rfl, hat, by omega, by decide, ?_⟩
  refine V_istore_1 g eX4_line_5 (by decide) rfl ?_
  refine V_iload_1 g eX4_line_6 ?_
  refine V_if_neB g eX4_line_7 (fun c_7 => ?_) (fun c_7 => ?_)
  · exact at26 (Or.inl ((hTK.wd hr h8 hi (by decide)).mp c_7)) _ (by unfold bI; simp only [hTK.wd hr h8 hi (show 1 < 11 by decide)])
  · refine V_aload_0 g eX4_line_10 ?_
    refine V_iconst (v := 0) g eX4_line_11 (by decide) ?_
    refine V_cv1 g (ctX4_isWord _) eX4_line_12 pkX4_204 rfl rfl (by decide) (by decide) (Nat.le_of_ble_eq_true rfl) ?_
    refine ⟨0, i, rfl, rfl, rfl, hat, by omega, by decide, ?_⟩
    refine V_if_neB g eX4_line_15 (fun c_15 => ?_) (fun c_15 => ?_)
    · exact at26 (Or.inr ((hTK.wd hr h8 hi (by decide)).mp c_15)) _ (by unfold bI; simp only [hTK.wd hr h8 hi (show 1 < 11 by decide)])
    · refine V_aload_0 g eX4_line_18 ?_
      refine V_iconst (v := 1) g eX4_line_19 (by decide) ?_
      refine V_cv1 g (ctX4_wrong _) eX4_line_20 pkX4_200 rfl rfl (by decide) (by decide) (Nat.le_of_ble_eq_true rfl) ?_
      refine ⟨_, i, rfl, rfl, rfl, hat, by omega, ?_⟩
      rw [hTK.wr hr h8 hi]
      refine V_goto g eX4_line_23 ?_
      refine bad 1 _ _ (Or.inl rfl) rfl ?_
      have e1 : stp S v (5, i, [], [], b, ls) = (11, i, [], [], b, ls) := by show (if _ then _ else _) = _; rw [if_neg hS0, if_pos ⟨fun q => c_7 ((hTK.wd hr h8 hi (by decide)).mpr q), fun q => c_15 ((hTK.wd hr h8 hi (by decide)).mpr q)⟩]
      rw [e1, rn_fix (fun _ => rfl)] at hrn1
      exact hrn1.symm

