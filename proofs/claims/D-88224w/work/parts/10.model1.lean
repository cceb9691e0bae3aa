/-! BedBookModel: the smallest methods (printed by tools/m_model1.py) -/
set_option maxRecDepth 100000
abbrev isP (I : It) (p : Int32) : Prop := ¬ p < 0 ∧ ¬ I 0 25 ≤ p
abbrev isBd (I : It) (b : Int32) : Prop := ¬ b < 0 ∧ ¬ I 0 45 ≤ b
abbrev isLt (c : Int32) : Prop := ¬ c < 97 ∧ ¬ 122 < c
abbrev isDg (c : Int32) : Prop := ¬ c < 48 ∧ ¬ 57 < c
abbrev aMany (n : Int32) : Prop := ¬ n < 1 ∧ ¬ 100 < n
abbrev isNm (n : Int32) : Prop := ¬ n < 1 ∧ ¬ 50 < n
abbrev isD9 (n : Int32) : Prop := ¬ n < 0 ∧ ¬ 9 < n
theorem eX4_thrown_0 : dc cX4_thrown 0 (.aload_n 0) 1 1 := ⟨by decide +kernel, rfl⟩
theorem eX4_thrown_1 : dc cX4_thrown 1 (.getfield 1) 3 4 := ⟨by decide +kernel, rfl⟩
theorem flX4_1 : FL RX4 1 3 0 := ⟨_, _, _, _, rfl, by decide, by decide, Or.inl (lk q1239), Or.inl rfl⟩
theorem eX4_thrown_4 : dc cX4_thrown 4 (.ireturn) 1 5 := ⟨by decide +kernel, rfl⟩
abbrev spX4_thrown : Sp := fun av T I L R uc us k => av = [.ref 0] ∧ T = TM ∧ R = RM ∧ k (.inl (some (.int (I 0 0)))) T I L R uc us
set_option maxHeartbeats 4000000 in
theorem ctX4_thrown (l : Launch) : Ct l yX4_thrown (.code yX4_thrown cX4_thrown 1 (some .int)) 1 spX4_thrown := by
  refine Ct.of (own := RX4) (nm := "thrown") (by decide) rfl rfl ?_
  rintro X av T I L R uc us rfl g hN hu hz ⟨rfl, rfl, rfl, hk⟩
  refine VE.go (ls := [some (.ref 0)]) g hu hz (fun _ => rfl) (fun _ => Nat.le_of_ble_eq_true rfl) ?_
  refine V_aload_0 g eX4_thrown_0 ?_
  refine V_getI g eX4_thrown_1 flX4_1 rfl rfl ?_
  refine V_iret g eX4_thrown_4 ?_
  exact hk
theorem eX4_isLetter_0 : dc cX4_isLetter 0 (.iload_n 0) 1 1 := ⟨by decide +kernel, rfl⟩
theorem eX4_isLetter_1 : dc cX4_isLetter 1 (.bipush 97) 2 3 := ⟨by decide +kernel, rfl⟩
theorem eX4_isLetter_3 : dj cX4_isLetter 3 (.if_icmp .lt 13) 13 16 6 := ⟨by decide +kernel, by decide, rfl⟩
theorem eX4_isLetter_16 : dc cX4_isLetter 16 (.iconst 0) 1 17 := ⟨by decide +kernel, rfl⟩
theorem eX4_isLetter_17 : dc cX4_isLetter 17 (.ireturn) 1 18 := ⟨by decide +kernel, rfl⟩
theorem eX4_isLetter_6 : dc cX4_isLetter 6 (.iload_n 0) 1 7 := ⟨by decide +kernel, rfl⟩
theorem eX4_isLetter_7 : dc cX4_isLetter 7 (.bipush 122) 2 9 := ⟨by decide +kernel, rfl⟩
theorem eX4_isLetter_9 : dj cX4_isLetter 9 (.if_icmp .gt 7) 7 16 12 := ⟨by decide +kernel, by decide, rfl⟩
theorem eX4_isLetter_12 : dc cX4_isLetter 12 (.iconst 1) 1 13 := ⟨by decide +kernel, rfl⟩
theorem eX4_isLetter_13 : dj cX4_isLetter 13 (.goto 4) 4 17 16 := ⟨by decide +kernel, by decide, rfl⟩
abbrev spX4_isLetter : Sp := fun av T I L R uc us k => ∃ c : Int32, av = [.int c] ∧ T = TM ∧ R = RM ∧ k (.inl (some (.int (bI (isLt c))))) T I L R uc us
set_option maxHeartbeats 4000000 in
theorem ctX4_isLetter (l : Launch) : Ct l yX4_isLetter (.code yX4_isLetter cX4_isLetter 1 (some .boolean)) 1 spX4_isLetter := by
  refine Ct.of (own := RX4) (nm := "isLetter") (by decide) rfl rfl ?_
  rintro X av T I L R uc us rfl g hN hu hz ⟨c, rfl, rfl, rfl, hk⟩
  refine VE.go (ls := [some (.int c)]) g hu hz (fun _ => rfl) (fun _ => Nat.le_of_ble_eq_true rfl) ?_
  refine V_iload_0 g eX4_isLetter_0 ?_
  refine V_bipush (v := 97) g eX4_isLetter_1 (by decide) ?_
  refine V_icmp_lt g eX4_isLetter_3 (fun c_3 => ?_) (fun c_3 => ?_)
  · refine V_iconst (v := 0) g eX4_isLetter_16 (by decide) ?_
    refine V_zret g eX4_isLetter_17 rfl ?_
    exact kI hk (by first | (simp only [bI, c_3, or_false, false_or, true_or, or_true, and_true, true_and, and_false, false_and, if_true, if_false, not_true_eq_false, not_false_eq_true, and_self, or_self]; done) | (simp only [bI, isP, isBd, isLt, isDg, aMany, isNm, isD9, c_3, or_false, false_or, true_or, or_true, and_true, true_and, and_false, false_and, if_true, if_false, not_true_eq_false, not_false_eq_true, and_self, or_self]; done) | ((try simp only [isP, isBd, isLt, isDg, aMany, isNm, isD9, ← Int32.not_le, Decidable.not_not] at c_3 ⊢); simp only [bI, c_3, or_false, false_or, true_or, or_true, and_true, true_and, and_false, false_and, if_true, if_false, not_true_eq_false, not_false_eq_true, and_self, or_self]; done))
  · refine V_iload_0 g eX4_isLetter_6 ?_
    refine V_bipush (v := 122) g eX4_isLetter_7 (by decide) ?_
    refine V_icmp_gt g eX4_isLetter_9 (fun c_9 => ?_) (fun c_9 => ?_)
    · refine V_iconst (v := 0) g eX4_isLetter_16 (by decide) ?_
      refine V_zret g eX4_isLetter_17 rfl ?_
      exact kI hk (by first | (simp only [bI, c_3, c_9, or_false, false_or, true_or, or_true, and_true, true_and, and_false, false_and, if_true, if_false, not_true_eq_false, not_false_eq_true, and_self, or_self]; done) | (simp only [bI, isP, isBd, isLt, isDg, aMany, isNm, isD9, c_3, c_9, or_false, false_or, true_or, or_true, and_true, true_and, and_false, false_and, if_true, if_false, not_true_eq_false, not_false_eq_true, and_self, or_self]; done) | ((try simp only [isP, isBd, isLt, isDg, aMany, isNm, isD9, ← Int32.not_le, Decidable.not_not] at c_3 c_9 ⊢); simp only [bI, c_3, c_9, or_false, false_or, true_or, or_true, and_true, true_and, and_false, false_and, if_true, if_false, not_true_eq_false, not_false_eq_true, and_self, or_self]; done))
    · refine V_iconst (v := 1) g eX4_isLetter_12 (by decide) ?_
      refine V_goto g eX4_isLetter_13 ?_
      refine V_zret g eX4_isLetter_17 rfl ?_
      exact kI hk (by first | (simp only [bI, c_3, c_9, or_false, false_or, true_or, or_true, and_true, true_and, and_false, false_and, if_true, if_false, not_true_eq_false, not_false_eq_true, and_self, or_self]; done) | (simp only [bI, isP, isBd, isLt, isDg, aMany, isNm, isD9, c_3, c_9, or_false, false_or, true_or, or_true, and_true, true_and, and_false, false_and, if_true, if_false, not_true_eq_false, not_false_eq_true, and_self, or_self]; done) | ((try simp only [isP, isBd, isLt, isDg, aMany, isNm, isD9, ← Int32.not_le, Decidable.not_not] at c_3 c_9 ⊢); simp only [bI, c_3, c_9, or_false, false_or, true_or, or_true, and_true, true_and, and_false, false_and, if_true, if_false, not_true_eq_false, not_false_eq_true, and_self, or_self]; done))
theorem eX4_isDigit_0 : dc cX4_isDigit 0 (.iload_n 0) 1 1 := ⟨by decide +kernel, rfl⟩
theorem eX4_isDigit_1 : dc cX4_isDigit 1 (.bipush 48) 2 3 := ⟨by decide +kernel, rfl⟩
theorem eX4_isDigit_3 : dj cX4_isDigit 3 (.if_icmp .lt 13) 13 16 6 := ⟨by decide +kernel, by decide, rfl⟩
theorem eX4_isDigit_16 : dc cX4_isDigit 16 (.iconst 0) 1 17 := ⟨by decide +kernel, rfl⟩
theorem eX4_isDigit_17 : dc cX4_isDigit 17 (.ireturn) 1 18 := ⟨by decide +kernel, rfl⟩
theorem eX4_isDigit_6 : dc cX4_isDigit 6 (.iload_n 0) 1 7 := ⟨by decide +kernel, rfl⟩
theorem eX4_isDigit_7 : dc cX4_isDigit 7 (.bipush 57) 2 9 := ⟨by decide +kernel, rfl⟩
theorem eX4_isDigit_9 : dj cX4_isDigit 9 (.if_icmp .gt 7) 7 16 12 := ⟨by decide +kernel, by decide, rfl⟩
theorem eX4_isDigit_12 : dc cX4_isDigit 12 (.iconst 1) 1 13 := ⟨by decide +kernel, rfl⟩
theorem eX4_isDigit_13 : dj cX4_isDigit 13 (.goto 4) 4 17 16 := ⟨by decide +kernel, by decide, rfl⟩
abbrev spX4_isDigit : Sp := fun av T I L R uc us k => ∃ c : Int32, av = [.int c] ∧ T = TM ∧ R = RM ∧ k (.inl (some (.int (bI (isDg c))))) T I L R uc us
set_option maxHeartbeats 4000000 in
theorem ctX4_isDigit (l : Launch) : Ct l yX4_isDigit (.code yX4_isDigit cX4_isDigit 1 (some .boolean)) 1 spX4_isDigit := by
  refine Ct.of (own := RX4) (nm := "isDigit") (by decide) rfl rfl ?_
  rintro X av T I L R uc us rfl g hN hu hz ⟨c, rfl, rfl, rfl, hk⟩
  refine VE.go (ls := [some (.int c)]) g hu hz (fun _ => rfl) (fun _ => Nat.le_of_ble_eq_true rfl) ?_
  refine V_iload_0 g eX4_isDigit_0 ?_
  refine V_bipush (v := 48) g eX4_isDigit_1 (by decide) ?_
  refine V_icmp_lt g eX4_isDigit_3 (fun c_3 => ?_) (fun c_3 => ?_)
  · refine V_iconst (v := 0) g eX4_isDigit_16 (by decide) ?_
    refine V_zret g eX4_isDigit_17 rfl ?_
    exact kI hk (by first | (simp only [bI, c_3, or_false, false_or, true_or, or_true, and_true, true_and, and_false, false_and, if_true, if_false, not_true_eq_false, not_false_eq_true, and_self, or_self]; done) | (simp only [bI, isP, isBd, isLt, isDg, aMany, isNm, isD9, c_3, or_false, false_or, true_or, or_true, and_true, true_and, and_false, false_and, if_true, if_false, not_true_eq_false, not_false_eq_true, and_self, or_self]; done) | ((try simp only [isP, isBd, isLt, isDg, aMany, isNm, isD9, ← Int32.not_le, Decidable.not_not] at c_3 ⊢); simp only [bI, c_3, or_false, false_or, true_or, or_true, and_true, true_and, and_false, false_and, if_true, if_false, not_true_eq_false, not_false_eq_true, and_self, or_self]; done))
  · refine V_iload_0 g eX4_isDigit_6 ?_
    refine V_bipush (v := 57) g eX4_isDigit_7 (by decide) ?_
    refine V_icmp_gt g eX4_isDigit_9 (fun c_9 => ?_) (fun c_9 => ?_)
    · refine V_iconst (v := 0) g eX4_isDigit_16 (by decide) ?_
      refine V_zret g eX4_isDigit_17 rfl ?_
      exact kI hk (by first | (simp only [bI, c_3, c_9, or_false, false_or, true_or, or_true, and_true, true_and, and_false, false_and, if_true, if_false, not_true_eq_false, not_false_eq_true, and_self, or_self]; done) | (simp only [bI, isP, isBd, isLt, isDg, aMany, isNm, isD9, c_3, c_9, or_false, false_or, true_or, or_true, and_true, true_and, and_false, false_and, if_true, if_false, not_true_eq_false, not_false_eq_true, and_self, or_self]; done) | ((try simp only [isP, isBd, isLt, isDg, aMany, isNm, isD9, ← Int32.not_le, Decidable.not_not] at c_3 c_9 ⊢); simp only [bI, c_3, c_9, or_false, false_or, true_or, or_true, and_true, true_and, and_false, false_and, if_true, if_false, not_true_eq_false, not_false_eq_true, and_self, or_self]; done))
    · refine V_iconst (v := 1) g eX4_isDigit_12 (by decide) ?_
      refine V_goto g eX4_isDigit_13 ?_
      refine V_zret g eX4_isDigit_17 rfl ?_
      exact kI hk (by first | (simp only [bI, c_3, c_9, or_false, false_or, true_or, or_true, and_true, true_and, and_false, false_and, if_true, if_false, not_true_eq_false, not_false_eq_true, and_self, or_self]; done) | (simp only [bI, isP, isBd, isLt, isDg, aMany, isNm, isD9, c_3, c_9, or_false, false_or, true_or, or_true, and_true, true_and, and_false, false_and, if_true, if_false, not_true_eq_false, not_false_eq_true, and_self, or_self]; done) | ((try simp only [isP, isBd, isLt, isDg, aMany, isNm, isD9, ← Int32.not_le, Decidable.not_not] at c_3 c_9 ⊢); simp only [bI, c_3, c_9, or_false, false_or, true_or, or_true, and_true, true_and, and_false, false_and, if_true, if_false, not_true_eq_false, not_false_eq_true, and_self, or_self]; done))
theorem eX4_areMany_0 : dc cX4_areMany 0 (.iload_n 0) 1 1 := ⟨by decide +kernel, rfl⟩
theorem eX4_areMany_1 : dc cX4_areMany 1 (.iconst 1) 1 2 := ⟨by decide +kernel, rfl⟩
theorem eX4_areMany_2 : dj cX4_areMany 2 (.if_icmp .lt 13) 13 15 5 := ⟨by decide +kernel, by decide, rfl⟩
theorem eX4_areMany_15 : dc cX4_areMany 15 (.iconst 0) 1 16 := ⟨by decide +kernel, rfl⟩
theorem eX4_areMany_16 : dc cX4_areMany 16 (.ireturn) 1 17 := ⟨by decide +kernel, rfl⟩
theorem eX4_areMany_5 : dc cX4_areMany 5 (.iload_n 0) 1 6 := ⟨by decide +kernel, rfl⟩
theorem eX4_areMany_6 : dc cX4_areMany 6 (.bipush 100) 2 8 := ⟨by decide +kernel, rfl⟩
theorem eX4_areMany_8 : dj cX4_areMany 8 (.if_icmp .gt 7) 7 15 11 := ⟨by decide +kernel, by decide, rfl⟩
theorem eX4_areMany_11 : dc cX4_areMany 11 (.iconst 1) 1 12 := ⟨by decide +kernel, rfl⟩
theorem eX4_areMany_12 : dj cX4_areMany 12 (.goto 4) 4 16 15 := ⟨by decide +kernel, by decide, rfl⟩
abbrev spX4_areMany : Sp := fun av T I L R uc us k => ∃ n : Int32, av = [.int n] ∧ T = TM ∧ R = RM ∧ k (.inl (some (.int (bI (aMany n))))) T I L R uc us
set_option maxHeartbeats 4000000 in
theorem ctX4_areMany (l : Launch) : Ct l yX4_areMany (.code yX4_areMany cX4_areMany 1 (some .boolean)) 1 spX4_areMany := by
  refine Ct.of (own := RX4) (nm := "areMany") (by decide) rfl rfl ?_
  rintro X av T I L R uc us rfl g hN hu hz ⟨n, rfl, rfl, rfl, hk⟩
  refine VE.go (ls := [some (.int n)]) g hu hz (fun _ => rfl) (fun _ => Nat.le_of_ble_eq_true rfl) ?_
  refine V_iload_0 g eX4_areMany_0 ?_
  refine V_iconst (v := 1) g eX4_areMany_1 (by decide) ?_
  refine V_icmp_lt g eX4_areMany_2 (fun c_2 => ?_) (fun c_2 => ?_)
  · refine V_iconst (v := 0) g eX4_areMany_15 (by decide) ?_
    refine V_zret g eX4_areMany_16 rfl ?_
    exact kI hk (by first | (simp only [bI, c_2, or_false, false_or, true_or, or_true, and_true, true_and, and_false, false_and, if_true, if_false, not_true_eq_false, not_false_eq_true, and_self, or_self]; done) | (simp only [bI, isP, isBd, isLt, isDg, aMany, isNm, isD9, c_2, or_false, false_or, true_or, or_true, and_true, true_and, and_false, false_and, if_true, if_false, not_true_eq_false, not_false_eq_true, and_self, or_self]; done) | ((try simp only [isP, isBd, isLt, isDg, aMany, isNm, isD9, ← Int32.not_le, Decidable.not_not] at c_2 ⊢); simp only [bI, c_2, or_false, false_or, true_or, or_true, and_true, true_and, and_false, false_and, if_true, if_false, not_true_eq_false, not_false_eq_true, and_self, or_self]; done))
  · refine V_iload_0 g eX4_areMany_5 ?_
    refine V_bipush (v := 100) g eX4_areMany_6 (by decide) ?_
    refine V_icmp_gt g eX4_areMany_8 (fun c_8 => ?_) (fun c_8 => ?_)
    · refine V_iconst (v := 0) g eX4_areMany_15 (by decide) ?_
      refine V_zret g eX4_areMany_16 rfl ?_
      exact kI hk (by first | (simp only [bI, c_2, c_8, or_false, false_or, true_or, or_true, and_true, true_and, and_false, false_and, if_true, if_false, not_true_eq_false, not_false_eq_true, and_self, or_self]; done) | (simp only [bI, isP, isBd, isLt, isDg, aMany, isNm, isD9, c_2, c_8, or_false, false_or, true_or, or_true, and_true, true_and, and_false, false_and, if_true, if_false, not_true_eq_false, not_false_eq_true, and_self, or_self]; done) | ((try simp only [isP, isBd, isLt, isDg, aMany, isNm, isD9, ← Int32.not_le, Decidable.not_not] at c_2 c_8 ⊢); simp only [bI, c_2, c_8, or_false, false_or, true_or, or_true, and_true, true_and, and_false, false_and, if_true, if_false, not_true_eq_false, not_false_eq_true, and_self, or_self]; done))
    · refine V_iconst (v := 1) g eX4_areMany_11 (by decide) ?_
      refine V_goto g eX4_areMany_12 ?_
      refine V_zret g eX4_areMany_16 rfl ?_
      exact kI hk (by first | (simp only [bI, c_2, c_8, or_false, false_or, true_or, or_true, and_true, true_and, and_false, false_and, if_true, if_false, not_true_eq_false, not_false_eq_true, and_self, or_self]; done) | (simp only [bI, isP, isBd, isLt, isDg, aMany, isNm, isD9, c_2, c_8, or_false, false_or, true_or, or_true, and_true, true_and, and_false, false_and, if_true, if_false, not_true_eq_false, not_false_eq_true, and_self, or_self]; done) | ((try simp only [isP, isBd, isLt, isDg, aMany, isNm, isD9, ← Int32.not_le, Decidable.not_not] at c_2 c_8 ⊢); simp only [bI, c_2, c_8, or_false, false_or, true_or, or_true, and_true, true_and, and_false, false_and, if_true, if_false, not_true_eq_false, not_false_eq_true, and_self, or_self]; done))
theorem eX4_isName_0 : dc cX4_isName 0 (.iload_n 0) 1 1 := ⟨by decide +kernel, rfl⟩
theorem eX4_isName_1 : dc cX4_isName 1 (.iconst 1) 1 2 := ⟨by decide +kernel, rfl⟩
theorem eX4_isName_2 : dj cX4_isName 2 (.if_icmp .lt 13) 13 15 5 := ⟨by decide +kernel, by decide, rfl⟩
theorem eX4_isName_15 : dc cX4_isName 15 (.iconst 0) 1 16 := ⟨by decide +kernel, rfl⟩
theorem eX4_isName_16 : dc cX4_isName 16 (.ireturn) 1 17 := ⟨by decide +kernel, rfl⟩
theorem eX4_isName_5 : dc cX4_isName 5 (.iload_n 0) 1 6 := ⟨by decide +kernel, rfl⟩
theorem eX4_isName_6 : dc cX4_isName 6 (.bipush 50) 2 8 := ⟨by decide +kernel, rfl⟩
theorem eX4_isName_8 : dj cX4_isName 8 (.if_icmp .gt 7) 7 15 11 := ⟨by decide +kernel, by decide, rfl⟩
theorem eX4_isName_11 : dc cX4_isName 11 (.iconst 1) 1 12 := ⟨by decide +kernel, rfl⟩
theorem eX4_isName_12 : dj cX4_isName 12 (.goto 4) 4 16 15 := ⟨by decide +kernel, by decide, rfl⟩
abbrev spX4_isName : Sp := fun av T I L R uc us k => ∃ n : Int32, av = [.int n] ∧ T = TM ∧ R = RM ∧ k (.inl (some (.int (bI (isNm n))))) T I L R uc us
set_option maxHeartbeats 4000000 in
theorem ctX4_isName (l : Launch) : Ct l yX4_isName (.code yX4_isName cX4_isName 1 (some .boolean)) 1 spX4_isName := by
  refine Ct.of (own := RX4) (nm := "isName") (by decide) rfl rfl ?_
  rintro X av T I L R uc us rfl g hN hu hz ⟨n, rfl, rfl, rfl, hk⟩
  refine VE.go (ls := [some (.int n)]) g hu hz (fun _ => rfl) (fun _ => Nat.le_of_ble_eq_true rfl) ?_
  refine V_iload_0 g eX4_isName_0 ?_
  refine V_iconst (v := 1) g eX4_isName_1 (by decide) ?_
  refine V_icmp_lt g eX4_isName_2 (fun c_2 => ?_) (fun c_2 => ?_)
  · refine V_iconst (v := 0) g eX4_isName_15 (by decide) ?_
    refine V_zret g eX4_isName_16 rfl ?_
    exact kI hk (by first | (simp only [bI, c_2, or_false, false_or, true_or, or_true, and_true, true_and, and_false, false_and, if_true, if_false, not_true_eq_false, not_false_eq_true, and_self, or_self]; done) | (simp only [bI, isP, isBd, isLt, isDg, aMany, isNm, isD9, c_2, or_false, false_or, true_or, or_true, and_true, true_and, and_false, false_and, if_true, if_false, not_true_eq_false, not_false_eq_true, and_self, or_self]; done) | ((try simp only [isP, isBd, isLt, isDg, aMany, isNm, isD9, ← Int32.not_le, Decidable.not_not] at c_2 ⊢); simp only [bI, c_2, or_false, false_or, true_or, or_true, and_true, true_and, and_false, false_and, if_true, if_false, not_true_eq_false, not_false_eq_true, and_self, or_self]; done))
  · refine V_iload_0 g eX4_isName_5 ?_
    refine V_bipush (v := 50) g eX4_isName_6 (by decide) ?_
    refine V_icmp_gt g eX4_isName_8 (fun c_8 => ?_) (fun c_8 => ?_)
    · refine V_iconst (v := 0) g eX4_isName_15 (by decide) ?_
      refine V_zret g eX4_isName_16 rfl ?_
      exact kI hk (by first | (simp only [bI, c_2, c_8, or_false, false_or, true_or, or_true, and_true, true_and, and_false, false_and, if_true, if_false, not_true_eq_false, not_false_eq_true, and_self, or_self]; done) | (simp only [bI, isP, isBd, isLt, isDg, aMany, isNm, isD9, c_2, c_8, or_false, false_or, true_or, or_true, and_true, true_and, and_false, false_and, if_true, if_false, not_true_eq_false, not_false_eq_true, and_self, or_self]; done) | ((try simp only [isP, isBd, isLt, isDg, aMany, isNm, isD9, ← Int32.not_le, Decidable.not_not] at c_2 c_8 ⊢); simp only [bI, c_2, c_8, or_false, false_or, true_or, or_true, and_true, true_and, and_false, false_and, if_true, if_false, not_true_eq_false, not_false_eq_true, and_self, or_self]; done))
    · refine V_iconst (v := 1) g eX4_isName_11 (by decide) ?_
      refine V_goto g eX4_isName_12 ?_
      refine V_zret g eX4_isName_16 rfl ?_
      exact kI hk (by first | (simp only [bI, c_2, c_8, or_false, false_or, true_or, or_true, and_true, true_and, and_false, false_and, if_true, if_false, not_true_eq_false, not_false_eq_true, and_self, or_self]; done) | (simp only [bI, isP, isBd, isLt, isDg, aMany, isNm, isD9, c_2, c_8, or_false, false_or, true_or, or_true, and_true, true_and, and_false, false_and, if_true, if_false, not_true_eq_false, not_false_eq_true, and_self, or_self]; done) | ((try simp only [isP, isBd, isLt, isDg, aMany, isNm, isD9, ← Int32.not_le, Decidable.not_not] at c_2 c_8 ⊢); simp only [bI, c_2, c_8, or_false, false_or, true_or, or_true, and_true, true_and, and_false, false_and, if_true, if_false, not_true_eq_false, not_false_eq_true, and_self, or_self]; done))
theorem eX4_isDigitNumber_0 : dc cX4_isDigitNumber 0 (.iload_n 0) 1 1 := ⟨by decide +kernel, rfl⟩
theorem eX4_isDigitNumber_1 : dj cX4_isDigitNumber 1 (.ifCond .lt 13) 13 14 4 := ⟨by decide +kernel, by decide, rfl⟩
theorem eX4_isDigitNumber_14 : dc cX4_isDigitNumber 14 (.iconst 0) 1 15 := ⟨by decide +kernel, rfl⟩
theorem eX4_isDigitNumber_15 : dc cX4_isDigitNumber 15 (.ireturn) 1 16 := ⟨by decide +kernel, rfl⟩
theorem eX4_isDigitNumber_4 : dc cX4_isDigitNumber 4 (.iload_n 0) 1 5 := ⟨by decide +kernel, rfl⟩
theorem eX4_isDigitNumber_5 : dc cX4_isDigitNumber 5 (.bipush 9) 2 7 := ⟨by decide +kernel, rfl⟩
theorem eX4_isDigitNumber_7 : dj cX4_isDigitNumber 7 (.if_icmp .gt 7) 7 14 10 := ⟨by decide +kernel, by decide, rfl⟩
theorem eX4_isDigitNumber_10 : dc cX4_isDigitNumber 10 (.iconst 1) 1 11 := ⟨by decide +kernel, rfl⟩
theorem eX4_isDigitNumber_11 : dj cX4_isDigitNumber 11 (.goto 4) 4 15 14 := ⟨by decide +kernel, by decide, rfl⟩
abbrev spX4_isDigitNumber : Sp := fun av T I L R uc us k => ∃ n : Int32, av = [.int n] ∧ T = TM ∧ R = RM ∧ k (.inl (some (.int (bI (isD9 n))))) T I L R uc us
set_option maxHeartbeats 4000000 in
theorem ctX4_isDigitNumber (l : Launch) : Ct l yX4_isDigitNumber (.code yX4_isDigitNumber cX4_isDigitNumber 1 (some .boolean)) 1 spX4_isDigitNumber := by
  refine Ct.of (own := RX4) (nm := "isDigitNumber") (by decide) rfl rfl ?_
  rintro X av T I L R uc us rfl g hN hu hz ⟨n, rfl, rfl, rfl, hk⟩
  refine VE.go (ls := [some (.int n)]) g hu hz (fun _ => rfl) (fun _ => Nat.le_of_ble_eq_true rfl) ?_
  refine V_iload_0 g eX4_isDigitNumber_0 ?_
  refine V_if_lt g eX4_isDigitNumber_1 (fun c_1 => ?_) (fun c_1 => ?_)
  · refine V_iconst (v := 0) g eX4_isDigitNumber_14 (by decide) ?_
    refine V_zret g eX4_isDigitNumber_15 rfl ?_
    exact kI hk (by first | (simp only [bI, c_1, or_false, false_or, true_or, or_true, and_true, true_and, and_false, false_and, if_true, if_false, not_true_eq_false, not_false_eq_true, and_self, or_self]; done) | (simp only [bI, isP, isBd, isLt, isDg, aMany, isNm, isD9, c_1, or_false, false_or, true_or, or_true, and_true, true_and, and_false, false_and, if_true, if_false, not_true_eq_false, not_false_eq_true, and_self, or_self]; done) | ((try simp only [isP, isBd, isLt, isDg, aMany, isNm, isD9, ← Int32.not_le, Decidable.not_not] at c_1 ⊢); simp only [bI, c_1, or_false, false_or, true_or, or_true, and_true, true_and, and_false, false_and, if_true, if_false, not_true_eq_false, not_false_eq_true, and_self, or_self]; done))
  · refine V_iload_0 g eX4_isDigitNumber_4 ?_
    refine V_bipush (v := 9) g eX4_isDigitNumber_5 (by decide) ?_
    refine V_icmp_gt g eX4_isDigitNumber_7 (fun c_7 => ?_) (fun c_7 => ?_)
    · refine V_iconst (v := 0) g eX4_isDigitNumber_14 (by decide) ?_
      refine V_zret g eX4_isDigitNumber_15 rfl ?_
      exact kI hk (by first | (simp only [bI, c_1, c_7, or_false, false_or, true_or, or_true, and_true, true_and, and_false, false_and, if_true, if_false, not_true_eq_false, not_false_eq_true, and_self, or_self]; done) | (simp only [bI, isP, isBd, isLt, isDg, aMany, isNm, isD9, c_1, c_7, or_false, false_or, true_or, or_true, and_true, true_and, and_false, false_and, if_true, if_false, not_true_eq_false, not_false_eq_true, and_self, or_self]; done) | ((try simp only [isP, isBd, isLt, isDg, aMany, isNm, isD9, ← Int32.not_le, Decidable.not_not] at c_1 c_7 ⊢); simp only [bI, c_1, c_7, or_false, false_or, true_or, or_true, and_true, true_and, and_false, false_and, if_true, if_false, not_true_eq_false, not_false_eq_true, and_self, or_self]; done))
    · refine V_iconst (v := 1) g eX4_isDigitNumber_10 (by decide) ?_
      refine V_goto g eX4_isDigitNumber_11 ?_
      refine V_zret g eX4_isDigitNumber_15 rfl ?_
      exact kI hk (by first | (simp only [bI, c_1, c_7, or_false, false_or, true_or, or_true, and_true, true_and, and_false, false_and, if_true, if_false, not_true_eq_false, not_false_eq_true, and_self, or_self]; done) | (simp only [bI, isP, isBd, isLt, isDg, aMany, isNm, isD9, c_1, c_7, or_false, false_or, true_or, or_true, and_true, true_and, and_false, false_and, if_true, if_false, not_true_eq_false, not_false_eq_true, and_self, or_self]; done) | ((try simp only [isP, isBd, isLt, isDg, aMany, isNm, isD9, ← Int32.not_le, Decidable.not_not] at c_1 c_7 ⊢); simp only [bI, c_1, c_7, or_false, false_or, true_or, or_true, and_true, true_and, and_false, false_and, if_true, if_false, not_true_eq_false, not_false_eq_true, and_self, or_self]; done))
theorem eX4_isPlant_0 : dc cX4_isPlant 0 (.iload_n 1) 1 1 := ⟨by decide +kernel, rfl⟩
theorem eX4_isPlant_1 : dj cX4_isPlant 1 (.ifCond .lt 15) 15 16 4 := ⟨by decide +kernel, by decide, rfl⟩
theorem eX4_isPlant_16 : dc cX4_isPlant 16 (.iconst 0) 1 17 := ⟨by decide +kernel, rfl⟩
theorem eX4_isPlant_17 : dc cX4_isPlant 17 (.ireturn) 1 18 := ⟨by decide +kernel, rfl⟩
theorem eX4_isPlant_4 : dc cX4_isPlant 4 (.iload_n 1) 1 5 := ⟨by decide +kernel, rfl⟩
theorem eX4_isPlant_5 : dc cX4_isPlant 5 (.aload_n 0) 1 6 := ⟨by decide +kernel, rfl⟩
theorem eX4_isPlant_6 : dc cX4_isPlant 6 (.getfield 258) 3 9 := ⟨by decide +kernel, rfl⟩
theorem flX4_258 : FL RX4 258 3 25 := ⟨_, _, _, _, rfl, by decide, by decide, Or.inl (lk q1264), Or.inl rfl⟩
theorem eX4_isPlant_9 : dj cX4_isPlant 9 (.if_icmp .ge 7) 7 16 12 := ⟨by decide +kernel, by decide, rfl⟩
theorem eX4_isPlant_12 : dc cX4_isPlant 12 (.iconst 1) 1 13 := ⟨by decide +kernel, rfl⟩
theorem eX4_isPlant_13 : dj cX4_isPlant 13 (.goto 4) 4 17 16 := ⟨by decide +kernel, by decide, rfl⟩
abbrev spX4_isPlant : Sp := fun av T I L R uc us k => ∃ p : Int32, av = [.ref 0, .int p] ∧ T = TM ∧ R = RM ∧ k (.inl (some (.int (bI (isP I p))))) T I L R uc us
set_option maxHeartbeats 4000000 in
theorem ctX4_isPlant (l : Launch) : Ct l yX4_isPlant (.code yX4_isPlant cX4_isPlant 2 (some .boolean)) 1 spX4_isPlant := by
  refine Ct.of (own := RX4) (nm := "isPlant") (by decide) rfl rfl ?_
  rintro X av T I L R uc us rfl g hN hu hz ⟨p, rfl, rfl, rfl, hk⟩
  refine VE.go (ls := [some (.ref 0), some (.int p)]) g hu hz (fun _ => rfl) (fun _ => Nat.le_of_ble_eq_true rfl) ?_
  refine V_iload_1 g eX4_isPlant_0 ?_
  refine V_if_lt g eX4_isPlant_1 (fun c_1 => ?_) (fun c_1 => ?_)
  · refine V_iconst (v := 0) g eX4_isPlant_16 (by decide) ?_
    refine V_zret g eX4_isPlant_17 rfl ?_
    exact kI hk (by first | (simp only [bI, c_1, or_false, false_or, true_or, or_true, and_true, true_and, and_false, false_and, if_true, if_false, not_true_eq_false, not_false_eq_true, and_self, or_self]; done) | (simp only [bI, isP, isBd, isLt, isDg, aMany, isNm, isD9, c_1, or_false, false_or, true_or, or_true, and_true, true_and, and_false, false_and, if_true, if_false, not_true_eq_false, not_false_eq_true, and_self, or_self]; done) | ((try simp only [isP, isBd, isLt, isDg, aMany, isNm, isD9, ← Int32.not_le, Decidable.not_not] at c_1 ⊢); simp only [bI, c_1, or_false, false_or, true_or, or_true, and_true, true_and, and_false, false_and, if_true, if_false, not_true_eq_false, not_false_eq_true, and_self, or_self]; done))
  · refine V_iload_1 g eX4_isPlant_4 ?_
    refine V_aload_0 g eX4_isPlant_5 ?_
    refine V_getI g eX4_isPlant_6 flX4_258 rfl rfl ?_
    refine V_icmp_ge g eX4_isPlant_9 (fun c_9 => ?_) (fun c_9 => ?_)
    · refine V_iconst (v := 0) g eX4_isPlant_16 (by decide) ?_
      refine V_zret g eX4_isPlant_17 rfl ?_
      exact kI hk (by first | (simp only [bI, c_1, c_9, or_false, false_or, true_or, or_true, and_true, true_and, and_false, false_and, if_true, if_false, not_true_eq_false, not_false_eq_true, and_self, or_self]; done) | (simp only [bI, isP, isBd, isLt, isDg, aMany, isNm, isD9, c_1, c_9, or_false, false_or, true_or, or_true, and_true, true_and, and_false, false_and, if_true, if_false, not_true_eq_false, not_false_eq_true, and_self, or_self]; done) | ((try simp only [isP, isBd, isLt, isDg, aMany, isNm, isD9, ← Int32.not_le, Decidable.not_not] at c_1 c_9 ⊢); simp only [bI, c_1, c_9, or_false, false_or, true_or, or_true, and_true, true_and, and_false, false_and, if_true, if_false, not_true_eq_false, not_false_eq_true, and_self, or_self]; done))
    · refine V_iconst (v := 1) g eX4_isPlant_12 (by decide) ?_
      refine V_goto g eX4_isPlant_13 ?_
      refine V_zret g eX4_isPlant_17 rfl ?_
      exact kI hk (by first | (simp only [bI, c_1, c_9, or_false, false_or, true_or, or_true, and_true, true_and, and_false, false_and, if_true, if_false, not_true_eq_false, not_false_eq_true, and_self, or_self]; done) | (simp only [bI, isP, isBd, isLt, isDg, aMany, isNm, isD9, c_1, c_9, or_false, false_or, true_or, or_true, and_true, true_and, and_false, false_and, if_true, if_false, not_true_eq_false, not_false_eq_true, and_self, or_self]; done) | ((try simp only [isP, isBd, isLt, isDg, aMany, isNm, isD9, ← Int32.not_le, Decidable.not_not] at c_1 c_9 ⊢); simp only [bI, c_1, c_9, or_false, false_or, true_or, or_true, and_true, true_and, and_false, false_and, if_true, if_false, not_true_eq_false, not_false_eq_true, and_self, or_self]; done))
theorem eX4_isBed_0 : dc cX4_isBed 0 (.iload_n 1) 1 1 := ⟨by decide +kernel, rfl⟩
theorem eX4_isBed_1 : dj cX4_isBed 1 (.ifCond .lt 15) 15 16 4 := ⟨by decide +kernel, by decide, rfl⟩
theorem eX4_isBed_16 : dc cX4_isBed 16 (.iconst 0) 1 17 := ⟨by decide +kernel, rfl⟩
theorem eX4_isBed_17 : dc cX4_isBed 17 (.ireturn) 1 18 := ⟨by decide +kernel, rfl⟩
theorem eX4_isBed_4 : dc cX4_isBed 4 (.iload_n 1) 1 5 := ⟨by decide +kernel, rfl⟩
theorem eX4_isBed_5 : dc cX4_isBed 5 (.aload_n 0) 1 6 := ⟨by decide +kernel, rfl⟩
theorem eX4_isBed_6 : dc cX4_isBed 6 (.getfield 308) 3 9 := ⟨by decide +kernel, rfl⟩
theorem flX4_308 : FL RX4 308 3 45 := ⟨_, _, _, _, rfl, by decide, by decide, Or.inl (lk q1284), Or.inl rfl⟩
theorem eX4_isBed_9 : dj cX4_isBed 9 (.if_icmp .ge 7) 7 16 12 := ⟨by decide +kernel, by decide, rfl⟩
theorem eX4_isBed_12 : dc cX4_isBed 12 (.iconst 1) 1 13 := ⟨by decide +kernel, rfl⟩
theorem eX4_isBed_13 : dj cX4_isBed 13 (.goto 4) 4 17 16 := ⟨by decide +kernel, by decide, rfl⟩
abbrev spX4_isBed : Sp := fun av T I L R uc us k => ∃ b : Int32, av = [.ref 0, .int b] ∧ T = TM ∧ R = RM ∧ k (.inl (some (.int (bI (isBd I b))))) T I L R uc us
set_option maxHeartbeats 4000000 in
theorem ctX4_isBed (l : Launch) : Ct l yX4_isBed (.code yX4_isBed cX4_isBed 2 (some .boolean)) 1 spX4_isBed := by
  refine Ct.of (own := RX4) (nm := "isBed") (by decide) rfl rfl ?_
  rintro X av T I L R uc us rfl g hN hu hz ⟨b, rfl, rfl, rfl, hk⟩
  refine VE.go (ls := [some (.ref 0), some (.int b)]) g hu hz (fun _ => rfl) (fun _ => Nat.le_of_ble_eq_true rfl) ?_
  refine V_iload_1 g eX4_isBed_0 ?_
  refine V_if_lt g eX4_isBed_1 (fun c_1 => ?_) (fun c_1 => ?_)
  · refine V_iconst (v := 0) g eX4_isBed_16 (by decide) ?_
    refine V_zret g eX4_isBed_17 rfl ?_
    exact kI hk (by first | (simp only [bI, c_1, or_false, false_or, true_or, or_true, and_true, true_and, and_false, false_and, if_true, if_false, not_true_eq_false, not_false_eq_true, and_self, or_self]; done) | (simp only [bI, isP, isBd, isLt, isDg, aMany, isNm, isD9, c_1, or_false, false_or, true_or, or_true, and_true, true_and, and_false, false_and, if_true, if_false, not_true_eq_false, not_false_eq_true, and_self, or_self]; done) | ((try simp only [isP, isBd, isLt, isDg, aMany, isNm, isD9, ← Int32.not_le, Decidable.not_not] at c_1 ⊢); simp only [bI, c_1, or_false, false_or, true_or, or_true, and_true, true_and, and_false, false_and, if_true, if_false, not_true_eq_false, not_false_eq_true, and_self, or_self]; done))
  · refine V_iload_1 g eX4_isBed_4 ?_
    refine V_aload_0 g eX4_isBed_5 ?_
    refine V_getI g eX4_isBed_6 flX4_308 rfl rfl ?_
    refine V_icmp_ge g eX4_isBed_9 (fun c_9 => ?_) (fun c_9 => ?_)
    · refine V_iconst (v := 0) g eX4_isBed_16 (by decide) ?_
      refine V_zret g eX4_isBed_17 rfl ?_
      exact kI hk (by first | (simp only [bI, c_1, c_9, or_false, false_or, true_or, or_true, and_true, true_and, and_false, false_and, if_true, if_false, not_true_eq_false, not_false_eq_true, and_self, or_self]; done) | (simp only [bI, isP, isBd, isLt, isDg, aMany, isNm, isD9, c_1, c_9, or_false, false_or, true_or, or_true, and_true, true_and, and_false, false_and, if_true, if_false, not_true_eq_false, not_false_eq_true, and_self, or_self]; done) | ((try simp only [isP, isBd, isLt, isDg, aMany, isNm, isD9, ← Int32.not_le, Decidable.not_not] at c_1 c_9 ⊢); simp only [bI, c_1, c_9, or_false, false_or, true_or, or_true, and_true, true_and, and_false, false_and, if_true, if_false, not_true_eq_false, not_false_eq_true, and_self, or_self]; done))
    · refine V_iconst (v := 1) g eX4_isBed_12 (by decide) ?_
      refine V_goto g eX4_isBed_13 ?_
      refine V_zret g eX4_isBed_17 rfl ?_
      exact kI hk (by first | (simp only [bI, c_1, c_9, or_false, false_or, true_or, or_true, and_true, true_and, and_false, false_and, if_true, if_false, not_true_eq_false, not_false_eq_true, and_self, or_self]; done) | (simp only [bI, isP, isBd, isLt, isDg, aMany, isNm, isD9, c_1, c_9, or_false, false_or, true_or, or_true, and_true, true_and, and_false, false_and, if_true, if_false, not_true_eq_false, not_false_eq_true, and_self, or_self]; done) | ((try simp only [isP, isBd, isLt, isDg, aMany, isNm, isD9, ← Int32.not_le, Decidable.not_not] at c_1 c_9 ⊢); simp only [bI, c_1, c_9, or_false, false_or, true_or, or_true, and_true, true_and, and_false, false_and, if_true, if_false, not_true_eq_false, not_false_eq_true, and_self, or_self]; done))
theorem eX4_rank_0 : dc cX4_rank 0 (.iload_n 0) 1 1 := ⟨by decide +kernel, rfl⟩
theorem eX4_rank_1 : dc cX4_rank 1 (.invokestatic 168) 3 4 := ⟨by decide +kernel, rfl⟩
theorem pkX4_168 : PkS RX4 168 yX4_isLetter (.code yX4_isLetter cX4_isLetter 1 (some .boolean)) 1 1 := ⟨cwd_c, (lk q1420), (lk q1418), (lk q1419), (lk q67), nmd_c, ⟨⟨by decide, by decide⟩, by decide +kernel⟩, by decide⟩
theorem eX4_rank_4 : dj cX4_rank 4 (.ifCond .eq 10) 10 14 7 := ⟨by decide +kernel, by decide, rfl⟩
theorem eX4_rank_14 : dc cX4_rank 14 (.iload_n 0) 1 15 := ⟨by decide +kernel, rfl⟩
theorem eX4_rank_15 : dc cX4_rank 15 (.bipush 21) 2 17 := ⟨by decide +kernel, rfl⟩
theorem eX4_rank_17 : dc cX4_rank 17 (.isub) 1 18 := ⟨by decide +kernel, rfl⟩
theorem eX4_rank_18 : dc cX4_rank 18 (.ireturn) 1 19 := ⟨by decide +kernel, rfl⟩
theorem eX4_rank_7 : dc cX4_rank 7 (.iload_n 0) 1 8 := ⟨by decide +kernel, rfl⟩
theorem eX4_rank_8 : dc cX4_rank 8 (.bipush 96) 2 10 := ⟨by decide +kernel, rfl⟩
theorem eX4_rank_10 : dc cX4_rank 10 (.isub) 1 11 := ⟨by decide +kernel, rfl⟩
theorem eX4_rank_11 : dj cX4_rank 11 (.goto 7) 7 18 14 := ⟨by decide +kernel, by decide, rfl⟩
abbrev spX4_rank : Sp := fun av T I L R uc us k => ∃ c : Int32, av = [.int c] ∧ T = TM ∧ R = RM ∧ k (.inl (some (.int (if isLt c then c - 96 else c - 21)))) T I L R uc us
set_option maxHeartbeats 4000000 in
theorem ctX4_rank (l : Launch) : Ct l yX4_rank (.code yX4_rank cX4_rank 1 (some .int)) 2 spX4_rank := by
  refine Ct.of (own := RX4) (nm := "rank") (by decide) rfl rfl ?_
  rintro X av T I L R uc us rfl g hN hu hz ⟨c, rfl, rfl, rfl, hk⟩
  refine VE.go (ls := [some (.int c)]) g hu hz (fun _ => rfl) (fun _ => Nat.le_of_ble_eq_true rfl) ?_
  refine V_iload_0 g eX4_rank_0 ?_
  refine V_cs1 g (ctX4_isLetter _) eX4_rank_1 pkX4_168 (by decide) (Nat.le_of_ble_eq_true rfl) ?_
  refine ⟨_, rfl, rfl, rfl, ?_⟩
  refine V_if_eqB g eX4_rank_4 (fun c_4 => ?_) (fun c_4 => ?_)
  · refine V_iload_0 g eX4_rank_14 ?_
    refine V_bipush (v := 21) g eX4_rank_15 (by decide) ?_
    refine V_isub g eX4_rank_17 ?_
    refine V_iret g eX4_rank_18 ?_
    exact kI hk (by simp [c_4])
  · refine V_iload_0 g eX4_rank_7 ?_
    refine V_bipush (v := 96) g eX4_rank_8 (by decide) ?_
    refine V_isub g eX4_rank_10 ?_
    refine V_goto g eX4_rank_11 ?_
    refine V_iret g eX4_rank_18 ?_
    exact kI hk (by simp [c_4])
theorem eX4_days_0 : dc cX4_days 0 (.aload_n 0) 1 1 := ⟨by decide +kernel, rfl⟩
theorem eX4_days_1 : dc cX4_days 1 (.iconst 0) 1 2 := ⟨by decide +kernel, rfl⟩
theorem eX4_days_2 : dc cX4_days 2 (.putfield 1) 3 5 := ⟨by decide +kernel, rfl⟩
theorem pflX4_1 {nm : String} : (FL RX4 1 3 0 ∧ FN 3 0) ∨ (FF RX4 1 3 0 ∧ nm = "<init>") := Or.inl ⟨flX4_1, fun C Tb N h => by cases h; rfl⟩
theorem eX4_days_5 : dc cX4_days 5 (.iload_n 1) 1 6 := ⟨by decide +kernel, rfl⟩
theorem eX4_days_6 : dj cX4_days 6 (.ifCond .lt 22) 22 28 9 := ⟨by decide +kernel, by decide, rfl⟩
theorem eX4_days_28 : dc cX4_days 28 (.iconst (-1)) 1 29 := ⟨by decide +kernel, rfl⟩
theorem eX4_days_29 : dc cX4_days 29 (.ireturn) 1 30 := ⟨by decide +kernel, rfl⟩
theorem eX4_days_9 : dc cX4_days 9 (.iload_n 1) 1 10 := ⟨by decide +kernel, rfl⟩
theorem eX4_days_10 : dc cX4_days 10 (.sipush 1000) 3 13 := ⟨by decide +kernel, rfl⟩
theorem eX4_days_13 : dj cX4_days 13 (.if_icmp .gt 15) 15 28 16 := ⟨by decide +kernel, by decide, rfl⟩
theorem eX4_days_16 : dc cX4_days 16 (.aload_n 0) 1 17 := ⟨by decide +kernel, rfl⟩
theorem eX4_days_17 : dc cX4_days 17 (.getfield 255) 3 20 := ⟨by decide +kernel, rfl⟩
theorem flX4_255 : FL RX4 255 3 24 := ⟨_, _, _, _, rfl, by decide, by decide, Or.inl (lk q1263), Or.inl rfl⟩
theorem eX4_days_20 : dc cX4_days 20 (.iload_n 1) 1 21 := ⟨by decide +kernel, rfl⟩
theorem eX4_days_21 : dc cX4_days 21 (.iadd) 1 22 := ⟨by decide +kernel, rfl⟩
theorem eX4_days_22 : dc cX4_days 22 (.sipush 9999) 3 25 := ⟨by decide +kernel, rfl⟩
theorem eX4_days_25 : dj cX4_days 25 (.if_icmp .le 5) 5 30 28 := ⟨by decide +kernel, by decide, rfl⟩
theorem eX4_days_30 : dc cX4_days 30 (.aload_n 0) 1 31 := ⟨by decide +kernel, rfl⟩
theorem eX4_days_31 : dc cX4_days 31 (.dup) 1 32 := ⟨by decide +kernel, rfl⟩
theorem eX4_days_32 : dc cX4_days 32 (.getfield 255) 3 35 := ⟨by decide +kernel, rfl⟩
theorem eX4_days_35 : dc cX4_days 35 (.iload_n 1) 1 36 := ⟨by decide +kernel, rfl⟩
theorem eX4_days_36 : dc cX4_days 36 (.iadd) 1 37 := ⟨by decide +kernel, rfl⟩
theorem eX4_days_37 : dc cX4_days 37 (.putfield 255) 3 40 := ⟨by decide +kernel, rfl⟩
theorem pflX4_255 {nm : String} : (FL RX4 255 3 24 ∧ FN 3 24) ∨ (FF RX4 255 3 24 ∧ nm = "<init>") := Or.inl ⟨flX4_255, fun C Tb N h => by cases h; rfl⟩
theorem eX4_days_40 : dc cX4_days 40 (.aload_n 0) 1 41 := ⟨by decide +kernel, rfl⟩
theorem eX4_days_41 : dc cX4_days 41 (.getfield 255) 3 44 := ⟨by decide +kernel, rfl⟩
theorem eX4_days_44 : dc cX4_days 44 (.ireturn) 1 45 := ⟨by decide +kernel, rfl⟩
abbrev spX4_days : Sp := fun av T I L R uc us k => ∃ n : Int32, av = [.ref 0, .int n] ∧ T = TM ∧ R = RM ∧ (fun J => if n < 0 ∨ 1000 < n ∨ 9999 < J 0 24 + n then k (.inl (some (.int (-1)))) T J L R uc us else k (.inl (some (.int (J 0 24 + n)))) T (u2 J 0 24 (J 0 24 + n)) L R uc us) (u2 I 0 0 0)
set_option maxHeartbeats 4000000 in
theorem ctX4_days (l : Launch) : Ct l yX4_days (.code yX4_days cX4_days 2 (some .int)) 1 spX4_days := by
  refine Ct.of (own := RX4) (nm := "days") (by decide) rfl rfl ?_
  rintro X av T I L R uc us rfl g hN hu hz ⟨n, rfl, rfl, rfl, hk⟩
  refine VE.go (ls := [some (.ref 0), some (.int n)]) g hu hz (fun _ => rfl) (fun _ => Nat.le_of_ble_eq_true rfl) ?_
  refine V_aload_0 g eX4_days_0 ?_
  refine V_iconst (v := 0) g eX4_days_1 (by decide) ?_
  refine V_putI g eX4_days_2 pflX4_1 rfl rfl rfl rfl ?_
  generalize u2 I 0 0 0 = J at hk ⊢
  refine V_iload_1 g eX4_days_5 ?_
  refine V_if_lt g eX4_days_6 (fun c_6 => ?_) (fun c_6 => ?_)
  · refine V_iconst (v := (-1)) g eX4_days_28 (by decide) ?_
    refine V_iret g eX4_days_29 ?_
    first | (simp only [c_6, or_false, false_or, true_or, or_true, and_true, true_and, and_false, false_and, if_true, if_false, not_true_eq_false, not_false_eq_true, and_self, or_self] at hk; exact hk) | (simp only [isP, isBd, isLt, isDg, aMany, isNm, isD9, c_6, or_false, false_or, true_or, or_true, and_true, true_and, and_false, false_and, if_true, if_false, not_true_eq_false, not_false_eq_true, and_self, or_self] at hk; exact hk) | ((try simp only [isP, isBd, isLt, isDg, aMany, isNm, isD9, ← Int32.not_le, Decidable.not_not] at hk c_6); simp only [c_6, or_false, false_or, true_or, or_true, and_true, true_and, and_false, false_and, if_true, if_false, not_true_eq_false, not_false_eq_true, and_self, or_self] at hk; exact hk)
  · refine V_iload_1 g eX4_days_9 ?_
    refine V_sipush (v := 1000) g eX4_days_10 (by decide) ?_
    refine V_icmp_gt g eX4_days_13 (fun c_13 => ?_) (fun c_13 => ?_)
    · refine V_iconst (v := (-1)) g eX4_days_28 (by decide) ?_
      refine V_iret g eX4_days_29 ?_
      first | (simp only [c_6, c_13, or_false, false_or, true_or, or_true, and_true, true_and, and_false, false_and, if_true, if_false, not_true_eq_false, not_false_eq_true, and_self, or_self] at hk; exact hk) | (simp only [isP, isBd, isLt, isDg, aMany, isNm, isD9, c_6, c_13, or_false, false_or, true_or, or_true, and_true, true_and, and_false, false_and, if_true, if_false, not_true_eq_false, not_false_eq_true, and_self, or_self] at hk; exact hk) | ((try simp only [isP, isBd, isLt, isDg, aMany, isNm, isD9, ← Int32.not_le, Decidable.not_not] at hk c_6 c_13); simp only [c_6, c_13, or_false, false_or, true_or, or_true, and_true, true_and, and_false, false_and, if_true, if_false, not_true_eq_false, not_false_eq_true, and_self, or_self] at hk; exact hk)
    · refine V_aload_0 g eX4_days_16 ?_
      refine V_getI g eX4_days_17 flX4_255 rfl rfl ?_
      refine V_iload_1 g eX4_days_20 ?_
      refine V_iadd g eX4_days_21 ?_
      refine V_sipush (v := 9999) g eX4_days_22 (by decide) ?_
      refine V_icmp_le g eX4_days_25 (fun c_25 => ?_) (fun c_25 => ?_)
      · refine V_aload_0 g eX4_days_30 ?_
        refine V_dup g eX4_days_31 rfl ?_
        refine V_getI g eX4_days_32 flX4_255 rfl rfl ?_
        refine V_iload_1 g eX4_days_35 ?_
        refine V_iadd g eX4_days_36 ?_
        refine V_putI g eX4_days_37 pflX4_255 rfl rfl rfl rfl ?_
        refine V_aload_0 g eX4_days_40 ?_
        refine V_getI g eX4_days_41 flX4_255 rfl rfl ?_
        refine V_top (y := J 0 24 + n) (by simp [u2]) ?_
        refine V_iret g eX4_days_44 ?_
        first | (simp only [c_6, c_13, c_25, or_false, false_or, true_or, or_true, and_true, true_and, and_false, false_and, if_true, if_false, not_true_eq_false, not_false_eq_true, and_self, or_self] at hk; exact hk) | (simp only [isP, isBd, isLt, isDg, aMany, isNm, isD9, c_6, c_13, c_25, or_false, false_or, true_or, or_true, and_true, true_and, and_false, false_and, if_true, if_false, not_true_eq_false, not_false_eq_true, and_self, or_self] at hk; exact hk) | ((try simp only [isP, isBd, isLt, isDg, aMany, isNm, isD9, ← Int32.not_le, Decidable.not_not] at hk c_6 c_13 c_25); simp only [c_6, c_13, c_25, or_false, false_or, true_or, or_true, and_true, true_and, and_false, false_and, if_true, if_false, not_true_eq_false, not_false_eq_true, and_self, or_self] at hk; exact hk)
      · refine V_iconst (v := (-1)) g eX4_days_28 (by decide) ?_
        refine V_iret g eX4_days_29 ?_
        first | (simp only [c_6, c_13, c_25, or_false, false_or, true_or, or_true, and_true, true_and, and_false, false_and, if_true, if_false, not_true_eq_false, not_false_eq_true, and_self, or_self] at hk; exact hk) | (simp only [isP, isBd, isLt, isDg, aMany, isNm, isD9, c_6, c_13, c_25, or_false, false_or, true_or, or_true, and_true, true_and, and_false, false_and, if_true, if_false, not_true_eq_false, not_false_eq_true, and_self, or_self] at hk; exact hk) | ((try simp only [isP, isBd, isLt, isDg, aMany, isNm, isD9, ← Int32.not_le, Decidable.not_not] at hk c_6 c_13 c_25); simp only [c_6, c_13, c_25, or_false, false_or, true_or, or_true, and_true, true_and, and_false, false_and, if_true, if_false, not_true_eq_false, not_false_eq_true, and_self, or_self] at hk; exact hk)
theorem eX4_isSending_0 : dc cX4_isSending 0 (.aload_n 0) 1 1 := ⟨by decide +kernel, rfl⟩
theorem eX4_isSending_1 : dc cX4_isSending 1 (.iload_n 1) 1 2 := ⟨by decide +kernel, rfl⟩
theorem eX4_isSending_2 : dc cX4_isSending 2 (.invokevirtual 268) 3 5 := ⟨by decide +kernel, rfl⟩
theorem pkX4_268 : PkV RX4 268 yX4_isPlant (.code yX4_isPlant cX4_isPlant 2 (some .boolean)) 2 "BedBookModel" 1 := ⟨cwd_c, (lk q1507), Or.inl (lk q1504), (lk q1506), (lk qs41), ⟨⟨by decide, by decide⟩, by decide +kernel⟩, (lk q67), by decide⟩
theorem eX4_isSending_5 : dj cX4_isSending 5 (.ifCond .eq 27) 27 32 8 := ⟨by decide +kernel, by decide, rfl⟩
theorem eX4_isSending_32 : dc cX4_isSending 32 (.iconst 0) 1 33 := ⟨by decide +kernel, rfl⟩
theorem eX4_isSending_33 : dc cX4_isSending 33 (.ireturn) 1 34 := ⟨by decide +kernel, rfl⟩
theorem eX4_isSending_8 : dc cX4_isSending 8 (.iload_n 2) 1 9 := ⟨by decide +kernel, rfl⟩
theorem eX4_isSending_9 : dj cX4_isSending 9 (.ifCond .lt 23) 23 32 12 := ⟨by decide +kernel, by decide, rfl⟩
theorem eX4_isSending_12 : dc cX4_isSending 12 (.iload_n 2) 1 13 := ⟨by decide +kernel, rfl⟩
theorem eX4_isSending_13 : dc cX4_isSending 13 (.bipush 99) 2 15 := ⟨by decide +kernel, rfl⟩
theorem eX4_isSending_15 : dj cX4_isSending 15 (.if_icmp .gt 17) 17 32 18 := ⟨by decide +kernel, by decide, rfl⟩
theorem eX4_isSending_18 : dc cX4_isSending 18 (.iload_n 3) 1 19 := ⟨by decide +kernel, rfl⟩
theorem eX4_isSending_19 : dj cX4_isSending 19 (.ifCond .lt 13) 13 32 22 := ⟨by decide +kernel, by decide, rfl⟩
theorem eX4_isSending_22 : dc cX4_isSending 22 (.iload_n 3) 1 23 := ⟨by decide +kernel, rfl⟩
theorem eX4_isSending_23 : dc cX4_isSending 23 (.bipush 9) 2 25 := ⟨by decide +kernel, rfl⟩
theorem eX4_isSending_25 : dj cX4_isSending 25 (.if_icmp .gt 7) 7 32 28 := ⟨by decide +kernel, by decide, rfl⟩
theorem eX4_isSending_28 : dc cX4_isSending 28 (.iconst 1) 1 29 := ⟨by decide +kernel, rfl⟩
theorem eX4_isSending_29 : dj cX4_isSending 29 (.goto 4) 4 33 32 := ⟨by decide +kernel, by decide, rfl⟩
abbrev spX4_isSending : Sp := fun av T I L R uc us k => ∃ p : Int32, ∃ h : Int32, ∃ a : Int32, av = [.ref 0, .int p, .int h, .int a] ∧ T = TM ∧ R = RM ∧ k (.inl (some (.int (bI (isP I p ∧ ¬ h < 0 ∧ ¬ 99 < h ∧ ¬ a < 0 ∧ ¬ 9 < a))))) T I L R uc us
set_option maxHeartbeats 4000000 in
theorem ctX4_isSending (l : Launch) : Ct l yX4_isSending (.code yX4_isSending cX4_isSending 4 (some .boolean)) 2 spX4_isSending := by
  refine Ct.of (own := RX4) (nm := "isSending") (by decide) rfl rfl ?_
  rintro X av T I L R uc us rfl g hN hu hz ⟨p, h, a, rfl, rfl, rfl, hk⟩
  refine VE.go (ls := [some (.ref 0), some (.int p), some (.int h), some (.int a)]) g hu hz (fun _ => rfl) (fun _ => Nat.le_of_ble_eq_true rfl) ?_
  refine V_aload_0 g eX4_isSending_0 ?_
  refine V_iload_1 g eX4_isSending_1 ?_
  refine V_cv1 g (ctX4_isPlant _) eX4_isSending_2 pkX4_268 rfl rfl (by decide) (by decide) (Nat.le_of_ble_eq_true rfl) ?_
  refine ⟨_, rfl, rfl, rfl, ?_⟩
  refine V_if_eqB g eX4_isSending_5 (fun c_5 => ?_) (fun c_5 => ?_)
  · refine V_iconst (v := 0) g eX4_isSending_32 (by decide) ?_
    refine V_zret g eX4_isSending_33 rfl ?_
    exact kI hk (by first | (simp only [bI, c_5, or_false, false_or, true_or, or_true, and_true, true_and, and_false, false_and, if_true, if_false, not_true_eq_false, not_false_eq_true, and_self, or_self]; done) | (simp only [bI, isP, isBd, isLt, isDg, aMany, isNm, isD9, c_5, or_false, false_or, true_or, or_true, and_true, true_and, and_false, false_and, if_true, if_false, not_true_eq_false, not_false_eq_true, and_self, or_self]; done) | ((try simp only [isP, isBd, isLt, isDg, aMany, isNm, isD9, ← Int32.not_le, Decidable.not_not] at c_5 ⊢); simp only [bI, c_5, or_false, false_or, true_or, or_true, and_true, true_and, and_false, false_and, if_true, if_false, not_true_eq_false, not_false_eq_true, and_self, or_self]; done))
  · refine V_iload_2 g eX4_isSending_8 ?_
    refine V_if_lt g eX4_isSending_9 (fun c_9 => ?_) (fun c_9 => ?_)
    · refine V_iconst (v := 0) g eX4_isSending_32 (by decide) ?_
      refine V_zret g eX4_isSending_33 rfl ?_
      exact kI hk (by first | (simp only [bI, c_5, c_9, or_false, false_or, true_or, or_true, and_true, true_and, and_false, false_and, if_true, if_false, not_true_eq_false, not_false_eq_true, and_self, or_self]; done) | (simp only [bI, isP, isBd, isLt, isDg, aMany, isNm, isD9, c_5, c_9, or_false, false_or, true_or, or_true, and_true, true_and, and_false, false_and, if_true, if_false, not_true_eq_false, not_false_eq_true, and_self, or_self]; done) | ((try simp only [isP, isBd, isLt, isDg, aMany, isNm, isD9, ← Int32.not_le, Decidable.not_not] at c_5 c_9 ⊢); simp only [bI, c_5, c_9, or_false, false_or, true_or, or_true, and_true, true_and, and_false, false_and, if_true, if_false, not_true_eq_false, not_false_eq_true, and_self, or_self]; done))
    · refine V_iload_2 g eX4_isSending_12 ?_
      refine V_bipush (v := 99) g eX4_isSending_13 (by decide) ?_
      refine V_icmp_gt g eX4_isSending_15 (fun c_15 => ?_) (fun c_15 => ?_)
      · refine V_iconst (v := 0) g eX4_isSending_32 (by decide) ?_
        refine V_zret g eX4_isSending_33 rfl ?_
        exact kI hk (by first | (simp only [bI, c_5, c_9, c_15, or_false, false_or, true_or, or_true, and_true, true_and, and_false, false_and, if_true, if_false, not_true_eq_false, not_false_eq_true, and_self, or_self]; done) | (simp only [bI, isP, isBd, isLt, isDg, aMany, isNm, isD9, c_5, c_9, c_15, or_false, false_or, true_or, or_true, and_true, true_and, and_false, false_and, if_true, if_false, not_true_eq_false, not_false_eq_true, and_self, or_self]; done) | ((try simp only [isP, isBd, isLt, isDg, aMany, isNm, isD9, ← Int32.not_le, Decidable.not_not] at c_5 c_9 c_15 ⊢); simp only [bI, c_5, c_9, c_15, or_false, false_or, true_or, or_true, and_true, true_and, and_false, false_and, if_true, if_false, not_true_eq_false, not_false_eq_true, and_self, or_self]; done))
      · refine V_iload_3 g eX4_isSending_18 ?_
        refine V_if_lt g eX4_isSending_19 (fun c_19 => ?_) (fun c_19 => ?_)
        · refine V_iconst (v := 0) g eX4_isSending_32 (by decide) ?_
          refine V_zret g eX4_isSending_33 rfl ?_
          exact kI hk (by first | (simp only [bI, c_5, c_9, c_15, c_19, or_false, false_or, true_or, or_true, and_true, true_and, and_false, false_and, if_true, if_false, not_true_eq_false, not_false_eq_true, and_self, or_self]; done) | (simp only [bI, isP, isBd, isLt, isDg, aMany, isNm, isD9, c_5, c_9, c_15, c_19, or_false, false_or, true_or, or_true, and_true, true_and, and_false, false_and, if_true, if_false, not_true_eq_false, not_false_eq_true, and_self, or_self]; done) | ((try simp only [isP, isBd, isLt, isDg, aMany, isNm, isD9, ← Int32.not_le, Decidable.not_not] at c_5 c_9 c_15 c_19 ⊢); simp only [bI, c_5, c_9, c_15, c_19, or_false, false_or, true_or, or_true, and_true, true_and, and_false, false_and, if_true, if_false, not_true_eq_false, not_false_eq_true, and_self, or_self]; done))
        · refine V_iload_3 g eX4_isSending_22 ?_
          refine V_bipush (v := 9) g eX4_isSending_23 (by decide) ?_
          refine V_icmp_gt g eX4_isSending_25 (fun c_25 => ?_) (fun c_25 => ?_)
          · refine V_iconst (v := 0) g eX4_isSending_32 (by decide) ?_
            refine V_zret g eX4_isSending_33 rfl ?_
            exact kI hk (by first | (simp only [bI, c_5, c_9, c_15, c_19, c_25, or_false, false_or, true_or, or_true, and_true, true_and, and_false, false_and, if_true, if_false, not_true_eq_false, not_false_eq_true, and_self, or_self]; done) | (simp only [bI, isP, isBd, isLt, isDg, aMany, isNm, isD9, c_5, c_9, c_15, c_19, c_25, or_false, false_or, true_or, or_true, and_true, true_and, and_false, false_and, if_true, if_false, not_true_eq_false, not_false_eq_true, and_self, or_self]; done) | ((try simp only [isP, isBd, isLt, isDg, aMany, isNm, isD9, ← Int32.not_le, Decidable.not_not] at c_5 c_9 c_15 c_19 c_25 ⊢); simp only [bI, c_5, c_9, c_15, c_19, c_25, or_false, false_or, true_or, or_true, and_true, true_and, and_false, false_and, if_true, if_false, not_true_eq_false, not_false_eq_true, and_self, or_self]; done))
          · refine V_iconst (v := 1) g eX4_isSending_28 (by decide) ?_
            refine V_goto g eX4_isSending_29 ?_
            refine V_zret g eX4_isSending_33 rfl ?_
            exact kI hk (by first | (simp only [bI, c_5, c_9, c_15, c_19, c_25, or_false, false_or, true_or, or_true, and_true, true_and, and_false, false_and, if_true, if_false, not_true_eq_false, not_false_eq_true, and_self, or_self]; done) | (simp only [bI, isP, isBd, isLt, isDg, aMany, isNm, isD9, c_5, c_9, c_15, c_19, c_25, or_false, false_or, true_or, or_true, and_true, true_and, and_false, false_and, if_true, if_false, not_true_eq_false, not_false_eq_true, and_self, or_self]; done) | ((try simp only [isP, isBd, isLt, isDg, aMany, isNm, isD9, ← Int32.not_le, Decidable.not_not] at c_5 c_9 c_15 c_19 c_25 ⊢); simp only [bI, c_5, c_9, c_15, c_19, c_25, or_false, false_or, true_or, or_true, and_true, true_and, and_false, false_and, if_true, if_false, not_true_eq_false, not_false_eq_true, and_self, or_self]; done))
