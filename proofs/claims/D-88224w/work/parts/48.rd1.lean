/-! BedBook's Reader: letters and tokens (printed out of tmpl/t_rd1.txt) -/
set_option maxRecDepth 100000
abbrev spX2_isLetter : Sp := fun av T I L R uc us k => ∃ c : Int32, av = [.int c] ∧ k (.inl (some (.int (bI (isLt c))))) T I L R uc us
theorem eX2_isLetter_0 : dc cX2_isLetter 0 (.iload_n 0) 1 1 := ⟨by decide +kernel, rfl⟩
theorem eX2_isLetter_1 : dc cX2_isLetter 1 (.bipush 97) 2 3 := ⟨by decide +kernel, rfl⟩
theorem eX2_isLetter_3 : dj cX2_isLetter 3 (.if_icmp .lt 13) 13 16 6 := ⟨by decide +kernel, by decide, rfl⟩
theorem eX2_isLetter_16 : dc cX2_isLetter 16 (.iconst 0) 1 17 := ⟨by decide +kernel, rfl⟩
theorem eX2_isLetter_17 : dc cX2_isLetter 17 (.ireturn) 1 18 := ⟨by decide +kernel, rfl⟩
theorem eX2_isLetter_6 : dc cX2_isLetter 6 (.iload_n 0) 1 7 := ⟨by decide +kernel, rfl⟩
theorem eX2_isLetter_7 : dc cX2_isLetter 7 (.bipush 122) 2 9 := ⟨by decide +kernel, rfl⟩
theorem eX2_isLetter_9 : dj cX2_isLetter 9 (.if_icmp .gt 7) 7 16 12 := ⟨by decide +kernel, by decide, rfl⟩
theorem eX2_isLetter_12 : dc cX2_isLetter 12 (.iconst 1) 1 13 := ⟨by decide +kernel, rfl⟩
theorem eX2_isLetter_13 : dj cX2_isLetter 13 (.goto 4) 4 17 16 := ⟨by decide +kernel, by decide, rfl⟩
set_option maxHeartbeats 8000000 in
theorem ctX2_isLetter (l : Launch) : Ct l yX2_isLetter (.code yX2_isLetter cX2_isLetter 1 (some .boolean)) 1 spX2_isLetter := by
  refine Ct.of (own := RX2) (nm := "isLetter") (by decide) rfl rfl ?_
  rintro X av T I L R uc us rfl g hN hu hz ⟨c, rfl, hk⟩
  refine VE.go (ls := [some (.int c)]) g hu hz (fun _ => rfl) (fun _ => Nat.le_of_ble_eq_true rfl) ?_
  refine V_iload_0 g eX2_isLetter_0 ?_
  refine V_bipush (v := 97) g eX2_isLetter_1 (by decide) ?_
  refine V_icmp_lt g eX2_isLetter_3 (fun c_3 => ?_) (fun c_3 => ?_)
  · refine V_iconst (v := 0) g eX2_isLetter_16 (by decide) ?_
    refine V_zret g eX2_isLetter_17 rfl ?_
    first | contradiction | exact kI hk (by first | (simp only [bI, c_3, or_false, false_or, true_or, or_true, and_true, true_and, and_false, false_and, if_true, if_false, not_true_eq_false, not_false_eq_true, and_self, or_self]; done) | (simp only [bI, isP, isBd, isLt, isDg, aMany, isNm, isD9, c_3, or_false, false_or, true_or, or_true, and_true, true_and, and_false, false_and, if_true, if_false, not_true_eq_false, not_false_eq_true, and_self, or_self]; done) | ((try simp only [isP, isBd, isLt, isDg, aMany, isNm, isD9, ← Int32.not_le, Decidable.not_not] at c_3 ⊢); simp only [bI, c_3, or_false, false_or, true_or, or_true, and_true, true_and, and_false, false_and, if_true, if_false, not_true_eq_false, not_false_eq_true, and_self, or_self]; done))
  · refine V_iload_0 g eX2_isLetter_6 ?_
    refine V_bipush (v := 122) g eX2_isLetter_7 (by decide) ?_
    refine V_icmp_gt g eX2_isLetter_9 (fun c_9 => ?_) (fun c_9 => ?_)
    · refine V_iconst (v := 0) g eX2_isLetter_16 (by decide) ?_
      refine V_zret g eX2_isLetter_17 rfl ?_
      first | contradiction | exact kI hk (by first | (simp only [bI, c_3, c_9, or_false, false_or, true_or, or_true, and_true, true_and, and_false, false_and, if_true, if_false, not_true_eq_false, not_false_eq_true, and_self, or_self]; done) | (simp only [bI, isP, isBd, isLt, isDg, aMany, isNm, isD9, c_3, c_9, or_false, false_or, true_or, or_true, and_true, true_and, and_false, false_and, if_true, if_false, not_true_eq_false, not_false_eq_true, and_self, or_self]; done) | ((try simp only [isP, isBd, isLt, isDg, aMany, isNm, isD9, ← Int32.not_le, Decidable.not_not] at c_3 c_9 ⊢); simp only [bI, c_3, c_9, or_false, false_or, true_or, or_true, and_true, true_and, and_false, false_and, if_true, if_false, not_true_eq_false, not_false_eq_true, and_self, or_self]; done))
    · refine V_iconst (v := 1) g eX2_isLetter_12 (by decide) ?_
      refine V_goto g eX2_isLetter_13 ?_
      refine V_zret g eX2_isLetter_17 rfl ?_
      first | contradiction | exact kI hk (by first | (simp only [bI, c_3, c_9, or_false, false_or, true_or, or_true, and_true, true_and, and_false, false_and, if_true, if_false, not_true_eq_false, not_false_eq_true, and_self, or_self]; done) | (simp only [bI, isP, isBd, isLt, isDg, aMany, isNm, isD9, c_3, c_9, or_false, false_or, true_or, or_true, and_true, true_and, and_false, false_and, if_true, if_false, not_true_eq_false, not_false_eq_true, and_self, or_self]; done) | ((try simp only [isP, isBd, isLt, isDg, aMany, isNm, isD9, ← Int32.not_le, Decidable.not_not] at c_3 c_9 ⊢); simp only [bI, c_3, c_9, or_false, false_or, true_or, or_true, and_true, true_and, and_false, false_and, if_true, if_false, not_true_eq_false, not_false_eq_true, and_self, or_self]; done))
abbrev spX2_isDigit : Sp := fun av T I L R uc us k => ∃ c : Int32, av = [.int c] ∧ k (.inl (some (.int (bI (isDg c))))) T I L R uc us
theorem eX2_isDigit_0 : dc cX2_isDigit 0 (.iload_n 0) 1 1 := ⟨by decide +kernel, rfl⟩
theorem eX2_isDigit_1 : dc cX2_isDigit 1 (.bipush 48) 2 3 := ⟨by decide +kernel, rfl⟩
theorem eX2_isDigit_3 : dj cX2_isDigit 3 (.if_icmp .lt 13) 13 16 6 := ⟨by decide +kernel, by decide, rfl⟩
theorem eX2_isDigit_16 : dc cX2_isDigit 16 (.iconst 0) 1 17 := ⟨by decide +kernel, rfl⟩
theorem eX2_isDigit_17 : dc cX2_isDigit 17 (.ireturn) 1 18 := ⟨by decide +kernel, rfl⟩
theorem eX2_isDigit_6 : dc cX2_isDigit 6 (.iload_n 0) 1 7 := ⟨by decide +kernel, rfl⟩
theorem eX2_isDigit_7 : dc cX2_isDigit 7 (.bipush 57) 2 9 := ⟨by decide +kernel, rfl⟩
theorem eX2_isDigit_9 : dj cX2_isDigit 9 (.if_icmp .gt 7) 7 16 12 := ⟨by decide +kernel, by decide, rfl⟩
theorem eX2_isDigit_12 : dc cX2_isDigit 12 (.iconst 1) 1 13 := ⟨by decide +kernel, rfl⟩
theorem eX2_isDigit_13 : dj cX2_isDigit 13 (.goto 4) 4 17 16 := ⟨by decide +kernel, by decide, rfl⟩
set_option maxHeartbeats 8000000 in
theorem ctX2_isDigit (l : Launch) : Ct l yX2_isDigit (.code yX2_isDigit cX2_isDigit 1 (some .boolean)) 1 spX2_isDigit := by
  refine Ct.of (own := RX2) (nm := "isDigit") (by decide) rfl rfl ?_
  rintro X av T I L R uc us rfl g hN hu hz ⟨c, rfl, hk⟩
  refine VE.go (ls := [some (.int c)]) g hu hz (fun _ => rfl) (fun _ => Nat.le_of_ble_eq_true rfl) ?_
  refine V_iload_0 g eX2_isDigit_0 ?_
  refine V_bipush (v := 48) g eX2_isDigit_1 (by decide) ?_
  refine V_icmp_lt g eX2_isDigit_3 (fun c_3 => ?_) (fun c_3 => ?_)
  · refine V_iconst (v := 0) g eX2_isDigit_16 (by decide) ?_
    refine V_zret g eX2_isDigit_17 rfl ?_
    first | contradiction | exact kI hk (by first | (simp only [bI, c_3, or_false, false_or, true_or, or_true, and_true, true_and, and_false, false_and, if_true, if_false, not_true_eq_false, not_false_eq_true, and_self, or_self]; done) | (simp only [bI, isP, isBd, isLt, isDg, aMany, isNm, isD9, c_3, or_false, false_or, true_or, or_true, and_true, true_and, and_false, false_and, if_true, if_false, not_true_eq_false, not_false_eq_true, and_self, or_self]; done) | ((try simp only [isP, isBd, isLt, isDg, aMany, isNm, isD9, ← Int32.not_le, Decidable.not_not] at c_3 ⊢); simp only [bI, c_3, or_false, false_or, true_or, or_true, and_true, true_and, and_false, false_and, if_true, if_false, not_true_eq_false, not_false_eq_true, and_self, or_self]; done))
  · refine V_iload_0 g eX2_isDigit_6 ?_
    refine V_bipush (v := 57) g eX2_isDigit_7 (by decide) ?_
    refine V_icmp_gt g eX2_isDigit_9 (fun c_9 => ?_) (fun c_9 => ?_)
    · refine V_iconst (v := 0) g eX2_isDigit_16 (by decide) ?_
      refine V_zret g eX2_isDigit_17 rfl ?_
      first | contradiction | exact kI hk (by first | (simp only [bI, c_3, c_9, or_false, false_or, true_or, or_true, and_true, true_and, and_false, false_and, if_true, if_false, not_true_eq_false, not_false_eq_true, and_self, or_self]; done) | (simp only [bI, isP, isBd, isLt, isDg, aMany, isNm, isD9, c_3, c_9, or_false, false_or, true_or, or_true, and_true, true_and, and_false, false_and, if_true, if_false, not_true_eq_false, not_false_eq_true, and_self, or_self]; done) | ((try simp only [isP, isBd, isLt, isDg, aMany, isNm, isD9, ← Int32.not_le, Decidable.not_not] at c_3 c_9 ⊢); simp only [bI, c_3, c_9, or_false, false_or, true_or, or_true, and_true, true_and, and_false, false_and, if_true, if_false, not_true_eq_false, not_false_eq_true, and_self, or_self]; done))
    · refine V_iconst (v := 1) g eX2_isDigit_12 (by decide) ?_
      refine V_goto g eX2_isDigit_13 ?_
      refine V_zret g eX2_isDigit_17 rfl ?_
      first | contradiction | exact kI hk (by first | (simp only [bI, c_3, c_9, or_false, false_or, true_or, or_true, and_true, true_and, and_false, false_and, if_true, if_false, not_true_eq_false, not_false_eq_true, and_self, or_self]; done) | (simp only [bI, isP, isBd, isLt, isDg, aMany, isNm, isD9, c_3, c_9, or_false, false_or, true_or, or_true, and_true, true_and, and_false, false_and, if_true, if_false, not_true_eq_false, not_false_eq_true, and_self, or_self]; done) | ((try simp only [isP, isBd, isLt, isDg, aMany, isNm, isD9, ← Int32.not_le, Decidable.not_not] at c_3 c_9 ⊢); simp only [bI, c_3, c_9, or_false, false_or, true_or, or_true, and_true, true_and, and_false, false_and, if_true, if_false, not_true_eq_false, not_false_eq_true, and_self, or_self]; done))
/-- the Reader rd stands over the tape tp, n letters -/
def RdA (T : Tt) (I : It) (R : Rt) (rd tp n : Nat) : Prop := (T rd).1 = 1 ∧ R rd 0 = some tp ∧ T tp = (101, 600) ∧ I rd 1 = nI n ∧ n ≤ 600
theorem RdA.ne {T : Tt} {I : It} {R : Rt} {rd tp n : Nat} (h : RdA T I R rd tp n) : tp ≠ rd := fun q => by
  have h1 := h.1
  have h2 := h.2.2.1
  rw [← q, h2] at h1
  exact absurd h1 (by decide)
/-- of the memory only some of the Reader's ints may differ -/
def rdK (I I' : It) (rd : Nat) : Prop := (∀ x, x ≠ rd → I' x = I x) ∧ ∀ j, (j = 1 ∨ j = 6) → I' rd j = I rd j
theorem rdK.refl (I : It) (rd : Nat) : rdK I I rd := ⟨fun _ _ => rfl, fun _ _ => rfl⟩
theorem rdK.put {I I' : It} {rd : Nat} (h : rdK I I' rd) {j : Nat} (v : Int32) (h1 : j ≠ 1) (h6 : j ≠ 6) : rdK I (u2 I' rd j v) rd := by
  refine ⟨fun x hx => by rw [u2_o _ _ hx]; exact h.1 x hx, fun i hi => ?_⟩
  rw [u2_n _ _ (fun q => by omega)]
  exact h.2 i hi
theorem rdK.trans {I I' I2 : It} {rd : Nat} (h : rdK I I' rd) (h2 : rdK I' I2 rd) : rdK I I2 rd := ⟨fun x hx => by rw [h2.1 x hx, h.1 x hx], fun j hj => by rw [h2.2 j hj, h.2 j hj]⟩
theorem RdA.keep {T : Tt} {I I' : It} {R : Rt} {rd tp n : Nat} (h : RdA T I R rd tp n) (hk : rdK I I' rd) : RdA T I' R rd tp n := ⟨h.1, h.2.1, h.2.2.1, by rw [hk.2 1 (Or.inl rfl)]; exact h.2.2.2.1, h.2.2.2.2⟩
abbrev spX2_at : Sp := fun av T I L R uc us k => ∃ (rd tp n j : Nat), av = [.ref rd, .int (nI j)] ∧ RdA T I R rd tp n ∧ j ≤ n ∧ k (.inl (some (.int (if j < n then I tp j else 0)))) T I L R uc us
theorem eX2_at_0 : dc cX2_at 0 (.iload_n 1) 1 1 := ⟨by decide +kernel, rfl⟩
theorem eX2_at_1 : dc cX2_at 1 (.aload_n 0) 1 2 := ⟨by decide +kernel, rfl⟩
theorem eX2_at_2 : dc cX2_at 2 (.getfield 15) 3 5 := ⟨by decide +kernel, rfl⟩
theorem flX2_15 : FL RX2 15 1 1 := ⟨_, _, _, _, rfl, by decide, by decide, Or.inl (lk q140), Or.inl rfl⟩
theorem eX2_at_5 : dj cX2_at 5 (.if_icmp .ge 12) 12 17 8 := ⟨by decide +kernel, by decide, rfl⟩
theorem eX2_at_17 : dc cX2_at 17 (.iconst 0) 1 18 := ⟨by decide +kernel, rfl⟩
theorem eX2_at_18 : dc cX2_at 18 (.ireturn) 1 19 := ⟨by decide +kernel, rfl⟩
theorem eX2_at_8 : dc cX2_at 8 (.aload_n 0) 1 9 := ⟨by decide +kernel, rfl⟩
theorem eX2_at_9 : dc cX2_at 9 (.getfield 9) 3 12 := ⟨by decide +kernel, rfl⟩
theorem flX2_9 : FL RX2 9 1 0 := ⟨_, _, _, _, rfl, by decide, by decide, Or.inl (lk q139), Or.inl rfl⟩
theorem eX2_at_12 : dc cX2_at 12 (.iload_n 1) 1 13 := ⟨by decide +kernel, rfl⟩
theorem eX2_at_13 : dc cX2_at 13 (.baload) 1 14 := ⟨by decide +kernel, rfl⟩
theorem eX2_at_14 : dj cX2_at 14 (.goto 4) 4 18 17 := ⟨by decide +kernel, by decide, rfl⟩
set_option maxHeartbeats 8000000 in
theorem ctX2_at (l : Launch) : Ct l yX2_at (.code yX2_at cX2_at 2 (some .int)) 1 spX2_at := by
  refine Ct.of (own := RX2) (nm := "at") (by decide) rfl rfl ?_
  rintro X av T I L R uc us rfl g hN hu hz ⟨rd, tp, n, j, rfl, ⟨hT, hR, hTp, hI, hn⟩, hj, hk⟩
  refine VE.go (ls := [some (.ref rd), some (.int (nI j))]) g hu hz (fun _ => rfl) (fun _ => Nat.le_of_ble_eq_true rfl) ?_
  refine V_iload_1 g eX2_at_0 ?_
  refine V_aload_0 g eX2_at_1 ?_
  refine V_getI g eX2_at_2 flX2_15 hT rfl ?_
  rw [hI]
  refine V_icmp_ge g eX2_at_5 (fun c_5 => ?_) (fun c_5 => ?_)
  · refine V_iconst (v := 0) g eX2_at_17 (by decide) ?_
    refine V_iret g eX2_at_18 ?_
    refine kI hk ?_
    first | (have q_5 := nI_le' (a := n) (b := j) (by omega) (by omega) c_5; rw [if_neg (by omega)]; done) | rw [if_pos q_5]
  · have q_5 := nI_nle' (a := n) (b := j) (by omega) (by omega) c_5
    refine V_aload_0 g eX2_at_8 ?_
    refine V_getR g eX2_at_9 flX2_9 hT rfl hR ?_
    refine V_iload_1 g eX2_at_12 ?_
    refine V_baldN g eX2_at_13 hTp (by omega) (by decide) ?_
    refine V_goto g eX2_at_14 ?_
    refine V_iret g eX2_at_18 ?_
    refine kI hk ?_
    first | (have q_5 := nI_le' (a := n) (b := j) (by omega) (by omega) c_5; rw [if_neg (by omega)]; done) | rw [if_pos q_5]
abbrev spX2_isSign : Sp := fun av T I L R uc us k => ∃ (rd tp n p q : Nat), av = [.ref rd, .int (nI q)] ∧ RdA T I R rd tp n ∧ I rd 4 = nI p ∧ (I rd 3 = 3 → p < 600) ∧ k (.inl (some (.int (bI (I rd 3 = 3 ∧ I tp p = nI q))))) T I L R uc us
theorem eX2_isSign_0 : dc cX2_isSign 0 (.aload_n 0) 1 1 := ⟨by decide +kernel, rfl⟩
theorem eX2_isSign_1 : dc cX2_isSign 1 (.getfield 31) 3 4 := ⟨by decide +kernel, rfl⟩
theorem flX2_31 : FL RX2 31 1 3 := ⟨_, _, _, _, rfl, by decide, by decide, Or.inl (lk q142), Or.inl rfl⟩
theorem eX2_isSign_4 : dc cX2_isSign 4 (.iconst 3) 1 5 := ⟨by decide +kernel, rfl⟩
theorem eX2_isSign_5 : dj cX2_isSign 5 (.if_icmp .ne 20) 20 25 8 := ⟨by decide +kernel, by decide, rfl⟩
theorem eX2_isSign_25 : dc cX2_isSign 25 (.iconst 0) 1 26 := ⟨by decide +kernel, rfl⟩
theorem eX2_isSign_26 : dc cX2_isSign 26 (.ireturn) 1 27 := ⟨by decide +kernel, rfl⟩
theorem eX2_isSign_8 : dc cX2_isSign 8 (.aload_n 0) 1 9 := ⟨by decide +kernel, rfl⟩
theorem eX2_isSign_9 : dc cX2_isSign 9 (.getfield 9) 3 12 := ⟨by decide +kernel, rfl⟩
theorem eX2_isSign_12 : dc cX2_isSign 12 (.aload_n 0) 1 13 := ⟨by decide +kernel, rfl⟩
theorem eX2_isSign_13 : dc cX2_isSign 13 (.getfield 28) 3 16 := ⟨by decide +kernel, rfl⟩
theorem flX2_28 : FL RX2 28 1 4 := ⟨_, _, _, _, rfl, by decide, by decide, Or.inl (lk q143), Or.inl rfl⟩
theorem eX2_isSign_16 : dc cX2_isSign 16 (.baload) 1 17 := ⟨by decide +kernel, rfl⟩
theorem eX2_isSign_17 : dc cX2_isSign 17 (.iload_n 1) 1 18 := ⟨by decide +kernel, rfl⟩
theorem eX2_isSign_18 : dj cX2_isSign 18 (.if_icmp .ne 7) 7 25 21 := ⟨by decide +kernel, by decide, rfl⟩
theorem eX2_isSign_21 : dc cX2_isSign 21 (.iconst 1) 1 22 := ⟨by decide +kernel, rfl⟩
theorem eX2_isSign_22 : dj cX2_isSign 22 (.goto 4) 4 26 25 := ⟨by decide +kernel, by decide, rfl⟩
set_option maxHeartbeats 8000000 in
theorem ctX2_isSign (l : Launch) : Ct l yX2_isSign (.code yX2_isSign cX2_isSign 2 (some .boolean)) 1 spX2_isSign := by
  refine Ct.of (own := RX2) (nm := "isSign") (by decide) rfl rfl ?_
  rintro X av T I L R uc us rfl g hN hu hz ⟨rd, tp, n, p, q, rfl, ⟨hT, hR, hTp, hI, hn⟩, hp, hp6, hk⟩
  refine VE.go (ls := [some (.ref rd), some (.int (nI q))]) g hu hz (fun _ => rfl) (fun _ => Nat.le_of_ble_eq_true rfl) ?_
  refine V_aload_0 g eX2_isSign_0 ?_
  refine V_getI g eX2_isSign_1 flX2_31 hT rfl ?_
  refine V_iconst (v := 3) g eX2_isSign_4 (by decide) ?_
  refine V_icmp_ne g eX2_isSign_5 (fun c_5 => ?_) (fun c_5 => ?_)
  · refine V_iconst (v := 0) g eX2_isSign_25 (by decide) ?_
    refine V_zret g eX2_isSign_26 rfl ?_
    first | contradiction | exact kI hk (by first | (simp only [bI, c_5, or_false, false_or, true_or, or_true, and_true, true_and, and_false, false_and, if_true, if_false, not_true_eq_false, not_false_eq_true, and_self, or_self]; done) | (simp only [bI, isP, isBd, isLt, isDg, aMany, isNm, isD9, c_5, or_false, false_or, true_or, or_true, and_true, true_and, and_false, false_and, if_true, if_false, not_true_eq_false, not_false_eq_true, and_self, or_self]; done) | ((try simp only [isP, isBd, isLt, isDg, aMany, isNm, isD9, ← Int32.not_le, Decidable.not_not] at c_5 ⊢); simp only [bI, c_5, or_false, false_or, true_or, or_true, and_true, true_and, and_false, false_and, if_true, if_false, not_true_eq_false, not_false_eq_true, and_self, or_self]; done))
  · refine V_aload_0 g eX2_isSign_8 ?_
    refine V_getR g eX2_isSign_9 flX2_9 hT rfl hR ?_
    refine V_aload_0 g eX2_isSign_12 ?_
    refine V_getI g eX2_isSign_13 flX2_28 hT rfl ?_
    refine V_top (y := nI p) (hp) ?_
    refine V_baldN g eX2_isSign_16 hTp (hp6 c_5) (by decide) ?_
    refine V_iload_1 g eX2_isSign_17 ?_
    refine V_icmp_ne g eX2_isSign_18 (fun c_18 => ?_) (fun c_18 => ?_)
    · refine V_iconst (v := 0) g eX2_isSign_25 (by decide) ?_
      refine V_zret g eX2_isSign_26 rfl ?_
      first | contradiction | exact kI hk (by first | (simp only [bI, c_5, c_18, or_false, false_or, true_or, or_true, and_true, true_and, and_false, false_and, if_true, if_false, not_true_eq_false, not_false_eq_true, and_self, or_self]; done) | (simp only [bI, isP, isBd, isLt, isDg, aMany, isNm, isD9, c_5, c_18, or_false, false_or, true_or, or_true, and_true, true_and, and_false, false_and, if_true, if_false, not_true_eq_false, not_false_eq_true, and_self, or_self]; done) | ((try simp only [isP, isBd, isLt, isDg, aMany, isNm, isD9, ← Int32.not_le, Decidable.not_not] at c_5 c_18 ⊢); simp only [bI, c_5, c_18, or_false, false_or, true_or, or_true, and_true, true_and, and_false, false_and, if_true, if_false, not_true_eq_false, not_false_eq_true, and_self, or_self]; done))
    · refine V_iconst (v := 1) g eX2_isSign_21 (by decide) ?_
      refine V_goto g eX2_isSign_22 ?_
      refine V_zret g eX2_isSign_26 rfl ?_
      first | contradiction | exact kI hk (by first | (simp only [bI, c_5, c_18, or_false, false_or, true_or, or_true, and_true, true_and, and_false, false_and, if_true, if_false, not_true_eq_false, not_false_eq_true, and_self, or_self]; done) | (simp only [bI, isP, isBd, isLt, isDg, aMany, isNm, isD9, c_5, c_18, or_false, false_or, true_or, or_true, and_true, true_and, and_false, false_and, if_true, if_false, not_true_eq_false, not_false_eq_true, and_self, or_self]; done) | ((try simp only [isP, isBd, isLt, isDg, aMany, isNm, isD9, ← Int32.not_le, Decidable.not_not] at c_5 c_18 ⊢); simp only [bI, c_5, c_18, or_false, false_or, true_or, or_true, and_true, true_and, and_false, false_and, if_true, if_false, not_true_eq_false, not_false_eq_true, and_self, or_self]; done))
theorem ix_sg : ∀ q, q < 128 → (ixS 0 (nI q) 0 < 0 ↔ ¬ isSg (nI q)) := by decide
theorem lt_at {n : Nat} {t : Nat → Int32} (kp : Nat) : isLt (if kp < n then t kp else 0) ↔ kp < n ∧ bL (t kp) = true := by
  by_cases h : kp < n
  · rw [if_pos h, bL_iff]; exact ⟨fun q => ⟨h, q⟩, fun q => q.2⟩
  · rw [if_neg h]; exact ⟨fun q => absurd q.1 (by decide), fun q => absurd q.1 h⟩
theorem dg_at {n : Nat} {t : Nat → Int32} (kp : Nat) : isDg (if kp < n then t kp else 0) ↔ kp < n ∧ bD (t kp) = true := by
  by_cases h : kp < n
  · rw [if_pos h, bD_iff]; exact ⟨fun q => ⟨h, q⟩, fun q => q.2⟩
  · rw [if_neg h]; exact ⟨fun q => absurd q.1 (by decide), fun q => absurd q.1 h⟩
theorem dgs_s (t : Nat → Int32) (f m : Nat) : (dgs t f (m + 1)).toInt32 = 10 * (dgs t f m).toInt32 + t (f + m) - 48 := by
  show (10 * dgs t f m + (t (f + m)).toInt64 - 48).toInt32 = _
  rw [Int64.toInt32_sub, Int64.toInt32_add, Int64.toInt32_mul, Int32.toInt32_toInt64]
  rfl
abbrev spX2_next : Sp := fun av T I L R uc us k => ∃ (rd tp n p : Nat), av = [.ref rd] ∧ RdA T I R rd tp n ∧ I rd 2 = nI p ∧ p ≤ n ∧ (∀ j, j < n → ∃ q : Nat, q < 128 ∧ I tp j = nI q) ∧ (∀ I', rdK I I' rd → I' rd 2 = nI (tkE (I tp) n p) → I' rd 3 = nI (tkK (I tp) n p) → I' rd 4 = nI (tkF (I tp) n p) → (tkK (I tp) n p = 2 → I' rd 5 = (tkV (I tp) n p).toInt32) → k (.inl none) T I' L R uc us)
theorem eX2_next_296 : dc cX2_next 296 (.return_) 1 297 := ⟨by decide +kernel, rfl⟩
theorem eX2_next_120 : dc cX2_next 120 (.aload_n 0) 1 121 := ⟨by decide +kernel, rfl⟩
theorem eX2_next_121 : dc cX2_next 121 (.aload_n 0) 1 122 := ⟨by decide +kernel, rfl⟩
theorem eX2_next_122 : dc cX2_next 122 (.getfield 19) 3 125 := ⟨by decide +kernel, rfl⟩
theorem flX2_19 : FL RX2 19 1 2 := ⟨_, _, _, _, rfl, by decide, by decide, Or.inl (lk q141), Or.inl rfl⟩
theorem eX2_next_125 : dc cX2_next 125 (.aload_n 0) 1 126 := ⟨by decide +kernel, rfl⟩
theorem eX2_next_126 : dc cX2_next 126 (.getfield 28) 3 129 := ⟨by decide +kernel, rfl⟩
theorem eX2_next_129 : dc cX2_next 129 (.isub) 1 130 := ⟨by decide +kernel, rfl⟩
theorem eX2_next_130 : dc cX2_next 130 (.bipush 8) 2 132 := ⟨by decide +kernel, rfl⟩
theorem eX2_next_132 : dj cX2_next 132 (.if_icmp .le 7) 7 139 135 := ⟨by decide +kernel, by decide, rfl⟩
theorem eX2_next_139 : dc cX2_next 139 (.iconst 1) 1 140 := ⟨by decide +kernel, rfl⟩
theorem eX2_next_140 : dc cX2_next 140 (.putfield 31) 3 143 := ⟨by decide +kernel, rfl⟩
theorem pflX2_31 {nm : String} : (FL RX2 31 1 3 ∧ FN 1 3) ∨ (FF RX2 31 1 3 ∧ nm = "<init>") := Or.inl ⟨flX2_31, fun C Tb N h => by cases h; rfl⟩
theorem eX2_next_143 : dj cX2_next 143 (.goto 153) 153 296 146 := ⟨by decide +kernel, by decide, rfl⟩
theorem eX2_next_135 : dc cX2_next 135 (.iconst 4) 1 136 := ⟨by decide +kernel, rfl⟩
theorem eX2_next_136 : dj cX2_next 136 (.goto 4) 4 140 139 := ⟨by decide +kernel, by decide, rfl⟩
theorem eX2_next_93 : dc cX2_next 93 (.aload_n 0) 1 94 := ⟨by decide +kernel, rfl⟩
theorem eX2_next_94 : dc cX2_next 94 (.aload_n 0) 1 95 := ⟨by decide +kernel, rfl⟩
theorem eX2_next_95 : dc cX2_next 95 (.getfield 19) 3 98 := ⟨by decide +kernel, rfl⟩
theorem eX2_next_98 : dc cX2_next 98 (.invokevirtual 34) 3 101 := ⟨by decide +kernel, rfl⟩
theorem pkX2_34 : PkV RX2 34 yX2_at (.code yX2_at cX2_at 2 (some .int)) 2 "BedBook$Reader" 1 := ⟨cwd_c, (lk q651), Or.inl (lk q648), (lk q650), (lk qs12), ⟨⟨by decide, by decide⟩, by decide +kernel⟩, (lk q65), by decide⟩
theorem eX2_next_101 : dc cX2_next 101 (.invokestatic 38) 3 104 := ⟨by decide +kernel, rfl⟩
theorem pkX2_38 : PkS RX2 38 yX2_isLetter (.code yX2_isLetter cX2_isLetter 1 (some .boolean)) 1 1 := ⟨cwd_c, (lk q654), (lk q652), (lk q653), (lk q65), nmd_c, ⟨⟨by decide, by decide⟩, by decide +kernel⟩, by decide⟩
theorem eX2_next_104 : dj cX2_next 104 (.ifCond .eq 16) 16 120 107 := ⟨by decide +kernel, by decide, rfl⟩
theorem eX2_next_107 : dc cX2_next 107 (.aload_n 0) 1 108 := ⟨by decide +kernel, rfl⟩
theorem eX2_next_108 : dc cX2_next 108 (.dup) 1 109 := ⟨by decide +kernel, rfl⟩
theorem eX2_next_109 : dc cX2_next 109 (.getfield 19) 3 112 := ⟨by decide +kernel, rfl⟩
theorem eX2_next_112 : dc cX2_next 112 (.iconst 1) 1 113 := ⟨by decide +kernel, rfl⟩
theorem eX2_next_113 : dc cX2_next 113 (.iadd) 1 114 := ⟨by decide +kernel, rfl⟩
theorem eX2_next_114 : dc cX2_next 114 (.putfield 19) 3 117 := ⟨by decide +kernel, rfl⟩
theorem pflX2_19 {nm : String} : (FL RX2 19 1 2 ∧ FN 1 2) ∨ (FF RX2 19 1 2 ∧ nm = "<init>") := Or.inl ⟨flX2_19, fun C Tb N h => by cases h; rfl⟩
theorem eX2_next_117 : dj cX2_next 117 (.goto (-24)) (-24) 93 120 := ⟨by decide +kernel, by decide, rfl⟩
theorem eX2_next_235 : dc cX2_next 235 (.aload_n 0) 1 236 := ⟨by decide +kernel, rfl⟩
theorem eX2_next_236 : dc cX2_next 236 (.aload_n 0) 1 237 := ⟨by decide +kernel, rfl⟩
theorem eX2_next_237 : dc cX2_next 237 (.getfield 19) 3 240 := ⟨by decide +kernel, rfl⟩
theorem eX2_next_240 : dc cX2_next 240 (.aload_n 0) 1 241 := ⟨by decide +kernel, rfl⟩
theorem eX2_next_241 : dc cX2_next 241 (.getfield 28) 3 244 := ⟨by decide +kernel, rfl⟩
theorem eX2_next_244 : dc cX2_next 244 (.isub) 1 245 := ⟨by decide +kernel, rfl⟩
theorem eX2_next_245 : dc cX2_next 245 (.iconst 4) 1 246 := ⟨by decide +kernel, rfl⟩
theorem eX2_next_246 : dj cX2_next 246 (.if_icmp .le 7) 7 253 249 := ⟨by decide +kernel, by decide, rfl⟩
theorem eX2_next_253 : dc cX2_next 253 (.iconst 2) 1 254 := ⟨by decide +kernel, rfl⟩
theorem eX2_next_254 : dc cX2_next 254 (.putfield 31) 3 257 := ⟨by decide +kernel, rfl⟩
theorem eX2_next_257 : dj cX2_next 257 (.goto 39) 39 296 260 := ⟨by decide +kernel, by decide, rfl⟩
theorem eX2_next_249 : dc cX2_next 249 (.iconst 4) 1 250 := ⟨by decide +kernel, rfl⟩
theorem eX2_next_250 : dj cX2_next 250 (.goto 4) 4 254 253 := ⟨by decide +kernel, by decide, rfl⟩
theorem eX2_next_165 : dc cX2_next 165 (.aload_n 0) 1 166 := ⟨by decide +kernel, rfl⟩
theorem eX2_next_166 : dc cX2_next 166 (.aload_n 0) 1 167 := ⟨by decide +kernel, rfl⟩
theorem eX2_next_167 : dc cX2_next 167 (.getfield 19) 3 170 := ⟨by decide +kernel, rfl⟩
theorem eX2_next_170 : dc cX2_next 170 (.invokevirtual 34) 3 173 := ⟨by decide +kernel, rfl⟩
theorem eX2_next_173 : dc cX2_next 173 (.invokestatic 42) 3 176 := ⟨by decide +kernel, rfl⟩
theorem pkX2_42 : PkS RX2 42 yX2_isDigit (.code yX2_isDigit cX2_isDigit 1 (some .boolean)) 1 1 := ⟨cwd_c, (lk q657), (lk q655), (lk q656), (lk q65), nmd_c, ⟨⟨by decide, by decide⟩, by decide +kernel⟩, by decide⟩
theorem eX2_next_176 : dj cX2_next 176 (.ifCond .eq 59) 59 235 179 := ⟨by decide +kernel, by decide, rfl⟩
theorem eX2_next_179 : dc cX2_next 179 (.aload_n 0) 1 180 := ⟨by decide +kernel, rfl⟩
theorem eX2_next_180 : dc cX2_next 180 (.aload_n 0) 1 181 := ⟨by decide +kernel, rfl⟩
theorem eX2_next_181 : dc cX2_next 181 (.getfield 19) 3 184 := ⟨by decide +kernel, rfl⟩
theorem eX2_next_184 : dc cX2_next 184 (.aload_n 0) 1 185 := ⟨by decide +kernel, rfl⟩
theorem eX2_next_185 : dc cX2_next 185 (.getfield 28) 3 188 := ⟨by decide +kernel, rfl⟩
theorem eX2_next_188 : dc cX2_next 188 (.isub) 1 189 := ⟨by decide +kernel, rfl⟩
theorem eX2_next_189 : dc cX2_next 189 (.iconst 4) 1 190 := ⟨by decide +kernel, rfl⟩
theorem eX2_next_190 : dj cX2_next 190 (.if_icmp .ge 25) 25 215 193 := ⟨by decide +kernel, by decide, rfl⟩
theorem eX2_next_215 : dc cX2_next 215 (.aload_n 0) 1 216 := ⟨by decide +kernel, rfl⟩
theorem eX2_next_216 : dc cX2_next 216 (.getfield 45) 3 219 := ⟨by decide +kernel, rfl⟩
theorem flX2_45 : FL RX2 45 1 5 := ⟨_, _, _, _, rfl, by decide, by decide, Or.inl (lk q144), Or.inl rfl⟩
theorem eX2_next_219 : dc cX2_next 219 (.putfield 45) 3 222 := ⟨by decide +kernel, rfl⟩
theorem pflX2_45 {nm : String} : (FL RX2 45 1 5 ∧ FN 1 5) ∨ (FF RX2 45 1 5 ∧ nm = "<init>") := Or.inl ⟨flX2_45, fun C Tb N h => by cases h; rfl⟩
theorem eX2_next_222 : dc cX2_next 222 (.aload_n 0) 1 223 := ⟨by decide +kernel, rfl⟩
theorem eX2_next_223 : dc cX2_next 223 (.dup) 1 224 := ⟨by decide +kernel, rfl⟩
theorem eX2_next_224 : dc cX2_next 224 (.getfield 19) 3 227 := ⟨by decide +kernel, rfl⟩
theorem eX2_next_227 : dc cX2_next 227 (.iconst 1) 1 228 := ⟨by decide +kernel, rfl⟩
theorem eX2_next_228 : dc cX2_next 228 (.iadd) 1 229 := ⟨by decide +kernel, rfl⟩
theorem eX2_next_229 : dc cX2_next 229 (.putfield 19) 3 232 := ⟨by decide +kernel, rfl⟩
theorem eX2_next_232 : dj cX2_next 232 (.goto (-67)) (-67) 165 235 := ⟨by decide +kernel, by decide, rfl⟩
theorem eX2_next_193 : dc cX2_next 193 (.bipush 10) 2 195 := ⟨by decide +kernel, rfl⟩
theorem eX2_next_195 : dc cX2_next 195 (.aload_n 0) 1 196 := ⟨by decide +kernel, rfl⟩
theorem eX2_next_196 : dc cX2_next 196 (.getfield 45) 3 199 := ⟨by decide +kernel, rfl⟩
theorem eX2_next_199 : dc cX2_next 199 (.imul) 1 200 := ⟨by decide +kernel, rfl⟩
theorem eX2_next_200 : dc cX2_next 200 (.aload_n 0) 1 201 := ⟨by decide +kernel, rfl⟩
theorem eX2_next_201 : dc cX2_next 201 (.aload_n 0) 1 202 := ⟨by decide +kernel, rfl⟩
theorem eX2_next_202 : dc cX2_next 202 (.getfield 19) 3 205 := ⟨by decide +kernel, rfl⟩
theorem eX2_next_205 : dc cX2_next 205 (.invokevirtual 34) 3 208 := ⟨by decide +kernel, rfl⟩
theorem eX2_next_208 : dc cX2_next 208 (.iadd) 1 209 := ⟨by decide +kernel, rfl⟩
theorem eX2_next_209 : dc cX2_next 209 (.bipush 48) 2 211 := ⟨by decide +kernel, rfl⟩
theorem eX2_next_211 : dc cX2_next 211 (.isub) 1 212 := ⟨by decide +kernel, rfl⟩
theorem eX2_next_212 : dj cX2_next 212 (.goto 7) 7 219 215 := ⟨by decide +kernel, by decide, rfl⟩
theorem eX2_next_52 : dc cX2_next 52 (.aload_n 0) 1 53 := ⟨by decide +kernel, rfl⟩
theorem eX2_next_53 : dc cX2_next 53 (.aload_n 0) 1 54 := ⟨by decide +kernel, rfl⟩
theorem eX2_next_54 : dc cX2_next 54 (.getfield 19) 3 57 := ⟨by decide +kernel, rfl⟩
theorem eX2_next_57 : dc cX2_next 57 (.putfield 28) 3 60 := ⟨by decide +kernel, rfl⟩
theorem pflX2_28 {nm : String} : (FL RX2 28 1 4 ∧ FN 1 4) ∨ (FF RX2 28 1 4 ∧ nm = "<init>") := Or.inl ⟨flX2_28, fun C Tb N h => by cases h; rfl⟩
theorem eX2_next_60 : dc cX2_next 60 (.aload_n 0) 1 61 := ⟨by decide +kernel, rfl⟩
theorem eX2_next_61 : dc cX2_next 61 (.getfield 19) 3 64 := ⟨by decide +kernel, rfl⟩
theorem eX2_next_64 : dc cX2_next 64 (.aload_n 0) 1 65 := ⟨by decide +kernel, rfl⟩
theorem eX2_next_65 : dc cX2_next 65 (.getfield 15) 3 68 := ⟨by decide +kernel, rfl⟩
theorem eX2_next_68 : dj cX2_next 68 (.if_icmp .ne 11) 11 79 71 := ⟨by decide +kernel, by decide, rfl⟩
theorem eX2_next_79 : dc cX2_next 79 (.aload_n 0) 1 80 := ⟨by decide +kernel, rfl⟩
theorem eX2_next_80 : dc cX2_next 80 (.aload_n 0) 1 81 := ⟨by decide +kernel, rfl⟩
theorem eX2_next_81 : dc cX2_next 81 (.getfield 19) 3 84 := ⟨by decide +kernel, rfl⟩
theorem eX2_next_84 : dc cX2_next 84 (.invokevirtual 34) 3 87 := ⟨by decide +kernel, rfl⟩
theorem eX2_next_87 : dc cX2_next 87 (.invokestatic 38) 3 90 := ⟨by decide +kernel, rfl⟩
theorem eX2_next_90 : dj cX2_next 90 (.ifCond .eq 56) 56 146 93 := ⟨by decide +kernel, by decide, rfl⟩
theorem eX2_next_146 : dc cX2_next 146 (.aload_n 0) 1 147 := ⟨by decide +kernel, rfl⟩
theorem eX2_next_147 : dc cX2_next 147 (.aload_n 0) 1 148 := ⟨by decide +kernel, rfl⟩
theorem eX2_next_148 : dc cX2_next 148 (.getfield 19) 3 151 := ⟨by decide +kernel, rfl⟩
theorem eX2_next_151 : dc cX2_next 151 (.invokevirtual 34) 3 154 := ⟨by decide +kernel, rfl⟩
theorem eX2_next_154 : dc cX2_next 154 (.invokestatic 42) 3 157 := ⟨by decide +kernel, rfl⟩
theorem eX2_next_157 : dj cX2_next 157 (.ifCond .eq 103) 103 260 160 := ⟨by decide +kernel, by decide, rfl⟩
theorem eX2_next_260 : dc cX2_next 260 (.aload_n 0) 1 261 := ⟨by decide +kernel, rfl⟩
theorem eX2_next_261 : dc cX2_next 261 (.ldc 48) 2 263 := ⟨by decide +kernel, rfl⟩
theorem eX2_next_263 : dc cX2_next 263 (.aload_n 0) 1 264 := ⟨by decide +kernel, rfl⟩
theorem eX2_next_264 : dc cX2_next 264 (.aload_n 0) 1 265 := ⟨by decide +kernel, rfl⟩
theorem eX2_next_265 : dc cX2_next 265 (.getfield 19) 3 268 := ⟨by decide +kernel, rfl⟩
theorem eX2_next_268 : dc cX2_next 268 (.invokevirtual 34) 3 271 := ⟨by decide +kernel, rfl⟩
theorem eX2_next_271 : dc cX2_next 271 (.i2c) 1 272 := ⟨by decide +kernel, rfl⟩
theorem eX2_next_272 : dc cX2_next 272 (.invokevirtual 50) 3 275 := ⟨by decide +kernel, rfl⟩
theorem ptX2_50 : PkT RX2 50 yJ12_indexOf (.code yJ12_indexOf cJ12_indexOf 2 (some .int)) 2 1 := ⟨cwd_c, (lk q662), (lk q659), (lk q660), (lk q661), ⟨⟨by decide, by decide⟩, by decide +kernel⟩, (lk q85), by decide⟩
theorem eX2_next_275 : dj cX2_next 275 (.ifCond .lt 7) 7 282 278 := ⟨by decide +kernel, by decide, rfl⟩
theorem eX2_next_282 : dc cX2_next 282 (.iconst 4) 1 283 := ⟨by decide +kernel, rfl⟩
theorem eX2_next_283 : dc cX2_next 283 (.putfield 31) 3 286 := ⟨by decide +kernel, rfl⟩
theorem eX2_next_286 : dc cX2_next 286 (.aload_n 0) 1 287 := ⟨by decide +kernel, rfl⟩
theorem eX2_next_287 : dc cX2_next 287 (.dup) 1 288 := ⟨by decide +kernel, rfl⟩
theorem eX2_next_288 : dc cX2_next 288 (.getfield 19) 3 291 := ⟨by decide +kernel, rfl⟩
theorem eX2_next_291 : dc cX2_next 291 (.iconst 1) 1 292 := ⟨by decide +kernel, rfl⟩
theorem eX2_next_292 : dc cX2_next 292 (.iadd) 1 293 := ⟨by decide +kernel, rfl⟩
theorem eX2_next_293 : dc cX2_next 293 (.putfield 19) 3 296 := ⟨by decide +kernel, rfl⟩
theorem eX2_next_278 : dc cX2_next 278 (.iconst 3) 1 279 := ⟨by decide +kernel, rfl⟩
theorem eX2_next_279 : dj cX2_next 279 (.goto 4) 4 283 282 := ⟨by decide +kernel, by decide, rfl⟩
theorem eX2_next_160 : dc cX2_next 160 (.aload_n 0) 1 161 := ⟨by decide +kernel, rfl⟩
theorem eX2_next_161 : dc cX2_next 161 (.iconst 0) 1 162 := ⟨by decide +kernel, rfl⟩
theorem eX2_next_162 : dc cX2_next 162 (.putfield 45) 3 165 := ⟨by decide +kernel, rfl⟩
theorem eX2_next_71 : dc cX2_next 71 (.aload_n 0) 1 72 := ⟨by decide +kernel, rfl⟩
theorem eX2_next_72 : dc cX2_next 72 (.iconst 0) 1 73 := ⟨by decide +kernel, rfl⟩
theorem eX2_next_73 : dc cX2_next 73 (.putfield 31) 3 76 := ⟨by decide +kernel, rfl⟩
theorem eX2_next_76 : dj cX2_next 76 (.goto 220) 220 296 79 := ⟨by decide +kernel, by decide, rfl⟩
theorem eX2_next_0 : dc cX2_next 0 (.aload_n 0) 1 1 := ⟨by decide +kernel, rfl⟩
theorem eX2_next_1 : dc cX2_next 1 (.getfield 19) 3 4 := ⟨by decide +kernel, rfl⟩
theorem eX2_next_4 : dc cX2_next 4 (.aload_n 0) 1 5 := ⟨by decide +kernel, rfl⟩
theorem eX2_next_5 : dc cX2_next 5 (.getfield 15) 3 8 := ⟨by decide +kernel, rfl⟩
theorem eX2_next_8 : dj cX2_next 8 (.if_icmp .ge 44) 44 52 11 := ⟨by decide +kernel, by decide, rfl⟩
theorem eX2_next_11 : dc cX2_next 11 (.aload_n 0) 1 12 := ⟨by decide +kernel, rfl⟩
theorem eX2_next_12 : dc cX2_next 12 (.getfield 9) 3 15 := ⟨by decide +kernel, rfl⟩
theorem eX2_next_15 : dc cX2_next 15 (.aload_n 0) 1 16 := ⟨by decide +kernel, rfl⟩
theorem eX2_next_16 : dc cX2_next 16 (.getfield 19) 3 19 := ⟨by decide +kernel, rfl⟩
theorem eX2_next_19 : dc cX2_next 19 (.baload) 1 20 := ⟨by decide +kernel, rfl⟩
theorem eX2_next_20 : dc cX2_next 20 (.bipush 10) 2 22 := ⟨by decide +kernel, rfl⟩
theorem eX2_next_22 : dj cX2_next 22 (.if_icmp .eq 17) 17 39 25 := ⟨by decide +kernel, by decide, rfl⟩
theorem eX2_next_39 : dc cX2_next 39 (.aload_n 0) 1 40 := ⟨by decide +kernel, rfl⟩
theorem eX2_next_40 : dc cX2_next 40 (.dup) 1 41 := ⟨by decide +kernel, rfl⟩
theorem eX2_next_41 : dc cX2_next 41 (.getfield 19) 3 44 := ⟨by decide +kernel, rfl⟩
theorem eX2_next_44 : dc cX2_next 44 (.iconst 1) 1 45 := ⟨by decide +kernel, rfl⟩
theorem eX2_next_45 : dc cX2_next 45 (.iadd) 1 46 := ⟨by decide +kernel, rfl⟩
theorem eX2_next_46 : dc cX2_next 46 (.putfield 19) 3 49 := ⟨by decide +kernel, rfl⟩
theorem eX2_next_49 : dj cX2_next 49 (.goto (-49)) (-49) 0 52 := ⟨by decide +kernel, by decide, rfl⟩
theorem eX2_next_25 : dc cX2_next 25 (.aload_n 0) 1 26 := ⟨by decide +kernel, rfl⟩
theorem eX2_next_26 : dc cX2_next 26 (.getfield 9) 3 29 := ⟨by decide +kernel, rfl⟩
theorem eX2_next_29 : dc cX2_next 29 (.aload_n 0) 1 30 := ⟨by decide +kernel, rfl⟩
theorem eX2_next_30 : dc cX2_next 30 (.getfield 19) 3 33 := ⟨by decide +kernel, rfl⟩
theorem eX2_next_33 : dc cX2_next 33 (.baload) 1 34 := ⟨by decide +kernel, rfl⟩
theorem eX2_next_34 : dc cX2_next 34 (.bipush 32) 2 36 := ⟨by decide +kernel, rfl⟩
theorem eX2_next_36 : dj cX2_next 36 (.if_icmp .ne 16) 16 52 39 := ⟨by decide +kernel, by decide, rfl⟩
set_option maxHeartbeats 8000000 in
theorem ctX2_next (l : Launch) : Ct l yX2_next (.code yX2_next cX2_next 1 none) 6 spX2_next := by
  refine Ct.of (own := RX2) (nm := "next") (by decide) rfl rfl ?_
  rintro X av T I L R uc us rfl g hN hu hz ⟨rd, tp, n, p, rfl, hA, hI2, hpn, hlet, hk⟩
  refine VE.go (ls := [some (.ref rd)]) g hu hz (fun _ => rfl) (fun _ => Nat.le_of_ble_eq_true rfl) ?_
  have ht := hA.ne
  obtain ⟨hT, hR, hTp, hI1, hn⟩ := id hA
  generalize htt : I tp = t at *
  have hFn := tkF_le (t := t) hpn
  have fin0 : ∀ (I3 : It), rdK I I3 rd → I3 rd 2 = nI (tkE t n p) → I3 rd 3 = nI (tkK t n p) → I3 rd 4 = nI (tkF t n p) → (tkK t n p = 2 → I3 rd 5 = (tkV t n p).toInt32) → V X T I3 L R uc us 296 [some (.ref rd)] [] := by
    intro I3 a1 a2 a3 a4 a5
    refine V_vret g eX2_next_296 ?_
    exact hk I3 a1 a2 a3 a4 a5
  have lett : ∀ kk, kk = tkF t n p → kk < n → isLt (t kk) → ∀ (q kp : Nat) (I2 : It), n + 1 ≤ kp + q → kk ≤ kp → kp ≤ n → sc bL t n kp = sc bL t n kk → rdK I I2 rd → I2 rd 4 = nI kk → I2 rd 2 = nI kp → V X T I2 L R uc us 93 [some (.ref rd)] [] := by
    intro kk hkk hkN hlt q
    induction q with
    | zero => intro kp I2 g1 g2 g3; exact absurd g1 (by omega)
    | succ q iq =>
      intro kp I2 g1 g2 g3 g4 g5 g6 g7
      have hA2 := hA.keep g5
      have ht2 : I2 tp = t := by rw [g5.1 tp ht, htt]
      have fin : sc bL t n kk = kp → V X T I2 L R uc us 120 [some (.ref rd)] [] := by
        intro hE
        have hEE : tkE t n p = kp := by unfold tkE; rw [← hkk, if_pos hkN, if_pos hlt, hE]
        have hK : tkK t n p = if 8 < kp - kk then 4 else 1 := by unfold tkK; rw [← hkk, if_pos hkN, if_pos hlt, hEE]
        refine V_aload_0 g eX2_next_120 ?_
        refine V_aload_0 g eX2_next_121 ?_
        refine V_getI g eX2_next_122 flX2_19 hT rfl ?_
        rw [g7]
        refine V_aload_0 g eX2_next_125 ?_
        refine V_getI g eX2_next_126 flX2_28 hT rfl ?_
        rw [g6]
        refine V_isub g eX2_next_129 ?_
        refine V_top (y := nI (kp - kk)) (pk_sub g2) ?_
        refine V_bipush (v := 8) g eX2_next_130 (by decide) ?_
        refine V_icmp_le g eX2_next_132 (fun c_132 => ?_) (fun c_132 => ?_)
        · refine V_iconst (v := 1) g eX2_next_139 (by decide) ?_
          refine V_putI g eX2_next_140 pflX2_31 hT rfl rfl rfl ?_
          refine V_goto g eX2_next_143 ?_
          refine V_vret g eX2_next_296 ?_
          first | (have q_132 := nI_le' (a := kp - kk) (b := 8) (by omega) (by decide) c_132; rw [if_neg (by omega)] at hK; exact hk _ (g5.put _ (by decide) (by decide)) (by rw [hEE]; simp [u2, g7]) (by rw [hK]; simp [u2]; rfl) (by rw [← hkk]; simp [u2, g6]) (fun q => absurd q (by rw [hK]; decide))) | (have q_132 := nI_nle' (a := kp - kk) (b := 8) (by omega) (by decide) c_132; rw [if_pos (by omega)] at hK; exact hk _ (g5.put _ (by decide) (by decide)) (by rw [hEE]; simp [u2, g7]) (by rw [hK]; simp [u2]; rfl) (by rw [← hkk]; simp [u2, g6]) (fun q => absurd q (by rw [hK]; decide)))
        · refine V_iconst (v := 4) g eX2_next_135 (by decide) ?_
          refine V_goto g eX2_next_136 ?_
          refine V_putI g eX2_next_140 pflX2_31 hT rfl rfl rfl ?_
          refine V_goto g eX2_next_143 ?_
          refine V_vret g eX2_next_296 ?_
          first | (have q_132 := nI_le' (a := kp - kk) (b := 8) (by omega) (by decide) c_132; rw [if_neg (by omega)] at hK; exact hk _ (g5.put _ (by decide) (by decide)) (by rw [hEE]; simp [u2, g7]) (by rw [hK]; simp [u2]; rfl) (by rw [← hkk]; simp [u2, g6]) (fun q => absurd q (by rw [hK]; decide))) | (have q_132 := nI_nle' (a := kp - kk) (b := 8) (by omega) (by decide) c_132; rw [if_pos (by omega)] at hK; exact hk _ (g5.put _ (by decide) (by decide)) (by rw [hEE]; simp [u2, g7]) (by rw [hK]; simp [u2]; rfl) (by rw [← hkk]; simp [u2, g6]) (fun q => absurd q (by rw [hK]; decide)))
      refine V_aload_0 g eX2_next_93 ?_
      refine V_aload_0 g eX2_next_94 ?_
      refine V_getI g eX2_next_95 flX2_19 hT rfl ?_
      rw [g7]
      refine V_cv1 g (ctX2_at _) eX2_next_98 pkX2_34 hT rfl (by decide) (by decide) (Nat.le_of_ble_eq_true rfl) ?_
      refine ⟨rd, tp, n, kp, rfl, hA2, g3, ?_⟩
      rw [ht2]
      refine V_cs1 g (ctX2_isLetter _) eX2_next_101 pkX2_38 (by decide) (Nat.le_of_ble_eq_true rfl) ?_
      refine ⟨_, rfl, ?_⟩
      refine V_if_eqB g eX2_next_104 (fun c_104 => ?_) (fun c_104 => ?_)
      · exact fin (by rw [← g4, sc_n (fun q => c_104 ((lt_at kp).mpr q))])
      · refine V_aload_0 g eX2_next_107 ?_
        refine V_dup g eX2_next_108 rfl ?_
        refine V_getI g eX2_next_109 flX2_19 hT rfl ?_
        rw [g7]
        refine V_iconst (v := 1) g eX2_next_112 (by decide) ?_
        refine V_iadd g eX2_next_113 ?_
        rw [nI_1]
        refine V_putI g eX2_next_114 pflX2_19 hT rfl rfl rfl ?_
        refine V_goto g eX2_next_117 ?_
        obtain ⟨z1, z2⟩ := (lt_at kp).mp c_104
        exact iq (kp + 1) _ (by omega) (by omega) (by omega) (by rw [← g4, sc_y z1 z2]) (g5.put _ (by decide) (by decide)) (by simp [u2, g6]) (u2_s _ _ _ _)
  have digi : ∀ kk, kk = tkF t n p → kk < n → ¬ isLt (t kk) → isDg (t kk) → ∀ (q kp : Nat) (I2 : It), n + 1 ≤ kp + q → kk ≤ kp → kp ≤ n → sc bD t n kp = sc bD t n kk → rdK I I2 rd → I2 rd 4 = nI kk → I2 rd 2 = nI kp → I2 rd 5 = (dgs t kk (min (kp - kk) 4)).toInt32 → V X T I2 L R uc us 165 [some (.ref rd)] [] := by
    intro kk hkk hkN hnl hlt q
    induction q with
    | zero => intro kp I2 g1 g2 g3; exact absurd g1 (by omega)
    | succ q iq =>
      intro kp I2 g1 g2 g3 g4 g5 g6 g7 g8
      have hA2 := hA.keep g5
      have ht2 : I2 tp = t := by rw [g5.1 tp ht, htt]
      have fin : sc bD t n kk = kp → V X T I2 L R uc us 235 [some (.ref rd)] [] := by
        intro hE
        have hEE : tkE t n p = kp := by unfold tkE; rw [← hkk, if_pos hkN, if_neg hnl, if_pos hlt, hE]
        have hK : tkK t n p = if 4 < kp - kk then 4 else 2 := by unfold tkK; rw [← hkk, if_pos hkN, if_neg hnl, if_pos hlt, hEE]
        have hv : tkV t n p = dgs t kk (min (kp - kk) 4) := by unfold tkV; rw [← hkk, if_neg hnl, if_pos hlt, hEE]
        refine V_aload_0 g eX2_next_235 ?_
        refine V_aload_0 g eX2_next_236 ?_
        refine V_getI g eX2_next_237 flX2_19 hT rfl ?_
        rw [g7]
        refine V_aload_0 g eX2_next_240 ?_
        refine V_getI g eX2_next_241 flX2_28 hT rfl ?_
        rw [g6]
        refine V_isub g eX2_next_244 ?_
        refine V_top (y := nI (kp - kk)) (pk_sub g2) ?_
        refine V_iconst (v := 4) g eX2_next_245 (by decide) ?_
        refine V_icmp_le g eX2_next_246 (fun c_246 => ?_) (fun c_246 => ?_)
        · refine V_iconst (v := 2) g eX2_next_253 (by decide) ?_
          refine V_putI g eX2_next_254 pflX2_31 hT rfl rfl rfl ?_
          refine V_goto g eX2_next_257 ?_
          refine V_vret g eX2_next_296 ?_
          first | (have q_246 := nI_le' (a := kp - kk) (b := 4) (by omega) (by decide) c_246; rw [if_neg (by omega)] at hK; exact hk _ (g5.put _ (by decide) (by decide)) (by rw [hEE]; simp [u2, g7]) (by rw [hK]; simp [u2]; rfl) (by rw [← hkk]; simp [u2, g6]) (fun q => by rw [hv]; simp [u2, g8])) | (have q_246 := nI_nle' (a := kp - kk) (b := 4) (by omega) (by decide) c_246; rw [if_pos (by omega)] at hK; exact hk _ (g5.put _ (by decide) (by decide)) (by rw [hEE]; simp [u2, g7]) (by rw [hK]; simp [u2]; rfl) (by rw [← hkk]; simp [u2, g6]) (fun q => absurd q (by rw [hK]; decide)))
        · refine V_iconst (v := 4) g eX2_next_249 (by decide) ?_
          refine V_goto g eX2_next_250 ?_
          refine V_putI g eX2_next_254 pflX2_31 hT rfl rfl rfl ?_
          refine V_goto g eX2_next_257 ?_
          refine V_vret g eX2_next_296 ?_
          first | (have q_246 := nI_le' (a := kp - kk) (b := 4) (by omega) (by decide) c_246; rw [if_neg (by omega)] at hK; exact hk _ (g5.put _ (by decide) (by decide)) (by rw [hEE]; simp [u2, g7]) (by rw [hK]; simp [u2]; rfl) (by rw [← hkk]; simp [u2, g6]) (fun q => by rw [hv]; simp [u2, g8])) | (have q_246 := nI_nle' (a := kp - kk) (b := 4) (by omega) (by decide) c_246; rw [if_pos (by omega)] at hK; exact hk _ (g5.put _ (by decide) (by decide)) (by rw [hEE]; simp [u2, g7]) (by rw [hK]; simp [u2]; rfl) (by rw [← hkk]; simp [u2, g6]) (fun q => absurd q (by rw [hK]; decide)))
      refine V_aload_0 g eX2_next_165 ?_
      refine V_aload_0 g eX2_next_166 ?_
      refine V_getI g eX2_next_167 flX2_19 hT rfl ?_
      rw [g7]
      refine V_cv1 g (ctX2_at _) eX2_next_170 pkX2_34 hT rfl (by decide) (by decide) (Nat.le_of_ble_eq_true rfl) ?_
      refine ⟨rd, tp, n, kp, rfl, hA2, g3, ?_⟩
      rw [ht2]
      refine V_cs1 g (ctX2_isDigit _) eX2_next_173 pkX2_42 (by decide) (Nat.le_of_ble_eq_true rfl) ?_
      refine ⟨_, rfl, ?_⟩
      refine V_if_eqB g eX2_next_176 (fun c_176 => ?_) (fun c_176 => ?_)
      · exact fin (by rw [← g4, sc_n (fun q => c_176 ((dg_at kp).mpr q))])
      · obtain ⟨z1, z2⟩ := (dg_at kp).mp c_176
        refine V_aload_0 g eX2_next_179 ?_
        refine V_aload_0 g eX2_next_180 ?_
        refine V_getI g eX2_next_181 flX2_19 hT rfl ?_
        rw [g7]
        refine V_aload_0 g eX2_next_184 ?_
        refine V_getI g eX2_next_185 flX2_28 hT rfl ?_
        rw [g6]
        refine V_isub g eX2_next_188 ?_
        refine V_top (y := nI (kp - kk)) (pk_sub g2) ?_
        refine V_iconst (v := 4) g eX2_next_189 (by decide) ?_
        refine V_icmp_ge g eX2_next_190 (fun c_190 => ?_) (fun c_190 => ?_)
        · refine V_aload_0 g eX2_next_215 ?_
          refine V_getI g eX2_next_216 flX2_45 hT rfl ?_
          rw [g8]
          refine V_putI g eX2_next_219 pflX2_45 hT rfl rfl rfl ?_
          refine V_aload_0 g eX2_next_222 ?_
          refine V_dup g eX2_next_223 rfl ?_
          refine V_getI g eX2_next_224 flX2_19 hT rfl ?_
          refine V_top (y := nI kp) (by simp [u2, g7]) ?_
          refine V_iconst (v := 1) g eX2_next_227 (by decide) ?_
          refine V_iadd g eX2_next_228 ?_
          rw [nI_1]
          refine V_putI g eX2_next_229 pflX2_19 hT rfl rfl rfl ?_
          refine V_goto g eX2_next_232 ?_
          have q_190 := nI_le' (a := 4) (b := kp - kk) (by decide) (by omega) c_190
          exact iq (kp + 1) _ (by omega) (by omega) (by omega) (by rw [← g4, sc_y z1 z2]) ((g5.put _ (by decide) (by decide)).put _ (by decide) (by decide)) (by simp [u2, g6]) (u2_s _ _ _ _) (by rw [u2_n _ _ (by omega), u2_s, show min (kp - kk) 4 = 4 by omega, show min (kp + 1 - kk) 4 = 4 by omega])
        · refine V_bipush (v := 10) g eX2_next_193 (by decide) ?_
          refine V_aload_0 g eX2_next_195 ?_
          refine V_getI g eX2_next_196 flX2_45 hT rfl ?_
          rw [g8]
          refine V_imul g eX2_next_199 ?_
          refine V_aload_0 g eX2_next_200 ?_
          refine V_aload_0 g eX2_next_201 ?_
          refine V_getI g eX2_next_202 flX2_19 hT rfl ?_
          rw [g7]
          refine V_cv1 g (ctX2_at _) eX2_next_205 pkX2_34 hT rfl (by decide) (by decide) (Nat.le_of_ble_eq_true rfl) ?_
          refine ⟨rd, tp, n, kp, rfl, hA2, g3, ?_⟩
          rw [ht2, if_pos z1]
          refine V_iadd g eX2_next_208 ?_
          refine V_bipush (v := 48) g eX2_next_209 (by decide) ?_
          refine V_isub g eX2_next_211 ?_
          refine V_goto g eX2_next_212 ?_
          refine V_putI g eX2_next_219 pflX2_45 hT rfl rfl rfl ?_
          refine V_aload_0 g eX2_next_222 ?_
          refine V_dup g eX2_next_223 rfl ?_
          refine V_getI g eX2_next_224 flX2_19 hT rfl ?_
          refine V_top (y := nI kp) (by simp [u2, g7]) ?_
          refine V_iconst (v := 1) g eX2_next_227 (by decide) ?_
          refine V_iadd g eX2_next_228 ?_
          rw [nI_1]
          refine V_putI g eX2_next_229 pflX2_19 hT rfl rfl rfl ?_
          refine V_goto g eX2_next_232 ?_
          have q_190 := nI_nle' (a := 4) (b := kp - kk) (by decide) (by omega) c_190
          exact iq (kp + 1) _ (by omega) (by omega) (by omega) (by rw [← g4, sc_y z1 z2]) ((g5.put _ (by decide) (by decide)).put _ (by decide) (by decide)) (by simp [u2, g6]) (u2_s _ _ _ _) (by rw [u2_n _ _ (by omega), u2_s, show min (kp - kk) 4 = kp - kk by omega, show min (kp + 1 - kk) 4 = (kp - kk) + 1 by omega, dgs_s, show kk + (kp - kk) = kp by omega])
  have rest : ∀ (kk : Nat) (I2 : It), kk = tkF t n p → rdK I I2 rd → I2 rd 2 = nI kk → V X T I2 L R uc us 52 [some (.ref rd)] [] := by
    intro kk I2 hkk g5 g7
    have g1 : I2 rd 1 = nI n := by rw [g5.2 1 (Or.inl rfl)]; exact hI1
    have g5' := g5.put (j := 4) (nI kk) (by decide) (by decide)
    have hA2 := hA.keep g5'
    have ht2 : u2 I2 rd 4 (nI kk) tp = t := by rw [u2_o _ _ ht, g5.1 tp ht, htt]
    refine V_aload_0 g eX2_next_52 ?_
    refine V_aload_0 g eX2_next_53 ?_
    refine V_getI g eX2_next_54 flX2_19 hT rfl ?_
    rw [g7]
    refine V_putI g eX2_next_57 pflX2_28 hT rfl rfl rfl ?_
    refine V_aload_0 g eX2_next_60 ?_
    refine V_getI g eX2_next_61 flX2_19 hT rfl ?_
    refine V_top (y := nI kk) (by simp [u2, g7]) ?_
    refine V_aload_0 g eX2_next_64 ?_
    refine V_getI g eX2_next_65 flX2_15 hT rfl ?_
    refine V_top (y := nI n) (by simp [u2, g1]) ?_
    refine V_icmp_ne g eX2_next_68 (fun c_68 => ?_) (fun c_68 => ?_)
    · have hkn : kk < n := by have : kk ≠ n := fun q => c_68 (by rw [q]); omega
      refine V_aload_0 g eX2_next_79 ?_
      refine V_aload_0 g eX2_next_80 ?_
      refine V_getI g eX2_next_81 flX2_19 hT rfl ?_
      refine V_top (y := nI kk) (by simp [u2, g7]) ?_
      refine V_cv1 g (ctX2_at _) eX2_next_84 pkX2_34 hT rfl (by decide) (by decide) (Nat.le_of_ble_eq_true rfl) ?_
      refine ⟨rd, tp, n, kk, rfl, hA2, by omega, ?_⟩
      rw [ht2, if_pos hkn]
      refine V_cs1 g (ctX2_isLetter _) eX2_next_87 pkX2_38 (by decide) (Nat.le_of_ble_eq_true rfl) ?_
      refine ⟨_, rfl, ?_⟩
      refine V_if_eqB g eX2_next_90 (fun c_90 => ?_) (fun c_90 => ?_)
      · refine V_aload_0 g eX2_next_146 ?_
        refine V_aload_0 g eX2_next_147 ?_
        refine V_getI g eX2_next_148 flX2_19 hT rfl ?_
        refine V_top (y := nI kk) (by simp [u2, g7]) ?_
        refine V_cv1 g (ctX2_at _) eX2_next_151 pkX2_34 hT rfl (by decide) (by decide) (Nat.le_of_ble_eq_true rfl) ?_
        refine ⟨rd, tp, n, kk, rfl, hA2, by omega, ?_⟩
        rw [ht2, if_pos hkn]
        refine V_cs1 g (ctX2_isDigit _) eX2_next_154 pkX2_42 (by decide) (Nat.le_of_ble_eq_true rfl) ?_
        refine ⟨_, rfl, ?_⟩
        refine V_if_eqB g eX2_next_157 (fun c_157 => ?_) (fun c_157 => ?_)
        · obtain ⟨q, hq, eq⟩ := hlet kk hkn
          refine V_aload_0 g eX2_next_260 ?_
          refine V_ldcS (i := 0) g eX2_next_261 (by decide) rfl ?_
          refine V_aload_0 g eX2_next_263 ?_
          refine V_aload_0 g eX2_next_264 ?_
          refine V_getI g eX2_next_265 flX2_19 hT rfl ?_
          refine V_top (y := nI kk) (by simp [u2, g7]) ?_
          refine V_cv1 g (ctX2_at _) eX2_next_268 pkX2_34 hT rfl (by decide) (by decide) (Nat.le_of_ble_eq_true rfl) ?_
          refine ⟨rd, tp, n, kk, rfl, hA2, by omega, ?_⟩
          rw [ht2, if_pos hkn, eq]
          refine V_i2c g eX2_next_271 ?_
          rw [i2cN (by omega)]
          refine V_ct1 g (ctJ12_indexOf _) eX2_next_272 ptX2_50 (by decide) (by decide) (Nat.le_of_ble_eq_true rfl) ?_
          refine ⟨0, q, rfl, by decide, hq, ?_⟩
          refine V_if_lt g eX2_next_275 (fun c_275 => ?_) (fun c_275 => ?_)
          · refine V_iconst (v := 4) g eX2_next_282 (by decide) ?_
            refine V_putI g eX2_next_283 pflX2_31 hT rfl rfl rfl ?_
            refine V_aload_0 g eX2_next_286 ?_
            refine V_dup g eX2_next_287 rfl ?_
            refine V_getI g eX2_next_288 flX2_19 hT rfl ?_
            refine V_top (y := nI kk) (by simp [u2, g7]) ?_
            refine V_iconst (v := 1) g eX2_next_291 (by decide) ?_
            refine V_iadd g eX2_next_292 ?_
            rw [nI_1]
            refine V_putI g eX2_next_293 pflX2_19 hT rfl rfl rfl ?_
            have hE : tkE t n p = kk + 1 := by unfold tkE; rw [← hkk, if_pos hkn, if_neg c_90, if_neg c_157]
            have hK : tkK t n p = 4 := by unfold tkK; rw [← hkk, if_pos hkn, if_neg c_90, if_neg c_157, eq, if_neg ((ix_sg q hq).mp c_275)]
            exact fin0 _ ((g5'.put _ (by decide) (by decide)).put _ (by decide) (by decide)) (by rw [hE, u2_s]) (by rw [hK]; simp [u2]; rfl) (by rw [← hkk]; simp [u2]) (fun q => absurd q (by rw [hK]; decide))
          · refine V_iconst (v := 3) g eX2_next_278 (by decide) ?_
            refine V_goto g eX2_next_279 ?_
            refine V_putI g eX2_next_283 pflX2_31 hT rfl rfl rfl ?_
            refine V_aload_0 g eX2_next_286 ?_
            refine V_dup g eX2_next_287 rfl ?_
            refine V_getI g eX2_next_288 flX2_19 hT rfl ?_
            refine V_top (y := nI kk) (by simp [u2, g7]) ?_
            refine V_iconst (v := 1) g eX2_next_291 (by decide) ?_
            refine V_iadd g eX2_next_292 ?_
            rw [nI_1]
            refine V_putI g eX2_next_293 pflX2_19 hT rfl rfl rfl ?_
            have hE : tkE t n p = kk + 1 := by unfold tkE; rw [← hkk, if_pos hkn, if_neg c_90, if_neg c_157]
            have hK : tkK t n p = 3 := by unfold tkK; rw [← hkk, if_pos hkn, if_neg c_90, if_neg c_157, eq, if_pos (Classical.not_not.mp fun z => c_275 ((ix_sg q hq).mpr z))]
            exact fin0 _ ((g5'.put _ (by decide) (by decide)).put _ (by decide) (by decide)) (by rw [hE, u2_s]) (by rw [hK]; simp [u2]; rfl) (by rw [← hkk]; simp [u2]) (fun q => absurd q (by rw [hK]; decide))
        · refine V_aload_0 g eX2_next_160 ?_
          refine V_iconst (v := 0) g eX2_next_161 (by decide) ?_
          refine V_putI g eX2_next_162 pflX2_45 hT rfl rfl rfl ?_
          exact digi kk hkk hkn c_90 c_157 (n + 1) kk _ (by omega) (Nat.le_refl _) (by omega) rfl (g5'.put _ (by decide) (by decide)) (by simp [u2]) (by simp [u2, g7]) (by rw [u2_s, Nat.sub_self]; rfl)
      · exact lett kk hkk hkn c_90 (n + 1) kk _ (by omega) (Nat.le_refl _) (by omega) rfl g5' (u2_s _ _ _ _) (by simp [u2, g7])
    · obtain rfl : kk = n := nI_eq' (by omega) (by omega) c_68
      refine V_aload_0 g eX2_next_71 ?_
      refine V_iconst (v := 0) g eX2_next_72 (by decide) ?_
      refine V_putI g eX2_next_73 pflX2_31 hT rfl rfl rfl ?_
      refine V_goto g eX2_next_76 ?_
      have hE : tkE t kk p = kk := by unfold tkE; rw [← hkk, if_neg (by omega)]
      have hK : tkK t kk p = 0 := by unfold tkK; rw [← hkk, if_neg (by omega)]
      exact fin0 _ (g5'.put _ (by decide) (by decide)) (by rw [hE]; simp [u2, g7]) (by rw [hK]; simp [u2]; rfl) (by rw [← hkk]; simp [u2]) (fun q => absurd q (by rw [hK]; decide))
  have loop : ∀ (q kk : Nat) (I2 : It), n + 1 ≤ kk + q → kk ≤ n → sc bW t n kk = tkF t n p → rdK I I2 rd → I2 rd 2 = nI kk → V X T I2 L R uc us 0 [some (.ref rd)] [] := by
    intro q
    induction q with
    | zero => intro kk I2 h1 h2; exact absurd h1 (by omega)
    | succ q iq =>
      intro kk I2 h1 h2 h3 h4 h5
      have ht2 : I2 tp = t := by rw [h4.1 tp ht, htt]
      have g1 : I2 rd 1 = nI n := by rw [h4.2 1 (Or.inl rfl)]; exact hI1
      refine V_aload_0 g eX2_next_0 ?_
      refine V_getI g eX2_next_1 flX2_19 hT rfl ?_
      rw [h5]
      refine V_aload_0 g eX2_next_4 ?_
      refine V_getI g eX2_next_5 flX2_15 hT rfl ?_
      rw [g1]
      refine V_icmp_ge g eX2_next_8 (fun c_8 => ?_) (fun c_8 => ?_)
      · have q_8 := nI_le' (a := n) (b := kk) (by omega) (by omega) c_8
        exact rest kk I2 (by rw [← h3, sc_n (by omega)]) h4 h5
      · have q_8 := nI_nle' (a := n) (b := kk) (by omega) (by omega) c_8
        refine V_aload_0 g eX2_next_11 ?_
        refine V_getR g eX2_next_12 flX2_9 hT rfl hR ?_
        refine V_aload_0 g eX2_next_15 ?_
        refine V_getI g eX2_next_16 flX2_19 hT rfl ?_
        rw [h5]
        refine V_baldN g eX2_next_19 hTp (by omega) (by decide) ?_
        rw [ht2]
        refine V_bipush (v := 10) g eX2_next_20 (by decide) ?_
        refine V_icmp_eq g eX2_next_22 (fun c_22 => ?_) (fun c_22 => ?_)
        · refine V_aload_0 g eX2_next_39 ?_
          refine V_dup g eX2_next_40 rfl ?_
          refine V_getI g eX2_next_41 flX2_19 hT rfl ?_
          rw [h5]
          refine V_iconst (v := 1) g eX2_next_44 (by decide) ?_
          refine V_iadd g eX2_next_45 ?_
          rw [nI_1]
          refine V_putI g eX2_next_46 pflX2_19 hT rfl rfl rfl ?_
          refine V_goto g eX2_next_49 ?_
          exact iq (kk + 1) _ (by omega) (by omega) (by rw [← h3, sc_y q_8 (bW_iff.mpr (Or.inl c_22))]) (h4.put _ (by decide) (by decide)) (u2_s _ _ _ _)
        · refine V_aload_0 g eX2_next_25 ?_
          refine V_getR g eX2_next_26 flX2_9 hT rfl hR ?_
          refine V_aload_0 g eX2_next_29 ?_
          refine V_getI g eX2_next_30 flX2_19 hT rfl ?_
          rw [h5]
          refine V_baldN g eX2_next_33 hTp (by omega) (by decide) ?_
          rw [ht2]
          refine V_bipush (v := 32) g eX2_next_34 (by decide) ?_
          refine V_icmp_ne g eX2_next_36 (fun c_36 => ?_) (fun c_36 => ?_)
          · exact rest kk I2 (by rw [← h3, sc_n (fun z => by rcases bW_iff.mp z.2 with z | z; exact c_22 z; exact c_36 z)]) h4 h5
          · refine V_aload_0 g eX2_next_39 ?_
            refine V_dup g eX2_next_40 rfl ?_
            refine V_getI g eX2_next_41 flX2_19 hT rfl ?_
            rw [h5]
            refine V_iconst (v := 1) g eX2_next_44 (by decide) ?_
            refine V_iadd g eX2_next_45 ?_
            rw [nI_1]
            refine V_putI g eX2_next_46 pflX2_19 hT rfl rfl rfl ?_
            refine V_goto g eX2_next_49 ?_
            exact iq (kk + 1) _ (by omega) (by omega) (by rw [← h3, sc_y q_8 (bW_iff.mpr (Or.inr c_36))]) (h4.put _ (by decide) (by decide)) (u2_s _ _ _ _)
  exact loop (n + 1) p I (by omega) hpn rfl (rdK.refl _ _) hI2

