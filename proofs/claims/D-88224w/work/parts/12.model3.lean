/-! BedBookModel: plants, marks (printed out of tmpl/t_model3.txt) -/
set_option maxRecDepth 100000
abbrev spX4_wild : Sp := fun av T I L R uc us k => ∃ at0 : Int32, ∃ many : Int32, ∃ N : Nat, av = [.ref 0, .int at0, .int many] ∧ T = TM ∧ R = RM ∧ (fun J => J 0 25 = nI N ∧ N ≤ 40 ∧ if at0 < 0 ∨ 99 < at0 ∨ ¬ aMany many ∨ J 0 25 = 40 then k (.inl (some (.int (-1)))) T J L R uc us else k (.inl (some (.int (nI N)))) T (gro (u2 J 36 N at0) N 0 (-1) (-1) many 0) L R uc us) (u2 I 0 0 0)
theorem eX4_wild_0 : dc cX4_wild 0 (.aload_n 0) 1 1 := ⟨by decide +kernel, rfl⟩
theorem eX4_wild_1 : dc cX4_wild 1 (.iconst 0) 1 2 := ⟨by decide +kernel, rfl⟩
theorem eX4_wild_2 : dc cX4_wild 2 (.putfield 1) 3 5 := ⟨by decide +kernel, rfl⟩
theorem eX4_wild_5 : dc cX4_wild 5 (.iload_n 1) 1 6 := ⟨by decide +kernel, rfl⟩
theorem eX4_wild_6 : dj cX4_wild 6 (.ifCond .lt 25) 25 31 9 := ⟨by decide +kernel, by decide, rfl⟩
theorem eX4_wild_31 : dc cX4_wild 31 (.iconst (-1)) 1 32 := ⟨by decide +kernel, rfl⟩
theorem eX4_wild_32 : dc cX4_wild 32 (.ireturn) 1 33 := ⟨by decide +kernel, rfl⟩
theorem eX4_wild_9 : dc cX4_wild 9 (.iload_n 1) 1 10 := ⟨by decide +kernel, rfl⟩
theorem eX4_wild_10 : dc cX4_wild 10 (.bipush 99) 2 12 := ⟨by decide +kernel, rfl⟩
theorem eX4_wild_12 : dj cX4_wild 12 (.if_icmp .gt 19) 19 31 15 := ⟨by decide +kernel, by decide, rfl⟩
theorem eX4_wild_15 : dc cX4_wild 15 (.iload_n 2) 1 16 := ⟨by decide +kernel, rfl⟩
theorem eX4_wild_16 : dc cX4_wild 16 (.invokestatic 261) 3 19 := ⟨by decide +kernel, rfl⟩
theorem pkX4_261 : PkS RX4 261 yX4_areMany (.code yX4_areMany cX4_areMany 1 (some .boolean)) 1 1 := ⟨cwd_c, (lk q1495), (lk q1493), (lk q1494), (lk q67), nmd_c, ⟨⟨by decide, by decide⟩, by decide +kernel⟩, by decide⟩
theorem eX4_wild_19 : dj cX4_wild 19 (.ifCond .eq 12) 12 31 22 := ⟨by decide +kernel, by decide, rfl⟩
theorem eX4_wild_22 : dc cX4_wild 22 (.aload_n 0) 1 23 := ⟨by decide +kernel, rfl⟩
theorem eX4_wild_23 : dc cX4_wild 23 (.getfield 258) 3 26 := ⟨by decide +kernel, rfl⟩
theorem eX4_wild_26 : dc cX4_wild 26 (.bipush 40) 2 28 := ⟨by decide +kernel, rfl⟩
theorem eX4_wild_28 : dj cX4_wild 28 (.if_icmp .ne 5) 5 33 31 := ⟨by decide +kernel, by decide, rfl⟩
theorem eX4_wild_33 : dc cX4_wild 33 (.aload_n 0) 1 34 := ⟨by decide +kernel, rfl⟩
theorem eX4_wild_34 : dc cX4_wild 34 (.getfield 120) 3 37 := ⟨by decide +kernel, rfl⟩
theorem flX4_120 : FL RX4 120 3 36 := ⟨_, _, _, _, rfl, by decide, by decide, Or.inl (lk q1275), Or.inl rfl⟩
theorem eX4_wild_37 : dc cX4_wild 37 (.aload_n 0) 1 38 := ⟨by decide +kernel, rfl⟩
theorem eX4_wild_38 : dc cX4_wild 38 (.getfield 258) 3 41 := ⟨by decide +kernel, rfl⟩
theorem eX4_wild_41 : dc cX4_wild 41 (.iload_n 1) 1 42 := ⟨by decide +kernel, rfl⟩
theorem eX4_wild_42 : dc cX4_wild 42 (.iastore) 1 43 := ⟨by decide +kernel, rfl⟩
theorem eX4_wild_43 : dc cX4_wild 43 (.aload_n 0) 1 44 := ⟨by decide +kernel, rfl⟩
theorem eX4_wild_44 : dc cX4_wild 44 (.iconst 0) 1 45 := ⟨by decide +kernel, rfl⟩
theorem eX4_wild_45 : dc cX4_wild 45 (.iconst (-1)) 1 46 := ⟨by decide +kernel, rfl⟩
theorem eX4_wild_46 : dc cX4_wild 46 (.iconst (-1)) 1 47 := ⟨by decide +kernel, rfl⟩
theorem eX4_wild_47 : dc cX4_wild 47 (.iload_n 2) 1 48 := ⟨by decide +kernel, rfl⟩
theorem eX4_wild_48 : dc cX4_wild 48 (.invokevirtual 264) 3 51 := ⟨by decide +kernel, rfl⟩
theorem pkX4_264 : PkV RX4 264 yX4_grows (.code yX4_grows cX4_grows 6 (some .int)) 6 "BedBookModel" 4 := ⟨cwd_c, (lk q1499), Or.inl (lk q1496), (lk q1498), (lk qs40), ⟨⟨by decide, by decide⟩, by decide +kernel⟩, (lk q67), by decide⟩
theorem eX4_wild_51 : dc cX4_wild 51 (.ireturn) 1 52 := ⟨by decide +kernel, rfl⟩
set_option maxHeartbeats 8000000 in
theorem ctX4_wild (l : Launch) : Ct l yX4_wild (.code yX4_wild cX4_wild 3 (some .int)) 2 spX4_wild := by
  refine Ct.of (own := RX4) (nm := "wild") (by decide) rfl rfl ?_
  rintro X av T I L R uc us rfl g hN hu hz ⟨at0, many, N, rfl, rfl, rfl, hk⟩
  refine VE.go (ls := [some (.ref 0), some (.int at0), some (.int many)]) g hu hz (fun _ => rfl) (fun _ => Nat.le_of_ble_eq_true rfl) ?_
  refine V_aload_0 g eX4_wild_0 ?_
  refine V_iconst (v := 0) g eX4_wild_1 (by decide) ?_
  refine V_putI g eX4_wild_2 pflX4_1 rfl rfl rfl rfl ?_
  generalize u2 I 0 0 0 = J at hk ⊢
  obtain ⟨hP, hN4, hk⟩ := hk
  refine V_iload_1 g eX4_wild_5 ?_
  refine V_if_lt g eX4_wild_6 (fun c_6 => ?_) (fun c_6 => ?_)
  · refine V_iconst (v := (-1)) g eX4_wild_31 (by decide) ?_
    refine V_iret g eX4_wild_32 ?_
    first | contradiction | (simp only [c_6, or_false, false_or, true_or, or_true, and_true, true_and, and_false, false_and, if_true, if_false, not_true_eq_false, not_false_eq_true, and_self, or_self] at hk ⊢; exact hk) | (simp only [isP, isBd, isLt, isDg, aMany, isNm, isD9, c_6, or_false, false_or, true_or, or_true, and_true, true_and, and_false, false_and, if_true, if_false, not_true_eq_false, not_false_eq_true, and_self, or_self] at hk ⊢; exact hk) | ((try simp only [isP, isBd, isLt, isDg, aMany, isNm, isD9, ← Int32.not_le, Decidable.not_not] at hk c_6 ⊢); simp only [c_6, or_false, false_or, true_or, or_true, and_true, true_and, and_false, false_and, if_true, if_false, not_true_eq_false, not_false_eq_true, and_self, or_self] at hk ⊢; exact hk)
  · refine V_iload_1 g eX4_wild_9 ?_
    refine V_bipush (v := 99) g eX4_wild_10 (by decide) ?_
    refine V_icmp_gt g eX4_wild_12 (fun c_12 => ?_) (fun c_12 => ?_)
    · refine V_iconst (v := (-1)) g eX4_wild_31 (by decide) ?_
      refine V_iret g eX4_wild_32 ?_
      first | contradiction | (simp only [c_6, c_12, or_false, false_or, true_or, or_true, and_true, true_and, and_false, false_and, if_true, if_false, not_true_eq_false, not_false_eq_true, and_self, or_self] at hk ⊢; exact hk) | (simp only [isP, isBd, isLt, isDg, aMany, isNm, isD9, c_6, c_12, or_false, false_or, true_or, or_true, and_true, true_and, and_false, false_and, if_true, if_false, not_true_eq_false, not_false_eq_true, and_self, or_self] at hk ⊢; exact hk) | ((try simp only [isP, isBd, isLt, isDg, aMany, isNm, isD9, ← Int32.not_le, Decidable.not_not] at hk c_6 c_12 ⊢); simp only [c_6, c_12, or_false, false_or, true_or, or_true, and_true, true_and, and_false, false_and, if_true, if_false, not_true_eq_false, not_false_eq_true, and_self, or_self] at hk ⊢; exact hk)
    · refine V_iload_2 g eX4_wild_15 ?_
      refine V_cs1 g (ctX4_areMany _) eX4_wild_16 pkX4_261 (by decide) (Nat.le_of_ble_eq_true rfl) ?_
      refine ⟨_, rfl, rfl, rfl, ?_⟩
      refine V_if_eqB g eX4_wild_19 (fun c_19 => ?_) (fun c_19 => ?_)
      · refine V_iconst (v := (-1)) g eX4_wild_31 (by decide) ?_
        refine V_iret g eX4_wild_32 ?_
        first | contradiction | (simp only [c_6, c_12, c_19, or_false, false_or, true_or, or_true, and_true, true_and, and_false, false_and, if_true, if_false, not_true_eq_false, not_false_eq_true, and_self, or_self] at hk ⊢; exact hk) | (simp only [isP, isBd, isLt, isDg, aMany, isNm, isD9, c_6, c_12, c_19, or_false, false_or, true_or, or_true, and_true, true_and, and_false, false_and, if_true, if_false, not_true_eq_false, not_false_eq_true, and_self, or_self] at hk ⊢; exact hk) | ((try simp only [isP, isBd, isLt, isDg, aMany, isNm, isD9, ← Int32.not_le, Decidable.not_not] at hk c_6 c_12 c_19 ⊢); simp only [c_6, c_12, c_19, or_false, false_or, true_or, or_true, and_true, true_and, and_false, false_and, if_true, if_false, not_true_eq_false, not_false_eq_true, and_self, or_self] at hk ⊢; exact hk)
      · refine V_aload_0 g eX4_wild_22 ?_
        refine V_getI g eX4_wild_23 flX4_258 rfl rfl ?_
        refine V_bipush (v := 40) g eX4_wild_26 (by decide) ?_
        refine V_icmp_ne g eX4_wild_28 (fun c_28 => ?_) (fun c_28 => ?_)
        · have q_28 : N ≠ 40 := fun q => c_28 (by rw [hP, q]; rfl)
          refine V_aload_0 g eX4_wild_33 ?_
          refine V_getR g eX4_wild_34 flX4_120 rfl rfl rfl ?_
          refine V_aload_0 g eX4_wild_37 ?_
          refine V_getI g eX4_wild_38 flX4_258 rfl rfl ?_
          refine V_top (y := nI N) (hP) ?_
          refine V_iload_1 g eX4_wild_41 ?_
          refine V_iastN g eX4_wild_42 rfl (by omega) (by decide) ?_
          refine V_aload_0 g eX4_wild_43 ?_
          refine V_iconst (v := 0) g eX4_wild_44 (by decide) ?_
          refine V_iconst (v := (-1)) g eX4_wild_45 (by decide) ?_
          refine V_iconst (v := (-1)) g eX4_wild_46 (by decide) ?_
          refine V_iload_2 g eX4_wild_47 ?_
          refine V_cv4 g (ctX4_grows _) eX4_wild_48 pkX4_264 rfl rfl (by decide) (by decide) (Nat.le_of_ble_eq_true rfl) ?_
          refine ⟨_, _, _, _, N, 0, rfl, rfl, rfl, by simp [u2, hP], by omega, fun q => absurd (by decide) q, ?_⟩
          refine V_iret g eX4_wild_51 ?_
          first | contradiction | (simp only [c_6, c_12, c_19, c_28, or_false, false_or, true_or, or_true, and_true, true_and, and_false, false_and, if_true, if_false, not_true_eq_false, not_false_eq_true, and_self, or_self] at hk ⊢; exact hk) | (simp only [isP, isBd, isLt, isDg, aMany, isNm, isD9, c_6, c_12, c_19, c_28, or_false, false_or, true_or, or_true, and_true, true_and, and_false, false_and, if_true, if_false, not_true_eq_false, not_false_eq_true, and_self, or_self] at hk ⊢; exact hk) | ((try simp only [isP, isBd, isLt, isDg, aMany, isNm, isD9, ← Int32.not_le, Decidable.not_not] at hk c_6 c_12 c_19 c_28 ⊢); simp only [c_6, c_12, c_19, c_28, or_false, false_or, true_or, or_true, and_true, true_and, and_false, false_and, if_true, if_false, not_true_eq_false, not_false_eq_true, and_self, or_self] at hk ⊢; exact hk)
        · refine V_iconst (v := (-1)) g eX4_wild_31 (by decide) ?_
          refine V_iret g eX4_wild_32 ?_
          first | contradiction | (simp only [c_6, c_12, c_19, c_28, or_false, false_or, true_or, or_true, and_true, true_and, and_false, false_and, if_true, if_false, not_true_eq_false, not_false_eq_true, and_self, or_self] at hk ⊢; exact hk) | (simp only [isP, isBd, isLt, isDg, aMany, isNm, isD9, c_6, c_12, c_19, c_28, or_false, false_or, true_or, or_true, and_true, true_and, and_false, false_and, if_true, if_false, not_true_eq_false, not_false_eq_true, and_self, or_self] at hk ⊢; exact hk) | ((try simp only [isP, isBd, isLt, isDg, aMany, isNm, isD9, ← Int32.not_le, Decidable.not_not] at hk c_6 c_12 c_19 c_28 ⊢); simp only [c_6, c_12, c_19, c_28, or_false, false_or, true_or, or_true, and_true, true_and, and_false, false_and, if_true, if_false, not_true_eq_false, not_false_eq_true, and_self, or_self] at hk ⊢; exact hk)
abbrev spX4_seed : Sp := fun av T I L R uc us k => ∃ mo : Int32, ∃ da : Int32, ∃ many : Int32, ∃ N : Nat, av = [.ref 0, .int mo, .int da, .int many] ∧ T = TM ∧ R = RM ∧ (fun J => J 0 25 = nI N ∧ N ≤ 40 ∧ if ¬ isP J mo ∨ (¬ da = -1 ∧ ¬ isP J da) ∨ ¬ aMany many ∨ J 0 25 = 40 then k (.inl (some (.int (-1)))) T J L R uc us else k (.inl (some (.int (nI N)))) T (gro J N 1 mo da many 0) L R uc us) (u2 I 0 0 0)
theorem eX4_seed_0 : dc cX4_seed 0 (.aload_n 0) 1 1 := ⟨by decide +kernel, rfl⟩
theorem eX4_seed_1 : dc cX4_seed 1 (.iconst 0) 1 2 := ⟨by decide +kernel, rfl⟩
theorem eX4_seed_2 : dc cX4_seed 2 (.putfield 1) 3 5 := ⟨by decide +kernel, rfl⟩
theorem eX4_seed_5 : dc cX4_seed 5 (.aload_n 0) 1 6 := ⟨by decide +kernel, rfl⟩
theorem eX4_seed_6 : dc cX4_seed 6 (.iload_n 1) 1 7 := ⟨by decide +kernel, rfl⟩
theorem eX4_seed_7 : dc cX4_seed 7 (.invokevirtual 268) 3 10 := ⟨by decide +kernel, rfl⟩
theorem eX4_seed_10 : dj cX4_seed 10 (.ifCond .eq 32) 32 42 13 := ⟨by decide +kernel, by decide, rfl⟩
theorem eX4_seed_42 : dc cX4_seed 42 (.iconst (-1)) 1 43 := ⟨by decide +kernel, rfl⟩
theorem eX4_seed_43 : dc cX4_seed 43 (.ireturn) 1 44 := ⟨by decide +kernel, rfl⟩
theorem eX4_seed_13 : dc cX4_seed 13 (.iload_n 2) 1 14 := ⟨by decide +kernel, rfl⟩
theorem eX4_seed_14 : dc cX4_seed 14 (.iconst (-1)) 1 15 := ⟨by decide +kernel, rfl⟩
theorem eX4_seed_15 : dj cX4_seed 15 (.if_icmp .eq 11) 11 26 18 := ⟨by decide +kernel, by decide, rfl⟩
theorem eX4_seed_26 : dc cX4_seed 26 (.iload_n 3) 1 27 := ⟨by decide +kernel, rfl⟩
theorem eX4_seed_27 : dc cX4_seed 27 (.invokestatic 261) 3 30 := ⟨by decide +kernel, rfl⟩
theorem eX4_seed_30 : dj cX4_seed 30 (.ifCond .eq 12) 12 42 33 := ⟨by decide +kernel, by decide, rfl⟩
theorem eX4_seed_33 : dc cX4_seed 33 (.aload_n 0) 1 34 := ⟨by decide +kernel, rfl⟩
theorem eX4_seed_34 : dc cX4_seed 34 (.getfield 258) 3 37 := ⟨by decide +kernel, rfl⟩
theorem eX4_seed_37 : dc cX4_seed 37 (.bipush 40) 2 39 := ⟨by decide +kernel, rfl⟩
theorem eX4_seed_39 : dj cX4_seed 39 (.if_icmp .ne 5) 5 44 42 := ⟨by decide +kernel, by decide, rfl⟩
theorem eX4_seed_44 : dc cX4_seed 44 (.aload_n 0) 1 45 := ⟨by decide +kernel, rfl⟩
theorem eX4_seed_45 : dc cX4_seed 45 (.iconst 1) 1 46 := ⟨by decide +kernel, rfl⟩
theorem eX4_seed_46 : dc cX4_seed 46 (.iload_n 1) 1 47 := ⟨by decide +kernel, rfl⟩
theorem eX4_seed_47 : dc cX4_seed 47 (.iload_n 2) 1 48 := ⟨by decide +kernel, rfl⟩
theorem eX4_seed_48 : dc cX4_seed 48 (.iload_n 3) 1 49 := ⟨by decide +kernel, rfl⟩
theorem eX4_seed_49 : dc cX4_seed 49 (.invokevirtual 264) 3 52 := ⟨by decide +kernel, rfl⟩
theorem eX4_seed_52 : dc cX4_seed 52 (.ireturn) 1 53 := ⟨by decide +kernel, rfl⟩
theorem eX4_seed_18 : dc cX4_seed 18 (.aload_n 0) 1 19 := ⟨by decide +kernel, rfl⟩
theorem eX4_seed_19 : dc cX4_seed 19 (.iload_n 2) 1 20 := ⟨by decide +kernel, rfl⟩
theorem eX4_seed_20 : dc cX4_seed 20 (.invokevirtual 268) 3 23 := ⟨by decide +kernel, rfl⟩
theorem eX4_seed_23 : dj cX4_seed 23 (.ifCond .eq 19) 19 42 26 := ⟨by decide +kernel, by decide, rfl⟩
set_option maxHeartbeats 8000000 in
theorem ctX4_seed (l : Launch) : Ct l yX4_seed (.code yX4_seed cX4_seed 4 (some .int)) 2 spX4_seed := by
  refine Ct.of (own := RX4) (nm := "seed") (by decide) rfl rfl ?_
  rintro X av T I L R uc us rfl g hN hu hz ⟨mo, da, many, N, rfl, rfl, rfl, hk⟩
  refine VE.go (ls := [some (.ref 0), some (.int mo), some (.int da), some (.int many)]) g hu hz (fun _ => rfl) (fun _ => Nat.le_of_ble_eq_true rfl) ?_
  refine V_aload_0 g eX4_seed_0 ?_
  refine V_iconst (v := 0) g eX4_seed_1 (by decide) ?_
  refine V_putI g eX4_seed_2 pflX4_1 rfl rfl rfl rfl ?_
  generalize u2 I 0 0 0 = J at hk ⊢
  obtain ⟨hP, hN4, hk⟩ := hk
  refine V_aload_0 g eX4_seed_5 ?_
  refine V_iload_1 g eX4_seed_6 ?_
  refine V_cv1 g (ctX4_isPlant _) eX4_seed_7 pkX4_268 rfl rfl (by decide) (by decide) (Nat.le_of_ble_eq_true rfl) ?_
  refine ⟨_, rfl, rfl, rfl, ?_⟩
  refine V_if_eqB g eX4_seed_10 (fun c_10 => ?_) (fun c_10 => ?_)
  · refine V_iconst (v := (-1)) g eX4_seed_42 (by decide) ?_
    refine V_iret g eX4_seed_43 ?_
    first | contradiction | (simp only [c_10, or_false, false_or, true_or, or_true, and_true, true_and, and_false, false_and, if_true, if_false, not_true_eq_false, not_false_eq_true, and_self, or_self] at hk ⊢; exact hk) | (simp only [isP, isBd, isLt, isDg, aMany, isNm, isD9, c_10, or_false, false_or, true_or, or_true, and_true, true_and, and_false, false_and, if_true, if_false, not_true_eq_false, not_false_eq_true, and_self, or_self] at hk ⊢; exact hk) | ((try simp only [isP, isBd, isLt, isDg, aMany, isNm, isD9, ← Int32.not_le, Decidable.not_not] at hk c_10 ⊢); simp only [c_10, or_false, false_or, true_or, or_true, and_true, true_and, and_false, false_and, if_true, if_false, not_true_eq_false, not_false_eq_true, and_self, or_self] at hk ⊢; exact hk)
  · refine V_iload_2 g eX4_seed_13 ?_
    refine V_iconst (v := (-1)) g eX4_seed_14 (by decide) ?_
    refine V_icmp_eq g eX4_seed_15 (fun c_15 => ?_) (fun c_15 => ?_)
    · refine V_iload_3 g eX4_seed_26 ?_
      refine V_cs1 g (ctX4_areMany _) eX4_seed_27 pkX4_261 (by decide) (Nat.le_of_ble_eq_true rfl) ?_
      refine ⟨_, rfl, rfl, rfl, ?_⟩
      refine V_if_eqB g eX4_seed_30 (fun c_30 => ?_) (fun c_30 => ?_)
      · refine V_iconst (v := (-1)) g eX4_seed_42 (by decide) ?_
        refine V_iret g eX4_seed_43 ?_
        first | contradiction | (simp only [c_10, c_15, c_30, or_false, false_or, true_or, or_true, and_true, true_and, and_false, false_and, if_true, if_false, not_true_eq_false, not_false_eq_true, and_self, or_self] at hk ⊢; exact hk) | (simp only [isP, isBd, isLt, isDg, aMany, isNm, isD9, c_10, c_15, c_30, or_false, false_or, true_or, or_true, and_true, true_and, and_false, false_and, if_true, if_false, not_true_eq_false, not_false_eq_true, and_self, or_self] at hk ⊢; exact hk) | ((try simp only [isP, isBd, isLt, isDg, aMany, isNm, isD9, ← Int32.not_le, Decidable.not_not] at hk c_10 c_15 c_30 ⊢); simp only [c_10, c_15, c_30, or_false, false_or, true_or, or_true, and_true, true_and, and_false, false_and, if_true, if_false, not_true_eq_false, not_false_eq_true, and_self, or_self] at hk ⊢; exact hk)
      · refine V_aload_0 g eX4_seed_33 ?_
        refine V_getI g eX4_seed_34 flX4_258 rfl rfl ?_
        refine V_bipush (v := 40) g eX4_seed_37 (by decide) ?_
        refine V_icmp_ne g eX4_seed_39 (fun c_39 => ?_) (fun c_39 => ?_)
        · have q_39 : N ≠ 40 := fun q => c_39 (by rw [hP, q]; rfl)
          refine V_aload_0 g eX4_seed_44 ?_
          refine V_iconst (v := 1) g eX4_seed_45 (by decide) ?_
          refine V_iload_1 g eX4_seed_46 ?_
          refine V_iload_2 g eX4_seed_47 ?_
          refine V_iload_3 g eX4_seed_48 ?_
          refine V_cv4 g (ctX4_grows _) eX4_seed_49 pkX4_264 rfl rfl (by decide) (by decide) (Nat.le_of_ble_eq_true rfl) ?_
          refine ⟨_, _, _, _, N, 0, rfl, rfl, rfl, hP, by omega, fun q => absurd (by decide) q, ?_⟩
          refine V_iret g eX4_seed_52 ?_
          first | contradiction | (simp only [c_10, c_15, c_30, c_39, or_false, false_or, true_or, or_true, and_true, true_and, and_false, false_and, if_true, if_false, not_true_eq_false, not_false_eq_true, and_self, or_self] at hk ⊢; exact hk) | (simp only [isP, isBd, isLt, isDg, aMany, isNm, isD9, c_10, c_15, c_30, c_39, or_false, false_or, true_or, or_true, and_true, true_and, and_false, false_and, if_true, if_false, not_true_eq_false, not_false_eq_true, and_self, or_self] at hk ⊢; exact hk) | ((try simp only [isP, isBd, isLt, isDg, aMany, isNm, isD9, ← Int32.not_le, Decidable.not_not] at hk c_10 c_15 c_30 c_39 ⊢); simp only [c_10, c_15, c_30, c_39, or_false, false_or, true_or, or_true, and_true, true_and, and_false, false_and, if_true, if_false, not_true_eq_false, not_false_eq_true, and_self, or_self] at hk ⊢; exact hk)
        · refine V_iconst (v := (-1)) g eX4_seed_42 (by decide) ?_
          refine V_iret g eX4_seed_43 ?_
          first | contradiction | (simp only [c_10, c_15, c_30, c_39, or_false, false_or, true_or, or_true, and_true, true_and, and_false, false_and, if_true, if_false, not_true_eq_false, not_false_eq_true, and_self, or_self] at hk ⊢; exact hk) | (simp only [isP, isBd, isLt, isDg, aMany, isNm, isD9, c_10, c_15, c_30, c_39, or_false, false_or, true_or, or_true, and_true, true_and, and_false, false_and, if_true, if_false, not_true_eq_false, not_false_eq_true, and_self, or_self] at hk ⊢; exact hk) | ((try simp only [isP, isBd, isLt, isDg, aMany, isNm, isD9, ← Int32.not_le, Decidable.not_not] at hk c_10 c_15 c_30 c_39 ⊢); simp only [c_10, c_15, c_30, c_39, or_false, false_or, true_or, or_true, and_true, true_and, and_false, false_and, if_true, if_false, not_true_eq_false, not_false_eq_true, and_self, or_self] at hk ⊢; exact hk)
    · refine V_aload_0 g eX4_seed_18 ?_
      refine V_iload_2 g eX4_seed_19 ?_
      refine V_cv1 g (ctX4_isPlant _) eX4_seed_20 pkX4_268 rfl rfl (by decide) (by decide) (Nat.le_of_ble_eq_true rfl) ?_
      refine ⟨_, rfl, rfl, rfl, ?_⟩
      refine V_if_eqB g eX4_seed_23 (fun c_23 => ?_) (fun c_23 => ?_)
      · refine V_iconst (v := (-1)) g eX4_seed_42 (by decide) ?_
        refine V_iret g eX4_seed_43 ?_
        first | contradiction | (simp only [c_10, c_15, c_23, or_false, false_or, true_or, or_true, and_true, true_and, and_false, false_and, if_true, if_false, not_true_eq_false, not_false_eq_true, and_self, or_self] at hk ⊢; exact hk) | (simp only [isP, isBd, isLt, isDg, aMany, isNm, isD9, c_10, c_15, c_23, or_false, false_or, true_or, or_true, and_true, true_and, and_false, false_and, if_true, if_false, not_true_eq_false, not_false_eq_true, and_self, or_self] at hk ⊢; exact hk) | ((try simp only [isP, isBd, isLt, isDg, aMany, isNm, isD9, ← Int32.not_le, Decidable.not_not] at hk c_10 c_15 c_23 ⊢); simp only [c_10, c_15, c_23, or_false, false_or, true_or, or_true, and_true, true_and, and_false, false_and, if_true, if_false, not_true_eq_false, not_false_eq_true, and_self, or_self] at hk ⊢; exact hk)
      · refine V_iload_3 g eX4_seed_26 ?_
        refine V_cs1 g (ctX4_areMany _) eX4_seed_27 pkX4_261 (by decide) (Nat.le_of_ble_eq_true rfl) ?_
        refine ⟨_, rfl, rfl, rfl, ?_⟩
        refine V_if_eqB g eX4_seed_30 (fun c_30 => ?_) (fun c_30 => ?_)
        · refine V_iconst (v := (-1)) g eX4_seed_42 (by decide) ?_
          refine V_iret g eX4_seed_43 ?_
          first | contradiction | (simp only [c_10, c_15, c_23, c_30, or_false, false_or, true_or, or_true, and_true, true_and, and_false, false_and, if_true, if_false, not_true_eq_false, not_false_eq_true, and_self, or_self] at hk ⊢; exact hk) | (simp only [isP, isBd, isLt, isDg, aMany, isNm, isD9, c_10, c_15, c_23, c_30, or_false, false_or, true_or, or_true, and_true, true_and, and_false, false_and, if_true, if_false, not_true_eq_false, not_false_eq_true, and_self, or_self] at hk ⊢; exact hk) | ((try simp only [isP, isBd, isLt, isDg, aMany, isNm, isD9, ← Int32.not_le, Decidable.not_not] at hk c_10 c_15 c_23 c_30 ⊢); simp only [c_10, c_15, c_23, c_30, or_false, false_or, true_or, or_true, and_true, true_and, and_false, false_and, if_true, if_false, not_true_eq_false, not_false_eq_true, and_self, or_self] at hk ⊢; exact hk)
        · refine V_aload_0 g eX4_seed_33 ?_
          refine V_getI g eX4_seed_34 flX4_258 rfl rfl ?_
          refine V_bipush (v := 40) g eX4_seed_37 (by decide) ?_
          refine V_icmp_ne g eX4_seed_39 (fun c_39 => ?_) (fun c_39 => ?_)
          · have q_39 : N ≠ 40 := fun q => c_39 (by rw [hP, q]; rfl)
            refine V_aload_0 g eX4_seed_44 ?_
            refine V_iconst (v := 1) g eX4_seed_45 (by decide) ?_
            refine V_iload_1 g eX4_seed_46 ?_
            refine V_iload_2 g eX4_seed_47 ?_
            refine V_iload_3 g eX4_seed_48 ?_
            refine V_cv4 g (ctX4_grows _) eX4_seed_49 pkX4_264 rfl rfl (by decide) (by decide) (Nat.le_of_ble_eq_true rfl) ?_
            refine ⟨_, _, _, _, N, 0, rfl, rfl, rfl, hP, by omega, fun q => absurd (by decide) q, ?_⟩
            refine V_iret g eX4_seed_52 ?_
            first | contradiction | (simp only [c_10, c_15, c_23, c_30, c_39, or_false, false_or, true_or, or_true, and_true, true_and, and_false, false_and, if_true, if_false, not_true_eq_false, not_false_eq_true, and_self, or_self] at hk ⊢; exact hk) | (simp only [isP, isBd, isLt, isDg, aMany, isNm, isD9, c_10, c_15, c_23, c_30, c_39, or_false, false_or, true_or, or_true, and_true, true_and, and_false, false_and, if_true, if_false, not_true_eq_false, not_false_eq_true, and_self, or_self] at hk ⊢; exact hk) | ((try simp only [isP, isBd, isLt, isDg, aMany, isNm, isD9, ← Int32.not_le, Decidable.not_not] at hk c_10 c_15 c_23 c_30 c_39 ⊢); simp only [c_10, c_15, c_23, c_30, c_39, or_false, false_or, true_or, or_true, and_true, true_and, and_false, false_and, if_true, if_false, not_true_eq_false, not_false_eq_true, and_self, or_self] at hk ⊢; exact hk)
          · refine V_iconst (v := (-1)) g eX4_seed_42 (by decide) ?_
            refine V_iret g eX4_seed_43 ?_
            first | contradiction | (simp only [c_10, c_15, c_23, c_30, c_39, or_false, false_or, true_or, or_true, and_true, true_and, and_false, false_and, if_true, if_false, not_true_eq_false, not_false_eq_true, and_self, or_self] at hk ⊢; exact hk) | (simp only [isP, isBd, isLt, isDg, aMany, isNm, isD9, c_10, c_15, c_23, c_30, c_39, or_false, false_or, true_or, or_true, and_true, true_and, and_false, false_and, if_true, if_false, not_true_eq_false, not_false_eq_true, and_self, or_self] at hk ⊢; exact hk) | ((try simp only [isP, isBd, isLt, isDg, aMany, isNm, isD9, ← Int32.not_le, Decidable.not_not] at hk c_10 c_15 c_23 c_30 c_39 ⊢); simp only [c_10, c_15, c_23, c_30, c_39, or_false, false_or, true_or, or_true, and_true, true_and, and_false, false_and, if_true, if_false, not_true_eq_false, not_false_eq_true, and_self, or_self] at hk ⊢; exact hk)
abbrev spX4_cut : Sp := fun av T I L R uc us k => ∃ f : Int32, ∃ many : Int32, ∃ N : Nat, av = [.ref 0, .int f, .int many] ∧ T = TM ∧ R = RM ∧ (fun J => J 0 25 = nI N ∧ N ≤ 40 ∧ if ¬ isP J f ∨ ¬ aMany many ∨ J 0 25 = 40 then k (.inl (some (.int (-1)))) T J L R uc us else k (.inl (some (.int (nI N)))) T (gro J N 2 f (-1) many f.toNatClampNeg) L R uc us) (u2 I 0 0 0)
theorem eX4_cut_0 : dc cX4_cut 0 (.aload_n 0) 1 1 := ⟨by decide +kernel, rfl⟩
theorem eX4_cut_1 : dc cX4_cut 1 (.iconst 0) 1 2 := ⟨by decide +kernel, rfl⟩
theorem eX4_cut_2 : dc cX4_cut 2 (.putfield 1) 3 5 := ⟨by decide +kernel, rfl⟩
theorem eX4_cut_5 : dc cX4_cut 5 (.aload_n 0) 1 6 := ⟨by decide +kernel, rfl⟩
theorem eX4_cut_6 : dc cX4_cut 6 (.iload_n 1) 1 7 := ⟨by decide +kernel, rfl⟩
theorem eX4_cut_7 : dc cX4_cut 7 (.invokevirtual 268) 3 10 := ⟨by decide +kernel, rfl⟩
theorem eX4_cut_10 : dj cX4_cut 10 (.ifCond .eq 19) 19 29 13 := ⟨by decide +kernel, by decide, rfl⟩
theorem eX4_cut_29 : dc cX4_cut 29 (.iconst (-1)) 1 30 := ⟨by decide +kernel, rfl⟩
theorem eX4_cut_30 : dj cX4_cut 30 (.goto 11) 11 41 33 := ⟨by decide +kernel, by decide, rfl⟩
theorem eX4_cut_41 : dc cX4_cut 41 (.ireturn) 1 42 := ⟨by decide +kernel, rfl⟩
theorem eX4_cut_13 : dc cX4_cut 13 (.iload_n 2) 1 14 := ⟨by decide +kernel, rfl⟩
theorem eX4_cut_14 : dc cX4_cut 14 (.invokestatic 261) 3 17 := ⟨by decide +kernel, rfl⟩
theorem eX4_cut_17 : dj cX4_cut 17 (.ifCond .eq 12) 12 29 20 := ⟨by decide +kernel, by decide, rfl⟩
theorem eX4_cut_20 : dc cX4_cut 20 (.aload_n 0) 1 21 := ⟨by decide +kernel, rfl⟩
theorem eX4_cut_21 : dc cX4_cut 21 (.getfield 258) 3 24 := ⟨by decide +kernel, rfl⟩
theorem eX4_cut_24 : dc cX4_cut 24 (.bipush 40) 2 26 := ⟨by decide +kernel, rfl⟩
theorem eX4_cut_26 : dj cX4_cut 26 (.if_icmp .ne 7) 7 33 29 := ⟨by decide +kernel, by decide, rfl⟩
theorem eX4_cut_33 : dc cX4_cut 33 (.aload_n 0) 1 34 := ⟨by decide +kernel, rfl⟩
theorem eX4_cut_34 : dc cX4_cut 34 (.iconst 2) 1 35 := ⟨by decide +kernel, rfl⟩
theorem eX4_cut_35 : dc cX4_cut 35 (.iload_n 1) 1 36 := ⟨by decide +kernel, rfl⟩
theorem eX4_cut_36 : dc cX4_cut 36 (.iconst (-1)) 1 37 := ⟨by decide +kernel, rfl⟩
theorem eX4_cut_37 : dc cX4_cut 37 (.iload_n 2) 1 38 := ⟨by decide +kernel, rfl⟩
theorem eX4_cut_38 : dc cX4_cut 38 (.invokevirtual 264) 3 41 := ⟨by decide +kernel, rfl⟩
set_option maxHeartbeats 8000000 in
theorem ctX4_cut (l : Launch) : Ct l yX4_cut (.code yX4_cut cX4_cut 3 (some .int)) 2 spX4_cut := by
  refine Ct.of (own := RX4) (nm := "cut") (by decide) rfl rfl ?_
  rintro X av T I L R uc us rfl g hN hu hz ⟨f, many, N, rfl, rfl, rfl, hk⟩
  refine VE.go (ls := [some (.ref 0), some (.int f), some (.int many)]) g hu hz (fun _ => rfl) (fun _ => Nat.le_of_ble_eq_true rfl) ?_
  refine V_aload_0 g eX4_cut_0 ?_
  refine V_iconst (v := 0) g eX4_cut_1 (by decide) ?_
  refine V_putI g eX4_cut_2 pflX4_1 rfl rfl rfl rfl ?_
  generalize u2 I 0 0 0 = J at hk ⊢
  obtain ⟨hP, hN4, hk⟩ := hk
  refine V_aload_0 g eX4_cut_5 ?_
  refine V_iload_1 g eX4_cut_6 ?_
  refine V_cv1 g (ctX4_isPlant _) eX4_cut_7 pkX4_268 rfl rfl (by decide) (by decide) (Nat.le_of_ble_eq_true rfl) ?_
  refine ⟨_, rfl, rfl, rfl, ?_⟩
  refine V_if_eqB g eX4_cut_10 (fun c_10 => ?_) (fun c_10 => ?_)
  · refine V_iconst (v := (-1)) g eX4_cut_29 (by decide) ?_
    refine V_goto g eX4_cut_30 ?_
    refine V_iret g eX4_cut_41 ?_
    first | contradiction | (simp only [c_10, or_false, false_or, true_or, or_true, and_true, true_and, and_false, false_and, if_true, if_false, not_true_eq_false, not_false_eq_true, and_self, or_self] at hk ⊢; exact hk) | (simp only [isP, isBd, isLt, isDg, aMany, isNm, isD9, c_10, or_false, false_or, true_or, or_true, and_true, true_and, and_false, false_and, if_true, if_false, not_true_eq_false, not_false_eq_true, and_self, or_self] at hk ⊢; exact hk) | ((try simp only [isP, isBd, isLt, isDg, aMany, isNm, isD9, ← Int32.not_le, Decidable.not_not] at hk c_10 ⊢); simp only [c_10, or_false, false_or, true_or, or_true, and_true, true_and, and_false, false_and, if_true, if_false, not_true_eq_false, not_false_eq_true, and_self, or_self] at hk ⊢; exact hk)
  · refine V_iload_2 g eX4_cut_13 ?_
    refine V_cs1 g (ctX4_areMany _) eX4_cut_14 pkX4_261 (by decide) (Nat.le_of_ble_eq_true rfl) ?_
    refine ⟨_, rfl, rfl, rfl, ?_⟩
    refine V_if_eqB g eX4_cut_17 (fun c_17 => ?_) (fun c_17 => ?_)
    · refine V_iconst (v := (-1)) g eX4_cut_29 (by decide) ?_
      refine V_goto g eX4_cut_30 ?_
      refine V_iret g eX4_cut_41 ?_
      first | contradiction | (simp only [c_10, c_17, or_false, false_or, true_or, or_true, and_true, true_and, and_false, false_and, if_true, if_false, not_true_eq_false, not_false_eq_true, and_self, or_self] at hk ⊢; exact hk) | (simp only [isP, isBd, isLt, isDg, aMany, isNm, isD9, c_10, c_17, or_false, false_or, true_or, or_true, and_true, true_and, and_false, false_and, if_true, if_false, not_true_eq_false, not_false_eq_true, and_self, or_self] at hk ⊢; exact hk) | ((try simp only [isP, isBd, isLt, isDg, aMany, isNm, isD9, ← Int32.not_le, Decidable.not_not] at hk c_10 c_17 ⊢); simp only [c_10, c_17, or_false, false_or, true_or, or_true, and_true, true_and, and_false, false_and, if_true, if_false, not_true_eq_false, not_false_eq_true, and_self, or_self] at hk ⊢; exact hk)
    · refine V_aload_0 g eX4_cut_20 ?_
      refine V_getI g eX4_cut_21 flX4_258 rfl rfl ?_
      refine V_bipush (v := 40) g eX4_cut_24 (by decide) ?_
      refine V_icmp_ne g eX4_cut_26 (fun c_26 => ?_) (fun c_26 => ?_)
      · have q_26 : N ≠ 40 := fun q => c_26 (by rw [hP, q]; rfl)
        obtain ⟨F, hF, hf⟩ := isP_nI hP (by omega) c_10
        refine V_aload_0 g eX4_cut_33 ?_
        refine V_iconst (v := 2) g eX4_cut_34 (by decide) ?_
        refine V_iload_1 g eX4_cut_35 ?_
        refine V_iconst (v := (-1)) g eX4_cut_36 (by decide) ?_
        refine V_iload_2 g eX4_cut_37 ?_
        refine V_cv4 g (ctX4_grows _) eX4_cut_38 pkX4_264 rfl rfl (by decide) (by decide) (Nat.le_of_ble_eq_true rfl) ?_
        refine ⟨_, _, _, _, N, f.toNatClampNeg, rfl, rfl, rfl, hP, by omega, fun _ => ⟨by rw [hf, nI_clamp (by omega)], by rw [hf, nI_clamp (by omega)]; exact hF⟩, ?_⟩
        refine V_iret g eX4_cut_41 ?_
        first | contradiction | (simp only [c_10, c_17, c_26, or_false, false_or, true_or, or_true, and_true, true_and, and_false, false_and, if_true, if_false, not_true_eq_false, not_false_eq_true, and_self, or_self] at hk ⊢; exact hk) | (simp only [isP, isBd, isLt, isDg, aMany, isNm, isD9, c_10, c_17, c_26, or_false, false_or, true_or, or_true, and_true, true_and, and_false, false_and, if_true, if_false, not_true_eq_false, not_false_eq_true, and_self, or_self] at hk ⊢; exact hk) | ((try simp only [isP, isBd, isLt, isDg, aMany, isNm, isD9, ← Int32.not_le, Decidable.not_not] at hk c_10 c_17 c_26 ⊢); simp only [c_10, c_17, c_26, or_false, false_or, true_or, or_true, and_true, true_and, and_false, false_and, if_true, if_false, not_true_eq_false, not_false_eq_true, and_self, or_self] at hk ⊢; exact hk)
      · refine V_iconst (v := (-1)) g eX4_cut_29 (by decide) ?_
        refine V_goto g eX4_cut_30 ?_
        refine V_iret g eX4_cut_41 ?_
        first | contradiction | (simp only [c_10, c_17, c_26, or_false, false_or, true_or, or_true, and_true, true_and, and_false, false_and, if_true, if_false, not_true_eq_false, not_false_eq_true, and_self, or_self] at hk ⊢; exact hk) | (simp only [isP, isBd, isLt, isDg, aMany, isNm, isD9, c_10, c_17, c_26, or_false, false_or, true_or, or_true, and_true, true_and, and_false, false_and, if_true, if_false, not_true_eq_false, not_false_eq_true, and_self, or_self] at hk ⊢; exact hk) | ((try simp only [isP, isBd, isLt, isDg, aMany, isNm, isD9, ← Int32.not_le, Decidable.not_not] at hk c_10 c_17 c_26 ⊢); simp only [c_10, c_17, c_26, or_false, false_or, true_or, or_true, and_true, true_and, and_false, false_and, if_true, if_false, not_true_eq_false, not_false_eq_true, and_self, or_self] at hk ⊢; exact hk)
abbrev spX4_split : Sp := fun av T I L R uc us k => ∃ f : Int32, ∃ many : Int32, ∃ N : Nat, av = [.ref 0, .int f, .int many] ∧ T = TM ∧ R = RM ∧ (fun J => J 0 25 = nI N ∧ N ≤ 40 ∧ if ¬ isP J f ∨ many < 1 ∨ J 29 f.toNatClampNeg ≤ many ∨ J 0 25 = 40 then k (.inl (some (.int (-1)))) T J L R uc us else k (.inl (some (.int (nI N)))) T (gro (u2 J 29 f.toNatClampNeg (J 29 f.toNatClampNeg - many)) N 3 f (-1) many f.toNatClampNeg) L R uc us) (u2 I 0 0 0)
theorem eX4_split_0 : dc cX4_split 0 (.aload_n 0) 1 1 := ⟨by decide +kernel, rfl⟩
theorem eX4_split_1 : dc cX4_split 1 (.iconst 0) 1 2 := ⟨by decide +kernel, rfl⟩
theorem eX4_split_2 : dc cX4_split 2 (.putfield 1) 3 5 := ⟨by decide +kernel, rfl⟩
theorem eX4_split_5 : dc cX4_split 5 (.aload_n 0) 1 6 := ⟨by decide +kernel, rfl⟩
theorem eX4_split_6 : dc cX4_split 6 (.iload_n 1) 1 7 := ⟨by decide +kernel, rfl⟩
theorem eX4_split_7 : dc cX4_split 7 (.invokevirtual 268) 3 10 := ⟨by decide +kernel, rfl⟩
theorem eX4_split_10 : dj cX4_split 10 (.ifCond .eq 27) 27 37 13 := ⟨by decide +kernel, by decide, rfl⟩
theorem eX4_split_37 : dc cX4_split 37 (.iconst (-1)) 1 38 := ⟨by decide +kernel, rfl⟩
theorem eX4_split_38 : dc cX4_split 38 (.ireturn) 1 39 := ⟨by decide +kernel, rfl⟩
theorem eX4_split_13 : dc cX4_split 13 (.iload_n 2) 1 14 := ⟨by decide +kernel, rfl⟩
theorem eX4_split_14 : dc cX4_split 14 (.iconst 1) 1 15 := ⟨by decide +kernel, rfl⟩
theorem eX4_split_15 : dj cX4_split 15 (.if_icmp .lt 22) 22 37 18 := ⟨by decide +kernel, by decide, rfl⟩
theorem eX4_split_18 : dc cX4_split 18 (.iload_n 2) 1 19 := ⟨by decide +kernel, rfl⟩
theorem eX4_split_19 : dc cX4_split 19 (.aload_n 0) 1 20 := ⟨by decide +kernel, rfl⟩
theorem eX4_split_20 : dc cX4_split 20 (.getfield 99) 3 23 := ⟨by decide +kernel, rfl⟩
theorem eX4_split_23 : dc cX4_split 23 (.iload_n 1) 1 24 := ⟨by decide +kernel, rfl⟩
theorem eX4_split_24 : dc cX4_split 24 (.iaload) 1 25 := ⟨by decide +kernel, rfl⟩
theorem eX4_split_25 : dj cX4_split 25 (.if_icmp .ge 12) 12 37 28 := ⟨by decide +kernel, by decide, rfl⟩
theorem eX4_split_28 : dc cX4_split 28 (.aload_n 0) 1 29 := ⟨by decide +kernel, rfl⟩
theorem eX4_split_29 : dc cX4_split 29 (.getfield 258) 3 32 := ⟨by decide +kernel, rfl⟩
theorem eX4_split_32 : dc cX4_split 32 (.bipush 40) 2 34 := ⟨by decide +kernel, rfl⟩
theorem eX4_split_34 : dj cX4_split 34 (.if_icmp .ne 5) 5 39 37 := ⟨by decide +kernel, by decide, rfl⟩
theorem eX4_split_39 : dc cX4_split 39 (.aload_n 0) 1 40 := ⟨by decide +kernel, rfl⟩
theorem eX4_split_40 : dc cX4_split 40 (.getfield 99) 3 43 := ⟨by decide +kernel, rfl⟩
theorem eX4_split_43 : dc cX4_split 43 (.iload_n 1) 1 44 := ⟨by decide +kernel, rfl⟩
theorem eX4_split_44 : dc cX4_split 44 (.dup2) 1 45 := ⟨by decide +kernel, rfl⟩
theorem eX4_split_45 : dc cX4_split 45 (.iaload) 1 46 := ⟨by decide +kernel, rfl⟩
theorem eX4_split_46 : dc cX4_split 46 (.iload_n 2) 1 47 := ⟨by decide +kernel, rfl⟩
theorem eX4_split_47 : dc cX4_split 47 (.isub) 1 48 := ⟨by decide +kernel, rfl⟩
theorem eX4_split_48 : dc cX4_split 48 (.iastore) 1 49 := ⟨by decide +kernel, rfl⟩
theorem eX4_split_49 : dc cX4_split 49 (.aload_n 0) 1 50 := ⟨by decide +kernel, rfl⟩
theorem eX4_split_50 : dc cX4_split 50 (.iconst 3) 1 51 := ⟨by decide +kernel, rfl⟩
theorem eX4_split_51 : dc cX4_split 51 (.iload_n 1) 1 52 := ⟨by decide +kernel, rfl⟩
theorem eX4_split_52 : dc cX4_split 52 (.iconst (-1)) 1 53 := ⟨by decide +kernel, rfl⟩
theorem eX4_split_53 : dc cX4_split 53 (.iload_n 2) 1 54 := ⟨by decide +kernel, rfl⟩
theorem eX4_split_54 : dc cX4_split 54 (.invokevirtual 264) 3 57 := ⟨by decide +kernel, rfl⟩
theorem eX4_split_57 : dc cX4_split 57 (.ireturn) 1 58 := ⟨by decide +kernel, rfl⟩
set_option maxHeartbeats 8000000 in
theorem ctX4_split (l : Launch) : Ct l yX4_split (.code yX4_split cX4_split 3 (some .int)) 2 spX4_split := by
  refine Ct.of (own := RX4) (nm := "split") (by decide) rfl rfl ?_
  rintro X av T I L R uc us rfl g hN hu hz ⟨f, many, N, rfl, rfl, rfl, hk⟩
  refine VE.go (ls := [some (.ref 0), some (.int f), some (.int many)]) g hu hz (fun _ => rfl) (fun _ => Nat.le_of_ble_eq_true rfl) ?_
  refine V_aload_0 g eX4_split_0 ?_
  refine V_iconst (v := 0) g eX4_split_1 (by decide) ?_
  refine V_putI g eX4_split_2 pflX4_1 rfl rfl rfl rfl ?_
  generalize u2 I 0 0 0 = J at hk ⊢
  obtain ⟨hP, hN4, hk⟩ := hk
  refine V_aload_0 g eX4_split_5 ?_
  refine V_iload_1 g eX4_split_6 ?_
  refine V_cv1 g (ctX4_isPlant _) eX4_split_7 pkX4_268 rfl rfl (by decide) (by decide) (Nat.le_of_ble_eq_true rfl) ?_
  refine ⟨_, rfl, rfl, rfl, ?_⟩
  refine V_if_eqB g eX4_split_10 (fun c_10 => ?_) (fun c_10 => ?_)
  · refine V_iconst (v := (-1)) g eX4_split_37 (by decide) ?_
    refine V_iret g eX4_split_38 ?_
    first | contradiction | (simp only [c_10, or_false, false_or, true_or, or_true, and_true, true_and, and_false, false_and, if_true, if_false, not_true_eq_false, not_false_eq_true, and_self, or_self] at hk ⊢; exact hk) | (simp only [isP, isBd, isLt, isDg, aMany, isNm, isD9, c_10, or_false, false_or, true_or, or_true, and_true, true_and, and_false, false_and, if_true, if_false, not_true_eq_false, not_false_eq_true, and_self, or_self] at hk ⊢; exact hk) | ((try simp only [isP, isBd, isLt, isDg, aMany, isNm, isD9, ← Int32.not_le, Decidable.not_not] at hk c_10 ⊢); simp only [c_10, or_false, false_or, true_or, or_true, and_true, true_and, and_false, false_and, if_true, if_false, not_true_eq_false, not_false_eq_true, and_self, or_self] at hk ⊢; exact hk)
  · obtain ⟨F, hF, rfl⟩ := isP_nI hP (by omega) c_10
    rw [nI_clamp (by omega)] at hk
    refine V_iload_2 g eX4_split_13 ?_
    refine V_iconst (v := 1) g eX4_split_14 (by decide) ?_
    refine V_icmp_lt g eX4_split_15 (fun c_15 => ?_) (fun c_15 => ?_)
    · refine V_iconst (v := (-1)) g eX4_split_37 (by decide) ?_
      refine V_iret g eX4_split_38 ?_
      first | contradiction | (simp only [c_10, c_15, or_false, false_or, true_or, or_true, and_true, true_and, and_false, false_and, if_true, if_false, not_true_eq_false, not_false_eq_true, and_self, or_self] at hk ⊢; exact hk) | (simp only [isP, isBd, isLt, isDg, aMany, isNm, isD9, c_10, c_15, or_false, false_or, true_or, or_true, and_true, true_and, and_false, false_and, if_true, if_false, not_true_eq_false, not_false_eq_true, and_self, or_self] at hk ⊢; exact hk) | ((try simp only [isP, isBd, isLt, isDg, aMany, isNm, isD9, ← Int32.not_le, Decidable.not_not] at hk c_10 c_15 ⊢); simp only [c_10, c_15, or_false, false_or, true_or, or_true, and_true, true_and, and_false, false_and, if_true, if_false, not_true_eq_false, not_false_eq_true, and_self, or_self] at hk ⊢; exact hk)
    · refine V_iload_2 g eX4_split_18 ?_
      refine V_aload_0 g eX4_split_19 ?_
      refine V_getR g eX4_split_20 flX4_99 rfl rfl rfl ?_
      refine V_iload_1 g eX4_split_23 ?_
      refine V_ialdN g eX4_split_24 rfl (by omega) (by decide) ?_
      refine V_icmp_ge g eX4_split_25 (fun c_25 => ?_) (fun c_25 => ?_)
      · refine V_iconst (v := (-1)) g eX4_split_37 (by decide) ?_
        refine V_iret g eX4_split_38 ?_
        first | contradiction | (simp only [c_10, c_15, c_25, or_false, false_or, true_or, or_true, and_true, true_and, and_false, false_and, if_true, if_false, not_true_eq_false, not_false_eq_true, and_self, or_self] at hk ⊢; exact hk) | (simp only [isP, isBd, isLt, isDg, aMany, isNm, isD9, c_10, c_15, c_25, or_false, false_or, true_or, or_true, and_true, true_and, and_false, false_and, if_true, if_false, not_true_eq_false, not_false_eq_true, and_self, or_self] at hk ⊢; exact hk) | ((try simp only [isP, isBd, isLt, isDg, aMany, isNm, isD9, ← Int32.not_le, Decidable.not_not] at hk c_10 c_15 c_25 ⊢); simp only [c_10, c_15, c_25, or_false, false_or, true_or, or_true, and_true, true_and, and_false, false_and, if_true, if_false, not_true_eq_false, not_false_eq_true, and_self, or_self] at hk ⊢; exact hk)
      · refine V_aload_0 g eX4_split_28 ?_
        refine V_getI g eX4_split_29 flX4_258 rfl rfl ?_
        refine V_bipush (v := 40) g eX4_split_32 (by decide) ?_
        refine V_icmp_ne g eX4_split_34 (fun c_34 => ?_) (fun c_34 => ?_)
        · have q_34 : N ≠ 40 := fun q => c_34 (by rw [hP, q]; rfl)
          refine V_aload_0 g eX4_split_39 ?_
          refine V_getR g eX4_split_40 flX4_99 rfl rfl rfl ?_
          refine V_iload_1 g eX4_split_43 ?_
          refine V_dup2 g eX4_split_44 rfl rfl ?_
          refine V_ialdN g eX4_split_45 rfl (by omega) (by decide) ?_
          refine V_iload_2 g eX4_split_46 ?_
          refine V_isub g eX4_split_47 ?_
          refine V_iastN g eX4_split_48 rfl (by omega) (by decide) ?_
          refine V_aload_0 g eX4_split_49 ?_
          refine V_iconst (v := 3) g eX4_split_50 (by decide) ?_
          refine V_iload_1 g eX4_split_51 ?_
          refine V_iconst (v := (-1)) g eX4_split_52 (by decide) ?_
          refine V_iload_2 g eX4_split_53 ?_
          refine V_cv4 g (ctX4_grows _) eX4_split_54 pkX4_264 rfl rfl (by decide) (by decide) (Nat.le_of_ble_eq_true rfl) ?_
          refine ⟨_, _, _, _, N, F, rfl, rfl, rfl, by simp [u2, hP], by omega, fun _ => ⟨rfl, hF⟩, ?_⟩
          refine V_iret g eX4_split_57 ?_
          first | contradiction | (simp only [c_10, c_15, c_25, c_34, or_false, false_or, true_or, or_true, and_true, true_and, and_false, false_and, if_true, if_false, not_true_eq_false, not_false_eq_true, and_self, or_self] at hk ⊢; exact hk) | (simp only [isP, isBd, isLt, isDg, aMany, isNm, isD9, c_10, c_15, c_25, c_34, or_false, false_or, true_or, or_true, and_true, true_and, and_false, false_and, if_true, if_false, not_true_eq_false, not_false_eq_true, and_self, or_self] at hk ⊢; exact hk) | ((try simp only [isP, isBd, isLt, isDg, aMany, isNm, isD9, ← Int32.not_le, Decidable.not_not] at hk c_10 c_15 c_25 c_34 ⊢); simp only [c_10, c_15, c_25, c_34, or_false, false_or, true_or, or_true, and_true, true_and, and_false, false_and, if_true, if_false, not_true_eq_false, not_false_eq_true, and_self, or_self] at hk ⊢; exact hk)
        · refine V_iconst (v := (-1)) g eX4_split_37 (by decide) ?_
          refine V_iret g eX4_split_38 ?_
          first | contradiction | (simp only [c_10, c_15, c_25, c_34, or_false, false_or, true_or, or_true, and_true, true_and, and_false, false_and, if_true, if_false, not_true_eq_false, not_false_eq_true, and_self, or_self] at hk ⊢; exact hk) | (simp only [isP, isBd, isLt, isDg, aMany, isNm, isD9, c_10, c_15, c_25, c_34, or_false, false_or, true_or, or_true, and_true, true_and, and_false, false_and, if_true, if_false, not_true_eq_false, not_false_eq_true, and_self, or_self] at hk ⊢; exact hk) | ((try simp only [isP, isBd, isLt, isDg, aMany, isNm, isD9, ← Int32.not_le, Decidable.not_not] at hk c_10 c_15 c_25 c_34 ⊢); simp only [c_10, c_15, c_25, c_34, or_false, false_or, true_or, or_true, and_true, true_and, and_false, false_and, if_true, if_false, not_true_eq_false, not_false_eq_true, and_self, or_self] at hk ⊢; exact hk)
abbrev spX4_markOf : Sp := fun av T I L R uc us k => ∃ P : Nat, ∃ W : Nat, ∃ Q : Nat, av = [.ref 0, .int (nI P), .int (nI W), .int (nI Q)] ∧ T = TM ∧ R = RM ∧ P < 40 ∧ W < 4 ∧ Q < 2 ∧ k (.inl (some (.int (I 30 (8 * P + 2 * W + Q))))) T I L R uc us
theorem eX4_markOf_0 : dc cX4_markOf 0 (.aload_n 0) 1 1 := ⟨by decide +kernel, rfl⟩
theorem eX4_markOf_1 : dc cX4_markOf 1 (.getfield 102) 3 4 := ⟨by decide +kernel, rfl⟩
theorem eX4_markOf_4 : dc cX4_markOf 4 (.bipush 8) 2 6 := ⟨by decide +kernel, rfl⟩
theorem eX4_markOf_6 : dc cX4_markOf 6 (.iload_n 1) 1 7 := ⟨by decide +kernel, rfl⟩
theorem eX4_markOf_7 : dc cX4_markOf 7 (.imul) 1 8 := ⟨by decide +kernel, rfl⟩
theorem eX4_markOf_8 : dc cX4_markOf 8 (.iconst 2) 1 9 := ⟨by decide +kernel, rfl⟩
theorem eX4_markOf_9 : dc cX4_markOf 9 (.iload_n 2) 1 10 := ⟨by decide +kernel, rfl⟩
theorem eX4_markOf_10 : dc cX4_markOf 10 (.imul) 1 11 := ⟨by decide +kernel, rfl⟩
theorem eX4_markOf_11 : dc cX4_markOf 11 (.iadd) 1 12 := ⟨by decide +kernel, rfl⟩
theorem eX4_markOf_12 : dc cX4_markOf 12 (.iload_n 3) 1 13 := ⟨by decide +kernel, rfl⟩
theorem eX4_markOf_13 : dc cX4_markOf 13 (.iadd) 1 14 := ⟨by decide +kernel, rfl⟩
theorem eX4_markOf_14 : dc cX4_markOf 14 (.iaload) 1 15 := ⟨by decide +kernel, rfl⟩
theorem eX4_markOf_15 : dc cX4_markOf 15 (.ireturn) 1 16 := ⟨by decide +kernel, rfl⟩
set_option maxHeartbeats 8000000 in
theorem ctX4_markOf (l : Launch) : Ct l yX4_markOf (.code yX4_markOf cX4_markOf 4 (some .int)) 1 spX4_markOf := by
  refine Ct.of (own := RX4) (nm := "markOf") (by decide) rfl rfl ?_
  rintro X av T I L R uc us rfl g hN hu hz ⟨P, W, Q, rfl, rfl, rfl, hP, hW, hQ, hk⟩
  refine VE.go (ls := [some (.ref 0), some (.int (nI P)), some (.int (nI W)), some (.int (nI Q))]) g hu hz (fun _ => rfl) (fun _ => Nat.le_of_ble_eq_true rfl) ?_
  refine V_aload_0 g eX4_markOf_0 ?_
  refine V_getR g eX4_markOf_1 flX4_102 rfl rfl rfl ?_
  refine V_bipush (v := 8) g eX4_markOf_4 (by decide) ?_
  refine V_iload_1 g eX4_markOf_6 ?_
  refine V_imulN (a := 8) g eX4_markOf_7 ?_
  refine V_iconst (v := 2) g eX4_markOf_8 (by decide) ?_
  refine V_iload_2 g eX4_markOf_9 ?_
  refine V_imulN (a := 2) g eX4_markOf_10 ?_
  refine V_iaddN g eX4_markOf_11 ?_
  refine V_iload_3 g eX4_markOf_12 ?_
  refine V_iaddN g eX4_markOf_13 ?_
  refine V_ialdN g eX4_markOf_14 rfl (by omega) (by decide) ?_
  refine V_iret g eX4_markOf_15 ?_
  exact hk
abbrev hasM (I : It) (P W : Nat) (n : Int32) : Prop := I 30 (8 * P + 2 * W + 0) = n ∨ I 30 (8 * P + 2 * W + 1) = n
abbrev spX4_hasMark : Sp := fun av T I L R uc us k => ∃ P : Nat, ∃ W : Nat, ∃ n : Int32, av = [.ref 0, .int (nI P), .int (nI W), .int n] ∧ T = TM ∧ R = RM ∧ P < 40 ∧ W < 4 ∧ k (.inl (some (.int (bI (hasM I P W n))))) T I L R uc us
theorem eX4_hasMark_0 : dc cX4_hasMark 0 (.aload_n 0) 1 1 := ⟨by decide +kernel, rfl⟩
theorem eX4_hasMark_1 : dc cX4_hasMark 1 (.iload_n 1) 1 2 := ⟨by decide +kernel, rfl⟩
theorem eX4_hasMark_2 : dc cX4_hasMark 2 (.iload_n 2) 1 3 := ⟨by decide +kernel, rfl⟩
theorem eX4_hasMark_3 : dc cX4_hasMark 3 (.iconst 0) 1 4 := ⟨by decide +kernel, rfl⟩
theorem eX4_hasMark_4 : dc cX4_hasMark 4 (.invokevirtual 271) 3 7 := ⟨by decide +kernel, rfl⟩
theorem pkX4_271 : PkV RX4 271 yX4_markOf (.code yX4_markOf cX4_markOf 4 (some .int)) 4 "BedBookModel" 3 := ⟨cwd_c, (lk q1531), Or.inl (lk q1528), (lk q1530), (lk qs43), ⟨⟨by decide, by decide⟩, by decide +kernel⟩, (lk q67), by decide⟩
theorem eX4_hasMark_7 : dc cX4_hasMark 7 (.iload_n 3) 1 8 := ⟨by decide +kernel, rfl⟩
theorem eX4_hasMark_8 : dj cX4_hasMark 8 (.if_icmp .eq 14) 14 22 11 := ⟨by decide +kernel, by decide, rfl⟩
theorem eX4_hasMark_22 : dc cX4_hasMark 22 (.iconst 1) 1 23 := ⟨by decide +kernel, rfl⟩
theorem eX4_hasMark_23 : dj cX4_hasMark 23 (.goto 4) 4 27 26 := ⟨by decide +kernel, by decide, rfl⟩
theorem eX4_hasMark_27 : dc cX4_hasMark 27 (.ireturn) 1 28 := ⟨by decide +kernel, rfl⟩
theorem eX4_hasMark_11 : dc cX4_hasMark 11 (.aload_n 0) 1 12 := ⟨by decide +kernel, rfl⟩
theorem eX4_hasMark_12 : dc cX4_hasMark 12 (.iload_n 1) 1 13 := ⟨by decide +kernel, rfl⟩
theorem eX4_hasMark_13 : dc cX4_hasMark 13 (.iload_n 2) 1 14 := ⟨by decide +kernel, rfl⟩
theorem eX4_hasMark_14 : dc cX4_hasMark 14 (.iconst 1) 1 15 := ⟨by decide +kernel, rfl⟩
theorem eX4_hasMark_15 : dc cX4_hasMark 15 (.invokevirtual 271) 3 18 := ⟨by decide +kernel, rfl⟩
theorem eX4_hasMark_18 : dc cX4_hasMark 18 (.iload_n 3) 1 19 := ⟨by decide +kernel, rfl⟩
theorem eX4_hasMark_19 : dj cX4_hasMark 19 (.if_icmp .ne 7) 7 26 22 := ⟨by decide +kernel, by decide, rfl⟩
theorem eX4_hasMark_26 : dc cX4_hasMark 26 (.iconst 0) 1 27 := ⟨by decide +kernel, rfl⟩
set_option maxHeartbeats 8000000 in
theorem ctX4_hasMark (l : Launch) : Ct l yX4_hasMark (.code yX4_hasMark cX4_hasMark 4 (some .boolean)) 2 spX4_hasMark := by
  refine Ct.of (own := RX4) (nm := "hasMark") (by decide) rfl rfl ?_
  rintro X av T I L R uc us rfl g hN hu hz ⟨P, W, n, rfl, rfl, rfl, hP, hW, hk⟩
  refine VE.go (ls := [some (.ref 0), some (.int (nI P)), some (.int (nI W)), some (.int n)]) g hu hz (fun _ => rfl) (fun _ => Nat.le_of_ble_eq_true rfl) ?_
  refine V_aload_0 g eX4_hasMark_0 ?_
  refine V_iload_1 g eX4_hasMark_1 ?_
  refine V_iload_2 g eX4_hasMark_2 ?_
  refine V_iconst (v := 0) g eX4_hasMark_3 (by decide) ?_
  refine V_cv3 g (ctX4_markOf _) eX4_hasMark_4 pkX4_271 rfl rfl (by decide) (by decide) (Nat.le_of_ble_eq_true rfl) ?_
  refine ⟨P, W, 0, rfl, rfl, rfl, hP, hW, by omega, ?_⟩
  refine V_iload_3 g eX4_hasMark_7 ?_
  refine V_icmp_eq g eX4_hasMark_8 (fun c_8 => ?_) (fun c_8 => ?_)
  · refine V_iconst (v := 1) g eX4_hasMark_22 (by decide) ?_
    refine V_goto g eX4_hasMark_23 ?_
    refine V_zret g eX4_hasMark_27 rfl ?_
    first | contradiction | exact kI hk (by first | (simp only [bI, c_8, or_false, false_or, true_or, or_true, and_true, true_and, and_false, false_and, if_true, if_false, not_true_eq_false, not_false_eq_true, and_self, or_self]; done) | (simp only [bI, isP, isBd, isLt, isDg, aMany, isNm, isD9, hasM, c_8, or_false, false_or, true_or, or_true, and_true, true_and, and_false, false_and, if_true, if_false, not_true_eq_false, not_false_eq_true, and_self, or_self]; done) | ((try simp only [isP, isBd, isLt, isDg, aMany, isNm, isD9, hasM, ← Int32.not_le, Decidable.not_not] at c_8 ⊢); simp only [bI, c_8, or_false, false_or, true_or, or_true, and_true, true_and, and_false, false_and, if_true, if_false, not_true_eq_false, not_false_eq_true, and_self, or_self]; done))
  · refine V_aload_0 g eX4_hasMark_11 ?_
    refine V_iload_1 g eX4_hasMark_12 ?_
    refine V_iload_2 g eX4_hasMark_13 ?_
    refine V_iconst (v := 1) g eX4_hasMark_14 (by decide) ?_
    refine V_cv3 g (ctX4_markOf _) eX4_hasMark_15 pkX4_271 rfl rfl (by decide) (by decide) (Nat.le_of_ble_eq_true rfl) ?_
    refine ⟨P, W, 1, rfl, rfl, rfl, hP, hW, by omega, ?_⟩
    refine V_iload_3 g eX4_hasMark_18 ?_
    refine V_icmp_ne g eX4_hasMark_19 (fun c_19 => ?_) (fun c_19 => ?_)
    · refine V_iconst (v := 0) g eX4_hasMark_26 (by decide) ?_
      refine V_zret g eX4_hasMark_27 rfl ?_
      first | contradiction | exact kI hk (by first | (simp only [bI, c_8, c_19, or_false, false_or, true_or, or_true, and_true, true_and, and_false, false_and, if_true, if_false, not_true_eq_false, not_false_eq_true, and_self, or_self]; done) | (simp only [bI, isP, isBd, isLt, isDg, aMany, isNm, isD9, hasM, c_8, c_19, or_false, false_or, true_or, or_true, and_true, true_and, and_false, false_and, if_true, if_false, not_true_eq_false, not_false_eq_true, and_self, or_self]; done) | ((try simp only [isP, isBd, isLt, isDg, aMany, isNm, isD9, hasM, ← Int32.not_le, Decidable.not_not] at c_8 c_19 ⊢); simp only [bI, c_8, c_19, or_false, false_or, true_or, or_true, and_true, true_and, and_false, false_and, if_true, if_false, not_true_eq_false, not_false_eq_true, and_self, or_self]; done))
    · refine V_iconst (v := 1) g eX4_hasMark_22 (by decide) ?_
      refine V_goto g eX4_hasMark_23 ?_
      refine V_zret g eX4_hasMark_27 rfl ?_
      first | contradiction | exact kI hk (by first | (simp only [bI, c_8, c_19, or_false, false_or, true_or, or_true, and_true, true_and, and_false, false_and, if_true, if_false, not_true_eq_false, not_false_eq_true, and_self, or_self]; done) | (simp only [bI, isP, isBd, isLt, isDg, aMany, isNm, isD9, hasM, c_8, c_19, or_false, false_or, true_or, or_true, and_true, true_and, and_false, false_and, if_true, if_false, not_true_eq_false, not_false_eq_true, and_self, or_self]; done) | ((try simp only [isP, isBd, isLt, isDg, aMany, isNm, isD9, hasM, ← Int32.not_le, Decidable.not_not] at c_8 c_19 ⊢); simp only [bI, c_8, c_19, or_false, false_or, true_or, or_true, and_true, true_and, and_false, false_and, if_true, if_false, not_true_eq_false, not_false_eq_true, and_self, or_self]; done))
abbrev spX4_mark : Sp := fun av T I L R uc us k => ∃ p : Int32, ∃ row : Int32, ∃ a : Int32, ∃ b : Int32, ∃ N : Nat, av = [.ref 0, .int p, .int row, .int a, .int b] ∧ T = TM ∧ R = RM ∧ (fun J => J 0 25 = nI N ∧ N ≤ 40 ∧ if ¬ isP J p ∨ row < 0 ∨ 3 < row ∨ a < 0 ∨ 9 < a ∨ b < 0 ∨ 9 < b then k (.inl (some (.int 0))) T J L R uc us else k (.inl (some (.int 1))) T (u2 (u2 J 30 (8 * p.toNatClampNeg + 2 * row.toNatClampNeg) (if b ≤ a then b else a)) 30 (8 * p.toNatClampNeg + 2 * row.toNatClampNeg + 1) (if b ≤ a then a else b)) L R uc us) (u2 I 0 0 0)
theorem eX4_mark_0 : dc cX4_mark 0 (.aload_n 0) 1 1 := ⟨by decide +kernel, rfl⟩
theorem eX4_mark_1 : dc cX4_mark 1 (.iconst 0) 1 2 := ⟨by decide +kernel, rfl⟩
theorem eX4_mark_2 : dc cX4_mark 2 (.putfield 1) 3 5 := ⟨by decide +kernel, rfl⟩
theorem eX4_mark_5 : dc cX4_mark 5 (.aload_n 0) 1 6 := ⟨by decide +kernel, rfl⟩
theorem eX4_mark_6 : dc cX4_mark 6 (.iload_n 1) 1 7 := ⟨by decide +kernel, rfl⟩
theorem eX4_mark_7 : dc cX4_mark 7 (.invokevirtual 268) 3 10 := ⟨by decide +kernel, rfl⟩
theorem eX4_mark_10 : dj cX4_mark 10 (.ifCond .eq 34) 34 44 13 := ⟨by decide +kernel, by decide, rfl⟩
theorem eX4_mark_44 : dc cX4_mark 44 (.iconst 0) 1 45 := ⟨by decide +kernel, rfl⟩
theorem eX4_mark_45 : dc cX4_mark 45 (.ireturn) 1 46 := ⟨by decide +kernel, rfl⟩
theorem eX4_mark_13 : dc cX4_mark 13 (.iload_n 2) 1 14 := ⟨by decide +kernel, rfl⟩
theorem eX4_mark_14 : dj cX4_mark 14 (.ifCond .lt 30) 30 44 17 := ⟨by decide +kernel, by decide, rfl⟩
theorem eX4_mark_17 : dc cX4_mark 17 (.iload_n 2) 1 18 := ⟨by decide +kernel, rfl⟩
theorem eX4_mark_18 : dc cX4_mark 18 (.iconst 3) 1 19 := ⟨by decide +kernel, rfl⟩
theorem eX4_mark_19 : dj cX4_mark 19 (.if_icmp .gt 25) 25 44 22 := ⟨by decide +kernel, by decide, rfl⟩
theorem eX4_mark_22 : dc cX4_mark 22 (.iload_n 3) 1 23 := ⟨by decide +kernel, rfl⟩
theorem eX4_mark_23 : dj cX4_mark 23 (.ifCond .lt 21) 21 44 26 := ⟨by decide +kernel, by decide, rfl⟩
theorem eX4_mark_26 : dc cX4_mark 26 (.iload_n 3) 1 27 := ⟨by decide +kernel, rfl⟩
theorem eX4_mark_27 : dc cX4_mark 27 (.bipush 9) 2 29 := ⟨by decide +kernel, rfl⟩
theorem eX4_mark_29 : dj cX4_mark 29 (.if_icmp .gt 15) 15 44 32 := ⟨by decide +kernel, by decide, rfl⟩
theorem eX4_mark_32 : dc cX4_mark 32 (.iload 4) 2 34 := ⟨by decide +kernel, rfl⟩
theorem eX4_mark_34 : dj cX4_mark 34 (.ifCond .lt 10) 10 44 37 := ⟨by decide +kernel, by decide, rfl⟩
theorem eX4_mark_37 : dc cX4_mark 37 (.iload 4) 2 39 := ⟨by decide +kernel, rfl⟩
theorem eX4_mark_39 : dc cX4_mark 39 (.bipush 9) 2 41 := ⟨by decide +kernel, rfl⟩
theorem eX4_mark_41 : dj cX4_mark 41 (.if_icmp .le 5) 5 46 44 := ⟨by decide +kernel, by decide, rfl⟩
theorem eX4_mark_46 : dc cX4_mark 46 (.aload_n 0) 1 47 := ⟨by decide +kernel, rfl⟩
theorem eX4_mark_47 : dc cX4_mark 47 (.getfield 102) 3 50 := ⟨by decide +kernel, rfl⟩
theorem eX4_mark_50 : dc cX4_mark 50 (.bipush 8) 2 52 := ⟨by decide +kernel, rfl⟩
theorem eX4_mark_52 : dc cX4_mark 52 (.iload_n 1) 1 53 := ⟨by decide +kernel, rfl⟩
theorem eX4_mark_53 : dc cX4_mark 53 (.imul) 1 54 := ⟨by decide +kernel, rfl⟩
theorem eX4_mark_54 : dc cX4_mark 54 (.iconst 2) 1 55 := ⟨by decide +kernel, rfl⟩
theorem eX4_mark_55 : dc cX4_mark 55 (.iload_n 2) 1 56 := ⟨by decide +kernel, rfl⟩
theorem eX4_mark_56 : dc cX4_mark 56 (.imul) 1 57 := ⟨by decide +kernel, rfl⟩
theorem eX4_mark_57 : dc cX4_mark 57 (.iadd) 1 58 := ⟨by decide +kernel, rfl⟩
theorem eX4_mark_58 : dc cX4_mark 58 (.iload_n 3) 1 59 := ⟨by decide +kernel, rfl⟩
theorem eX4_mark_59 : dc cX4_mark 59 (.iload 4) 2 61 := ⟨by decide +kernel, rfl⟩
theorem eX4_mark_61 : dj cX4_mark 61 (.if_icmp .ge 7) 7 68 64 := ⟨by decide +kernel, by decide, rfl⟩
theorem eX4_mark_68 : dc cX4_mark 68 (.iload 4) 2 70 := ⟨by decide +kernel, rfl⟩
theorem eX4_mark_70 : dc cX4_mark 70 (.iastore) 1 71 := ⟨by decide +kernel, rfl⟩
theorem eX4_mark_71 : dc cX4_mark 71 (.aload_n 0) 1 72 := ⟨by decide +kernel, rfl⟩
theorem eX4_mark_72 : dc cX4_mark 72 (.getfield 102) 3 75 := ⟨by decide +kernel, rfl⟩
theorem eX4_mark_75 : dc cX4_mark 75 (.bipush 8) 2 77 := ⟨by decide +kernel, rfl⟩
theorem eX4_mark_77 : dc cX4_mark 77 (.iload_n 1) 1 78 := ⟨by decide +kernel, rfl⟩
theorem eX4_mark_78 : dc cX4_mark 78 (.imul) 1 79 := ⟨by decide +kernel, rfl⟩
theorem eX4_mark_79 : dc cX4_mark 79 (.iconst 2) 1 80 := ⟨by decide +kernel, rfl⟩
theorem eX4_mark_80 : dc cX4_mark 80 (.iload_n 2) 1 81 := ⟨by decide +kernel, rfl⟩
theorem eX4_mark_81 : dc cX4_mark 81 (.imul) 1 82 := ⟨by decide +kernel, rfl⟩
theorem eX4_mark_82 : dc cX4_mark 82 (.iadd) 1 83 := ⟨by decide +kernel, rfl⟩
theorem eX4_mark_83 : dc cX4_mark 83 (.iconst 1) 1 84 := ⟨by decide +kernel, rfl⟩
theorem eX4_mark_84 : dc cX4_mark 84 (.iadd) 1 85 := ⟨by decide +kernel, rfl⟩
theorem eX4_mark_85 : dc cX4_mark 85 (.iload_n 3) 1 86 := ⟨by decide +kernel, rfl⟩
theorem eX4_mark_86 : dc cX4_mark 86 (.iload 4) 2 88 := ⟨by decide +kernel, rfl⟩
theorem eX4_mark_88 : dj cX4_mark 88 (.if_icmp .ge 8) 8 96 91 := ⟨by decide +kernel, by decide, rfl⟩
theorem eX4_mark_96 : dc cX4_mark 96 (.iload_n 3) 1 97 := ⟨by decide +kernel, rfl⟩
theorem eX4_mark_97 : dc cX4_mark 97 (.iastore) 1 98 := ⟨by decide +kernel, rfl⟩
theorem eX4_mark_98 : dc cX4_mark 98 (.iconst 1) 1 99 := ⟨by decide +kernel, rfl⟩
theorem eX4_mark_99 : dc cX4_mark 99 (.ireturn) 1 100 := ⟨by decide +kernel, rfl⟩
theorem eX4_mark_91 : dc cX4_mark 91 (.iload 4) 2 93 := ⟨by decide +kernel, rfl⟩
theorem eX4_mark_93 : dj cX4_mark 93 (.goto 4) 4 97 96 := ⟨by decide +kernel, by decide, rfl⟩
theorem eX4_mark_64 : dc cX4_mark 64 (.iload_n 3) 1 65 := ⟨by decide +kernel, rfl⟩
theorem eX4_mark_65 : dj cX4_mark 65 (.goto 5) 5 70 68 := ⟨by decide +kernel, by decide, rfl⟩
set_option maxHeartbeats 8000000 in
theorem ctX4_mark (l : Launch) : Ct l yX4_mark (.code yX4_mark cX4_mark 5 (some .boolean)) 2 spX4_mark := by
  refine Ct.of (own := RX4) (nm := "mark") (by decide) rfl rfl ?_
  rintro X av T I L R uc us rfl g hN hu hz ⟨p, row, a, b, N, rfl, rfl, rfl, hk⟩
  refine VE.go (ls := [some (.ref 0), some (.int p), some (.int row), some (.int a), some (.int b)]) g hu hz (fun _ => rfl) (fun _ => Nat.le_of_ble_eq_true rfl) ?_
  refine V_aload_0 g eX4_mark_0 ?_
  refine V_iconst (v := 0) g eX4_mark_1 (by decide) ?_
  refine V_putI g eX4_mark_2 pflX4_1 rfl rfl rfl rfl ?_
  generalize u2 I 0 0 0 = J at hk ⊢
  obtain ⟨hP, hN4, hk⟩ := hk
  refine V_aload_0 g eX4_mark_5 ?_
  refine V_iload_1 g eX4_mark_6 ?_
  refine V_cv1 g (ctX4_isPlant _) eX4_mark_7 pkX4_268 rfl rfl (by decide) (by decide) (Nat.le_of_ble_eq_true rfl) ?_
  refine ⟨_, rfl, rfl, rfl, ?_⟩
  refine V_if_eqB g eX4_mark_10 (fun c_10 => ?_) (fun c_10 => ?_)
  · refine V_iconst (v := 0) g eX4_mark_44 (by decide) ?_
    refine V_zret g eX4_mark_45 rfl ?_
    first | contradiction | (simp only [c_10, or_false, false_or, true_or, or_true, and_true, true_and, and_false, false_and, if_true, if_false, not_true_eq_false, not_false_eq_true, and_self, or_self] at hk ⊢; exact hk) | (simp only [isP, isBd, isLt, isDg, aMany, isNm, isD9, hasM, c_10, or_false, false_or, true_or, or_true, and_true, true_and, and_false, false_and, if_true, if_false, not_true_eq_false, not_false_eq_true, and_self, or_self] at hk ⊢; exact hk) | ((try simp only [isP, isBd, isLt, isDg, aMany, isNm, isD9, hasM, ← Int32.not_le, Decidable.not_not] at hk c_10 ⊢); simp only [c_10, or_false, false_or, true_or, or_true, and_true, true_and, and_false, false_and, if_true, if_false, not_true_eq_false, not_false_eq_true, and_self, or_self] at hk ⊢; exact hk)
  · refine V_iload_2 g eX4_mark_13 ?_
    refine V_if_lt g eX4_mark_14 (fun c_14 => ?_) (fun c_14 => ?_)
    · refine V_iconst (v := 0) g eX4_mark_44 (by decide) ?_
      refine V_zret g eX4_mark_45 rfl ?_
      first | contradiction | (simp only [c_10, c_14, or_false, false_or, true_or, or_true, and_true, true_and, and_false, false_and, if_true, if_false, not_true_eq_false, not_false_eq_true, and_self, or_self] at hk ⊢; exact hk) | (simp only [isP, isBd, isLt, isDg, aMany, isNm, isD9, hasM, c_10, c_14, or_false, false_or, true_or, or_true, and_true, true_and, and_false, false_and, if_true, if_false, not_true_eq_false, not_false_eq_true, and_self, or_self] at hk ⊢; exact hk) | ((try simp only [isP, isBd, isLt, isDg, aMany, isNm, isD9, hasM, ← Int32.not_le, Decidable.not_not] at hk c_10 c_14 ⊢); simp only [c_10, c_14, or_false, false_or, true_or, or_true, and_true, true_and, and_false, false_and, if_true, if_false, not_true_eq_false, not_false_eq_true, and_self, or_self] at hk ⊢; exact hk)
    · refine V_iload_2 g eX4_mark_17 ?_
      refine V_iconst (v := 3) g eX4_mark_18 (by decide) ?_
      refine V_icmp_gt g eX4_mark_19 (fun c_19 => ?_) (fun c_19 => ?_)
      · refine V_iconst (v := 0) g eX4_mark_44 (by decide) ?_
        refine V_zret g eX4_mark_45 rfl ?_
        first | contradiction | (simp only [c_10, c_14, c_19, or_false, false_or, true_or, or_true, and_true, true_and, and_false, false_and, if_true, if_false, not_true_eq_false, not_false_eq_true, and_self, or_self] at hk ⊢; exact hk) | (simp only [isP, isBd, isLt, isDg, aMany, isNm, isD9, hasM, c_10, c_14, c_19, or_false, false_or, true_or, or_true, and_true, true_and, and_false, false_and, if_true, if_false, not_true_eq_false, not_false_eq_true, and_self, or_self] at hk ⊢; exact hk) | ((try simp only [isP, isBd, isLt, isDg, aMany, isNm, isD9, hasM, ← Int32.not_le, Decidable.not_not] at hk c_10 c_14 c_19 ⊢); simp only [c_10, c_14, c_19, or_false, false_or, true_or, or_true, and_true, true_and, and_false, false_and, if_true, if_false, not_true_eq_false, not_false_eq_true, and_self, or_self] at hk ⊢; exact hk)
      · refine V_iload_3 g eX4_mark_22 ?_
        refine V_if_lt g eX4_mark_23 (fun c_23 => ?_) (fun c_23 => ?_)
        · refine V_iconst (v := 0) g eX4_mark_44 (by decide) ?_
          refine V_zret g eX4_mark_45 rfl ?_
          first | contradiction | (simp only [c_10, c_14, c_19, c_23, or_false, false_or, true_or, or_true, and_true, true_and, and_false, false_and, if_true, if_false, not_true_eq_false, not_false_eq_true, and_self, or_self] at hk ⊢; exact hk) | (simp only [isP, isBd, isLt, isDg, aMany, isNm, isD9, hasM, c_10, c_14, c_19, c_23, or_false, false_or, true_or, or_true, and_true, true_and, and_false, false_and, if_true, if_false, not_true_eq_false, not_false_eq_true, and_self, or_self] at hk ⊢; exact hk) | ((try simp only [isP, isBd, isLt, isDg, aMany, isNm, isD9, hasM, ← Int32.not_le, Decidable.not_not] at hk c_10 c_14 c_19 c_23 ⊢); simp only [c_10, c_14, c_19, c_23, or_false, false_or, true_or, or_true, and_true, true_and, and_false, false_and, if_true, if_false, not_true_eq_false, not_false_eq_true, and_self, or_self] at hk ⊢; exact hk)
        · refine V_iload_3 g eX4_mark_26 ?_
          refine V_bipush (v := 9) g eX4_mark_27 (by decide) ?_
          refine V_icmp_gt g eX4_mark_29 (fun c_29 => ?_) (fun c_29 => ?_)
          · refine V_iconst (v := 0) g eX4_mark_44 (by decide) ?_
            refine V_zret g eX4_mark_45 rfl ?_
            first | contradiction | (simp only [c_10, c_14, c_19, c_23, c_29, or_false, false_or, true_or, or_true, and_true, true_and, and_false, false_and, if_true, if_false, not_true_eq_false, not_false_eq_true, and_self, or_self] at hk ⊢; exact hk) | (simp only [isP, isBd, isLt, isDg, aMany, isNm, isD9, hasM, c_10, c_14, c_19, c_23, c_29, or_false, false_or, true_or, or_true, and_true, true_and, and_false, false_and, if_true, if_false, not_true_eq_false, not_false_eq_true, and_self, or_self] at hk ⊢; exact hk) | ((try simp only [isP, isBd, isLt, isDg, aMany, isNm, isD9, hasM, ← Int32.not_le, Decidable.not_not] at hk c_10 c_14 c_19 c_23 c_29 ⊢); simp only [c_10, c_14, c_19, c_23, c_29, or_false, false_or, true_or, or_true, and_true, true_and, and_false, false_and, if_true, if_false, not_true_eq_false, not_false_eq_true, and_self, or_self] at hk ⊢; exact hk)
          · refine V_iload_4 g eX4_mark_32 ?_
            refine V_if_lt g eX4_mark_34 (fun c_34 => ?_) (fun c_34 => ?_)
            · refine V_iconst (v := 0) g eX4_mark_44 (by decide) ?_
              refine V_zret g eX4_mark_45 rfl ?_
              first | contradiction | (simp only [c_10, c_14, c_19, c_23, c_29, c_34, or_false, false_or, true_or, or_true, and_true, true_and, and_false, false_and, if_true, if_false, not_true_eq_false, not_false_eq_true, and_self, or_self] at hk ⊢; exact hk) | (simp only [isP, isBd, isLt, isDg, aMany, isNm, isD9, hasM, c_10, c_14, c_19, c_23, c_29, c_34, or_false, false_or, true_or, or_true, and_true, true_and, and_false, false_and, if_true, if_false, not_true_eq_false, not_false_eq_true, and_self, or_self] at hk ⊢; exact hk) | ((try simp only [isP, isBd, isLt, isDg, aMany, isNm, isD9, hasM, ← Int32.not_le, Decidable.not_not] at hk c_10 c_14 c_19 c_23 c_29 c_34 ⊢); simp only [c_10, c_14, c_19, c_23, c_29, c_34, or_false, false_or, true_or, or_true, and_true, true_and, and_false, false_and, if_true, if_false, not_true_eq_false, not_false_eq_true, and_self, or_self] at hk ⊢; exact hk)
            · refine V_iload_4 g eX4_mark_37 ?_
              refine V_bipush (v := 9) g eX4_mark_39 (by decide) ?_
              refine V_icmp_le g eX4_mark_41 (fun c_41 => ?_) (fun c_41 => ?_)
              · obtain ⟨P, hPN, rfl⟩ := isP_nI hP (by omega) c_10
                obtain ⟨W, hW, rfl⟩ := d4_nI c_14 c_19
                rw [nI_clamp (by omega), nI_clamp (by omega)] at hk
                refine V_aload_0 g eX4_mark_46 ?_
                refine V_getR g eX4_mark_47 flX4_102 rfl rfl rfl ?_
                refine V_bipush (v := 8) g eX4_mark_50 (by decide) ?_
                refine V_iload_1 g eX4_mark_52 ?_
                refine V_imulN (a := 8) g eX4_mark_53 ?_
                refine V_iconst (v := 2) g eX4_mark_54 (by decide) ?_
                refine V_iload_2 g eX4_mark_55 ?_
                refine V_imulN (a := 2) g eX4_mark_56 ?_
                refine V_iaddN g eX4_mark_57 ?_
                refine V_iload_3 g eX4_mark_58 ?_
                refine V_iload_4 g eX4_mark_59 ?_
                refine V_icmp_ge g eX4_mark_61 (fun c_61 => ?_) (fun c_61 => ?_)
                · refine V_iload_4 g eX4_mark_68 ?_
                  refine V_iastN g eX4_mark_70 rfl (by omega) (by decide) ?_
                  refine V_aload_0 g eX4_mark_71 ?_
                  refine V_getR g eX4_mark_72 flX4_102 rfl rfl rfl ?_
                  refine V_bipush (v := 8) g eX4_mark_75 (by decide) ?_
                  refine V_iload_1 g eX4_mark_77 ?_
                  refine V_imulN (a := 8) g eX4_mark_78 ?_
                  refine V_iconst (v := 2) g eX4_mark_79 (by decide) ?_
                  refine V_iload_2 g eX4_mark_80 ?_
                  refine V_imulN (a := 2) g eX4_mark_81 ?_
                  refine V_iaddN g eX4_mark_82 ?_
                  refine V_iconst (v := 1) g eX4_mark_83 (by decide) ?_
                  refine V_iaddN (b := 1) g eX4_mark_84 ?_
                  refine V_iload_3 g eX4_mark_85 ?_
                  refine V_iload_4 g eX4_mark_86 ?_
                  refine V_icmp_ge g eX4_mark_88 (fun c_88 => ?_) (fun c_88 => ?_)
                  · refine V_iload_3 g eX4_mark_96 ?_
                    refine V_iastN g eX4_mark_97 rfl (by omega) (by decide) ?_
                    refine V_iconst (v := 1) g eX4_mark_98 (by decide) ?_
                    refine V_zret g eX4_mark_99 rfl ?_
                    first | contradiction | (simp only [c_10, c_14, c_19, c_23, c_29, c_34, c_41, c_61, c_88, or_false, false_or, true_or, or_true, and_true, true_and, and_false, false_and, if_true, if_false, not_true_eq_false, not_false_eq_true, and_self, or_self] at hk ⊢; exact hk) | (simp only [isP, isBd, isLt, isDg, aMany, isNm, isD9, hasM, c_10, c_14, c_19, c_23, c_29, c_34, c_41, c_61, c_88, or_false, false_or, true_or, or_true, and_true, true_and, and_false, false_and, if_true, if_false, not_true_eq_false, not_false_eq_true, and_self, or_self] at hk ⊢; exact hk) | ((try simp only [isP, isBd, isLt, isDg, aMany, isNm, isD9, hasM, ← Int32.not_le, Decidable.not_not] at hk c_10 c_14 c_19 c_23 c_29 c_34 c_41 c_61 c_88 ⊢); simp only [c_10, c_14, c_19, c_23, c_29, c_34, c_41, c_61, c_88, or_false, false_or, true_or, or_true, and_true, true_and, and_false, false_and, if_true, if_false, not_true_eq_false, not_false_eq_true, and_self, or_self] at hk ⊢; exact hk)
                  · refine V_iload_4 g eX4_mark_91 ?_
                    refine V_goto g eX4_mark_93 ?_
                    refine V_iastN g eX4_mark_97 rfl (by omega) (by decide) ?_
                    refine V_iconst (v := 1) g eX4_mark_98 (by decide) ?_
                    refine V_zret g eX4_mark_99 rfl ?_
                    first | contradiction | (simp only [c_10, c_14, c_19, c_23, c_29, c_34, c_41, c_61, c_88, or_false, false_or, true_or, or_true, and_true, true_and, and_false, false_and, if_true, if_false, not_true_eq_false, not_false_eq_true, and_self, or_self] at hk ⊢; exact hk) | (simp only [isP, isBd, isLt, isDg, aMany, isNm, isD9, hasM, c_10, c_14, c_19, c_23, c_29, c_34, c_41, c_61, c_88, or_false, false_or, true_or, or_true, and_true, true_and, and_false, false_and, if_true, if_false, not_true_eq_false, not_false_eq_true, and_self, or_self] at hk ⊢; exact hk) | ((try simp only [isP, isBd, isLt, isDg, aMany, isNm, isD9, hasM, ← Int32.not_le, Decidable.not_not] at hk c_10 c_14 c_19 c_23 c_29 c_34 c_41 c_61 c_88 ⊢); simp only [c_10, c_14, c_19, c_23, c_29, c_34, c_41, c_61, c_88, or_false, false_or, true_or, or_true, and_true, true_and, and_false, false_and, if_true, if_false, not_true_eq_false, not_false_eq_true, and_self, or_self] at hk ⊢; exact hk)
                · refine V_iload_3 g eX4_mark_64 ?_
                  refine V_goto g eX4_mark_65 ?_
                  refine V_iastN g eX4_mark_70 rfl (by omega) (by decide) ?_
                  refine V_aload_0 g eX4_mark_71 ?_
                  refine V_getR g eX4_mark_72 flX4_102 rfl rfl rfl ?_
                  refine V_bipush (v := 8) g eX4_mark_75 (by decide) ?_
                  refine V_iload_1 g eX4_mark_77 ?_
                  refine V_imulN (a := 8) g eX4_mark_78 ?_
                  refine V_iconst (v := 2) g eX4_mark_79 (by decide) ?_
                  refine V_iload_2 g eX4_mark_80 ?_
                  refine V_imulN (a := 2) g eX4_mark_81 ?_
                  refine V_iaddN g eX4_mark_82 ?_
                  refine V_iconst (v := 1) g eX4_mark_83 (by decide) ?_
                  refine V_iaddN (b := 1) g eX4_mark_84 ?_
                  refine V_iload_3 g eX4_mark_85 ?_
                  refine V_iload_4 g eX4_mark_86 ?_
                  refine V_icmp_ge g eX4_mark_88 (fun c_88 => ?_) (fun c_88 => ?_)
                  · refine V_iload_3 g eX4_mark_96 ?_
                    refine V_iastN g eX4_mark_97 rfl (by omega) (by decide) ?_
                    refine V_iconst (v := 1) g eX4_mark_98 (by decide) ?_
                    refine V_zret g eX4_mark_99 rfl ?_
                    first | contradiction | (simp only [c_10, c_14, c_19, c_23, c_29, c_34, c_41, c_61, c_88, or_false, false_or, true_or, or_true, and_true, true_and, and_false, false_and, if_true, if_false, not_true_eq_false, not_false_eq_true, and_self, or_self] at hk ⊢; exact hk) | (simp only [isP, isBd, isLt, isDg, aMany, isNm, isD9, hasM, c_10, c_14, c_19, c_23, c_29, c_34, c_41, c_61, c_88, or_false, false_or, true_or, or_true, and_true, true_and, and_false, false_and, if_true, if_false, not_true_eq_false, not_false_eq_true, and_self, or_self] at hk ⊢; exact hk) | ((try simp only [isP, isBd, isLt, isDg, aMany, isNm, isD9, hasM, ← Int32.not_le, Decidable.not_not] at hk c_10 c_14 c_19 c_23 c_29 c_34 c_41 c_61 c_88 ⊢); simp only [c_10, c_14, c_19, c_23, c_29, c_34, c_41, c_61, c_88, or_false, false_or, true_or, or_true, and_true, true_and, and_false, false_and, if_true, if_false, not_true_eq_false, not_false_eq_true, and_self, or_self] at hk ⊢; exact hk)
                  · refine V_iload_4 g eX4_mark_91 ?_
                    refine V_goto g eX4_mark_93 ?_
                    refine V_iastN g eX4_mark_97 rfl (by omega) (by decide) ?_
                    refine V_iconst (v := 1) g eX4_mark_98 (by decide) ?_
                    refine V_zret g eX4_mark_99 rfl ?_
                    first | contradiction | (simp only [c_10, c_14, c_19, c_23, c_29, c_34, c_41, c_61, c_88, or_false, false_or, true_or, or_true, and_true, true_and, and_false, false_and, if_true, if_false, not_true_eq_false, not_false_eq_true, and_self, or_self] at hk ⊢; exact hk) | (simp only [isP, isBd, isLt, isDg, aMany, isNm, isD9, hasM, c_10, c_14, c_19, c_23, c_29, c_34, c_41, c_61, c_88, or_false, false_or, true_or, or_true, and_true, true_and, and_false, false_and, if_true, if_false, not_true_eq_false, not_false_eq_true, and_self, or_self] at hk ⊢; exact hk) | ((try simp only [isP, isBd, isLt, isDg, aMany, isNm, isD9, hasM, ← Int32.not_le, Decidable.not_not] at hk c_10 c_14 c_19 c_23 c_29 c_34 c_41 c_61 c_88 ⊢); simp only [c_10, c_14, c_19, c_23, c_29, c_34, c_41, c_61, c_88, or_false, false_or, true_or, or_true, and_true, true_and, and_false, false_and, if_true, if_false, not_true_eq_false, not_false_eq_true, and_self, or_self] at hk ⊢; exact hk)
              · refine V_iconst (v := 0) g eX4_mark_44 (by decide) ?_
                refine V_zret g eX4_mark_45 rfl ?_
                first | contradiction | (simp only [c_10, c_14, c_19, c_23, c_29, c_34, c_41, or_false, false_or, true_or, or_true, and_true, true_and, and_false, false_and, if_true, if_false, not_true_eq_false, not_false_eq_true, and_self, or_self] at hk ⊢; exact hk) | (simp only [isP, isBd, isLt, isDg, aMany, isNm, isD9, hasM, c_10, c_14, c_19, c_23, c_29, c_34, c_41, or_false, false_or, true_or, or_true, and_true, true_and, and_false, false_and, if_true, if_false, not_true_eq_false, not_false_eq_true, and_self, or_self] at hk ⊢; exact hk) | ((try simp only [isP, isBd, isLt, isDg, aMany, isNm, isD9, hasM, ← Int32.not_le, Decidable.not_not] at hk c_10 c_14 c_19 c_23 c_29 c_34 c_41 ⊢); simp only [c_10, c_14, c_19, c_23, c_29, c_34, c_41, or_false, false_or, true_or, or_true, and_true, true_and, and_false, false_and, if_true, if_false, not_true_eq_false, not_false_eq_true, and_self, or_self] at hk ⊢; exact hk)

