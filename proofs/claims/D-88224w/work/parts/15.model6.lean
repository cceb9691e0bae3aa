/-! BedBookModel: beds, checks, looks (printed out of tmpl/t_model6.txt) -/
set_option maxRecDepth 100000
abbrev spX4_bed : Sp := fun av T I L R uc us k => ∃ l : Int32, ∃ w : Int32, ∃ many : Int32, ∃ B : Nat, av = [.ref 0, .int l, .int w, .int many] ∧ T = TM ∧ R = RM ∧ (fun J => J 0 45 = nI B ∧ B ≤ 8 ∧ if ¬ isD9 l ∨ ¬ isD9 w ∨ many < 1 ∨ 40 < many ∨ J 0 45 = 8 then k (.inl (some (.int (-1)))) T J L R uc us else k (.inl (some (.int (nI B)))) T (u2 (u2 (u2 (u2 J 46 B l) 47 B w) 48 B many) 0 45 (nI (B + 1))) L R uc us) (u2 I 0 0 0)
theorem eX4_bed_0 : dc cX4_bed 0 (.aload_n 0) 1 1 := ⟨by decide +kernel, rfl⟩
theorem eX4_bed_1 : dc cX4_bed 1 (.iconst 0) 1 2 := ⟨by decide +kernel, rfl⟩
theorem eX4_bed_2 : dc cX4_bed 2 (.putfield 1) 3 5 := ⟨by decide +kernel, rfl⟩
theorem eX4_bed_5 : dc cX4_bed 5 (.iload_n 1) 1 6 := ⟨by decide +kernel, rfl⟩
theorem eX4_bed_6 : dc cX4_bed 6 (.invokestatic 305) 3 9 := ⟨by decide +kernel, rfl⟩
theorem pkX4_305 : PkS RX4 305 yX4_isDigitNumber (.code yX4_isDigitNumber cX4_isDigitNumber 1 (some .boolean)) 1 1 := ⟨cwd_c, (lk q1577), (lk q1575), (lk q1576), (lk q67), nmd_c, ⟨⟨by decide, by decide⟩, by decide +kernel⟩, by decide⟩
theorem eX4_bed_9 : dj cX4_bed 9 (.ifCond .eq 30) 30 39 12 := ⟨by decide +kernel, by decide, rfl⟩
theorem eX4_bed_39 : dc cX4_bed 39 (.iconst (-1)) 1 40 := ⟨by decide +kernel, rfl⟩
theorem eX4_bed_40 : dc cX4_bed 40 (.ireturn) 1 41 := ⟨by decide +kernel, rfl⟩
theorem eX4_bed_12 : dc cX4_bed 12 (.iload_n 2) 1 13 := ⟨by decide +kernel, rfl⟩
theorem eX4_bed_13 : dc cX4_bed 13 (.invokestatic 305) 3 16 := ⟨by decide +kernel, rfl⟩
theorem eX4_bed_16 : dj cX4_bed 16 (.ifCond .eq 23) 23 39 19 := ⟨by decide +kernel, by decide, rfl⟩
theorem eX4_bed_19 : dc cX4_bed 19 (.iload_n 3) 1 20 := ⟨by decide +kernel, rfl⟩
theorem eX4_bed_20 : dc cX4_bed 20 (.iconst 1) 1 21 := ⟨by decide +kernel, rfl⟩
theorem eX4_bed_21 : dj cX4_bed 21 (.if_icmp .lt 18) 18 39 24 := ⟨by decide +kernel, by decide, rfl⟩
theorem eX4_bed_24 : dc cX4_bed 24 (.iload_n 3) 1 25 := ⟨by decide +kernel, rfl⟩
theorem eX4_bed_25 : dc cX4_bed 25 (.bipush 40) 2 27 := ⟨by decide +kernel, rfl⟩
theorem eX4_bed_27 : dj cX4_bed 27 (.if_icmp .gt 12) 12 39 30 := ⟨by decide +kernel, by decide, rfl⟩
theorem eX4_bed_30 : dc cX4_bed 30 (.aload_n 0) 1 31 := ⟨by decide +kernel, rfl⟩
theorem eX4_bed_31 : dc cX4_bed 31 (.getfield 308) 3 34 := ⟨by decide +kernel, rfl⟩
theorem eX4_bed_34 : dc cX4_bed 34 (.bipush 8) 2 36 := ⟨by decide +kernel, rfl⟩
theorem eX4_bed_36 : dj cX4_bed 36 (.if_icmp .ne 5) 5 41 39 := ⟨by decide +kernel, by decide, rfl⟩
theorem eX4_bed_41 : dc cX4_bed 41 (.aload_n 0) 1 42 := ⟨by decide +kernel, rfl⟩
theorem eX4_bed_42 : dc cX4_bed 42 (.getfield 141) 3 45 := ⟨by decide +kernel, rfl⟩
theorem flX4_141 : FL RX4 141 3 46 := ⟨_, _, _, _, rfl, by decide, by decide, Or.inl (lk q1285), Or.inl rfl⟩
theorem eX4_bed_45 : dc cX4_bed 45 (.aload_n 0) 1 46 := ⟨by decide +kernel, rfl⟩
theorem eX4_bed_46 : dc cX4_bed 46 (.getfield 308) 3 49 := ⟨by decide +kernel, rfl⟩
theorem eX4_bed_49 : dc cX4_bed 49 (.iload_n 1) 1 50 := ⟨by decide +kernel, rfl⟩
theorem eX4_bed_50 : dc cX4_bed 50 (.iastore) 1 51 := ⟨by decide +kernel, rfl⟩
theorem eX4_bed_51 : dc cX4_bed 51 (.aload_n 0) 1 52 := ⟨by decide +kernel, rfl⟩
theorem eX4_bed_52 : dc cX4_bed 52 (.getfield 144) 3 55 := ⟨by decide +kernel, rfl⟩
theorem flX4_144 : FL RX4 144 3 47 := ⟨_, _, _, _, rfl, by decide, by decide, Or.inl (lk q1286), Or.inl rfl⟩
theorem eX4_bed_55 : dc cX4_bed 55 (.aload_n 0) 1 56 := ⟨by decide +kernel, rfl⟩
theorem eX4_bed_56 : dc cX4_bed 56 (.getfield 308) 3 59 := ⟨by decide +kernel, rfl⟩
theorem eX4_bed_59 : dc cX4_bed 59 (.iload_n 2) 1 60 := ⟨by decide +kernel, rfl⟩
theorem eX4_bed_60 : dc cX4_bed 60 (.iastore) 1 61 := ⟨by decide +kernel, rfl⟩
theorem eX4_bed_61 : dc cX4_bed 61 (.aload_n 0) 1 62 := ⟨by decide +kernel, rfl⟩
theorem eX4_bed_62 : dc cX4_bed 62 (.getfield 147) 3 65 := ⟨by decide +kernel, rfl⟩
theorem flX4_147 : FL RX4 147 3 48 := ⟨_, _, _, _, rfl, by decide, by decide, Or.inl (lk q1287), Or.inl rfl⟩
theorem eX4_bed_65 : dc cX4_bed 65 (.aload_n 0) 1 66 := ⟨by decide +kernel, rfl⟩
theorem eX4_bed_66 : dc cX4_bed 66 (.getfield 308) 3 69 := ⟨by decide +kernel, rfl⟩
theorem eX4_bed_69 : dc cX4_bed 69 (.iload_n 3) 1 70 := ⟨by decide +kernel, rfl⟩
theorem eX4_bed_70 : dc cX4_bed 70 (.iastore) 1 71 := ⟨by decide +kernel, rfl⟩
theorem eX4_bed_71 : dc cX4_bed 71 (.aload_n 0) 1 72 := ⟨by decide +kernel, rfl⟩
theorem eX4_bed_72 : dc cX4_bed 72 (.dup) 1 73 := ⟨by decide +kernel, rfl⟩
theorem eX4_bed_73 : dc cX4_bed 73 (.getfield 308) 3 76 := ⟨by decide +kernel, rfl⟩
theorem eX4_bed_76 : dc cX4_bed 76 (.iconst 1) 1 77 := ⟨by decide +kernel, rfl⟩
theorem eX4_bed_77 : dc cX4_bed 77 (.iadd) 1 78 := ⟨by decide +kernel, rfl⟩
theorem eX4_bed_78 : dc cX4_bed 78 (.putfield 308) 3 81 := ⟨by decide +kernel, rfl⟩
theorem pflX4_308 {nm : String} : (FL RX4 308 3 45 ∧ FN 3 45) ∨ (FF RX4 308 3 45 ∧ nm = "<init>") := Or.inl ⟨flX4_308, fun C Tb N h => by cases h; rfl⟩
theorem eX4_bed_81 : dc cX4_bed 81 (.aload_n 0) 1 82 := ⟨by decide +kernel, rfl⟩
theorem eX4_bed_82 : dc cX4_bed 82 (.getfield 308) 3 85 := ⟨by decide +kernel, rfl⟩
theorem eX4_bed_85 : dc cX4_bed 85 (.iconst 1) 1 86 := ⟨by decide +kernel, rfl⟩
theorem eX4_bed_86 : dc cX4_bed 86 (.isub) 1 87 := ⟨by decide +kernel, rfl⟩
theorem eX4_bed_87 : dc cX4_bed 87 (.ireturn) 1 88 := ⟨by decide +kernel, rfl⟩
set_option maxHeartbeats 8000000 in
theorem ctX4_bed (l : Launch) : Ct l yX4_bed (.code yX4_bed cX4_bed 4 (some .int)) 2 spX4_bed := by
  refine Ct.of (own := RX4) (nm := "bed") (by decide) rfl rfl ?_
  rintro X av T I L R uc us rfl g hN hu hz ⟨lg, w, many, B, rfl, rfl, rfl, hk⟩
  refine VE.go (ls := [some (.ref 0), some (.int lg), some (.int w), some (.int many)]) g hu hz (fun _ => rfl) (fun _ => Nat.le_of_ble_eq_true rfl) ?_
  refine V_aload_0 g eX4_bed_0 ?_
  refine V_iconst (v := 0) g eX4_bed_1 (by decide) ?_
  refine V_putI g eX4_bed_2 pflX4_1 rfl rfl rfl rfl ?_
  generalize u2 I 0 0 0 = J at hk ⊢
  obtain ⟨hB, hB8, hk⟩ := hk
  refine V_iload_1 g eX4_bed_5 ?_
  refine V_cs1 g (ctX4_isDigitNumber _) eX4_bed_6 pkX4_305 (by decide) (Nat.le_of_ble_eq_true rfl) ?_
  refine ⟨_, rfl, rfl, rfl, ?_⟩
  refine V_if_eqB g eX4_bed_9 (fun c_9 => ?_) (fun c_9 => ?_)
  · refine V_iconst (v := (-1)) g eX4_bed_39 (by decide) ?_
    refine V_iret g eX4_bed_40 ?_
    first | contradiction | (simp only [c_9, or_false, false_or, true_or, or_true, and_true, true_and, and_false, false_and, if_true, if_false, not_true_eq_false, not_false_eq_true, and_self, or_self] at hk ⊢; exact hk) | (simp only [isP, isBd, isLt, isDg, aMany, isNm, isD9, c_9, or_false, false_or, true_or, or_true, and_true, true_and, and_false, false_and, if_true, if_false, not_true_eq_false, not_false_eq_true, and_self, or_self] at hk ⊢; exact hk) | ((try simp only [isP, isBd, isLt, isDg, aMany, isNm, isD9, ← Int32.not_le, Decidable.not_not] at hk c_9 ⊢); simp only [c_9, or_false, false_or, true_or, or_true, and_true, true_and, and_false, false_and, if_true, if_false, not_true_eq_false, not_false_eq_true, and_self, or_self] at hk ⊢; exact hk)
  · refine V_iload_2 g eX4_bed_12 ?_
    refine V_cs1 g (ctX4_isDigitNumber _) eX4_bed_13 pkX4_305 (by decide) (Nat.le_of_ble_eq_true rfl) ?_
    refine ⟨_, rfl, rfl, rfl, ?_⟩
    refine V_if_eqB g eX4_bed_16 (fun c_16 => ?_) (fun c_16 => ?_)
    · refine V_iconst (v := (-1)) g eX4_bed_39 (by decide) ?_
      refine V_iret g eX4_bed_40 ?_
      first | contradiction | (simp only [c_9, c_16, or_false, false_or, true_or, or_true, and_true, true_and, and_false, false_and, if_true, if_false, not_true_eq_false, not_false_eq_true, and_self, or_self] at hk ⊢; exact hk) | (simp only [isP, isBd, isLt, isDg, aMany, isNm, isD9, c_9, c_16, or_false, false_or, true_or, or_true, and_true, true_and, and_false, false_and, if_true, if_false, not_true_eq_false, not_false_eq_true, and_self, or_self] at hk ⊢; exact hk) | ((try simp only [isP, isBd, isLt, isDg, aMany, isNm, isD9, ← Int32.not_le, Decidable.not_not] at hk c_9 c_16 ⊢); simp only [c_9, c_16, or_false, false_or, true_or, or_true, and_true, true_and, and_false, false_and, if_true, if_false, not_true_eq_false, not_false_eq_true, and_self, or_self] at hk ⊢; exact hk)
    · refine V_iload_3 g eX4_bed_19 ?_
      refine V_iconst (v := 1) g eX4_bed_20 (by decide) ?_
      refine V_icmp_lt g eX4_bed_21 (fun c_21 => ?_) (fun c_21 => ?_)
      · refine V_iconst (v := (-1)) g eX4_bed_39 (by decide) ?_
        refine V_iret g eX4_bed_40 ?_
        first | contradiction | (simp only [c_9, c_16, c_21, or_false, false_or, true_or, or_true, and_true, true_and, and_false, false_and, if_true, if_false, not_true_eq_false, not_false_eq_true, and_self, or_self] at hk ⊢; exact hk) | (simp only [isP, isBd, isLt, isDg, aMany, isNm, isD9, c_9, c_16, c_21, or_false, false_or, true_or, or_true, and_true, true_and, and_false, false_and, if_true, if_false, not_true_eq_false, not_false_eq_true, and_self, or_self] at hk ⊢; exact hk) | ((try simp only [isP, isBd, isLt, isDg, aMany, isNm, isD9, ← Int32.not_le, Decidable.not_not] at hk c_9 c_16 c_21 ⊢); simp only [c_9, c_16, c_21, or_false, false_or, true_or, or_true, and_true, true_and, and_false, false_and, if_true, if_false, not_true_eq_false, not_false_eq_true, and_self, or_self] at hk ⊢; exact hk)
      · refine V_iload_3 g eX4_bed_24 ?_
        refine V_bipush (v := 40) g eX4_bed_25 (by decide) ?_
        refine V_icmp_gt g eX4_bed_27 (fun c_27 => ?_) (fun c_27 => ?_)
        · refine V_iconst (v := (-1)) g eX4_bed_39 (by decide) ?_
          refine V_iret g eX4_bed_40 ?_
          first | contradiction | (simp only [c_9, c_16, c_21, c_27, or_false, false_or, true_or, or_true, and_true, true_and, and_false, false_and, if_true, if_false, not_true_eq_false, not_false_eq_true, and_self, or_self] at hk ⊢; exact hk) | (simp only [isP, isBd, isLt, isDg, aMany, isNm, isD9, c_9, c_16, c_21, c_27, or_false, false_or, true_or, or_true, and_true, true_and, and_false, false_and, if_true, if_false, not_true_eq_false, not_false_eq_true, and_self, or_self] at hk ⊢; exact hk) | ((try simp only [isP, isBd, isLt, isDg, aMany, isNm, isD9, ← Int32.not_le, Decidable.not_not] at hk c_9 c_16 c_21 c_27 ⊢); simp only [c_9, c_16, c_21, c_27, or_false, false_or, true_or, or_true, and_true, true_and, and_false, false_and, if_true, if_false, not_true_eq_false, not_false_eq_true, and_self, or_self] at hk ⊢; exact hk)
        · refine V_aload_0 g eX4_bed_30 ?_
          refine V_getI g eX4_bed_31 flX4_308 rfl rfl ?_
          refine V_bipush (v := 8) g eX4_bed_34 (by decide) ?_
          refine V_icmp_ne g eX4_bed_36 (fun c_36 => ?_) (fun c_36 => ?_)
          · have q_36 : B ≠ 8 := fun q => c_36 (by rw [hB, q]; rfl)
            refine V_aload_0 g eX4_bed_41 ?_
            refine V_getR g eX4_bed_42 flX4_141 rfl rfl rfl ?_
            refine V_aload_0 g eX4_bed_45 ?_
            refine V_getI g eX4_bed_46 flX4_308 rfl rfl ?_
            refine V_top (y := nI B) (by simp [u2, hB]) ?_
            refine V_iload_1 g eX4_bed_49 ?_
            refine V_iastN g eX4_bed_50 rfl (by omega) (by decide) ?_
            refine V_aload_0 g eX4_bed_51 ?_
            refine V_getR g eX4_bed_52 flX4_144 rfl rfl rfl ?_
            refine V_aload_0 g eX4_bed_55 ?_
            refine V_getI g eX4_bed_56 flX4_308 rfl rfl ?_
            refine V_top (y := nI B) (by simp [u2, hB]) ?_
            refine V_iload_2 g eX4_bed_59 ?_
            refine V_iastN g eX4_bed_60 rfl (by omega) (by decide) ?_
            refine V_aload_0 g eX4_bed_61 ?_
            refine V_getR g eX4_bed_62 flX4_147 rfl rfl rfl ?_
            refine V_aload_0 g eX4_bed_65 ?_
            refine V_getI g eX4_bed_66 flX4_308 rfl rfl ?_
            refine V_top (y := nI B) (by simp [u2, hB]) ?_
            refine V_iload_3 g eX4_bed_69 ?_
            refine V_iastN g eX4_bed_70 rfl (by omega) (by decide) ?_
            refine V_aload_0 g eX4_bed_71 ?_
            refine V_dup g eX4_bed_72 rfl ?_
            refine V_getI g eX4_bed_73 flX4_308 rfl rfl ?_
            refine V_top (y := nI B) (by simp [u2, hB]) ?_
            refine V_iconst (v := 1) g eX4_bed_76 (by decide) ?_
            refine V_iaddN (b := 1) g eX4_bed_77 ?_
            refine V_putI g eX4_bed_78 pflX4_308 rfl rfl rfl rfl ?_
            refine V_aload_0 g eX4_bed_81 ?_
            refine V_getI g eX4_bed_82 flX4_308 rfl rfl ?_
            refine V_top (y := nI (B + 1)) (by rw [u2_s]) ?_
            refine V_iconst (v := 1) g eX4_bed_85 (by decide) ?_
            refine V_isubN (b := 1) g eX4_bed_86 (by omega) ?_
            refine V_iret g eX4_bed_87 ?_
            first | contradiction | (simp only [c_9, c_16, c_21, c_27, c_36, or_false, false_or, true_or, or_true, and_true, true_and, and_false, false_and, if_true, if_false, not_true_eq_false, not_false_eq_true, and_self, or_self] at hk ⊢; exact hk) | (simp only [isP, isBd, isLt, isDg, aMany, isNm, isD9, c_9, c_16, c_21, c_27, c_36, or_false, false_or, true_or, or_true, and_true, true_and, and_false, false_and, if_true, if_false, not_true_eq_false, not_false_eq_true, and_self, or_self] at hk ⊢; exact hk) | ((try simp only [isP, isBd, isLt, isDg, aMany, isNm, isD9, ← Int32.not_le, Decidable.not_not] at hk c_9 c_16 c_21 c_27 c_36 ⊢); simp only [c_9, c_16, c_21, c_27, c_36, or_false, false_or, true_or, or_true, and_true, true_and, and_false, false_and, if_true, if_false, not_true_eq_false, not_false_eq_true, and_self, or_self] at hk ⊢; exact hk)
          · refine V_iconst (v := (-1)) g eX4_bed_39 (by decide) ?_
            refine V_iret g eX4_bed_40 ?_
            first | contradiction | (simp only [c_9, c_16, c_21, c_27, c_36, or_false, false_or, true_or, or_true, and_true, true_and, and_false, false_and, if_true, if_false, not_true_eq_false, not_false_eq_true, and_self, or_self] at hk ⊢; exact hk) | (simp only [isP, isBd, isLt, isDg, aMany, isNm, isD9, c_9, c_16, c_21, c_27, c_36, or_false, false_or, true_or, or_true, and_true, true_and, and_false, false_and, if_true, if_false, not_true_eq_false, not_false_eq_true, and_self, or_self] at hk ⊢; exact hk) | ((try simp only [isP, isBd, isLt, isDg, aMany, isNm, isD9, ← Int32.not_le, Decidable.not_not] at hk c_9 c_16 c_21 c_27 c_36 ⊢); simp only [c_9, c_16, c_21, c_27, c_36, or_false, false_or, true_or, or_true, and_true, true_and, and_false, false_and, if_true, if_false, not_true_eq_false, not_false_eq_true, and_self, or_self] at hk ⊢; exact hk)
abbrev spX4_change : Sp := fun av T I L R uc us k => ∃ b : Int32, ∃ l : Int32, ∃ w : Int32, ∃ B : Nat, av = [.ref 0, .int b, .int l, .int w] ∧ T = TM ∧ R = RM ∧ (fun J => J 0 45 = nI B ∧ B ≤ 8 ∧ if ¬ isBd J b ∨ ¬ isD9 l ∨ ¬ isD9 w then k (.inl (some (.int 0))) T J L R uc us else k (.inl (some (.int 1))) T (u2 (u2 J 46 b.toNatClampNeg l) 47 b.toNatClampNeg w) L R uc us) (u2 I 0 0 0)
theorem eX4_change_0 : dc cX4_change 0 (.aload_n 0) 1 1 := ⟨by decide +kernel, rfl⟩
theorem eX4_change_1 : dc cX4_change 1 (.iconst 0) 1 2 := ⟨by decide +kernel, rfl⟩
theorem eX4_change_2 : dc cX4_change 2 (.putfield 1) 3 5 := ⟨by decide +kernel, rfl⟩
theorem eX4_change_5 : dc cX4_change 5 (.aload_n 0) 1 6 := ⟨by decide +kernel, rfl⟩
theorem eX4_change_6 : dc cX4_change 6 (.iload_n 1) 1 7 := ⟨by decide +kernel, rfl⟩
theorem eX4_change_7 : dc cX4_change 7 (.invokevirtual 311) 3 10 := ⟨by decide +kernel, rfl⟩
theorem pkX4_311 : PkV RX4 311 yX4_isBed (.code yX4_isBed cX4_isBed 2 (some .boolean)) 2 "BedBookModel" 1 := ⟨cwd_c, (lk q1585), Or.inl (lk q1582), (lk q1584), (lk qs49), ⟨⟨by decide, by decide⟩, by decide +kernel⟩, (lk q67), by decide⟩
theorem eX4_change_10 : dj cX4_change 10 (.ifCond .eq 17) 17 27 13 := ⟨by decide +kernel, by decide, rfl⟩
theorem eX4_change_27 : dc cX4_change 27 (.iconst 0) 1 28 := ⟨by decide +kernel, rfl⟩
theorem eX4_change_28 : dc cX4_change 28 (.ireturn) 1 29 := ⟨by decide +kernel, rfl⟩
theorem eX4_change_13 : dc cX4_change 13 (.iload_n 2) 1 14 := ⟨by decide +kernel, rfl⟩
theorem eX4_change_14 : dc cX4_change 14 (.invokestatic 305) 3 17 := ⟨by decide +kernel, rfl⟩
theorem eX4_change_17 : dj cX4_change 17 (.ifCond .eq 10) 10 27 20 := ⟨by decide +kernel, by decide, rfl⟩
theorem eX4_change_20 : dc cX4_change 20 (.iload_n 3) 1 21 := ⟨by decide +kernel, rfl⟩
theorem eX4_change_21 : dc cX4_change 21 (.invokestatic 305) 3 24 := ⟨by decide +kernel, rfl⟩
theorem eX4_change_24 : dj cX4_change 24 (.ifCond .ne 5) 5 29 27 := ⟨by decide +kernel, by decide, rfl⟩
theorem eX4_change_29 : dc cX4_change 29 (.aload_n 0) 1 30 := ⟨by decide +kernel, rfl⟩
theorem eX4_change_30 : dc cX4_change 30 (.getfield 141) 3 33 := ⟨by decide +kernel, rfl⟩
theorem eX4_change_33 : dc cX4_change 33 (.iload_n 1) 1 34 := ⟨by decide +kernel, rfl⟩
theorem eX4_change_34 : dc cX4_change 34 (.iload_n 2) 1 35 := ⟨by decide +kernel, rfl⟩
theorem eX4_change_35 : dc cX4_change 35 (.iastore) 1 36 := ⟨by decide +kernel, rfl⟩
theorem eX4_change_36 : dc cX4_change 36 (.aload_n 0) 1 37 := ⟨by decide +kernel, rfl⟩
theorem eX4_change_37 : dc cX4_change 37 (.getfield 144) 3 40 := ⟨by decide +kernel, rfl⟩
theorem eX4_change_40 : dc cX4_change 40 (.iload_n 1) 1 41 := ⟨by decide +kernel, rfl⟩
theorem eX4_change_41 : dc cX4_change 41 (.iload_n 3) 1 42 := ⟨by decide +kernel, rfl⟩
theorem eX4_change_42 : dc cX4_change 42 (.iastore) 1 43 := ⟨by decide +kernel, rfl⟩
theorem eX4_change_43 : dc cX4_change 43 (.iconst 1) 1 44 := ⟨by decide +kernel, rfl⟩
theorem eX4_change_44 : dc cX4_change 44 (.ireturn) 1 45 := ⟨by decide +kernel, rfl⟩
set_option maxHeartbeats 8000000 in
theorem ctX4_change (l : Launch) : Ct l yX4_change (.code yX4_change cX4_change 4 (some .boolean)) 2 spX4_change := by
  refine Ct.of (own := RX4) (nm := "change") (by decide) rfl rfl ?_
  rintro X av T I L R uc us rfl g hN hu hz ⟨b, lg, w, B, rfl, rfl, rfl, hk⟩
  refine VE.go (ls := [some (.ref 0), some (.int b), some (.int lg), some (.int w)]) g hu hz (fun _ => rfl) (fun _ => Nat.le_of_ble_eq_true rfl) ?_
  refine V_aload_0 g eX4_change_0 ?_
  refine V_iconst (v := 0) g eX4_change_1 (by decide) ?_
  refine V_putI g eX4_change_2 pflX4_1 rfl rfl rfl rfl ?_
  generalize u2 I 0 0 0 = J at hk ⊢
  obtain ⟨hB, hB8, hk⟩ := hk
  refine V_aload_0 g eX4_change_5 ?_
  refine V_iload_1 g eX4_change_6 ?_
  refine V_cv1 g (ctX4_isBed _) eX4_change_7 pkX4_311 rfl rfl (by decide) (by decide) (Nat.le_of_ble_eq_true rfl) ?_
  refine ⟨_, rfl, rfl, rfl, ?_⟩
  refine V_if_eqB g eX4_change_10 (fun c_10 => ?_) (fun c_10 => ?_)
  · refine V_iconst (v := 0) g eX4_change_27 (by decide) ?_
    refine V_zret g eX4_change_28 rfl ?_
    first | contradiction | (simp only [c_10, or_false, false_or, true_or, or_true, and_true, true_and, and_false, false_and, if_true, if_false, not_true_eq_false, not_false_eq_true, and_self, or_self] at hk ⊢; exact hk) | (simp only [isP, isBd, isLt, isDg, aMany, isNm, isD9, c_10, or_false, false_or, true_or, or_true, and_true, true_and, and_false, false_and, if_true, if_false, not_true_eq_false, not_false_eq_true, and_self, or_self] at hk ⊢; exact hk) | ((try simp only [isP, isBd, isLt, isDg, aMany, isNm, isD9, ← Int32.not_le, Decidable.not_not] at hk c_10 ⊢); simp only [c_10, or_false, false_or, true_or, or_true, and_true, true_and, and_false, false_and, if_true, if_false, not_true_eq_false, not_false_eq_true, and_self, or_self] at hk ⊢; exact hk)
  · refine V_iload_2 g eX4_change_13 ?_
    refine V_cs1 g (ctX4_isDigitNumber _) eX4_change_14 pkX4_305 (by decide) (Nat.le_of_ble_eq_true rfl) ?_
    refine ⟨_, rfl, rfl, rfl, ?_⟩
    refine V_if_eqB g eX4_change_17 (fun c_17 => ?_) (fun c_17 => ?_)
    · refine V_iconst (v := 0) g eX4_change_27 (by decide) ?_
      refine V_zret g eX4_change_28 rfl ?_
      first | contradiction | (simp only [c_10, c_17, or_false, false_or, true_or, or_true, and_true, true_and, and_false, false_and, if_true, if_false, not_true_eq_false, not_false_eq_true, and_self, or_self] at hk ⊢; exact hk) | (simp only [isP, isBd, isLt, isDg, aMany, isNm, isD9, c_10, c_17, or_false, false_or, true_or, or_true, and_true, true_and, and_false, false_and, if_true, if_false, not_true_eq_false, not_false_eq_true, and_self, or_self] at hk ⊢; exact hk) | ((try simp only [isP, isBd, isLt, isDg, aMany, isNm, isD9, ← Int32.not_le, Decidable.not_not] at hk c_10 c_17 ⊢); simp only [c_10, c_17, or_false, false_or, true_or, or_true, and_true, true_and, and_false, false_and, if_true, if_false, not_true_eq_false, not_false_eq_true, and_self, or_self] at hk ⊢; exact hk)
    · refine V_iload_3 g eX4_change_20 ?_
      refine V_cs1 g (ctX4_isDigitNumber _) eX4_change_21 pkX4_305 (by decide) (Nat.le_of_ble_eq_true rfl) ?_
      refine ⟨_, rfl, rfl, rfl, ?_⟩
      refine V_if_neB g eX4_change_24 (fun c_24 => ?_) (fun c_24 => ?_)
      · obtain ⟨Q, hQ, rfl⟩ := isB_nI hB (by omega) c_10
        rw [nI_clamp (by omega)] at hk
        refine V_aload_0 g eX4_change_29 ?_
        refine V_getR g eX4_change_30 flX4_141 rfl rfl rfl ?_
        refine V_iload_1 g eX4_change_33 ?_
        refine V_iload_2 g eX4_change_34 ?_
        refine V_iastN g eX4_change_35 rfl (by omega) (by decide) ?_
        refine V_aload_0 g eX4_change_36 ?_
        refine V_getR g eX4_change_37 flX4_144 rfl rfl rfl ?_
        refine V_iload_1 g eX4_change_40 ?_
        refine V_iload_3 g eX4_change_41 ?_
        refine V_iastN g eX4_change_42 rfl (by omega) (by decide) ?_
        refine V_iconst (v := 1) g eX4_change_43 (by decide) ?_
        refine V_zret g eX4_change_44 rfl ?_
        first | contradiction | (simp only [c_10, c_17, c_24, or_false, false_or, true_or, or_true, and_true, true_and, and_false, false_and, if_true, if_false, not_true_eq_false, not_false_eq_true, and_self, or_self] at hk ⊢; exact hk) | (simp only [isP, isBd, isLt, isDg, aMany, isNm, isD9, c_10, c_17, c_24, or_false, false_or, true_or, or_true, and_true, true_and, and_false, false_and, if_true, if_false, not_true_eq_false, not_false_eq_true, and_self, or_self] at hk ⊢; exact hk) | ((try simp only [isP, isBd, isLt, isDg, aMany, isNm, isD9, ← Int32.not_le, Decidable.not_not] at hk c_10 c_17 c_24 ⊢); simp only [c_10, c_17, c_24, or_false, false_or, true_or, or_true, and_true, true_and, and_false, false_and, if_true, if_false, not_true_eq_false, not_false_eq_true, and_self, or_self] at hk ⊢; exact hk)
      · refine V_iconst (v := 0) g eX4_change_27 (by decide) ?_
        refine V_zret g eX4_change_28 rfl ?_
        first | contradiction | (simp only [c_10, c_17, c_24, or_false, false_or, true_or, or_true, and_true, true_and, and_false, false_and, if_true, if_false, not_true_eq_false, not_false_eq_true, and_self, or_self] at hk ⊢; exact hk) | (simp only [isP, isBd, isLt, isDg, aMany, isNm, isD9, c_10, c_17, c_24, or_false, false_or, true_or, or_true, and_true, true_and, and_false, false_and, if_true, if_false, not_true_eq_false, not_false_eq_true, and_self, or_self] at hk ⊢; exact hk) | ((try simp only [isP, isBd, isLt, isDg, aMany, isNm, isD9, ← Int32.not_le, Decidable.not_not] at hk c_10 c_17 c_24 ⊢); simp only [c_10, c_17, c_24, or_false, false_or, true_or, or_true, and_true, true_and, and_false, false_and, if_true, if_false, not_true_eq_false, not_false_eq_true, and_self, or_self] at hk ⊢; exact hk)
abbrev spX4_needs : Sp := fun av T I L R uc us k => ∃ p : Int32, ∃ a : Int32, ∃ b : Int32, ∃ c : Int32, ∃ d : Int32, ∃ N : Nat, av = [.ref 0, .int p, .int a, .int b, .int c, .int d] ∧ T = TM ∧ R = RM ∧ (fun J => J 0 25 = nI N ∧ N ≤ 40 ∧ if ¬ isP J p ∨ a < 0 ∨ 9 < b ∨ b < a ∨ c < 0 ∨ 9 < d ∨ d < c then k (.inl (some (.int 0))) T J L R uc us else k (.inl (some (.int 1))) T (u2 (u2 (u2 (u2 J 31 (4 * p.toNatClampNeg) a) 31 (4 * p.toNatClampNeg + 1) b) 31 (4 * p.toNatClampNeg + 2) c) 31 (4 * p.toNatClampNeg + 3) d) L R uc us) (u2 I 0 0 0)
theorem eX4_needs_0 : dc cX4_needs 0 (.aload_n 0) 1 1 := ⟨by decide +kernel, rfl⟩
theorem eX4_needs_1 : dc cX4_needs 1 (.iconst 0) 1 2 := ⟨by decide +kernel, rfl⟩
theorem eX4_needs_2 : dc cX4_needs 2 (.putfield 1) 3 5 := ⟨by decide +kernel, rfl⟩
theorem eX4_needs_5 : dc cX4_needs 5 (.aload_n 0) 1 6 := ⟨by decide +kernel, rfl⟩
theorem eX4_needs_6 : dc cX4_needs 6 (.iload_n 1) 1 7 := ⟨by decide +kernel, rfl⟩
theorem eX4_needs_7 : dc cX4_needs 7 (.invokevirtual 268) 3 10 := ⟨by decide +kernel, rfl⟩
theorem eX4_needs_10 : dj cX4_needs 10 (.ifCond .eq 37) 37 47 13 := ⟨by decide +kernel, by decide, rfl⟩
theorem eX4_needs_47 : dc cX4_needs 47 (.iconst 0) 1 48 := ⟨by decide +kernel, rfl⟩
theorem eX4_needs_48 : dc cX4_needs 48 (.ireturn) 1 49 := ⟨by decide +kernel, rfl⟩
theorem eX4_needs_13 : dc cX4_needs 13 (.iload_n 2) 1 14 := ⟨by decide +kernel, rfl⟩
theorem eX4_needs_14 : dj cX4_needs 14 (.ifCond .lt 33) 33 47 17 := ⟨by decide +kernel, by decide, rfl⟩
theorem eX4_needs_17 : dc cX4_needs 17 (.iload_n 3) 1 18 := ⟨by decide +kernel, rfl⟩
theorem eX4_needs_18 : dc cX4_needs 18 (.bipush 9) 2 20 := ⟨by decide +kernel, rfl⟩
theorem eX4_needs_20 : dj cX4_needs 20 (.if_icmp .gt 27) 27 47 23 := ⟨by decide +kernel, by decide, rfl⟩
theorem eX4_needs_23 : dc cX4_needs 23 (.iload_n 2) 1 24 := ⟨by decide +kernel, rfl⟩
theorem eX4_needs_24 : dc cX4_needs 24 (.iload_n 3) 1 25 := ⟨by decide +kernel, rfl⟩
theorem eX4_needs_25 : dj cX4_needs 25 (.if_icmp .gt 22) 22 47 28 := ⟨by decide +kernel, by decide, rfl⟩
theorem eX4_needs_28 : dc cX4_needs 28 (.iload 4) 2 30 := ⟨by decide +kernel, rfl⟩
theorem eX4_needs_30 : dj cX4_needs 30 (.ifCond .lt 17) 17 47 33 := ⟨by decide +kernel, by decide, rfl⟩
theorem eX4_needs_33 : dc cX4_needs 33 (.iload 5) 2 35 := ⟨by decide +kernel, rfl⟩
theorem eX4_needs_35 : dc cX4_needs 35 (.bipush 9) 2 37 := ⟨by decide +kernel, rfl⟩
theorem eX4_needs_37 : dj cX4_needs 37 (.if_icmp .gt 10) 10 47 40 := ⟨by decide +kernel, by decide, rfl⟩
theorem eX4_needs_40 : dc cX4_needs 40 (.iload 4) 2 42 := ⟨by decide +kernel, rfl⟩
theorem eX4_needs_42 : dc cX4_needs 42 (.iload 5) 2 44 := ⟨by decide +kernel, rfl⟩
theorem eX4_needs_44 : dj cX4_needs 44 (.if_icmp .le 5) 5 49 47 := ⟨by decide +kernel, by decide, rfl⟩
theorem eX4_needs_49 : dc cX4_needs 49 (.aload_n 0) 1 50 := ⟨by decide +kernel, rfl⟩
theorem eX4_needs_50 : dc cX4_needs 50 (.getfield 105) 3 53 := ⟨by decide +kernel, rfl⟩
theorem eX4_needs_53 : dc cX4_needs 53 (.iconst 4) 1 54 := ⟨by decide +kernel, rfl⟩
theorem eX4_needs_54 : dc cX4_needs 54 (.iload_n 1) 1 55 := ⟨by decide +kernel, rfl⟩
theorem eX4_needs_55 : dc cX4_needs 55 (.imul) 1 56 := ⟨by decide +kernel, rfl⟩
theorem eX4_needs_56 : dc cX4_needs 56 (.iload_n 2) 1 57 := ⟨by decide +kernel, rfl⟩
theorem eX4_needs_57 : dc cX4_needs 57 (.iastore) 1 58 := ⟨by decide +kernel, rfl⟩
theorem eX4_needs_58 : dc cX4_needs 58 (.aload_n 0) 1 59 := ⟨by decide +kernel, rfl⟩
theorem eX4_needs_59 : dc cX4_needs 59 (.getfield 105) 3 62 := ⟨by decide +kernel, rfl⟩
theorem eX4_needs_62 : dc cX4_needs 62 (.iconst 4) 1 63 := ⟨by decide +kernel, rfl⟩
theorem eX4_needs_63 : dc cX4_needs 63 (.iload_n 1) 1 64 := ⟨by decide +kernel, rfl⟩
theorem eX4_needs_64 : dc cX4_needs 64 (.imul) 1 65 := ⟨by decide +kernel, rfl⟩
theorem eX4_needs_65 : dc cX4_needs 65 (.iconst 1) 1 66 := ⟨by decide +kernel, rfl⟩
theorem eX4_needs_66 : dc cX4_needs 66 (.iadd) 1 67 := ⟨by decide +kernel, rfl⟩
theorem eX4_needs_67 : dc cX4_needs 67 (.iload_n 3) 1 68 := ⟨by decide +kernel, rfl⟩
theorem eX4_needs_68 : dc cX4_needs 68 (.iastore) 1 69 := ⟨by decide +kernel, rfl⟩
theorem eX4_needs_69 : dc cX4_needs 69 (.aload_n 0) 1 70 := ⟨by decide +kernel, rfl⟩
theorem eX4_needs_70 : dc cX4_needs 70 (.getfield 105) 3 73 := ⟨by decide +kernel, rfl⟩
theorem eX4_needs_73 : dc cX4_needs 73 (.iconst 4) 1 74 := ⟨by decide +kernel, rfl⟩
theorem eX4_needs_74 : dc cX4_needs 74 (.iload_n 1) 1 75 := ⟨by decide +kernel, rfl⟩
theorem eX4_needs_75 : dc cX4_needs 75 (.imul) 1 76 := ⟨by decide +kernel, rfl⟩
theorem eX4_needs_76 : dc cX4_needs 76 (.iconst 2) 1 77 := ⟨by decide +kernel, rfl⟩
theorem eX4_needs_77 : dc cX4_needs 77 (.iadd) 1 78 := ⟨by decide +kernel, rfl⟩
theorem eX4_needs_78 : dc cX4_needs 78 (.iload 4) 2 80 := ⟨by decide +kernel, rfl⟩
theorem eX4_needs_80 : dc cX4_needs 80 (.iastore) 1 81 := ⟨by decide +kernel, rfl⟩
theorem eX4_needs_81 : dc cX4_needs 81 (.aload_n 0) 1 82 := ⟨by decide +kernel, rfl⟩
theorem eX4_needs_82 : dc cX4_needs 82 (.getfield 105) 3 85 := ⟨by decide +kernel, rfl⟩
theorem eX4_needs_85 : dc cX4_needs 85 (.iconst 4) 1 86 := ⟨by decide +kernel, rfl⟩
theorem eX4_needs_86 : dc cX4_needs 86 (.iload_n 1) 1 87 := ⟨by decide +kernel, rfl⟩
theorem eX4_needs_87 : dc cX4_needs 87 (.imul) 1 88 := ⟨by decide +kernel, rfl⟩
theorem eX4_needs_88 : dc cX4_needs 88 (.iconst 3) 1 89 := ⟨by decide +kernel, rfl⟩
theorem eX4_needs_89 : dc cX4_needs 89 (.iadd) 1 90 := ⟨by decide +kernel, rfl⟩
theorem eX4_needs_90 : dc cX4_needs 90 (.iload 5) 2 92 := ⟨by decide +kernel, rfl⟩
theorem eX4_needs_92 : dc cX4_needs 92 (.iastore) 1 93 := ⟨by decide +kernel, rfl⟩
theorem eX4_needs_93 : dc cX4_needs 93 (.iconst 1) 1 94 := ⟨by decide +kernel, rfl⟩
theorem eX4_needs_94 : dc cX4_needs 94 (.ireturn) 1 95 := ⟨by decide +kernel, rfl⟩
set_option maxHeartbeats 8000000 in
theorem ctX4_needs (l : Launch) : Ct l yX4_needs (.code yX4_needs cX4_needs 6 (some .boolean)) 2 spX4_needs := by
  refine Ct.of (own := RX4) (nm := "needs") (by decide) rfl rfl ?_
  rintro X av T I L R uc us rfl g hN hu hz ⟨p, a, b, c, d, N, rfl, rfl, rfl, hk⟩
  refine VE.go (ls := [some (.ref 0), some (.int p), some (.int a), some (.int b), some (.int c), some (.int d)]) g hu hz (fun _ => rfl) (fun _ => Nat.le_of_ble_eq_true rfl) ?_
  refine V_aload_0 g eX4_needs_0 ?_
  refine V_iconst (v := 0) g eX4_needs_1 (by decide) ?_
  refine V_putI g eX4_needs_2 pflX4_1 rfl rfl rfl rfl ?_
  generalize u2 I 0 0 0 = J at hk ⊢
  obtain ⟨hP, hN4, hk⟩ := hk
  refine V_aload_0 g eX4_needs_5 ?_
  refine V_iload_1 g eX4_needs_6 ?_
  refine V_cv1 g (ctX4_isPlant _) eX4_needs_7 pkX4_268 rfl rfl (by decide) (by decide) (Nat.le_of_ble_eq_true rfl) ?_
  refine ⟨_, rfl, rfl, rfl, ?_⟩
  refine V_if_eqB g eX4_needs_10 (fun c_10 => ?_) (fun c_10 => ?_)
  · refine V_iconst (v := 0) g eX4_needs_47 (by decide) ?_
    refine V_zret g eX4_needs_48 rfl ?_
    first | contradiction | (simp only [c_10, or_false, false_or, true_or, or_true, and_true, true_and, and_false, false_and, if_true, if_false, not_true_eq_false, not_false_eq_true, and_self, or_self] at hk ⊢; exact hk) | (simp only [isP, isBd, isLt, isDg, aMany, isNm, isD9, c_10, or_false, false_or, true_or, or_true, and_true, true_and, and_false, false_and, if_true, if_false, not_true_eq_false, not_false_eq_true, and_self, or_self] at hk ⊢; exact hk) | ((try simp only [isP, isBd, isLt, isDg, aMany, isNm, isD9, ← Int32.not_le, Decidable.not_not] at hk c_10 ⊢); simp only [c_10, or_false, false_or, true_or, or_true, and_true, true_and, and_false, false_and, if_true, if_false, not_true_eq_false, not_false_eq_true, and_self, or_self] at hk ⊢; exact hk)
  · refine V_iload_2 g eX4_needs_13 ?_
    refine V_if_lt g eX4_needs_14 (fun c_14 => ?_) (fun c_14 => ?_)
    · refine V_iconst (v := 0) g eX4_needs_47 (by decide) ?_
      refine V_zret g eX4_needs_48 rfl ?_
      first | contradiction | (simp only [c_10, c_14, or_false, false_or, true_or, or_true, and_true, true_and, and_false, false_and, if_true, if_false, not_true_eq_false, not_false_eq_true, and_self, or_self] at hk ⊢; exact hk) | (simp only [isP, isBd, isLt, isDg, aMany, isNm, isD9, c_10, c_14, or_false, false_or, true_or, or_true, and_true, true_and, and_false, false_and, if_true, if_false, not_true_eq_false, not_false_eq_true, and_self, or_self] at hk ⊢; exact hk) | ((try simp only [isP, isBd, isLt, isDg, aMany, isNm, isD9, ← Int32.not_le, Decidable.not_not] at hk c_10 c_14 ⊢); simp only [c_10, c_14, or_false, false_or, true_or, or_true, and_true, true_and, and_false, false_and, if_true, if_false, not_true_eq_false, not_false_eq_true, and_self, or_self] at hk ⊢; exact hk)
    · refine V_iload_3 g eX4_needs_17 ?_
      refine V_bipush (v := 9) g eX4_needs_18 (by decide) ?_
      refine V_icmp_gt g eX4_needs_20 (fun c_20 => ?_) (fun c_20 => ?_)
      · refine V_iconst (v := 0) g eX4_needs_47 (by decide) ?_
        refine V_zret g eX4_needs_48 rfl ?_
        first | contradiction | (simp only [c_10, c_14, c_20, or_false, false_or, true_or, or_true, and_true, true_and, and_false, false_and, if_true, if_false, not_true_eq_false, not_false_eq_true, and_self, or_self] at hk ⊢; exact hk) | (simp only [isP, isBd, isLt, isDg, aMany, isNm, isD9, c_10, c_14, c_20, or_false, false_or, true_or, or_true, and_true, true_and, and_false, false_and, if_true, if_false, not_true_eq_false, not_false_eq_true, and_self, or_self] at hk ⊢; exact hk) | ((try simp only [isP, isBd, isLt, isDg, aMany, isNm, isD9, ← Int32.not_le, Decidable.not_not] at hk c_10 c_14 c_20 ⊢); simp only [c_10, c_14, c_20, or_false, false_or, true_or, or_true, and_true, true_and, and_false, false_and, if_true, if_false, not_true_eq_false, not_false_eq_true, and_self, or_self] at hk ⊢; exact hk)
      · refine V_iload_2 g eX4_needs_23 ?_
        refine V_iload_3 g eX4_needs_24 ?_
        refine V_icmp_gt g eX4_needs_25 (fun c_25 => ?_) (fun c_25 => ?_)
        · refine V_iconst (v := 0) g eX4_needs_47 (by decide) ?_
          refine V_zret g eX4_needs_48 rfl ?_
          first | contradiction | (simp only [c_10, c_14, c_20, c_25, or_false, false_or, true_or, or_true, and_true, true_and, and_false, false_and, if_true, if_false, not_true_eq_false, not_false_eq_true, and_self, or_self] at hk ⊢; exact hk) | (simp only [isP, isBd, isLt, isDg, aMany, isNm, isD9, c_10, c_14, c_20, c_25, or_false, false_or, true_or, or_true, and_true, true_and, and_false, false_and, if_true, if_false, not_true_eq_false, not_false_eq_true, and_self, or_self] at hk ⊢; exact hk) | ((try simp only [isP, isBd, isLt, isDg, aMany, isNm, isD9, ← Int32.not_le, Decidable.not_not] at hk c_10 c_14 c_20 c_25 ⊢); simp only [c_10, c_14, c_20, c_25, or_false, false_or, true_or, or_true, and_true, true_and, and_false, false_and, if_true, if_false, not_true_eq_false, not_false_eq_true, and_self, or_self] at hk ⊢; exact hk)
        · refine V_iload_4 g eX4_needs_28 ?_
          refine V_if_lt g eX4_needs_30 (fun c_30 => ?_) (fun c_30 => ?_)
          · refine V_iconst (v := 0) g eX4_needs_47 (by decide) ?_
            refine V_zret g eX4_needs_48 rfl ?_
            first | contradiction | (simp only [c_10, c_14, c_20, c_25, c_30, or_false, false_or, true_or, or_true, and_true, true_and, and_false, false_and, if_true, if_false, not_true_eq_false, not_false_eq_true, and_self, or_self] at hk ⊢; exact hk) | (simp only [isP, isBd, isLt, isDg, aMany, isNm, isD9, c_10, c_14, c_20, c_25, c_30, or_false, false_or, true_or, or_true, and_true, true_and, and_false, false_and, if_true, if_false, not_true_eq_false, not_false_eq_true, and_self, or_self] at hk ⊢; exact hk) | ((try simp only [isP, isBd, isLt, isDg, aMany, isNm, isD9, ← Int32.not_le, Decidable.not_not] at hk c_10 c_14 c_20 c_25 c_30 ⊢); simp only [c_10, c_14, c_20, c_25, c_30, or_false, false_or, true_or, or_true, and_true, true_and, and_false, false_and, if_true, if_false, not_true_eq_false, not_false_eq_true, and_self, or_self] at hk ⊢; exact hk)
          · refine V_iload_5 g eX4_needs_33 ?_
            refine V_bipush (v := 9) g eX4_needs_35 (by decide) ?_
            refine V_icmp_gt g eX4_needs_37 (fun c_37 => ?_) (fun c_37 => ?_)
            · refine V_iconst (v := 0) g eX4_needs_47 (by decide) ?_
              refine V_zret g eX4_needs_48 rfl ?_
              first | contradiction | (simp only [c_10, c_14, c_20, c_25, c_30, c_37, or_false, false_or, true_or, or_true, and_true, true_and, and_false, false_and, if_true, if_false, not_true_eq_false, not_false_eq_true, and_self, or_self] at hk ⊢; exact hk) | (simp only [isP, isBd, isLt, isDg, aMany, isNm, isD9, c_10, c_14, c_20, c_25, c_30, c_37, or_false, false_or, true_or, or_true, and_true, true_and, and_false, false_and, if_true, if_false, not_true_eq_false, not_false_eq_true, and_self, or_self] at hk ⊢; exact hk) | ((try simp only [isP, isBd, isLt, isDg, aMany, isNm, isD9, ← Int32.not_le, Decidable.not_not] at hk c_10 c_14 c_20 c_25 c_30 c_37 ⊢); simp only [c_10, c_14, c_20, c_25, c_30, c_37, or_false, false_or, true_or, or_true, and_true, true_and, and_false, false_and, if_true, if_false, not_true_eq_false, not_false_eq_true, and_self, or_self] at hk ⊢; exact hk)
            · refine V_iload_4 g eX4_needs_40 ?_
              refine V_iload_5 g eX4_needs_42 ?_
              refine V_icmp_le g eX4_needs_44 (fun c_44 => ?_) (fun c_44 => ?_)
              · obtain ⟨Q, hQ, rfl⟩ := isP_nI hP (by omega) c_10
                rw [nI_clamp (by omega)] at hk
                refine V_aload_0 g eX4_needs_49 ?_
                refine V_getR g eX4_needs_50 flX4_105 rfl rfl rfl ?_
                refine V_iconst (v := 4) g eX4_needs_53 (by decide) ?_
                refine V_iload_1 g eX4_needs_54 ?_
                refine V_imulN (a := 4) g eX4_needs_55 ?_
                refine V_iload_2 g eX4_needs_56 ?_
                refine V_iastN g eX4_needs_57 rfl (by omega) (by decide) ?_
                refine V_aload_0 g eX4_needs_58 ?_
                refine V_getR g eX4_needs_59 flX4_105 rfl rfl rfl ?_
                refine V_iconst (v := 4) g eX4_needs_62 (by decide) ?_
                refine V_iload_1 g eX4_needs_63 ?_
                refine V_imulN (a := 4) g eX4_needs_64 ?_
                refine V_iconst (v := 1) g eX4_needs_65 (by decide) ?_
                refine V_iaddN (b := 1) g eX4_needs_66 ?_
                refine V_iload_3 g eX4_needs_67 ?_
                refine V_iastN g eX4_needs_68 rfl (by omega) (by decide) ?_
                refine V_aload_0 g eX4_needs_69 ?_
                refine V_getR g eX4_needs_70 flX4_105 rfl rfl rfl ?_
                refine V_iconst (v := 4) g eX4_needs_73 (by decide) ?_
                refine V_iload_1 g eX4_needs_74 ?_
                refine V_imulN (a := 4) g eX4_needs_75 ?_
                refine V_iconst (v := 2) g eX4_needs_76 (by decide) ?_
                refine V_iaddN (b := 2) g eX4_needs_77 ?_
                refine V_iload_4 g eX4_needs_78 ?_
                refine V_iastN g eX4_needs_80 rfl (by omega) (by decide) ?_
                refine V_aload_0 g eX4_needs_81 ?_
                refine V_getR g eX4_needs_82 flX4_105 rfl rfl rfl ?_
                refine V_iconst (v := 4) g eX4_needs_85 (by decide) ?_
                refine V_iload_1 g eX4_needs_86 ?_
                refine V_imulN (a := 4) g eX4_needs_87 ?_
                refine V_iconst (v := 3) g eX4_needs_88 (by decide) ?_
                refine V_iaddN (b := 3) g eX4_needs_89 ?_
                refine V_iload_5 g eX4_needs_90 ?_
                refine V_iastN g eX4_needs_92 rfl (by omega) (by decide) ?_
                refine V_iconst (v := 1) g eX4_needs_93 (by decide) ?_
                refine V_zret g eX4_needs_94 rfl ?_
                first | contradiction | (simp only [c_10, c_14, c_20, c_25, c_30, c_37, c_44, or_false, false_or, true_or, or_true, and_true, true_and, and_false, false_and, if_true, if_false, not_true_eq_false, not_false_eq_true, and_self, or_self] at hk ⊢; exact hk) | (simp only [isP, isBd, isLt, isDg, aMany, isNm, isD9, c_10, c_14, c_20, c_25, c_30, c_37, c_44, or_false, false_or, true_or, or_true, and_true, true_and, and_false, false_and, if_true, if_false, not_true_eq_false, not_false_eq_true, and_self, or_self] at hk ⊢; exact hk) | ((try simp only [isP, isBd, isLt, isDg, aMany, isNm, isD9, ← Int32.not_le, Decidable.not_not] at hk c_10 c_14 c_20 c_25 c_30 c_37 c_44 ⊢); simp only [c_10, c_14, c_20, c_25, c_30, c_37, c_44, or_false, false_or, true_or, or_true, and_true, true_and, and_false, false_and, if_true, if_false, not_true_eq_false, not_false_eq_true, and_self, or_self] at hk ⊢; exact hk)
              · refine V_iconst (v := 0) g eX4_needs_47 (by decide) ?_
                refine V_zret g eX4_needs_48 rfl ?_
                first | contradiction | (simp only [c_10, c_14, c_20, c_25, c_30, c_37, c_44, or_false, false_or, true_or, or_true, and_true, true_and, and_false, false_and, if_true, if_false, not_true_eq_false, not_false_eq_true, and_self, or_self] at hk ⊢; exact hk) | (simp only [isP, isBd, isLt, isDg, aMany, isNm, isD9, c_10, c_14, c_20, c_25, c_30, c_37, c_44, or_false, false_or, true_or, or_true, and_true, true_and, and_false, false_and, if_true, if_false, not_true_eq_false, not_false_eq_true, and_self, or_self] at hk ⊢; exact hk) | ((try simp only [isP, isBd, isLt, isDg, aMany, isNm, isD9, ← Int32.not_le, Decidable.not_not] at hk c_10 c_14 c_20 c_25 c_30 c_37 c_44 ⊢); simp only [c_10, c_14, c_20, c_25, c_30, c_37, c_44, or_false, false_or, true_or, or_true, and_true, true_and, and_false, false_and, if_true, if_false, not_true_eq_false, not_false_eq_true, and_self, or_self] at hk ⊢; exact hk)
abbrev suit (J : It) (P b : Nat) : Prop := ¬ J 46 b < J 31 (4 * P) ∧ ¬ J 31 (4 * P + 1) < J 46 b ∧ ¬ J 47 b < J 31 (4 * P + 2) ∧ ¬ J 31 (4 * P + 3) < J 47 b
abbrev spX4_suits : Sp := fun av T I L R uc us k => ∃ P : Nat, ∃ b : Nat, av = [.ref 0, .int (nI P), .int (nI b)] ∧ T = TM ∧ R = RM ∧ P < 40 ∧ b < 8 ∧ k (.inl (some (.int (bI (suit I P b))))) T I L R uc us
theorem eX4_suits_0 : dc cX4_suits 0 (.aload_n 0) 1 1 := ⟨by decide +kernel, rfl⟩
theorem eX4_suits_1 : dc cX4_suits 1 (.getfield 141) 3 4 := ⟨by decide +kernel, rfl⟩
theorem eX4_suits_4 : dc cX4_suits 4 (.iload_n 2) 1 5 := ⟨by decide +kernel, rfl⟩
theorem eX4_suits_5 : dc cX4_suits 5 (.iaload) 1 6 := ⟨by decide +kernel, rfl⟩
theorem eX4_suits_6 : dc cX4_suits 6 (.aload_n 0) 1 7 := ⟨by decide +kernel, rfl⟩
theorem eX4_suits_7 : dc cX4_suits 7 (.getfield 105) 3 10 := ⟨by decide +kernel, rfl⟩
theorem eX4_suits_10 : dc cX4_suits 10 (.iconst 4) 1 11 := ⟨by decide +kernel, rfl⟩
theorem eX4_suits_11 : dc cX4_suits 11 (.iload_n 1) 1 12 := ⟨by decide +kernel, rfl⟩
theorem eX4_suits_12 : dc cX4_suits 12 (.imul) 1 13 := ⟨by decide +kernel, rfl⟩
theorem eX4_suits_13 : dc cX4_suits 13 (.iaload) 1 14 := ⟨by decide +kernel, rfl⟩
theorem eX4_suits_14 : dj cX4_suits 14 (.if_icmp .lt 64) 64 78 17 := ⟨by decide +kernel, by decide, rfl⟩
theorem eX4_suits_78 : dc cX4_suits 78 (.iconst 0) 1 79 := ⟨by decide +kernel, rfl⟩
theorem eX4_suits_79 : dc cX4_suits 79 (.ireturn) 1 80 := ⟨by decide +kernel, rfl⟩
theorem eX4_suits_17 : dc cX4_suits 17 (.aload_n 0) 1 18 := ⟨by decide +kernel, rfl⟩
theorem eX4_suits_18 : dc cX4_suits 18 (.getfield 141) 3 21 := ⟨by decide +kernel, rfl⟩
theorem eX4_suits_21 : dc cX4_suits 21 (.iload_n 2) 1 22 := ⟨by decide +kernel, rfl⟩
theorem eX4_suits_22 : dc cX4_suits 22 (.iaload) 1 23 := ⟨by decide +kernel, rfl⟩
theorem eX4_suits_23 : dc cX4_suits 23 (.aload_n 0) 1 24 := ⟨by decide +kernel, rfl⟩
theorem eX4_suits_24 : dc cX4_suits 24 (.getfield 105) 3 27 := ⟨by decide +kernel, rfl⟩
theorem eX4_suits_27 : dc cX4_suits 27 (.iconst 4) 1 28 := ⟨by decide +kernel, rfl⟩
theorem eX4_suits_28 : dc cX4_suits 28 (.iload_n 1) 1 29 := ⟨by decide +kernel, rfl⟩
theorem eX4_suits_29 : dc cX4_suits 29 (.imul) 1 30 := ⟨by decide +kernel, rfl⟩
theorem eX4_suits_30 : dc cX4_suits 30 (.iconst 1) 1 31 := ⟨by decide +kernel, rfl⟩
theorem eX4_suits_31 : dc cX4_suits 31 (.iadd) 1 32 := ⟨by decide +kernel, rfl⟩
theorem eX4_suits_32 : dc cX4_suits 32 (.iaload) 1 33 := ⟨by decide +kernel, rfl⟩
theorem eX4_suits_33 : dj cX4_suits 33 (.if_icmp .gt 45) 45 78 36 := ⟨by decide +kernel, by decide, rfl⟩
theorem eX4_suits_36 : dc cX4_suits 36 (.aload_n 0) 1 37 := ⟨by decide +kernel, rfl⟩
theorem eX4_suits_37 : dc cX4_suits 37 (.getfield 144) 3 40 := ⟨by decide +kernel, rfl⟩
theorem eX4_suits_40 : dc cX4_suits 40 (.iload_n 2) 1 41 := ⟨by decide +kernel, rfl⟩
theorem eX4_suits_41 : dc cX4_suits 41 (.iaload) 1 42 := ⟨by decide +kernel, rfl⟩
theorem eX4_suits_42 : dc cX4_suits 42 (.aload_n 0) 1 43 := ⟨by decide +kernel, rfl⟩
theorem eX4_suits_43 : dc cX4_suits 43 (.getfield 105) 3 46 := ⟨by decide +kernel, rfl⟩
theorem eX4_suits_46 : dc cX4_suits 46 (.iconst 4) 1 47 := ⟨by decide +kernel, rfl⟩
theorem eX4_suits_47 : dc cX4_suits 47 (.iload_n 1) 1 48 := ⟨by decide +kernel, rfl⟩
theorem eX4_suits_48 : dc cX4_suits 48 (.imul) 1 49 := ⟨by decide +kernel, rfl⟩
theorem eX4_suits_49 : dc cX4_suits 49 (.iconst 2) 1 50 := ⟨by decide +kernel, rfl⟩
theorem eX4_suits_50 : dc cX4_suits 50 (.iadd) 1 51 := ⟨by decide +kernel, rfl⟩
theorem eX4_suits_51 : dc cX4_suits 51 (.iaload) 1 52 := ⟨by decide +kernel, rfl⟩
theorem eX4_suits_52 : dj cX4_suits 52 (.if_icmp .lt 26) 26 78 55 := ⟨by decide +kernel, by decide, rfl⟩
theorem eX4_suits_55 : dc cX4_suits 55 (.aload_n 0) 1 56 := ⟨by decide +kernel, rfl⟩
theorem eX4_suits_56 : dc cX4_suits 56 (.getfield 144) 3 59 := ⟨by decide +kernel, rfl⟩
theorem eX4_suits_59 : dc cX4_suits 59 (.iload_n 2) 1 60 := ⟨by decide +kernel, rfl⟩
theorem eX4_suits_60 : dc cX4_suits 60 (.iaload) 1 61 := ⟨by decide +kernel, rfl⟩
theorem eX4_suits_61 : dc cX4_suits 61 (.aload_n 0) 1 62 := ⟨by decide +kernel, rfl⟩
theorem eX4_suits_62 : dc cX4_suits 62 (.getfield 105) 3 65 := ⟨by decide +kernel, rfl⟩
theorem eX4_suits_65 : dc cX4_suits 65 (.iconst 4) 1 66 := ⟨by decide +kernel, rfl⟩
theorem eX4_suits_66 : dc cX4_suits 66 (.iload_n 1) 1 67 := ⟨by decide +kernel, rfl⟩
theorem eX4_suits_67 : dc cX4_suits 67 (.imul) 1 68 := ⟨by decide +kernel, rfl⟩
theorem eX4_suits_68 : dc cX4_suits 68 (.iconst 3) 1 69 := ⟨by decide +kernel, rfl⟩
theorem eX4_suits_69 : dc cX4_suits 69 (.iadd) 1 70 := ⟨by decide +kernel, rfl⟩
theorem eX4_suits_70 : dc cX4_suits 70 (.iaload) 1 71 := ⟨by decide +kernel, rfl⟩
theorem eX4_suits_71 : dj cX4_suits 71 (.if_icmp .gt 7) 7 78 74 := ⟨by decide +kernel, by decide, rfl⟩
theorem eX4_suits_74 : dc cX4_suits 74 (.iconst 1) 1 75 := ⟨by decide +kernel, rfl⟩
theorem eX4_suits_75 : dj cX4_suits 75 (.goto 4) 4 79 78 := ⟨by decide +kernel, by decide, rfl⟩
set_option maxHeartbeats 8000000 in
theorem ctX4_suits (l : Launch) : Ct l yX4_suits (.code yX4_suits cX4_suits 3 (some .boolean)) 1 spX4_suits := by
  refine Ct.of (own := RX4) (nm := "suits") (by decide) rfl rfl ?_
  rintro X av T I L R uc us rfl g hN hu hz ⟨P, b, rfl, rfl, rfl, hP, hb, hk⟩
  refine VE.go (ls := [some (.ref 0), some (.int (nI P)), some (.int (nI b))]) g hu hz (fun _ => rfl) (fun _ => Nat.le_of_ble_eq_true rfl) ?_
  refine V_aload_0 g eX4_suits_0 ?_
  refine V_getR g eX4_suits_1 flX4_141 rfl rfl rfl ?_
  refine V_iload_2 g eX4_suits_4 ?_
  refine V_ialdN g eX4_suits_5 rfl (by omega) (by decide) ?_
  refine V_aload_0 g eX4_suits_6 ?_
  refine V_getR g eX4_suits_7 flX4_105 rfl rfl rfl ?_
  refine V_iconst (v := 4) g eX4_suits_10 (by decide) ?_
  refine V_iload_1 g eX4_suits_11 ?_
  refine V_imulN (a := 4) g eX4_suits_12 ?_
  refine V_ialdN g eX4_suits_13 rfl (by omega) (by decide) ?_
  refine V_icmp_lt g eX4_suits_14 (fun c_14 => ?_) (fun c_14 => ?_)
  · refine V_iconst (v := 0) g eX4_suits_78 (by decide) ?_
    refine V_zret g eX4_suits_79 rfl ?_
    first | contradiction | exact kI hk (by first | (simp only [bI, c_14, or_false, false_or, true_or, or_true, and_true, true_and, and_false, false_and, if_true, if_false, not_true_eq_false, not_false_eq_true, and_self, or_self]; done) | (simp only [bI, isP, isBd, isLt, isDg, aMany, isNm, isD9, suit, c_14, or_false, false_or, true_or, or_true, and_true, true_and, and_false, false_and, if_true, if_false, not_true_eq_false, not_false_eq_true, and_self, or_self]; done) | ((try simp only [isP, isBd, isLt, isDg, aMany, isNm, isD9, suit, ← Int32.not_le, Decidable.not_not] at c_14 ⊢); simp only [bI, c_14, or_false, false_or, true_or, or_true, and_true, true_and, and_false, false_and, if_true, if_false, not_true_eq_false, not_false_eq_true, and_self, or_self]; done))
  · refine V_aload_0 g eX4_suits_17 ?_
    refine V_getR g eX4_suits_18 flX4_141 rfl rfl rfl ?_
    refine V_iload_2 g eX4_suits_21 ?_
    refine V_ialdN g eX4_suits_22 rfl (by omega) (by decide) ?_
    refine V_aload_0 g eX4_suits_23 ?_
    refine V_getR g eX4_suits_24 flX4_105 rfl rfl rfl ?_
    refine V_iconst (v := 4) g eX4_suits_27 (by decide) ?_
    refine V_iload_1 g eX4_suits_28 ?_
    refine V_imulN (a := 4) g eX4_suits_29 ?_
    refine V_iconst (v := 1) g eX4_suits_30 (by decide) ?_
    refine V_iaddN (b := 1) g eX4_suits_31 ?_
    refine V_ialdN g eX4_suits_32 rfl (by omega) (by decide) ?_
    refine V_icmp_gt g eX4_suits_33 (fun c_33 => ?_) (fun c_33 => ?_)
    · refine V_iconst (v := 0) g eX4_suits_78 (by decide) ?_
      refine V_zret g eX4_suits_79 rfl ?_
      first | contradiction | exact kI hk (by first | (simp only [bI, c_14, c_33, or_false, false_or, true_or, or_true, and_true, true_and, and_false, false_and, if_true, if_false, not_true_eq_false, not_false_eq_true, and_self, or_self]; done) | (simp only [bI, isP, isBd, isLt, isDg, aMany, isNm, isD9, suit, c_14, c_33, or_false, false_or, true_or, or_true, and_true, true_and, and_false, false_and, if_true, if_false, not_true_eq_false, not_false_eq_true, and_self, or_self]; done) | ((try simp only [isP, isBd, isLt, isDg, aMany, isNm, isD9, suit, ← Int32.not_le, Decidable.not_not] at c_14 c_33 ⊢); simp only [bI, c_14, c_33, or_false, false_or, true_or, or_true, and_true, true_and, and_false, false_and, if_true, if_false, not_true_eq_false, not_false_eq_true, and_self, or_self]; done))
    · refine V_aload_0 g eX4_suits_36 ?_
      refine V_getR g eX4_suits_37 flX4_144 rfl rfl rfl ?_
      refine V_iload_2 g eX4_suits_40 ?_
      refine V_ialdN g eX4_suits_41 rfl (by omega) (by decide) ?_
      refine V_aload_0 g eX4_suits_42 ?_
      refine V_getR g eX4_suits_43 flX4_105 rfl rfl rfl ?_
      refine V_iconst (v := 4) g eX4_suits_46 (by decide) ?_
      refine V_iload_1 g eX4_suits_47 ?_
      refine V_imulN (a := 4) g eX4_suits_48 ?_
      refine V_iconst (v := 2) g eX4_suits_49 (by decide) ?_
      refine V_iaddN (b := 2) g eX4_suits_50 ?_
      refine V_ialdN g eX4_suits_51 rfl (by omega) (by decide) ?_
      refine V_icmp_lt g eX4_suits_52 (fun c_52 => ?_) (fun c_52 => ?_)
      · refine V_iconst (v := 0) g eX4_suits_78 (by decide) ?_
        refine V_zret g eX4_suits_79 rfl ?_
        first | contradiction | exact kI hk (by first | (simp only [bI, c_14, c_33, c_52, or_false, false_or, true_or, or_true, and_true, true_and, and_false, false_and, if_true, if_false, not_true_eq_false, not_false_eq_true, and_self, or_self]; done) | (simp only [bI, isP, isBd, isLt, isDg, aMany, isNm, isD9, suit, c_14, c_33, c_52, or_false, false_or, true_or, or_true, and_true, true_and, and_false, false_and, if_true, if_false, not_true_eq_false, not_false_eq_true, and_self, or_self]; done) | ((try simp only [isP, isBd, isLt, isDg, aMany, isNm, isD9, suit, ← Int32.not_le, Decidable.not_not] at c_14 c_33 c_52 ⊢); simp only [bI, c_14, c_33, c_52, or_false, false_or, true_or, or_true, and_true, true_and, and_false, false_and, if_true, if_false, not_true_eq_false, not_false_eq_true, and_self, or_self]; done))
      · refine V_aload_0 g eX4_suits_55 ?_
        refine V_getR g eX4_suits_56 flX4_144 rfl rfl rfl ?_
        refine V_iload_2 g eX4_suits_59 ?_
        refine V_ialdN g eX4_suits_60 rfl (by omega) (by decide) ?_
        refine V_aload_0 g eX4_suits_61 ?_
        refine V_getR g eX4_suits_62 flX4_105 rfl rfl rfl ?_
        refine V_iconst (v := 4) g eX4_suits_65 (by decide) ?_
        refine V_iload_1 g eX4_suits_66 ?_
        refine V_imulN (a := 4) g eX4_suits_67 ?_
        refine V_iconst (v := 3) g eX4_suits_68 (by decide) ?_
        refine V_iaddN (b := 3) g eX4_suits_69 ?_
        refine V_ialdN g eX4_suits_70 rfl (by omega) (by decide) ?_
        refine V_icmp_gt g eX4_suits_71 (fun c_71 => ?_) (fun c_71 => ?_)
        · refine V_iconst (v := 0) g eX4_suits_78 (by decide) ?_
          refine V_zret g eX4_suits_79 rfl ?_
          first | contradiction | exact kI hk (by first | (simp only [bI, c_14, c_33, c_52, c_71, or_false, false_or, true_or, or_true, and_true, true_and, and_false, false_and, if_true, if_false, not_true_eq_false, not_false_eq_true, and_self, or_self]; done) | (simp only [bI, isP, isBd, isLt, isDg, aMany, isNm, isD9, suit, c_14, c_33, c_52, c_71, or_false, false_or, true_or, or_true, and_true, true_and, and_false, false_and, if_true, if_false, not_true_eq_false, not_false_eq_true, and_self, or_self]; done) | ((try simp only [isP, isBd, isLt, isDg, aMany, isNm, isD9, suit, ← Int32.not_le, Decidable.not_not] at c_14 c_33 c_52 c_71 ⊢); simp only [bI, c_14, c_33, c_52, c_71, or_false, false_or, true_or, or_true, and_true, true_and, and_false, false_and, if_true, if_false, not_true_eq_false, not_false_eq_true, and_self, or_self]; done))
        · refine V_iconst (v := 1) g eX4_suits_74 (by decide) ?_
          refine V_goto g eX4_suits_75 ?_
          refine V_zret g eX4_suits_79 rfl ?_
          first | contradiction | exact kI hk (by first | (simp only [bI, c_14, c_33, c_52, c_71, or_false, false_or, true_or, or_true, and_true, true_and, and_false, false_and, if_true, if_false, not_true_eq_false, not_false_eq_true, and_self, or_self]; done) | (simp only [bI, isP, isBd, isLt, isDg, aMany, isNm, isD9, suit, c_14, c_33, c_52, c_71, or_false, false_or, true_or, or_true, and_true, true_and, and_false, false_and, if_true, if_false, not_true_eq_false, not_false_eq_true, and_self, or_self]; done) | ((try simp only [isP, isBd, isLt, isDg, aMany, isNm, isD9, suit, ← Int32.not_le, Decidable.not_not] at c_14 c_33 c_52 c_71 ⊢); simp only [bI, c_14, c_33, c_52, c_71, or_false, false_or, true_or, or_true, and_true, true_and, and_false, false_and, if_true, if_false, not_true_eq_false, not_false_eq_true, and_self, or_self]; done))
abbrev cstF (J : It) (P b : Nat) : Int32 := if ¬ suit J P b then 1000000 else if J 32 P = nI b then 0 else 1
abbrev spX4_costOf : Sp := fun av T I L R uc us k => ∃ P : Nat, ∃ b : Nat, av = [.ref 0, .int (nI P), .int (nI b)] ∧ T = TM ∧ R = RM ∧ P < 40 ∧ b < 8 ∧ k (.inl (some (.int (cstF I P b)))) T I L R uc us
theorem eX4_costOf_0 : dc cX4_costOf 0 (.aload_n 0) 1 1 := ⟨by decide +kernel, rfl⟩
theorem eX4_costOf_1 : dc cX4_costOf 1 (.iload_n 1) 1 2 := ⟨by decide +kernel, rfl⟩
theorem eX4_costOf_2 : dc cX4_costOf 2 (.iload_n 2) 1 3 := ⟨by decide +kernel, rfl⟩
theorem eX4_costOf_3 : dc cX4_costOf 3 (.invokevirtual 314) 3 6 := ⟨by decide +kernel, rfl⟩
theorem pkX4_314 : PkV RX4 314 yX4_suits (.code yX4_suits cX4_suits 3 (some .boolean)) 3 "BedBookModel" 2 := ⟨cwd_c, (lk q1597), Or.inl (lk q1594), (lk q1596), (lk qs50), ⟨⟨by decide, by decide⟩, by decide +kernel⟩, (lk q67), by decide⟩
theorem eX4_costOf_6 : dj cX4_costOf 6 (.ifCond .ne 9) 9 15 9 := ⟨by decide +kernel, by decide, rfl⟩
theorem eX4_costOf_15 : dc cX4_costOf 15 (.aload_n 0) 1 16 := ⟨by decide +kernel, rfl⟩
theorem eX4_costOf_16 : dc cX4_costOf 16 (.getfield 108) 3 19 := ⟨by decide +kernel, rfl⟩
theorem flX4_108 : FL RX4 108 3 32 := ⟨_, _, _, _, rfl, by decide, by decide, Or.inl (lk q1271), Or.inl rfl⟩
theorem eX4_costOf_19 : dc cX4_costOf 19 (.iload_n 1) 1 20 := ⟨by decide +kernel, rfl⟩
theorem eX4_costOf_20 : dc cX4_costOf 20 (.iaload) 1 21 := ⟨by decide +kernel, rfl⟩
theorem eX4_costOf_21 : dc cX4_costOf 21 (.iload_n 2) 1 22 := ⟨by decide +kernel, rfl⟩
theorem eX4_costOf_22 : dj cX4_costOf 22 (.if_icmp .ne 7) 7 29 25 := ⟨by decide +kernel, by decide, rfl⟩
theorem eX4_costOf_29 : dc cX4_costOf 29 (.iconst 1) 1 30 := ⟨by decide +kernel, rfl⟩
theorem eX4_costOf_30 : dc cX4_costOf 30 (.ireturn) 1 31 := ⟨by decide +kernel, rfl⟩
theorem eX4_costOf_25 : dc cX4_costOf 25 (.iconst 0) 1 26 := ⟨by decide +kernel, rfl⟩
theorem eX4_costOf_26 : dj cX4_costOf 26 (.goto 4) 4 30 29 := ⟨by decide +kernel, by decide, rfl⟩
theorem eX4_costOf_9 : dc cX4_costOf 9 (.ldc_w 317) 3 12 := ⟨by decide +kernel, rfl⟩
theorem eX4_costOf_12 : dj cX4_costOf 12 (.goto 18) 18 30 15 := ⟨by decide +kernel, by decide, rfl⟩
set_option maxHeartbeats 8000000 in
theorem ctX4_costOf (l : Launch) : Ct l yX4_costOf (.code yX4_costOf cX4_costOf 3 (some .int)) 2 spX4_costOf := by
  refine Ct.of (own := RX4) (nm := "costOf") (by decide) rfl rfl ?_
  rintro X av T I L R uc us rfl g hN hu hz ⟨P, b, rfl, rfl, rfl, hP, hb, hk⟩
  refine VE.go (ls := [some (.ref 0), some (.int (nI P)), some (.int (nI b))]) g hu hz (fun _ => rfl) (fun _ => Nat.le_of_ble_eq_true rfl) ?_
  refine V_aload_0 g eX4_costOf_0 ?_
  refine V_iload_1 g eX4_costOf_1 ?_
  refine V_iload_2 g eX4_costOf_2 ?_
  refine V_cv2 g (ctX4_suits _) eX4_costOf_3 pkX4_314 rfl rfl (by decide) (by decide) (Nat.le_of_ble_eq_true rfl) ?_
  refine ⟨P, b, rfl, rfl, rfl, hP, hb, ?_⟩
  refine V_if_neB g eX4_costOf_6 (fun c_6 => ?_) (fun c_6 => ?_)
  · refine V_aload_0 g eX4_costOf_15 ?_
    refine V_getR g eX4_costOf_16 flX4_108 rfl rfl rfl ?_
    refine V_iload_1 g eX4_costOf_19 ?_
    refine V_ialdN g eX4_costOf_20 rfl (by omega) (by decide) ?_
    refine V_iload_2 g eX4_costOf_21 ?_
    refine V_icmp_ne g eX4_costOf_22 (fun c_22 => ?_) (fun c_22 => ?_)
    · refine V_iconst (v := 1) g eX4_costOf_29 (by decide) ?_
      refine V_iret g eX4_costOf_30 ?_
      exact kI hk (by rw [cstF, if_neg (fun q => q c_6), if_neg c_22])
    · refine V_iconst (v := 0) g eX4_costOf_25 (by decide) ?_
      refine V_goto g eX4_costOf_26 ?_
      refine V_iret g eX4_costOf_30 ?_
      exact kI hk (by rw [cstF, if_neg (fun q => q c_6), if_pos c_22])
  · refine V_ldcw g eX4_costOf_9 (lk q1614) ?_
    refine V_goto g eX4_costOf_12 ?_
    refine V_iret g eX4_costOf_30 ?_
    exact kI hk (if_pos c_6)
/-- how many of the first n lie in b, but for P -/
def layC (J : It) (P : Nat) (b : Int32) : Nat → Int32
  | 0 => 0
  | n + 1 => layC J P b n + (if n ≠ P ∧ ¬ b < 0 ∧ J 32 n = b then 1 else 0)
abbrev spX4_lay_2 : Sp := fun av T I L R uc us k => ∃ p : Int32, ∃ b : Int32, ∃ N : Nat, ∃ B : Nat, av = [.ref 0, .int p, .int b] ∧ T = TM ∧ R = RM ∧ (fun J => J 0 25 = nI N ∧ N ≤ 40 ∧ J 0 45 = nI B ∧ B ≤ 8 ∧ if ¬ isP J p ∨ (¬ b = -1 ∧ (¬ isBd J b ∨ ¬ suit J p.toNatClampNeg b.toNatClampNeg)) ∨ (¬ b < 0 ∧ ¬ layC J p.toNatClampNeg b N < J 48 b.toNatClampNeg) then k (.inl (some (.int 0))) T J L R uc us else k (.inl (some (.int 1))) T (u2 (u2 J 32 p.toNatClampNeg b) 33 p.toNatClampNeg (-1)) L R uc us) (u2 I 0 0 0)
theorem eX4_lay_2_42 : dc cX4_lay_2 42 (.iload 4) 2 44 := ⟨by decide +kernel, rfl⟩
theorem eX4_lay_2_44 : dc cX4_lay_2 44 (.aload_n 0) 1 45 := ⟨by decide +kernel, rfl⟩
theorem eX4_lay_2_45 : dc cX4_lay_2 45 (.getfield 258) 3 48 := ⟨by decide +kernel, rfl⟩
theorem eX4_lay_2_48 : dj cX4_lay_2 48 (.if_icmp .ge 38) 38 86 51 := ⟨by decide +kernel, by decide, rfl⟩
theorem eX4_lay_2_86 : dc cX4_lay_2 86 (.iload_n 2) 1 87 := ⟨by decide +kernel, rfl⟩
theorem eX4_lay_2_87 : dj cX4_lay_2 87 (.ifCond .lt 15) 15 102 90 := ⟨by decide +kernel, by decide, rfl⟩
theorem eX4_lay_2_102 : dc cX4_lay_2 102 (.aload_n 0) 1 103 := ⟨by decide +kernel, rfl⟩
theorem eX4_lay_2_103 : dc cX4_lay_2 103 (.getfield 108) 3 106 := ⟨by decide +kernel, rfl⟩
theorem eX4_lay_2_106 : dc cX4_lay_2 106 (.iload_n 1) 1 107 := ⟨by decide +kernel, rfl⟩
theorem eX4_lay_2_107 : dc cX4_lay_2 107 (.iload_n 2) 1 108 := ⟨by decide +kernel, rfl⟩
theorem eX4_lay_2_108 : dc cX4_lay_2 108 (.iastore) 1 109 := ⟨by decide +kernel, rfl⟩
theorem eX4_lay_2_109 : dc cX4_lay_2 109 (.aload_n 0) 1 110 := ⟨by decide +kernel, rfl⟩
theorem eX4_lay_2_110 : dc cX4_lay_2 110 (.getfield 111) 3 113 := ⟨by decide +kernel, rfl⟩
theorem flX4_111 : FL RX4 111 3 33 := ⟨_, _, _, _, rfl, by decide, by decide, Or.inl (lk q1272), Or.inl rfl⟩
theorem eX4_lay_2_113 : dc cX4_lay_2 113 (.iload_n 1) 1 114 := ⟨by decide +kernel, rfl⟩
theorem eX4_lay_2_114 : dc cX4_lay_2 114 (.iconst (-1)) 1 115 := ⟨by decide +kernel, rfl⟩
theorem eX4_lay_2_115 : dc cX4_lay_2 115 (.iastore) 1 116 := ⟨by decide +kernel, rfl⟩
theorem eX4_lay_2_116 : dc cX4_lay_2 116 (.iconst 1) 1 117 := ⟨by decide +kernel, rfl⟩
theorem eX4_lay_2_117 : dc cX4_lay_2 117 (.ireturn) 1 118 := ⟨by decide +kernel, rfl⟩
theorem eX4_lay_2_90 : dc cX4_lay_2 90 (.iload_n 3) 1 91 := ⟨by decide +kernel, rfl⟩
theorem eX4_lay_2_91 : dc cX4_lay_2 91 (.aload_n 0) 1 92 := ⟨by decide +kernel, rfl⟩
theorem eX4_lay_2_92 : dc cX4_lay_2 92 (.getfield 147) 3 95 := ⟨by decide +kernel, rfl⟩
theorem eX4_lay_2_95 : dc cX4_lay_2 95 (.iload_n 2) 1 96 := ⟨by decide +kernel, rfl⟩
theorem eX4_lay_2_96 : dc cX4_lay_2 96 (.iaload) 1 97 := ⟨by decide +kernel, rfl⟩
theorem eX4_lay_2_97 : dj cX4_lay_2 97 (.if_icmp .lt 5) 5 102 100 := ⟨by decide +kernel, by decide, rfl⟩
theorem eX4_lay_2_100 : dc cX4_lay_2 100 (.iconst 0) 1 101 := ⟨by decide +kernel, rfl⟩
theorem eX4_lay_2_101 : dc cX4_lay_2 101 (.ireturn) 1 102 := ⟨by decide +kernel, rfl⟩
theorem eX4_lay_2_51 : dc cX4_lay_2 51 (.iload_n 3) 1 52 := ⟨by decide +kernel, rfl⟩
theorem eX4_lay_2_52 : dc cX4_lay_2 52 (.iload 4) 2 54 := ⟨by decide +kernel, rfl⟩
theorem eX4_lay_2_54 : dc cX4_lay_2 54 (.iload_n 1) 1 55 := ⟨by decide +kernel, rfl⟩
theorem eX4_lay_2_55 : dj cX4_lay_2 55 (.if_icmp .eq 22) 22 77 58 := ⟨by decide +kernel, by decide, rfl⟩
theorem eX4_lay_2_77 : dc cX4_lay_2 77 (.iconst 0) 1 78 := ⟨by decide +kernel, rfl⟩
theorem eX4_lay_2_78 : dc cX4_lay_2 78 (.iadd) 1 79 := ⟨by decide +kernel, rfl⟩
theorem eX4_lay_2_79 : dc cX4_lay_2 79 (.istore_n 3) 1 80 := ⟨by decide +kernel, rfl⟩
theorem eX4_lay_2_80 : dc cX4_lay_2 80 (.iinc 4 1) 3 83 := ⟨by decide +kernel, rfl⟩
theorem eX4_lay_2_83 : dj cX4_lay_2 83 (.goto (-41)) (-41) 42 86 := ⟨by decide +kernel, by decide, rfl⟩
theorem eX4_lay_2_58 : dc cX4_lay_2 58 (.iload_n 2) 1 59 := ⟨by decide +kernel, rfl⟩
theorem eX4_lay_2_59 : dj cX4_lay_2 59 (.ifCond .lt 18) 18 77 62 := ⟨by decide +kernel, by decide, rfl⟩
theorem eX4_lay_2_62 : dc cX4_lay_2 62 (.aload_n 0) 1 63 := ⟨by decide +kernel, rfl⟩
theorem eX4_lay_2_63 : dc cX4_lay_2 63 (.getfield 108) 3 66 := ⟨by decide +kernel, rfl⟩
theorem eX4_lay_2_66 : dc cX4_lay_2 66 (.iload 4) 2 68 := ⟨by decide +kernel, rfl⟩
theorem eX4_lay_2_68 : dc cX4_lay_2 68 (.iaload) 1 69 := ⟨by decide +kernel, rfl⟩
theorem eX4_lay_2_69 : dc cX4_lay_2 69 (.iload_n 2) 1 70 := ⟨by decide +kernel, rfl⟩
theorem eX4_lay_2_70 : dj cX4_lay_2 70 (.if_icmp .ne 7) 7 77 73 := ⟨by decide +kernel, by decide, rfl⟩
theorem eX4_lay_2_73 : dc cX4_lay_2 73 (.iconst 1) 1 74 := ⟨by decide +kernel, rfl⟩
theorem eX4_lay_2_74 : dj cX4_lay_2 74 (.goto 4) 4 78 77 := ⟨by decide +kernel, by decide, rfl⟩
theorem eX4_lay_2_37 : dc cX4_lay_2 37 (.iconst 0) 1 38 := ⟨by decide +kernel, rfl⟩
theorem eX4_lay_2_38 : dc cX4_lay_2 38 (.istore_n 3) 1 39 := ⟨by decide +kernel, rfl⟩
theorem eX4_lay_2_39 : dc cX4_lay_2 39 (.iconst 0) 1 40 := ⟨by decide +kernel, rfl⟩
theorem eX4_lay_2_40 : dc cX4_lay_2 40 (.istore 4) 2 42 := ⟨by decide +kernel, rfl⟩
theorem eX4_lay_2_0 : dc cX4_lay_2 0 (.aload_n 0) 1 1 := ⟨by decide +kernel, rfl⟩
theorem eX4_lay_2_1 : dc cX4_lay_2 1 (.iconst 0) 1 2 := ⟨by decide +kernel, rfl⟩
theorem eX4_lay_2_2 : dc cX4_lay_2 2 (.putfield 1) 3 5 := ⟨by decide +kernel, rfl⟩
theorem eX4_lay_2_5 : dc cX4_lay_2 5 (.aload_n 0) 1 6 := ⟨by decide +kernel, rfl⟩
theorem eX4_lay_2_6 : dc cX4_lay_2 6 (.iload_n 1) 1 7 := ⟨by decide +kernel, rfl⟩
theorem eX4_lay_2_7 : dc cX4_lay_2 7 (.invokevirtual 268) 3 10 := ⟨by decide +kernel, rfl⟩
theorem eX4_lay_2_10 : dj cX4_lay_2 10 (.ifCond .eq 25) 25 35 13 := ⟨by decide +kernel, by decide, rfl⟩
theorem eX4_lay_2_35 : dc cX4_lay_2 35 (.iconst 0) 1 36 := ⟨by decide +kernel, rfl⟩
theorem eX4_lay_2_36 : dc cX4_lay_2 36 (.ireturn) 1 37 := ⟨by decide +kernel, rfl⟩
theorem eX4_lay_2_13 : dc cX4_lay_2 13 (.iload_n 2) 1 14 := ⟨by decide +kernel, rfl⟩
theorem eX4_lay_2_14 : dc cX4_lay_2 14 (.iconst (-1)) 1 15 := ⟨by decide +kernel, rfl⟩
theorem eX4_lay_2_15 : dj cX4_lay_2 15 (.if_icmp .eq 22) 22 37 18 := ⟨by decide +kernel, by decide, rfl⟩
theorem eX4_lay_2_18 : dc cX4_lay_2 18 (.aload_n 0) 1 19 := ⟨by decide +kernel, rfl⟩
theorem eX4_lay_2_19 : dc cX4_lay_2 19 (.iload_n 2) 1 20 := ⟨by decide +kernel, rfl⟩
theorem eX4_lay_2_20 : dc cX4_lay_2 20 (.invokevirtual 311) 3 23 := ⟨by decide +kernel, rfl⟩
theorem eX4_lay_2_23 : dj cX4_lay_2 23 (.ifCond .eq 12) 12 35 26 := ⟨by decide +kernel, by decide, rfl⟩
theorem eX4_lay_2_26 : dc cX4_lay_2 26 (.aload_n 0) 1 27 := ⟨by decide +kernel, rfl⟩
theorem eX4_lay_2_27 : dc cX4_lay_2 27 (.iload_n 1) 1 28 := ⟨by decide +kernel, rfl⟩
theorem eX4_lay_2_28 : dc cX4_lay_2 28 (.iload_n 2) 1 29 := ⟨by decide +kernel, rfl⟩
theorem eX4_lay_2_29 : dc cX4_lay_2 29 (.invokevirtual 314) 3 32 := ⟨by decide +kernel, rfl⟩
theorem eX4_lay_2_32 : dj cX4_lay_2 32 (.ifCond .ne 5) 5 37 35 := ⟨by decide +kernel, by decide, rfl⟩
set_option maxHeartbeats 8000000 in
theorem ctX4_lay_2 (l : Launch) : Ct l yX4_lay_2 (.code yX4_lay_2 cX4_lay_2 5 (some .boolean)) 2 spX4_lay_2 := by
  refine Ct.of (own := RX4) (nm := "lay") (by decide) rfl rfl ?_
  rintro X av T I L R uc us rfl g hN hu hz ⟨p, b, N, B, rfl, rfl, rfl, hk⟩
  refine VE.go (ls := [some (.ref 0), some (.int p), some (.int b), none, none]) g hu hz (fun _ => rfl) (fun _ => Nat.le_of_ble_eq_true rfl) ?_
  have main : ∀ (J : It) (P : Nat), J 0 25 = nI N → N ≤ 40 → P < N → (¬ b < 0 → ∃ Q : Nat, Q < 8 ∧ b = nI Q) → (if (¬ b < 0 ∧ ¬ layC J P b N < J 48 b.toNatClampNeg) then x_k X (.inl (some (.int 0))) TM J L RM uc us else x_k X (.inl (some (.int 1))) TM (u2 (u2 J 32 P b) 33 P (-1)) L RM uc us) → V X TM J L RM uc us 37 [some (.ref 0), some (.int (nI P)), some (.int b), none, none] [] := by
    intro J P hN hN4 hP hb hk
    have loop : ∀ (n w : Nat) (c : Int32), w ≤ N → N + 1 ≤ w + n → c = layC J P b w → V X TM J L RM uc us 42 [some (.ref 0), some (.int (nI P)), some (.int b), some (.int c), some (.int (nI w))] [] := by
      intro n
      induction n with
      | zero => intro w c h1 h2; exact absurd h2 (by omega)
      | succ n ih =>
        intro w c h1 h2 hc
        refine V_iload_4 g eX4_lay_2_42 ?_
        refine V_aload_0 g eX4_lay_2_44 ?_
        refine V_getI g eX4_lay_2_45 flX4_258 rfl rfl ?_
        refine V_top (y := nI N) hN ?_
        refine V_icmp_ge g eX4_lay_2_48 (fun c_48 => ?_) (fun c_48 => ?_)
        · have q_48 := nI_le' (a := N) (b := w) (by omega) (by omega) c_48
          obtain rfl : w = N := by omega
          subst hc
          refine V_iload_2 g eX4_lay_2_86 ?_
          refine V_if_lt g eX4_lay_2_87 (fun c_87 => ?_) (fun c_87 => ?_)
          · refine V_aload_0 g eX4_lay_2_102 ?_
            refine V_getR g eX4_lay_2_103 flX4_108 rfl rfl rfl ?_
            refine V_iload_1 g eX4_lay_2_106 ?_
            refine V_iload_2 g eX4_lay_2_107 ?_
            refine V_iastN g eX4_lay_2_108 rfl (by omega) (by decide) ?_
            refine V_aload_0 g eX4_lay_2_109 ?_
            refine V_getR g eX4_lay_2_110 flX4_111 rfl rfl rfl ?_
            refine V_iload_1 g eX4_lay_2_113 ?_
            refine V_iconst (v := (-1)) g eX4_lay_2_114 (by decide) ?_
            refine V_iastN g eX4_lay_2_115 rfl (by omega) (by decide) ?_
            refine V_iconst (v := 1) g eX4_lay_2_116 (by decide) ?_
            refine V_zret g eX4_lay_2_117 rfl ?_
            first | contradiction | (simp only [c_48, c_87, or_false, false_or, true_or, or_true, and_true, true_and, and_false, false_and, if_true, if_false, not_true_eq_false, not_false_eq_true, and_self, or_self] at hk ⊢; exact hk) | (simp only [isP, isBd, isLt, isDg, aMany, isNm, isD9, suit, c_48, c_87, or_false, false_or, true_or, or_true, and_true, true_and, and_false, false_and, if_true, if_false, not_true_eq_false, not_false_eq_true, and_self, or_self] at hk ⊢; exact hk) | ((try simp only [isP, isBd, isLt, isDg, aMany, isNm, isD9, suit, ← Int32.not_le, Decidable.not_not] at hk c_48 c_87 ⊢); simp only [c_48, c_87, or_false, false_or, true_or, or_true, and_true, true_and, and_false, false_and, if_true, if_false, not_true_eq_false, not_false_eq_true, and_self, or_self] at hk ⊢; exact hk)
          · obtain ⟨Q, hQ, rfl⟩ := hb c_87
            rw [nI_clamp (by omega)] at hk
            refine V_iload_3 g eX4_lay_2_90 ?_
            refine V_aload_0 g eX4_lay_2_91 ?_
            refine V_getR g eX4_lay_2_92 flX4_147 rfl rfl rfl ?_
            refine V_iload_2 g eX4_lay_2_95 ?_
            refine V_ialdN g eX4_lay_2_96 rfl (by omega) (by decide) ?_
            refine V_icmp_lt g eX4_lay_2_97 (fun c_97 => ?_) (fun c_97 => ?_)
            · refine V_aload_0 g eX4_lay_2_102 ?_
              refine V_getR g eX4_lay_2_103 flX4_108 rfl rfl rfl ?_
              refine V_iload_1 g eX4_lay_2_106 ?_
              refine V_iload_2 g eX4_lay_2_107 ?_
              refine V_iastN g eX4_lay_2_108 rfl (by omega) (by decide) ?_
              refine V_aload_0 g eX4_lay_2_109 ?_
              refine V_getR g eX4_lay_2_110 flX4_111 rfl rfl rfl ?_
              refine V_iload_1 g eX4_lay_2_113 ?_
              refine V_iconst (v := (-1)) g eX4_lay_2_114 (by decide) ?_
              refine V_iastN g eX4_lay_2_115 rfl (by omega) (by decide) ?_
              refine V_iconst (v := 1) g eX4_lay_2_116 (by decide) ?_
              refine V_zret g eX4_lay_2_117 rfl ?_
              first | contradiction | (simp only [c_48, c_87, c_97, or_false, false_or, true_or, or_true, and_true, true_and, and_false, false_and, if_true, if_false, not_true_eq_false, not_false_eq_true, and_self, or_self] at hk ⊢; exact hk) | (simp only [isP, isBd, isLt, isDg, aMany, isNm, isD9, suit, c_48, c_87, c_97, or_false, false_or, true_or, or_true, and_true, true_and, and_false, false_and, if_true, if_false, not_true_eq_false, not_false_eq_true, and_self, or_self] at hk ⊢; exact hk) | ((try simp only [isP, isBd, isLt, isDg, aMany, isNm, isD9, suit, ← Int32.not_le, Decidable.not_not] at hk c_48 c_87 c_97 ⊢); simp only [c_48, c_87, c_97, or_false, false_or, true_or, or_true, and_true, true_and, and_false, false_and, if_true, if_false, not_true_eq_false, not_false_eq_true, and_self, or_self] at hk ⊢; exact hk)
            · refine V_iconst (v := 0) g eX4_lay_2_100 (by decide) ?_
              refine V_zret g eX4_lay_2_101 rfl ?_
              first | contradiction | (simp only [c_48, c_87, c_97, or_false, false_or, true_or, or_true, and_true, true_and, and_false, false_and, if_true, if_false, not_true_eq_false, not_false_eq_true, and_self, or_self] at hk ⊢; exact hk) | (simp only [isP, isBd, isLt, isDg, aMany, isNm, isD9, suit, c_48, c_87, c_97, or_false, false_or, true_or, or_true, and_true, true_and, and_false, false_and, if_true, if_false, not_true_eq_false, not_false_eq_true, and_self, or_self] at hk ⊢; exact hk) | ((try simp only [isP, isBd, isLt, isDg, aMany, isNm, isD9, suit, ← Int32.not_le, Decidable.not_not] at hk c_48 c_87 c_97 ⊢); simp only [c_48, c_87, c_97, or_false, false_or, true_or, or_true, and_true, true_and, and_false, false_and, if_true, if_false, not_true_eq_false, not_false_eq_true, and_self, or_self] at hk ⊢; exact hk)
        · have q_48 := nI_nle' (a := N) (b := w) (by omega) (by omega) c_48
          refine V_iload_3 g eX4_lay_2_51 ?_
          refine V_iload_4 g eX4_lay_2_52 ?_
          refine V_iload_1 g eX4_lay_2_54 ?_
          refine V_icmp_eq g eX4_lay_2_55 (fun c_55 => ?_) (fun c_55 => ?_)
          · refine V_iconst (v := 0) g eX4_lay_2_77 (by decide) ?_
            refine V_iadd g eX4_lay_2_78 ?_
            refine V_istore_3 g eX4_lay_2_79 (by decide) rfl ?_
            refine V_iinc_4 (v := 1) g eX4_lay_2_80 (by decide) (by decide) rfl ?_
            refine V_goto g eX4_lay_2_83 ?_
            rw [nI_1]
            refine ih (w + 1) _ (by omega) (by omega) ?_
            unfold layC
            rw [← hc, if_neg (fun q => q.1 (nI_eq' (by omega) (by omega) c_55))]
          · refine V_iload_2 g eX4_lay_2_58 ?_
            refine V_if_lt g eX4_lay_2_59 (fun c_59 => ?_) (fun c_59 => ?_)
            · refine V_iconst (v := 0) g eX4_lay_2_77 (by decide) ?_
              refine V_iadd g eX4_lay_2_78 ?_
              refine V_istore_3 g eX4_lay_2_79 (by decide) rfl ?_
              refine V_iinc_4 (v := 1) g eX4_lay_2_80 (by decide) (by decide) rfl ?_
              refine V_goto g eX4_lay_2_83 ?_
              rw [nI_1]
              refine ih (w + 1) _ (by omega) (by omega) ?_
              unfold layC
              have q_55 := nI_neq' c_55
              rw [← hc]
              simp only [c_48, c_55, c_59, q_55, ne_eq, or_false, false_or, true_or, or_true, and_true, true_and, and_false, false_and, if_true, if_false, not_true_eq_false, not_false_eq_true, and_self, or_self]
            · refine V_aload_0 g eX4_lay_2_62 ?_
              refine V_getR g eX4_lay_2_63 flX4_108 rfl rfl rfl ?_
              refine V_iload_4 g eX4_lay_2_66 ?_
              refine V_ialdN g eX4_lay_2_68 rfl (by omega) (by decide) ?_
              refine V_iload_2 g eX4_lay_2_69 ?_
              refine V_icmp_ne g eX4_lay_2_70 (fun c_70 => ?_) (fun c_70 => ?_)
              · refine V_iconst (v := 0) g eX4_lay_2_77 (by decide) ?_
                refine V_iadd g eX4_lay_2_78 ?_
                refine V_istore_3 g eX4_lay_2_79 (by decide) rfl ?_
                refine V_iinc_4 (v := 1) g eX4_lay_2_80 (by decide) (by decide) rfl ?_
                refine V_goto g eX4_lay_2_83 ?_
                rw [nI_1]
                refine ih (w + 1) _ (by omega) (by omega) ?_
                unfold layC
                have q_55 := nI_neq' c_55
                rw [← hc]
                simp only [c_48, c_55, c_59, c_70, q_55, ne_eq, or_false, false_or, true_or, or_true, and_true, true_and, and_false, false_and, if_true, if_false, not_true_eq_false, not_false_eq_true, and_self, or_self]
              · refine V_iconst (v := 1) g eX4_lay_2_73 (by decide) ?_
                refine V_goto g eX4_lay_2_74 ?_
                refine V_iadd g eX4_lay_2_78 ?_
                refine V_istore_3 g eX4_lay_2_79 (by decide) rfl ?_
                refine V_iinc_4 (v := 1) g eX4_lay_2_80 (by decide) (by decide) rfl ?_
                refine V_goto g eX4_lay_2_83 ?_
                rw [nI_1]
                refine ih (w + 1) _ (by omega) (by omega) ?_
                unfold layC
                have q_55 := nI_neq' c_55
                rw [← hc]
                simp only [c_48, c_55, c_59, c_70, q_55, ne_eq, or_false, false_or, true_or, or_true, and_true, true_and, and_false, false_and, if_true, if_false, not_true_eq_false, not_false_eq_true, and_self, or_self]
    refine V_iconst (v := 0) g eX4_lay_2_37 (by decide) ?_
    refine V_istore_3 g eX4_lay_2_38 (by decide) rfl ?_
    refine V_iconst (v := 0) g eX4_lay_2_39 (by decide) ?_
    refine V_istore_4 g eX4_lay_2_40 (by decide) rfl ?_
    exact loop (N + 1) 0 0 (by omega) (by omega) rfl
  refine V_aload_0 g eX4_lay_2_0 ?_
  refine V_iconst (v := 0) g eX4_lay_2_1 (by decide) ?_
  refine V_putI g eX4_lay_2_2 pflX4_1 rfl rfl rfl rfl ?_
  generalize u2 I 0 0 0 = J at hk ⊢
  obtain ⟨hP, hN4, hB, hB8, hk⟩ := hk
  refine V_aload_0 g eX4_lay_2_5 ?_
  refine V_iload_1 g eX4_lay_2_6 ?_
  refine V_cv1 g (ctX4_isPlant _) eX4_lay_2_7 pkX4_268 rfl rfl (by decide) (by decide) (Nat.le_of_ble_eq_true rfl) ?_
  refine ⟨_, rfl, rfl, rfl, ?_⟩
  refine V_if_eqB g eX4_lay_2_10 (fun c_10 => ?_) (fun c_10 => ?_)
  · refine V_iconst (v := 0) g eX4_lay_2_35 (by decide) ?_
    refine V_zret g eX4_lay_2_36 rfl ?_
    first | contradiction | (simp only [c_10, or_false, false_or, true_or, or_true, and_true, true_and, and_false, false_and, if_true, if_false, not_true_eq_false, not_false_eq_true, and_self, or_self] at hk ⊢; exact hk) | (simp only [isP, isBd, isLt, isDg, aMany, isNm, isD9, suit, c_10, or_false, false_or, true_or, or_true, and_true, true_and, and_false, false_and, if_true, if_false, not_true_eq_false, not_false_eq_true, and_self, or_self] at hk ⊢; exact hk) | ((try simp only [isP, isBd, isLt, isDg, aMany, isNm, isD9, suit, ← Int32.not_le, Decidable.not_not] at hk c_10 ⊢); simp only [c_10, or_false, false_or, true_or, or_true, and_true, true_and, and_false, false_and, if_true, if_false, not_true_eq_false, not_false_eq_true, and_self, or_self] at hk ⊢; exact hk)
  · obtain ⟨Q, hQ, rfl⟩ := isP_nI hP (by omega) c_10
    rw [nI_clamp (by omega)] at hk
    refine V_iload_2 g eX4_lay_2_13 ?_
    refine V_iconst (v := (-1)) g eX4_lay_2_14 (by decide) ?_
    refine V_icmp_eq g eX4_lay_2_15 (fun c_15 => ?_) (fun c_15 => ?_)
    · exact main J Q hP hN4 hQ (fun q => absurd (by rw [c_15]; decide) q) (by rw [if_neg (fun q => by rw [c_15] at q; exact absurd (by decide) q.1)]; rw [if_neg (fun q => by rcases q with q | q | q; exact q c_10; exact q.1 c_15; rw [c_15] at q; exact absurd (by decide) q.1)] at hk; exact hk)
    · refine V_aload_0 g eX4_lay_2_18 ?_
      refine V_iload_2 g eX4_lay_2_19 ?_
      refine V_cv1 g (ctX4_isBed _) eX4_lay_2_20 pkX4_311 rfl rfl (by decide) (by decide) (Nat.le_of_ble_eq_true rfl) ?_
      refine ⟨_, rfl, rfl, rfl, ?_⟩
      refine V_if_eqB g eX4_lay_2_23 (fun c_23 => ?_) (fun c_23 => ?_)
      · refine V_iconst (v := 0) g eX4_lay_2_35 (by decide) ?_
        refine V_zret g eX4_lay_2_36 rfl ?_
        first | contradiction | (simp only [c_10, c_15, c_23, or_false, false_or, true_or, or_true, and_true, true_and, and_false, false_and, if_true, if_false, not_true_eq_false, not_false_eq_true, and_self, or_self] at hk ⊢; exact hk) | (simp only [isP, isBd, isLt, isDg, aMany, isNm, isD9, suit, c_10, c_15, c_23, or_false, false_or, true_or, or_true, and_true, true_and, and_false, false_and, if_true, if_false, not_true_eq_false, not_false_eq_true, and_self, or_self] at hk ⊢; exact hk) | ((try simp only [isP, isBd, isLt, isDg, aMany, isNm, isD9, suit, ← Int32.not_le, Decidable.not_not] at hk c_10 c_15 c_23 ⊢); simp only [c_10, c_15, c_23, or_false, false_or, true_or, or_true, and_true, true_and, and_false, false_and, if_true, if_false, not_true_eq_false, not_false_eq_true, and_self, or_self] at hk ⊢; exact hk)
      · obtain ⟨Bb, hBb, rfl⟩ := isB_nI hB (by omega) c_23
        refine V_aload_0 g eX4_lay_2_26 ?_
        refine V_iload_1 g eX4_lay_2_27 ?_
        refine V_iload_2 g eX4_lay_2_28 ?_
        refine V_cv2 g (ctX4_suits _) eX4_lay_2_29 pkX4_314 rfl rfl (by decide) (by decide) (Nat.le_of_ble_eq_true rfl) ?_
        refine ⟨Q, Bb, rfl, rfl, rfl, by omega, by omega, ?_⟩
        refine V_if_neB g eX4_lay_2_32 (fun c_32 => ?_) (fun c_32 => ?_)
        · refine main J Q hP hN4 hQ (fun _ => ⟨Bb, by omega, rfl⟩) ?_
          rw [nI_clamp (by omega)] at hk ⊢
          by_cases z : ¬ nI Bb < 0 ∧ ¬ layC J Q (nI Bb) N < J 48 Bb
          · rw [if_pos z]; rw [if_pos (Or.inr (Or.inr z))] at hk; exact hk
          · rw [if_neg z]; rw [if_neg (fun q => by rcases q with q | q | q; exact q c_10; exact (q.2.elim (fun q => q c_23) (fun q => q c_32)); exact z q)] at hk; exact hk
        · refine V_iconst (v := 0) g eX4_lay_2_35 (by decide) ?_
          refine V_zret g eX4_lay_2_36 rfl ?_
          rw [nI_clamp (by omega)] at hk
          simp only [c_10, c_15, c_23, c_32, or_false, false_or, true_or, or_true, and_true, true_and, and_false, false_and, if_true, if_false, not_true_eq_false, not_false_eq_true, and_self, or_self] at hk
          exact hk
abbrev spX4_seen : Sp := fun av T I L R uc us k => ∃ p : Int32, ∃ many : Int32, ∃ N : Nat, av = [.ref 0, .int p, .int many] ∧ T = TM ∧ R = RM ∧ (fun J => J 0 25 = nI N ∧ N ≤ 40 ∧ if ¬ isP J p ∨ J 32 p.toNatClampNeg < 0 ∨ ¬ aMany many then k (.inl (some (.int 0))) T J L R uc us else k (.inl (some (.int 1))) T (u2 J 33 p.toNatClampNeg many) L R uc us) (u2 I 0 0 0)
theorem eX4_seen_0 : dc cX4_seen 0 (.aload_n 0) 1 1 := ⟨by decide +kernel, rfl⟩
theorem eX4_seen_1 : dc cX4_seen 1 (.iconst 0) 1 2 := ⟨by decide +kernel, rfl⟩
theorem eX4_seen_2 : dc cX4_seen 2 (.putfield 1) 3 5 := ⟨by decide +kernel, rfl⟩
theorem eX4_seen_5 : dc cX4_seen 5 (.aload_n 0) 1 6 := ⟨by decide +kernel, rfl⟩
theorem eX4_seen_6 : dc cX4_seen 6 (.iload_n 1) 1 7 := ⟨by decide +kernel, rfl⟩
theorem eX4_seen_7 : dc cX4_seen 7 (.invokevirtual 268) 3 10 := ⟨by decide +kernel, rfl⟩
theorem eX4_seen_10 : dj cX4_seen 10 (.ifCond .eq 19) 19 29 13 := ⟨by decide +kernel, by decide, rfl⟩
theorem eX4_seen_29 : dc cX4_seen 29 (.iconst 0) 1 30 := ⟨by decide +kernel, rfl⟩
theorem eX4_seen_30 : dc cX4_seen 30 (.ireturn) 1 31 := ⟨by decide +kernel, rfl⟩
theorem eX4_seen_13 : dc cX4_seen 13 (.aload_n 0) 1 14 := ⟨by decide +kernel, rfl⟩
theorem eX4_seen_14 : dc cX4_seen 14 (.getfield 108) 3 17 := ⟨by decide +kernel, rfl⟩
theorem eX4_seen_17 : dc cX4_seen 17 (.iload_n 1) 1 18 := ⟨by decide +kernel, rfl⟩
theorem eX4_seen_18 : dc cX4_seen 18 (.iaload) 1 19 := ⟨by decide +kernel, rfl⟩
theorem eX4_seen_19 : dj cX4_seen 19 (.ifCond .lt 10) 10 29 22 := ⟨by decide +kernel, by decide, rfl⟩
theorem eX4_seen_22 : dc cX4_seen 22 (.iload_n 2) 1 23 := ⟨by decide +kernel, rfl⟩
theorem eX4_seen_23 : dc cX4_seen 23 (.invokestatic 261) 3 26 := ⟨by decide +kernel, rfl⟩
theorem eX4_seen_26 : dj cX4_seen 26 (.ifCond .ne 5) 5 31 29 := ⟨by decide +kernel, by decide, rfl⟩
theorem eX4_seen_31 : dc cX4_seen 31 (.aload_n 0) 1 32 := ⟨by decide +kernel, rfl⟩
theorem eX4_seen_32 : dc cX4_seen 32 (.getfield 111) 3 35 := ⟨by decide +kernel, rfl⟩
theorem eX4_seen_35 : dc cX4_seen 35 (.iload_n 1) 1 36 := ⟨by decide +kernel, rfl⟩
theorem eX4_seen_36 : dc cX4_seen 36 (.iload_n 2) 1 37 := ⟨by decide +kernel, rfl⟩
theorem eX4_seen_37 : dc cX4_seen 37 (.iastore) 1 38 := ⟨by decide +kernel, rfl⟩
theorem eX4_seen_38 : dc cX4_seen 38 (.iconst 1) 1 39 := ⟨by decide +kernel, rfl⟩
theorem eX4_seen_39 : dc cX4_seen 39 (.ireturn) 1 40 := ⟨by decide +kernel, rfl⟩
set_option maxHeartbeats 8000000 in
theorem ctX4_seen (l : Launch) : Ct l yX4_seen (.code yX4_seen cX4_seen 3 (some .boolean)) 2 spX4_seen := by
  refine Ct.of (own := RX4) (nm := "seen") (by decide) rfl rfl ?_
  rintro X av T I L R uc us rfl g hN hu hz ⟨p, many, N, rfl, rfl, rfl, hk⟩
  refine VE.go (ls := [some (.ref 0), some (.int p), some (.int many)]) g hu hz (fun _ => rfl) (fun _ => Nat.le_of_ble_eq_true rfl) ?_
  refine V_aload_0 g eX4_seen_0 ?_
  refine V_iconst (v := 0) g eX4_seen_1 (by decide) ?_
  refine V_putI g eX4_seen_2 pflX4_1 rfl rfl rfl rfl ?_
  generalize u2 I 0 0 0 = J at hk ⊢
  obtain ⟨hP, hN4, hk⟩ := hk
  refine V_aload_0 g eX4_seen_5 ?_
  refine V_iload_1 g eX4_seen_6 ?_
  refine V_cv1 g (ctX4_isPlant _) eX4_seen_7 pkX4_268 rfl rfl (by decide) (by decide) (Nat.le_of_ble_eq_true rfl) ?_
  refine ⟨_, rfl, rfl, rfl, ?_⟩
  refine V_if_eqB g eX4_seen_10 (fun c_10 => ?_) (fun c_10 => ?_)
  · refine V_iconst (v := 0) g eX4_seen_29 (by decide) ?_
    refine V_zret g eX4_seen_30 rfl ?_
    first | contradiction | (simp only [c_10, or_false, false_or, true_or, or_true, and_true, true_and, and_false, false_and, if_true, if_false, not_true_eq_false, not_false_eq_true, and_self, or_self] at hk ⊢; exact hk) | (simp only [isP, isBd, isLt, isDg, aMany, isNm, isD9, suit, c_10, or_false, false_or, true_or, or_true, and_true, true_and, and_false, false_and, if_true, if_false, not_true_eq_false, not_false_eq_true, and_self, or_self] at hk ⊢; exact hk) | ((try simp only [isP, isBd, isLt, isDg, aMany, isNm, isD9, suit, ← Int32.not_le, Decidable.not_not] at hk c_10 ⊢); simp only [c_10, or_false, false_or, true_or, or_true, and_true, true_and, and_false, false_and, if_true, if_false, not_true_eq_false, not_false_eq_true, and_self, or_self] at hk ⊢; exact hk)
  · obtain ⟨Q, hQ, rfl⟩ := isP_nI hP (by omega) c_10
    rw [nI_clamp (by omega)] at hk
    refine V_aload_0 g eX4_seen_13 ?_
    refine V_getR g eX4_seen_14 flX4_108 rfl rfl rfl ?_
    refine V_iload_1 g eX4_seen_17 ?_
    refine V_ialdN g eX4_seen_18 rfl (by omega) (by decide) ?_
    refine V_if_lt g eX4_seen_19 (fun c_19 => ?_) (fun c_19 => ?_)
    · refine V_iconst (v := 0) g eX4_seen_29 (by decide) ?_
      refine V_zret g eX4_seen_30 rfl ?_
      first | contradiction | (simp only [c_10, c_19, or_false, false_or, true_or, or_true, and_true, true_and, and_false, false_and, if_true, if_false, not_true_eq_false, not_false_eq_true, and_self, or_self] at hk ⊢; exact hk) | (simp only [isP, isBd, isLt, isDg, aMany, isNm, isD9, suit, c_10, c_19, or_false, false_or, true_or, or_true, and_true, true_and, and_false, false_and, if_true, if_false, not_true_eq_false, not_false_eq_true, and_self, or_self] at hk ⊢; exact hk) | ((try simp only [isP, isBd, isLt, isDg, aMany, isNm, isD9, suit, ← Int32.not_le, Decidable.not_not] at hk c_10 c_19 ⊢); simp only [c_10, c_19, or_false, false_or, true_or, or_true, and_true, true_and, and_false, false_and, if_true, if_false, not_true_eq_false, not_false_eq_true, and_self, or_self] at hk ⊢; exact hk)
    · refine V_iload_2 g eX4_seen_22 ?_
      refine V_cs1 g (ctX4_areMany _) eX4_seen_23 pkX4_261 (by decide) (Nat.le_of_ble_eq_true rfl) ?_
      refine ⟨_, rfl, rfl, rfl, ?_⟩
      refine V_if_neB g eX4_seen_26 (fun c_26 => ?_) (fun c_26 => ?_)
      · refine V_aload_0 g eX4_seen_31 ?_
        refine V_getR g eX4_seen_32 flX4_111 rfl rfl rfl ?_
        refine V_iload_1 g eX4_seen_35 ?_
        refine V_iload_2 g eX4_seen_36 ?_
        refine V_iastN g eX4_seen_37 rfl (by omega) (by decide) ?_
        refine V_iconst (v := 1) g eX4_seen_38 (by decide) ?_
        refine V_zret g eX4_seen_39 rfl ?_
        first | contradiction | (simp only [c_10, c_19, c_26, or_false, false_or, true_or, or_true, and_true, true_and, and_false, false_and, if_true, if_false, not_true_eq_false, not_false_eq_true, and_self, or_self] at hk ⊢; exact hk) | (simp only [isP, isBd, isLt, isDg, aMany, isNm, isD9, suit, c_10, c_19, c_26, or_false, false_or, true_or, or_true, and_true, true_and, and_false, false_and, if_true, if_false, not_true_eq_false, not_false_eq_true, and_self, or_self] at hk ⊢; exact hk) | ((try simp only [isP, isBd, isLt, isDg, aMany, isNm, isD9, suit, ← Int32.not_le, Decidable.not_not] at hk c_10 c_19 c_26 ⊢); simp only [c_10, c_19, c_26, or_false, false_or, true_or, or_true, and_true, true_and, and_false, false_and, if_true, if_false, not_true_eq_false, not_false_eq_true, and_self, or_self] at hk ⊢; exact hk)
      · refine V_iconst (v := 0) g eX4_seen_29 (by decide) ?_
        refine V_zret g eX4_seen_30 rfl ?_
        first | contradiction | (simp only [c_10, c_19, c_26, or_false, false_or, true_or, or_true, and_true, true_and, and_false, false_and, if_true, if_false, not_true_eq_false, not_false_eq_true, and_self, or_self] at hk ⊢; exact hk) | (simp only [isP, isBd, isLt, isDg, aMany, isNm, isD9, suit, c_10, c_19, c_26, or_false, false_or, true_or, or_true, and_true, true_and, and_false, false_and, if_true, if_false, not_true_eq_false, not_false_eq_true, and_self, or_self] at hk ⊢; exact hk) | ((try simp only [isP, isBd, isLt, isDg, aMany, isNm, isD9, suit, ← Int32.not_le, Decidable.not_not] at hk c_10 c_19 c_26 ⊢); simp only [c_10, c_19, c_26, or_false, false_or, true_or, or_true, and_true, true_and, and_false, false_and, if_true, if_false, not_true_eq_false, not_false_eq_true, and_self, or_self] at hk ⊢; exact hk)
abbrev spX4_sent : Sp := fun av T I L R uc us k => ∃ i : Int32, ∃ what : Int32, ∃ S : Nat, av = [.ref 0, .int i, .int what] ∧ T = TM ∧ R = RM ∧ (fun J => J 0 54 = nI S ∧ S ≤ 100 ∧ k (.inl (some (.int (if i < 0 ∨ J 0 54 ≤ i ∨ what < 0 ∨ 3 < what then -1 else J 55 (4 * i.toNatClampNeg + what.toNatClampNeg))))) T J L R uc us) (u2 I 0 0 0)
theorem eX4_sent_0 : dc cX4_sent 0 (.aload_n 0) 1 1 := ⟨by decide +kernel, rfl⟩
theorem eX4_sent_1 : dc cX4_sent 1 (.iconst 0) 1 2 := ⟨by decide +kernel, rfl⟩
theorem eX4_sent_2 : dc cX4_sent 2 (.putfield 1) 3 5 := ⟨by decide +kernel, rfl⟩
theorem eX4_sent_5 : dc cX4_sent 5 (.iload_n 1) 1 6 := ⟨by decide +kernel, rfl⟩
theorem eX4_sent_6 : dj cX4_sent 6 (.ifCond .lt 20) 20 26 9 := ⟨by decide +kernel, by decide, rfl⟩
theorem eX4_sent_26 : dc cX4_sent 26 (.iconst (-1)) 1 27 := ⟨by decide +kernel, rfl⟩
theorem eX4_sent_27 : dj cX4_sent 27 (.goto 13) 13 40 30 := ⟨by decide +kernel, by decide, rfl⟩
theorem eX4_sent_40 : dc cX4_sent 40 (.ireturn) 1 41 := ⟨by decide +kernel, rfl⟩
theorem eX4_sent_9 : dc cX4_sent 9 (.iload_n 1) 1 10 := ⟨by decide +kernel, rfl⟩
theorem eX4_sent_10 : dc cX4_sent 10 (.aload_n 0) 1 11 := ⟨by decide +kernel, rfl⟩
theorem eX4_sent_11 : dc cX4_sent 11 (.getfield 342) 3 14 := ⟨by decide +kernel, rfl⟩
theorem flX4_342 : FL RX4 342 3 54 := ⟨_, _, _, _, rfl, by decide, by decide, Or.inl (lk q1293), Or.inl rfl⟩
theorem eX4_sent_14 : dj cX4_sent 14 (.if_icmp .ge 12) 12 26 17 := ⟨by decide +kernel, by decide, rfl⟩
theorem eX4_sent_17 : dc cX4_sent 17 (.iload_n 2) 1 18 := ⟨by decide +kernel, rfl⟩
theorem eX4_sent_18 : dj cX4_sent 18 (.ifCond .lt 8) 8 26 21 := ⟨by decide +kernel, by decide, rfl⟩
theorem eX4_sent_21 : dc cX4_sent 21 (.iload_n 2) 1 22 := ⟨by decide +kernel, rfl⟩
theorem eX4_sent_22 : dc cX4_sent 22 (.iconst 3) 1 23 := ⟨by decide +kernel, rfl⟩
theorem eX4_sent_23 : dj cX4_sent 23 (.if_icmp .le 7) 7 30 26 := ⟨by decide +kernel, by decide, rfl⟩
theorem eX4_sent_30 : dc cX4_sent 30 (.aload_n 0) 1 31 := ⟨by decide +kernel, rfl⟩
theorem eX4_sent_31 : dc cX4_sent 31 (.getfield 165) 3 34 := ⟨by decide +kernel, rfl⟩
theorem flX4_165 : FL RX4 165 3 55 := ⟨_, _, _, _, rfl, by decide, by decide, Or.inl (lk q1294), Or.inl rfl⟩
theorem eX4_sent_34 : dc cX4_sent 34 (.iconst 4) 1 35 := ⟨by decide +kernel, rfl⟩
theorem eX4_sent_35 : dc cX4_sent 35 (.iload_n 1) 1 36 := ⟨by decide +kernel, rfl⟩
theorem eX4_sent_36 : dc cX4_sent 36 (.imul) 1 37 := ⟨by decide +kernel, rfl⟩
theorem eX4_sent_37 : dc cX4_sent 37 (.iload_n 2) 1 38 := ⟨by decide +kernel, rfl⟩
theorem eX4_sent_38 : dc cX4_sent 38 (.iadd) 1 39 := ⟨by decide +kernel, rfl⟩
theorem eX4_sent_39 : dc cX4_sent 39 (.iaload) 1 40 := ⟨by decide +kernel, rfl⟩
set_option maxHeartbeats 8000000 in
theorem ctX4_sent (l : Launch) : Ct l yX4_sent (.code yX4_sent cX4_sent 3 (some .int)) 1 spX4_sent := by
  refine Ct.of (own := RX4) (nm := "sent") (by decide) rfl rfl ?_
  rintro X av T I L R uc us rfl g hN hu hz ⟨i, what, S, rfl, rfl, rfl, hk⟩
  refine VE.go (ls := [some (.ref 0), some (.int i), some (.int what)]) g hu hz (fun _ => rfl) (fun _ => Nat.le_of_ble_eq_true rfl) ?_
  refine V_aload_0 g eX4_sent_0 ?_
  refine V_iconst (v := 0) g eX4_sent_1 (by decide) ?_
  refine V_putI g eX4_sent_2 pflX4_1 rfl rfl rfl rfl ?_
  generalize u2 I 0 0 0 = J at hk ⊢
  obtain ⟨hS, hS1, hk⟩ := hk
  refine V_iload_1 g eX4_sent_5 ?_
  refine V_if_lt g eX4_sent_6 (fun c_6 => ?_) (fun c_6 => ?_)
  · refine V_iconst (v := (-1)) g eX4_sent_26 (by decide) ?_
    refine V_goto g eX4_sent_27 ?_
    refine V_iret g eX4_sent_40 ?_
    first | contradiction | (simp only [c_6, or_false, false_or, true_or, or_true, and_true, true_and, and_false, false_and, if_true, if_false, not_true_eq_false, not_false_eq_true, and_self, or_self] at hk ⊢; exact hk) | (simp only [isP, isBd, isLt, isDg, aMany, isNm, isD9, suit, c_6, or_false, false_or, true_or, or_true, and_true, true_and, and_false, false_and, if_true, if_false, not_true_eq_false, not_false_eq_true, and_self, or_self] at hk ⊢; exact hk) | ((try simp only [isP, isBd, isLt, isDg, aMany, isNm, isD9, suit, ← Int32.not_le, Decidable.not_not] at hk c_6 ⊢); simp only [c_6, or_false, false_or, true_or, or_true, and_true, true_and, and_false, false_and, if_true, if_false, not_true_eq_false, not_false_eq_true, and_self, or_self] at hk ⊢; exact hk)
  · refine V_iload_1 g eX4_sent_9 ?_
    refine V_aload_0 g eX4_sent_10 ?_
    refine V_getI g eX4_sent_11 flX4_342 rfl rfl ?_
    refine V_icmp_ge g eX4_sent_14 (fun c_14 => ?_) (fun c_14 => ?_)
    · refine V_iconst (v := (-1)) g eX4_sent_26 (by decide) ?_
      refine V_goto g eX4_sent_27 ?_
      refine V_iret g eX4_sent_40 ?_
      first | contradiction | (simp only [c_6, c_14, or_false, false_or, true_or, or_true, and_true, true_and, and_false, false_and, if_true, if_false, not_true_eq_false, not_false_eq_true, and_self, or_self] at hk ⊢; exact hk) | (simp only [isP, isBd, isLt, isDg, aMany, isNm, isD9, suit, c_6, c_14, or_false, false_or, true_or, or_true, and_true, true_and, and_false, false_and, if_true, if_false, not_true_eq_false, not_false_eq_true, and_self, or_self] at hk ⊢; exact hk) | ((try simp only [isP, isBd, isLt, isDg, aMany, isNm, isD9, suit, ← Int32.not_le, Decidable.not_not] at hk c_6 c_14 ⊢); simp only [c_6, c_14, or_false, false_or, true_or, or_true, and_true, true_and, and_false, false_and, if_true, if_false, not_true_eq_false, not_false_eq_true, and_self, or_self] at hk ⊢; exact hk)
    · refine V_iload_2 g eX4_sent_17 ?_
      refine V_if_lt g eX4_sent_18 (fun c_18 => ?_) (fun c_18 => ?_)
      · refine V_iconst (v := (-1)) g eX4_sent_26 (by decide) ?_
        refine V_goto g eX4_sent_27 ?_
        refine V_iret g eX4_sent_40 ?_
        first | contradiction | (simp only [c_6, c_14, c_18, or_false, false_or, true_or, or_true, and_true, true_and, and_false, false_and, if_true, if_false, not_true_eq_false, not_false_eq_true, and_self, or_self] at hk ⊢; exact hk) | (simp only [isP, isBd, isLt, isDg, aMany, isNm, isD9, suit, c_6, c_14, c_18, or_false, false_or, true_or, or_true, and_true, true_and, and_false, false_and, if_true, if_false, not_true_eq_false, not_false_eq_true, and_self, or_self] at hk ⊢; exact hk) | ((try simp only [isP, isBd, isLt, isDg, aMany, isNm, isD9, suit, ← Int32.not_le, Decidable.not_not] at hk c_6 c_14 c_18 ⊢); simp only [c_6, c_14, c_18, or_false, false_or, true_or, or_true, and_true, true_and, and_false, false_and, if_true, if_false, not_true_eq_false, not_false_eq_true, and_self, or_self] at hk ⊢; exact hk)
      · refine V_iload_2 g eX4_sent_21 ?_
        refine V_iconst (v := 3) g eX4_sent_22 (by decide) ?_
        refine V_icmp_le g eX4_sent_23 (fun c_23 => ?_) (fun c_23 => ?_)
        · obtain ⟨Q, hQ, rfl⟩ := in_nI (N := S) (by omega) c_6 (by rw [← hS]; exact c_14)
          obtain ⟨W, hW, rfl⟩ := d4_nI c_18 (fun q => absurd c_23 (Int32.not_le.mpr q))
          rw [nI_clamp (by omega), nI_clamp (by omega)] at hk
          refine V_aload_0 g eX4_sent_30 ?_
          refine V_getR g eX4_sent_31 flX4_165 rfl rfl rfl ?_
          refine V_iconst (v := 4) g eX4_sent_34 (by decide) ?_
          refine V_iload_1 g eX4_sent_35 ?_
          refine V_imulN (a := 4) g eX4_sent_36 ?_
          refine V_iload_2 g eX4_sent_37 ?_
          refine V_iaddN g eX4_sent_38 ?_
          refine V_ialdN g eX4_sent_39 rfl (by omega) (by decide) ?_
          refine V_iret g eX4_sent_40 ?_
          first | contradiction | (simp only [c_6, c_14, c_18, c_23, or_false, false_or, true_or, or_true, and_true, true_and, and_false, false_and, if_true, if_false, not_true_eq_false, not_false_eq_true, and_self, or_self] at hk ⊢; exact hk) | (simp only [isP, isBd, isLt, isDg, aMany, isNm, isD9, suit, c_6, c_14, c_18, c_23, or_false, false_or, true_or, or_true, and_true, true_and, and_false, false_and, if_true, if_false, not_true_eq_false, not_false_eq_true, and_self, or_self] at hk ⊢; exact hk) | ((try simp only [isP, isBd, isLt, isDg, aMany, isNm, isD9, suit, ← Int32.not_le, Decidable.not_not] at hk c_6 c_14 c_18 c_23 ⊢); simp only [c_6, c_14, c_18, c_23, or_false, false_or, true_or, or_true, and_true, true_and, and_false, false_and, if_true, if_false, not_true_eq_false, not_false_eq_true, and_self, or_self] at hk ⊢; exact hk)
        · refine V_iconst (v := (-1)) g eX4_sent_26 (by decide) ?_
          refine V_goto g eX4_sent_27 ?_
          refine V_iret g eX4_sent_40 ?_
          first | contradiction | (simp only [c_6, c_14, c_18, c_23, or_false, false_or, true_or, or_true, and_true, true_and, and_false, false_and, if_true, if_false, not_true_eq_false, not_false_eq_true, and_self, or_self] at hk ⊢; exact hk) | (simp only [isP, isBd, isLt, isDg, aMany, isNm, isD9, suit, c_6, c_14, c_18, c_23, or_false, false_or, true_or, or_true, and_true, true_and, and_false, false_and, if_true, if_false, not_true_eq_false, not_false_eq_true, and_self, or_self] at hk ⊢; exact hk) | ((try simp only [isP, isBd, isLt, isDg, aMany, isNm, isD9, suit, ← Int32.not_le, Decidable.not_not] at hk c_6 c_14 c_18 c_23 ⊢); simp only [c_6, c_14, c_18, c_23, or_false, false_or, true_or, or_true, and_true, true_and, and_false, false_and, if_true, if_false, not_true_eq_false, not_false_eq_true, and_self, or_self] at hk ⊢; exact hk)
abbrev ckD (I : It) (P : Nat) : Prop := ¬ I 34 P + 1 < 2 ∧ I 35 P = 0
def ckR (I : It) (P : Nat) : Int32 := if I 33 P < 0 then bI (ckD I P) else 0
def ckI (I : It) (P : Nat) : It := if I 33 P < 0 then u2 (u2 I 34 P (I 34 P + 1)) 35 P (bI (¬ I 35 P = 0 ∨ ckD I P)) else u2 (u2 (u2 (u2 I 34 P 0) 35 P 0) 29 P (I 33 P)) 33 P (-1)
abbrev spX4_checks : Sp := fun av T I L R uc us k => ∃ P : Nat, av = [.ref 0, .int (nI P)] ∧ T = TM ∧ R = RM ∧ P < 40 ∧ k (.inl (some (.int (ckR I P)))) T (ckI I P) L R uc us
theorem eX4_checks_0 : dc cX4_checks 0 (.aload_n 0) 1 1 := ⟨by decide +kernel, rfl⟩
theorem eX4_checks_1 : dc cX4_checks 1 (.getfield 111) 3 4 := ⟨by decide +kernel, rfl⟩
theorem eX4_checks_4 : dc cX4_checks 4 (.iload_n 1) 1 5 := ⟨by decide +kernel, rfl⟩
theorem eX4_checks_5 : dc cX4_checks 5 (.iaload) 1 6 := ⟨by decide +kernel, rfl⟩
theorem eX4_checks_6 : dj cX4_checks 6 (.ifCond .lt 38) 38 44 9 := ⟨by decide +kernel, by decide, rfl⟩
theorem eX4_checks_44 : dc cX4_checks 44 (.aload_n 0) 1 45 := ⟨by decide +kernel, rfl⟩
theorem eX4_checks_45 : dc cX4_checks 45 (.getfield 114) 3 48 := ⟨by decide +kernel, rfl⟩
theorem flX4_114 : FL RX4 114 3 34 := ⟨_, _, _, _, rfl, by decide, by decide, Or.inl (lk q1273), Or.inl rfl⟩
theorem eX4_checks_48 : dc cX4_checks 48 (.iload_n 1) 1 49 := ⟨by decide +kernel, rfl⟩
theorem eX4_checks_49 : dc cX4_checks 49 (.dup2) 1 50 := ⟨by decide +kernel, rfl⟩
theorem eX4_checks_50 : dc cX4_checks 50 (.iaload) 1 51 := ⟨by decide +kernel, rfl⟩
theorem eX4_checks_51 : dc cX4_checks 51 (.iconst 1) 1 52 := ⟨by decide +kernel, rfl⟩
theorem eX4_checks_52 : dc cX4_checks 52 (.iadd) 1 53 := ⟨by decide +kernel, rfl⟩
theorem eX4_checks_53 : dc cX4_checks 53 (.iastore) 1 54 := ⟨by decide +kernel, rfl⟩
theorem eX4_checks_54 : dc cX4_checks 54 (.aload_n 0) 1 55 := ⟨by decide +kernel, rfl⟩
theorem eX4_checks_55 : dc cX4_checks 55 (.getfield 114) 3 58 := ⟨by decide +kernel, rfl⟩
theorem eX4_checks_58 : dc cX4_checks 58 (.iload_n 1) 1 59 := ⟨by decide +kernel, rfl⟩
theorem eX4_checks_59 : dc cX4_checks 59 (.iaload) 1 60 := ⟨by decide +kernel, rfl⟩
theorem eX4_checks_60 : dc cX4_checks 60 (.iconst 2) 1 61 := ⟨by decide +kernel, rfl⟩
theorem eX4_checks_61 : dj cX4_checks 61 (.if_icmp .lt 16) 16 77 64 := ⟨by decide +kernel, by decide, rfl⟩
theorem eX4_checks_77 : dc cX4_checks 77 (.iconst 0) 1 78 := ⟨by decide +kernel, rfl⟩
theorem eX4_checks_78 : dc cX4_checks 78 (.istore_n 2) 1 79 := ⟨by decide +kernel, rfl⟩
theorem eX4_checks_79 : dc cX4_checks 79 (.aload_n 0) 1 80 := ⟨by decide +kernel, rfl⟩
theorem eX4_checks_80 : dc cX4_checks 80 (.getfield 117) 3 83 := ⟨by decide +kernel, rfl⟩
theorem flX4_117 : FL RX4 117 3 35 := ⟨_, _, _, _, rfl, by decide, by decide, Or.inl (lk q1274), Or.inl rfl⟩
theorem eX4_checks_83 : dc cX4_checks 83 (.iload_n 1) 1 84 := ⟨by decide +kernel, rfl⟩
theorem eX4_checks_84 : dc cX4_checks 84 (.aload_n 0) 1 85 := ⟨by decide +kernel, rfl⟩
theorem eX4_checks_85 : dc cX4_checks 85 (.getfield 117) 3 88 := ⟨by decide +kernel, rfl⟩
theorem eX4_checks_88 : dc cX4_checks 88 (.iload_n 1) 1 89 := ⟨by decide +kernel, rfl⟩
theorem eX4_checks_89 : dc cX4_checks 89 (.baload) 1 90 := ⟨by decide +kernel, rfl⟩
theorem eX4_checks_90 : dj cX4_checks 90 (.ifCond .ne 7) 7 97 93 := ⟨by decide +kernel, by decide, rfl⟩
theorem eX4_checks_97 : dc cX4_checks 97 (.iconst 1) 1 98 := ⟨by decide +kernel, rfl⟩
theorem eX4_checks_98 : dj cX4_checks 98 (.goto 4) 4 102 101 := ⟨by decide +kernel, by decide, rfl⟩
theorem eX4_checks_102 : dc cX4_checks 102 (.bastore) 1 103 := ⟨by decide +kernel, rfl⟩
theorem eX4_checks_103 : dc cX4_checks 103 (.iload_n 2) 1 104 := ⟨by decide +kernel, rfl⟩
theorem eX4_checks_104 : dc cX4_checks 104 (.ireturn) 1 105 := ⟨by decide +kernel, rfl⟩
theorem eX4_checks_93 : dc cX4_checks 93 (.iload_n 2) 1 94 := ⟨by decide +kernel, rfl⟩
theorem eX4_checks_94 : dj cX4_checks 94 (.ifCond .eq 7) 7 101 97 := ⟨by decide +kernel, by decide, rfl⟩
theorem eX4_checks_101 : dc cX4_checks 101 (.iconst 0) 1 102 := ⟨by decide +kernel, rfl⟩
theorem eX4_checks_64 : dc cX4_checks 64 (.aload_n 0) 1 65 := ⟨by decide +kernel, rfl⟩
theorem eX4_checks_65 : dc cX4_checks 65 (.getfield 117) 3 68 := ⟨by decide +kernel, rfl⟩
theorem eX4_checks_68 : dc cX4_checks 68 (.iload_n 1) 1 69 := ⟨by decide +kernel, rfl⟩
theorem eX4_checks_69 : dc cX4_checks 69 (.baload) 1 70 := ⟨by decide +kernel, rfl⟩
theorem eX4_checks_70 : dj cX4_checks 70 (.ifCond .ne 7) 7 77 73 := ⟨by decide +kernel, by decide, rfl⟩
theorem eX4_checks_73 : dc cX4_checks 73 (.iconst 1) 1 74 := ⟨by decide +kernel, rfl⟩
theorem eX4_checks_74 : dj cX4_checks 74 (.goto 4) 4 78 77 := ⟨by decide +kernel, by decide, rfl⟩
theorem eX4_checks_9 : dc cX4_checks 9 (.aload_n 0) 1 10 := ⟨by decide +kernel, rfl⟩
theorem eX4_checks_10 : dc cX4_checks 10 (.getfield 114) 3 13 := ⟨by decide +kernel, rfl⟩
theorem eX4_checks_13 : dc cX4_checks 13 (.iload_n 1) 1 14 := ⟨by decide +kernel, rfl⟩
theorem eX4_checks_14 : dc cX4_checks 14 (.iconst 0) 1 15 := ⟨by decide +kernel, rfl⟩
theorem eX4_checks_15 : dc cX4_checks 15 (.iastore) 1 16 := ⟨by decide +kernel, rfl⟩
theorem eX4_checks_16 : dc cX4_checks 16 (.aload_n 0) 1 17 := ⟨by decide +kernel, rfl⟩
theorem eX4_checks_17 : dc cX4_checks 17 (.getfield 117) 3 20 := ⟨by decide +kernel, rfl⟩
theorem eX4_checks_20 : dc cX4_checks 20 (.iload_n 1) 1 21 := ⟨by decide +kernel, rfl⟩
theorem eX4_checks_21 : dc cX4_checks 21 (.iconst 0) 1 22 := ⟨by decide +kernel, rfl⟩
theorem eX4_checks_22 : dc cX4_checks 22 (.bastore) 1 23 := ⟨by decide +kernel, rfl⟩
theorem eX4_checks_23 : dc cX4_checks 23 (.aload_n 0) 1 24 := ⟨by decide +kernel, rfl⟩
theorem eX4_checks_24 : dc cX4_checks 24 (.getfield 99) 3 27 := ⟨by decide +kernel, rfl⟩
theorem eX4_checks_27 : dc cX4_checks 27 (.iload_n 1) 1 28 := ⟨by decide +kernel, rfl⟩
theorem eX4_checks_28 : dc cX4_checks 28 (.aload_n 0) 1 29 := ⟨by decide +kernel, rfl⟩
theorem eX4_checks_29 : dc cX4_checks 29 (.getfield 111) 3 32 := ⟨by decide +kernel, rfl⟩
theorem eX4_checks_32 : dc cX4_checks 32 (.iload_n 1) 1 33 := ⟨by decide +kernel, rfl⟩
theorem eX4_checks_33 : dc cX4_checks 33 (.iaload) 1 34 := ⟨by decide +kernel, rfl⟩
theorem eX4_checks_34 : dc cX4_checks 34 (.iastore) 1 35 := ⟨by decide +kernel, rfl⟩
theorem eX4_checks_35 : dc cX4_checks 35 (.aload_n 0) 1 36 := ⟨by decide +kernel, rfl⟩
theorem eX4_checks_36 : dc cX4_checks 36 (.getfield 111) 3 39 := ⟨by decide +kernel, rfl⟩
theorem eX4_checks_39 : dc cX4_checks 39 (.iload_n 1) 1 40 := ⟨by decide +kernel, rfl⟩
theorem eX4_checks_40 : dc cX4_checks 40 (.iconst (-1)) 1 41 := ⟨by decide +kernel, rfl⟩
theorem eX4_checks_41 : dc cX4_checks 41 (.iastore) 1 42 := ⟨by decide +kernel, rfl⟩
theorem eX4_checks_42 : dc cX4_checks 42 (.iconst 0) 1 43 := ⟨by decide +kernel, rfl⟩
theorem eX4_checks_43 : dc cX4_checks 43 (.ireturn) 1 44 := ⟨by decide +kernel, rfl⟩
set_option maxHeartbeats 8000000 in
theorem ctX4_checks (l : Launch) : Ct l yX4_checks (.code yX4_checks cX4_checks 3 (some .boolean)) 1 spX4_checks := by
  refine Ct.of (own := RX4) (nm := "checks") (by decide) rfl rfl ?_
  rintro X av T I L R uc us rfl g hN hu hz ⟨P, rfl, rfl, rfl, hP, hk⟩
  refine VE.go (ls := [some (.ref 0), some (.int (nI P)), none]) g hu hz (fun _ => rfl) (fun _ => Nat.le_of_ble_eq_true rfl) ?_
  unfold ckR ckI at hk
  refine V_aload_0 g eX4_checks_0 ?_
  refine V_getR g eX4_checks_1 flX4_111 rfl rfl rfl ?_
  refine V_iload_1 g eX4_checks_4 ?_
  refine V_ialdN g eX4_checks_5 rfl (by omega) (by decide) ?_
  refine V_if_lt g eX4_checks_6 (fun c_6 => ?_) (fun c_6 => ?_)
  · refine V_aload_0 g eX4_checks_44 ?_
    refine V_getR g eX4_checks_45 flX4_114 rfl rfl rfl ?_
    refine V_iload_1 g eX4_checks_48 ?_
    refine V_dup2 g eX4_checks_49 rfl rfl ?_
    refine V_ialdN g eX4_checks_50 rfl (by omega) (by decide) ?_
    refine V_iconst (v := 1) g eX4_checks_51 (by decide) ?_
    refine V_iadd g eX4_checks_52 ?_
    refine V_iastN g eX4_checks_53 rfl (by omega) (by decide) ?_
    refine V_aload_0 g eX4_checks_54 ?_
    refine V_getR g eX4_checks_55 flX4_114 rfl rfl rfl ?_
    refine V_iload_1 g eX4_checks_58 ?_
    refine V_ialdN g eX4_checks_59 rfl (by omega) (by decide) ?_
    refine V_top (y := I 34 P + 1) (by simp [u2]) ?_
    refine V_iconst (v := 2) g eX4_checks_60 (by decide) ?_
    refine V_icmp_lt g eX4_checks_61 (fun c_61 => ?_) (fun c_61 => ?_)
    · refine V_iconst (v := 0) g eX4_checks_77 (by decide) ?_
      refine V_istore_2 g eX4_checks_78 (by decide) rfl ?_
      refine V_aload_0 g eX4_checks_79 ?_
      refine V_getR g eX4_checks_80 flX4_117 rfl rfl rfl ?_
      refine V_iload_1 g eX4_checks_83 ?_
      refine V_aload_0 g eX4_checks_84 ?_
      refine V_getR g eX4_checks_85 flX4_117 rfl rfl rfl ?_
      refine V_iload_1 g eX4_checks_88 ?_
      refine V_zaldN g eX4_checks_89 rfl (by omega) (by decide) ?_
      refine V_top (y := I 35 P) (by simp [u2]) ?_
      refine V_if_ne g eX4_checks_90 (fun c_90 => ?_) (fun c_90 => ?_)
      · refine V_iconst (v := 1) g eX4_checks_97 (by decide) ?_
        refine V_goto g eX4_checks_98 ?_
        refine V_zastN g eX4_checks_102 rfl (by omega) (by decide) rfl ?_
        refine V_iload_2 g eX4_checks_103 ?_
        refine V_zret g eX4_checks_104 rfl ?_
        first | exact absurd c_94 (by decide) | (simp only [bI, ckD, c_6, c_61, c_90, or_false, false_or, true_or, or_true, and_true, true_and, and_false, false_and, if_true, if_false, not_true_eq_false, not_false_eq_true, and_self, or_self] at hk; first | exact hk | contradiction)
      · refine V_iload_2 g eX4_checks_93 ?_
        refine V_if_eq g eX4_checks_94 (fun c_94 => ?_) (fun c_94 => ?_)
        · refine V_iconst (v := 0) g eX4_checks_101 (by decide) ?_
          refine V_zastN g eX4_checks_102 rfl (by omega) (by decide) rfl ?_
          refine V_iload_2 g eX4_checks_103 ?_
          refine V_zret g eX4_checks_104 rfl ?_
          first | exact absurd c_94 (by decide) | (simp only [bI, ckD, c_6, c_61, c_90, c_94, or_false, false_or, true_or, or_true, and_true, true_and, and_false, false_and, if_true, if_false, not_true_eq_false, not_false_eq_true, and_self, or_self] at hk; first | exact hk | contradiction)
        · refine V_iconst (v := 1) g eX4_checks_97 (by decide) ?_
          refine V_goto g eX4_checks_98 ?_
          refine V_zastN g eX4_checks_102 rfl (by omega) (by decide) rfl ?_
          refine V_iload_2 g eX4_checks_103 ?_
          refine V_zret g eX4_checks_104 rfl ?_
          first | exact absurd c_94 (by decide) | (simp only [bI, ckD, c_6, c_61, c_90, c_94, or_false, false_or, true_or, or_true, and_true, true_and, and_false, false_and, if_true, if_false, not_true_eq_false, not_false_eq_true, and_self, or_self] at hk; first | exact hk | contradiction)
    · refine V_aload_0 g eX4_checks_64 ?_
      refine V_getR g eX4_checks_65 flX4_117 rfl rfl rfl ?_
      refine V_iload_1 g eX4_checks_68 ?_
      refine V_zaldN g eX4_checks_69 rfl (by omega) (by decide) ?_
      refine V_top (y := I 35 P) (by simp [u2]) ?_
      refine V_if_ne g eX4_checks_70 (fun c_70 => ?_) (fun c_70 => ?_)
      · refine V_iconst (v := 0) g eX4_checks_77 (by decide) ?_
        refine V_istore_2 g eX4_checks_78 (by decide) rfl ?_
        refine V_aload_0 g eX4_checks_79 ?_
        refine V_getR g eX4_checks_80 flX4_117 rfl rfl rfl ?_
        refine V_iload_1 g eX4_checks_83 ?_
        refine V_aload_0 g eX4_checks_84 ?_
        refine V_getR g eX4_checks_85 flX4_117 rfl rfl rfl ?_
        refine V_iload_1 g eX4_checks_88 ?_
        refine V_zaldN g eX4_checks_89 rfl (by omega) (by decide) ?_
        refine V_top (y := I 35 P) (by simp [u2]) ?_
        refine V_if_ne g eX4_checks_90 (fun c_90 => ?_) (fun c_90 => ?_)
        · refine V_iconst (v := 1) g eX4_checks_97 (by decide) ?_
          refine V_goto g eX4_checks_98 ?_
          refine V_zastN g eX4_checks_102 rfl (by omega) (by decide) rfl ?_
          refine V_iload_2 g eX4_checks_103 ?_
          refine V_zret g eX4_checks_104 rfl ?_
          first | exact absurd c_94 (by decide) | (simp only [bI, ckD, c_6, c_61, c_70, c_90, or_false, false_or, true_or, or_true, and_true, true_and, and_false, false_and, if_true, if_false, not_true_eq_false, not_false_eq_true, and_self, or_self] at hk; first | exact hk | contradiction)
        · refine V_iload_2 g eX4_checks_93 ?_
          refine V_if_eq g eX4_checks_94 (fun c_94 => ?_) (fun c_94 => ?_)
          · refine V_iconst (v := 0) g eX4_checks_101 (by decide) ?_
            refine V_zastN g eX4_checks_102 rfl (by omega) (by decide) rfl ?_
            refine V_iload_2 g eX4_checks_103 ?_
            refine V_zret g eX4_checks_104 rfl ?_
            first | exact absurd c_94 (by decide) | (simp only [bI, ckD, c_6, c_61, c_70, c_90, c_94, or_false, false_or, true_or, or_true, and_true, true_and, and_false, false_and, if_true, if_false, not_true_eq_false, not_false_eq_true, and_self, or_self] at hk; first | exact hk | contradiction)
          · refine V_iconst (v := 1) g eX4_checks_97 (by decide) ?_
            refine V_goto g eX4_checks_98 ?_
            refine V_zastN g eX4_checks_102 rfl (by omega) (by decide) rfl ?_
            refine V_iload_2 g eX4_checks_103 ?_
            refine V_zret g eX4_checks_104 rfl ?_
            first | exact absurd c_94 (by decide) | (simp only [bI, ckD, c_6, c_61, c_70, c_90, c_94, or_false, false_or, true_or, or_true, and_true, true_and, and_false, false_and, if_true, if_false, not_true_eq_false, not_false_eq_true, and_self, or_self] at hk; first | exact hk | contradiction)
      · refine V_iconst (v := 1) g eX4_checks_73 (by decide) ?_
        refine V_goto g eX4_checks_74 ?_
        refine V_istore_2 g eX4_checks_78 (by decide) rfl ?_
        refine V_aload_0 g eX4_checks_79 ?_
        refine V_getR g eX4_checks_80 flX4_117 rfl rfl rfl ?_
        refine V_iload_1 g eX4_checks_83 ?_
        refine V_aload_0 g eX4_checks_84 ?_
        refine V_getR g eX4_checks_85 flX4_117 rfl rfl rfl ?_
        refine V_iload_1 g eX4_checks_88 ?_
        refine V_zaldN g eX4_checks_89 rfl (by omega) (by decide) ?_
        refine V_top (y := I 35 P) (by simp [u2]) ?_
        refine V_if_ne g eX4_checks_90 (fun c_90 => ?_) (fun c_90 => ?_)
        · refine V_iconst (v := 1) g eX4_checks_97 (by decide) ?_
          refine V_goto g eX4_checks_98 ?_
          refine V_zastN g eX4_checks_102 rfl (by omega) (by decide) rfl ?_
          refine V_iload_2 g eX4_checks_103 ?_
          refine V_zret g eX4_checks_104 rfl ?_
          first | exact absurd c_94 (by decide) | (simp only [bI, ckD, c_6, c_61, c_70, c_90, or_false, false_or, true_or, or_true, and_true, true_and, and_false, false_and, if_true, if_false, not_true_eq_false, not_false_eq_true, and_self, or_self] at hk; first | exact hk | contradiction)
        · refine V_iload_2 g eX4_checks_93 ?_
          refine V_if_eq g eX4_checks_94 (fun c_94 => ?_) (fun c_94 => ?_)
          · refine V_iconst (v := 0) g eX4_checks_101 (by decide) ?_
            refine V_zastN g eX4_checks_102 rfl (by omega) (by decide) rfl ?_
            refine V_iload_2 g eX4_checks_103 ?_
            refine V_zret g eX4_checks_104 rfl ?_
            first | exact absurd c_94 (by decide) | (simp only [bI, ckD, c_6, c_61, c_70, c_90, c_94, or_false, false_or, true_or, or_true, and_true, true_and, and_false, false_and, if_true, if_false, not_true_eq_false, not_false_eq_true, and_self, or_self] at hk; first | exact hk | contradiction)
          · refine V_iconst (v := 1) g eX4_checks_97 (by decide) ?_
            refine V_goto g eX4_checks_98 ?_
            refine V_zastN g eX4_checks_102 rfl (by omega) (by decide) rfl ?_
            refine V_iload_2 g eX4_checks_103 ?_
            refine V_zret g eX4_checks_104 rfl ?_
            first | exact absurd c_94 (by decide) | (simp only [bI, ckD, c_6, c_61, c_70, c_90, c_94, or_false, false_or, true_or, or_true, and_true, true_and, and_false, false_and, if_true, if_false, not_true_eq_false, not_false_eq_true, and_self, or_self] at hk; first | exact hk | contradiction)
  · refine V_aload_0 g eX4_checks_9 ?_
    refine V_getR g eX4_checks_10 flX4_114 rfl rfl rfl ?_
    refine V_iload_1 g eX4_checks_13 ?_
    refine V_iconst (v := 0) g eX4_checks_14 (by decide) ?_
    refine V_iastN g eX4_checks_15 rfl (by omega) (by decide) ?_
    refine V_aload_0 g eX4_checks_16 ?_
    refine V_getR g eX4_checks_17 flX4_117 rfl rfl rfl ?_
    refine V_iload_1 g eX4_checks_20 ?_
    refine V_iconst (v := 0) g eX4_checks_21 (by decide) ?_
    refine V_zastN g eX4_checks_22 rfl (by omega) (by decide) rfl ?_
    refine V_aload_0 g eX4_checks_23 ?_
    refine V_getR g eX4_checks_24 flX4_99 rfl rfl rfl ?_
    refine V_iload_1 g eX4_checks_27 ?_
    refine V_aload_0 g eX4_checks_28 ?_
    refine V_getR g eX4_checks_29 flX4_111 rfl rfl rfl ?_
    refine V_iload_1 g eX4_checks_32 ?_
    refine V_ialdN g eX4_checks_33 rfl (by omega) (by decide) ?_
    refine V_top (y := I 33 P) (by simp [u2]) ?_
    refine V_iastN g eX4_checks_34 rfl (by omega) (by decide) ?_
    refine V_aload_0 g eX4_checks_35 ?_
    refine V_getR g eX4_checks_36 flX4_111 rfl rfl rfl ?_
    refine V_iload_1 g eX4_checks_39 ?_
    refine V_iconst (v := (-1)) g eX4_checks_40 (by decide) ?_
    refine V_iastN g eX4_checks_41 rfl (by omega) (by decide) ?_
    refine V_iconst (v := 0) g eX4_checks_42 (by decide) ?_
    refine V_zret g eX4_checks_43 rfl ?_
    simp only [c_6, or_false, false_or, true_or, or_true, and_true, true_and, and_false, false_and, if_true, if_false, not_true_eq_false, not_false_eq_true, and_self, or_self] at hk
    exact hk

