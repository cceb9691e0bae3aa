/-! BedBookModel: fits, changed, names, joins (printed out of tmpl/t_model5.txt) -/
set_option maxRecDepth 100000
abbrev spX4_fits : Sp := fun av T I L R uc us k => ∃ p : Int32, ∃ N : Nat, av = [.ref 0, .int p] ∧ T = TM ∧ R = RM ∧ (fun J => J 0 25 = nI N ∧ N ≤ 40 ∧ (∀ A, A < N → ofOK J A) ∧ k (.inl (some (.int (if ¬ isP J p then -1 else bI (fitA J p.toNatClampNeg p.toNatClampNeg))))) T J L R uc us) (u2 I 0 0 0)
theorem eX4_fits_0 : dc cX4_fits 0 (.aload_n 0) 1 1 := ⟨by decide +kernel, rfl⟩
theorem eX4_fits_1 : dc cX4_fits 1 (.iconst 0) 1 2 := ⟨by decide +kernel, rfl⟩
theorem eX4_fits_2 : dc cX4_fits 2 (.putfield 1) 3 5 := ⟨by decide +kernel, rfl⟩
theorem eX4_fits_5 : dc cX4_fits 5 (.aload_n 0) 1 6 := ⟨by decide +kernel, rfl⟩
theorem eX4_fits_6 : dc cX4_fits 6 (.iload_n 1) 1 7 := ⟨by decide +kernel, rfl⟩
theorem eX4_fits_7 : dc cX4_fits 7 (.invokevirtual 268) 3 10 := ⟨by decide +kernel, rfl⟩
theorem eX4_fits_10 : dj cX4_fits 10 (.ifCond .ne 7) 7 17 13 := ⟨by decide +kernel, by decide, rfl⟩
theorem eX4_fits_17 : dc cX4_fits 17 (.aload_n 0) 1 18 := ⟨by decide +kernel, rfl⟩
theorem eX4_fits_18 : dc cX4_fits 18 (.iload_n 1) 1 19 := ⟨by decide +kernel, rfl⟩
theorem eX4_fits_19 : dc cX4_fits 19 (.iload_n 1) 1 20 := ⟨by decide +kernel, rfl⟩
theorem eX4_fits_20 : dc cX4_fits 20 (.invokevirtual 279) 3 23 := ⟨by decide +kernel, rfl⟩
theorem pkX4_279 : PkV RX4 279 yX4_fitsAs (.code yX4_fitsAs cX4_fitsAs 9 (some .boolean)) 9 "BedBookModel" 2 := ⟨cwd_c, (lk q1527), Or.inl (lk q1524), (lk q1526), (lk qs42), ⟨⟨by decide, by decide⟩, by decide +kernel⟩, (lk q67), by decide⟩
theorem eX4_fits_23 : dj cX4_fits 23 (.ifCond .eq 7) 7 30 26 := ⟨by decide +kernel, by decide, rfl⟩
theorem eX4_fits_30 : dc cX4_fits 30 (.iconst 0) 1 31 := ⟨by decide +kernel, rfl⟩
theorem eX4_fits_31 : dc cX4_fits 31 (.ireturn) 1 32 := ⟨by decide +kernel, rfl⟩
theorem eX4_fits_26 : dc cX4_fits 26 (.iconst 1) 1 27 := ⟨by decide +kernel, rfl⟩
theorem eX4_fits_27 : dj cX4_fits 27 (.goto 4) 4 31 30 := ⟨by decide +kernel, by decide, rfl⟩
theorem eX4_fits_13 : dc cX4_fits 13 (.iconst (-1)) 1 14 := ⟨by decide +kernel, rfl⟩
theorem eX4_fits_14 : dj cX4_fits 14 (.goto 17) 17 31 17 := ⟨by decide +kernel, by decide, rfl⟩
set_option maxHeartbeats 8000000 in
theorem ctX4_fits (l : Launch) : Ct l yX4_fits (.code yX4_fits cX4_fits 2 (some .int)) 4 spX4_fits := by
  refine Ct.of (own := RX4) (nm := "fits") (by decide) rfl rfl ?_
  rintro X av T I L R uc us rfl g hN hu hz ⟨p, N, rfl, rfl, rfl, hk⟩
  refine VE.go (ls := [some (.ref 0), some (.int p)]) g hu hz (fun _ => rfl) (fun _ => Nat.le_of_ble_eq_true rfl) ?_
  refine V_aload_0 g eX4_fits_0 ?_
  refine V_iconst (v := 0) g eX4_fits_1 (by decide) ?_
  refine V_putI g eX4_fits_2 pflX4_1 rfl rfl rfl rfl ?_
  generalize u2 I 0 0 0 = J at hk ⊢
  obtain ⟨hP, hN4, hof, hk⟩ := hk
  refine V_aload_0 g eX4_fits_5 ?_
  refine V_iload_1 g eX4_fits_6 ?_
  refine V_cv1 g (ctX4_isPlant _) eX4_fits_7 pkX4_268 rfl rfl (by decide) (by decide) (Nat.le_of_ble_eq_true rfl) ?_
  refine ⟨_, rfl, rfl, rfl, ?_⟩
  refine V_if_neB g eX4_fits_10 (fun c_10 => ?_) (fun c_10 => ?_)
  · obtain ⟨P, hPN, rfl⟩ := isP_nI hP (by omega) c_10
    rw [nI_clamp (by omega)] at hk
    refine V_aload_0 g eX4_fits_17 ?_
    refine V_iload_1 g eX4_fits_18 ?_
    refine V_iload_1 g eX4_fits_19 ?_
    refine V_cv2 g (ctX4_fitsAs _) eX4_fits_20 pkX4_279 rfl rfl (by decide) (by decide) (Nat.le_of_ble_eq_true rfl) ?_
    refine ⟨P, P, rfl, rfl, rfl, by omega, by omega, hof P hPN, ?_⟩
    refine V_if_eqB g eX4_fits_23 (fun c_23 => ?_) (fun c_23 => ?_)
    · refine V_iconst (v := 0) g eX4_fits_30 (by decide) ?_
      refine V_iret g eX4_fits_31 ?_
      exact kI hk (by rw [if_neg (fun q => q c_10)]; exact bI_f c_23)
    · refine V_iconst (v := 1) g eX4_fits_26 (by decide) ?_
      refine V_goto g eX4_fits_27 ?_
      refine V_iret g eX4_fits_31 ?_
      exact kI hk (by rw [if_neg (fun q => q c_10)]; exact bI_t c_23)
  · refine V_iconst (v := (-1)) g eX4_fits_13 (by decide) ?_
    refine V_goto g eX4_fits_14 ?_
    refine V_iret g eX4_fits_31 ?_
    exact kI hk (if_pos c_10)
def chg (J : It) (P Q : Nat) : Int32 := if fitA J P P then 0 else if fitA J Q Q then 0 else if fitA J P Q then bI (fitA J Q P) else 0
abbrev spX4_changed : Sp := fun av T I L R uc us k => ∃ a : Int32, ∃ b : Int32, ∃ N : Nat, av = [.ref 0, .int a, .int b] ∧ T = TM ∧ R = RM ∧ (fun J => J 0 25 = nI N ∧ N ≤ 40 ∧ (∀ A, A < N → ofOK J A) ∧ k (.inl (some (.int (if ¬ isP J a ∨ ¬ isP J b ∨ a = b then -1 else chg J a.toNatClampNeg b.toNatClampNeg)))) T J L R uc us) (u2 I 0 0 0)
theorem eX4_changed_0 : dc cX4_changed 0 (.aload_n 0) 1 1 := ⟨by decide +kernel, rfl⟩
theorem eX4_changed_1 : dc cX4_changed 1 (.iconst 0) 1 2 := ⟨by decide +kernel, rfl⟩
theorem eX4_changed_2 : dc cX4_changed 2 (.putfield 1) 3 5 := ⟨by decide +kernel, rfl⟩
theorem eX4_changed_5 : dc cX4_changed 5 (.aload_n 0) 1 6 := ⟨by decide +kernel, rfl⟩
theorem eX4_changed_6 : dc cX4_changed 6 (.iload_n 1) 1 7 := ⟨by decide +kernel, rfl⟩
theorem eX4_changed_7 : dc cX4_changed 7 (.invokevirtual 268) 3 10 := ⟨by decide +kernel, rfl⟩
theorem eX4_changed_10 : dj cX4_changed 10 (.ifCond .eq 16) 16 26 13 := ⟨by decide +kernel, by decide, rfl⟩
theorem eX4_changed_26 : dc cX4_changed 26 (.iconst (-1)) 1 27 := ⟨by decide +kernel, rfl⟩
theorem eX4_changed_27 : dc cX4_changed 27 (.ireturn) 1 28 := ⟨by decide +kernel, rfl⟩
theorem eX4_changed_13 : dc cX4_changed 13 (.aload_n 0) 1 14 := ⟨by decide +kernel, rfl⟩
theorem eX4_changed_14 : dc cX4_changed 14 (.iload_n 2) 1 15 := ⟨by decide +kernel, rfl⟩
theorem eX4_changed_15 : dc cX4_changed 15 (.invokevirtual 268) 3 18 := ⟨by decide +kernel, rfl⟩
theorem eX4_changed_18 : dj cX4_changed 18 (.ifCond .eq 8) 8 26 21 := ⟨by decide +kernel, by decide, rfl⟩
theorem eX4_changed_21 : dc cX4_changed 21 (.iload_n 1) 1 22 := ⟨by decide +kernel, rfl⟩
theorem eX4_changed_22 : dc cX4_changed 22 (.iload_n 2) 1 23 := ⟨by decide +kernel, rfl⟩
theorem eX4_changed_23 : dj cX4_changed 23 (.if_icmp .ne 5) 5 28 26 := ⟨by decide +kernel, by decide, rfl⟩
theorem eX4_changed_28 : dc cX4_changed 28 (.aload_n 0) 1 29 := ⟨by decide +kernel, rfl⟩
theorem eX4_changed_29 : dc cX4_changed 29 (.iload_n 1) 1 30 := ⟨by decide +kernel, rfl⟩
theorem eX4_changed_30 : dc cX4_changed 30 (.iload_n 1) 1 31 := ⟨by decide +kernel, rfl⟩
theorem eX4_changed_31 : dc cX4_changed 31 (.invokevirtual 279) 3 34 := ⟨by decide +kernel, rfl⟩
theorem eX4_changed_34 : dj cX4_changed 34 (.ifCond .ne 34) 34 68 37 := ⟨by decide +kernel, by decide, rfl⟩
theorem eX4_changed_68 : dc cX4_changed 68 (.iconst 0) 1 69 := ⟨by decide +kernel, rfl⟩
theorem eX4_changed_69 : dc cX4_changed 69 (.ireturn) 1 70 := ⟨by decide +kernel, rfl⟩
theorem eX4_changed_37 : dc cX4_changed 37 (.aload_n 0) 1 38 := ⟨by decide +kernel, rfl⟩
theorem eX4_changed_38 : dc cX4_changed 38 (.iload_n 2) 1 39 := ⟨by decide +kernel, rfl⟩
theorem eX4_changed_39 : dc cX4_changed 39 (.iload_n 2) 1 40 := ⟨by decide +kernel, rfl⟩
theorem eX4_changed_40 : dc cX4_changed 40 (.invokevirtual 279) 3 43 := ⟨by decide +kernel, rfl⟩
theorem eX4_changed_43 : dj cX4_changed 43 (.ifCond .ne 25) 25 68 46 := ⟨by decide +kernel, by decide, rfl⟩
theorem eX4_changed_46 : dc cX4_changed 46 (.aload_n 0) 1 47 := ⟨by decide +kernel, rfl⟩
theorem eX4_changed_47 : dc cX4_changed 47 (.iload_n 1) 1 48 := ⟨by decide +kernel, rfl⟩
theorem eX4_changed_48 : dc cX4_changed 48 (.iload_n 2) 1 49 := ⟨by decide +kernel, rfl⟩
theorem eX4_changed_49 : dc cX4_changed 49 (.invokevirtual 279) 3 52 := ⟨by decide +kernel, rfl⟩
theorem eX4_changed_52 : dj cX4_changed 52 (.ifCond .eq 16) 16 68 55 := ⟨by decide +kernel, by decide, rfl⟩
theorem eX4_changed_55 : dc cX4_changed 55 (.aload_n 0) 1 56 := ⟨by decide +kernel, rfl⟩
theorem eX4_changed_56 : dc cX4_changed 56 (.iload_n 2) 1 57 := ⟨by decide +kernel, rfl⟩
theorem eX4_changed_57 : dc cX4_changed 57 (.iload_n 1) 1 58 := ⟨by decide +kernel, rfl⟩
theorem eX4_changed_58 : dc cX4_changed 58 (.invokevirtual 279) 3 61 := ⟨by decide +kernel, rfl⟩
theorem eX4_changed_61 : dj cX4_changed 61 (.ifCond .eq 7) 7 68 64 := ⟨by decide +kernel, by decide, rfl⟩
theorem eX4_changed_64 : dc cX4_changed 64 (.iconst 1) 1 65 := ⟨by decide +kernel, rfl⟩
theorem eX4_changed_65 : dj cX4_changed 65 (.goto 4) 4 69 68 := ⟨by decide +kernel, by decide, rfl⟩
set_option maxHeartbeats 8000000 in
theorem ctX4_changed (l : Launch) : Ct l yX4_changed (.code yX4_changed cX4_changed 3 (some .int)) 4 spX4_changed := by
  refine Ct.of (own := RX4) (nm := "changed") (by decide) rfl rfl ?_
  rintro X av T I L R uc us rfl g hN hu hz ⟨a, b, N, rfl, rfl, rfl, hk⟩
  refine VE.go (ls := [some (.ref 0), some (.int a), some (.int b)]) g hu hz (fun _ => rfl) (fun _ => Nat.le_of_ble_eq_true rfl) ?_
  refine V_aload_0 g eX4_changed_0 ?_
  refine V_iconst (v := 0) g eX4_changed_1 (by decide) ?_
  refine V_putI g eX4_changed_2 pflX4_1 rfl rfl rfl rfl ?_
  generalize u2 I 0 0 0 = J at hk ⊢
  obtain ⟨hP, hN4, hof, hk⟩ := hk
  refine V_aload_0 g eX4_changed_5 ?_
  refine V_iload_1 g eX4_changed_6 ?_
  refine V_cv1 g (ctX4_isPlant _) eX4_changed_7 pkX4_268 rfl rfl (by decide) (by decide) (Nat.le_of_ble_eq_true rfl) ?_
  refine ⟨_, rfl, rfl, rfl, ?_⟩
  refine V_if_eqB g eX4_changed_10 (fun c_10 => ?_) (fun c_10 => ?_)
  · refine V_iconst (v := (-1)) g eX4_changed_26 (by decide) ?_
    refine V_iret g eX4_changed_27 ?_
    exact kI hk (if_pos (Or.inl c_10))
  · refine V_aload_0 g eX4_changed_13 ?_
    refine V_iload_2 g eX4_changed_14 ?_
    refine V_cv1 g (ctX4_isPlant _) eX4_changed_15 pkX4_268 rfl rfl (by decide) (by decide) (Nat.le_of_ble_eq_true rfl) ?_
    refine ⟨_, rfl, rfl, rfl, ?_⟩
    refine V_if_eqB g eX4_changed_18 (fun c_18 => ?_) (fun c_18 => ?_)
    · refine V_iconst (v := (-1)) g eX4_changed_26 (by decide) ?_
      refine V_iret g eX4_changed_27 ?_
      exact kI hk (if_pos (Or.inr (Or.inl c_18)))
    · refine V_iload_1 g eX4_changed_21 ?_
      refine V_iload_2 g eX4_changed_22 ?_
      refine V_icmp_ne g eX4_changed_23 (fun c_23 => ?_) (fun c_23 => ?_)
      · rw [if_neg (fun q => by rcases q with q | q | q; exact q c_10; exact q c_18; exact c_23 q)] at hk
        obtain ⟨P, hPN, rfl⟩ := isP_nI hP (by omega) c_10
        obtain ⟨Q, hQN, rfl⟩ := isP_nI hP (by omega) c_18
        rw [nI_clamp (by omega)] at hk
        try rw [nI_clamp (by omega)] at hk
        refine V_aload_0 g eX4_changed_28 ?_
        refine V_iload_1 g eX4_changed_29 ?_
        refine V_iload_1 g eX4_changed_30 ?_
        refine V_cv2 g (ctX4_fitsAs _) eX4_changed_31 pkX4_279 rfl rfl (by decide) (by decide) (Nat.le_of_ble_eq_true rfl) ?_
        refine ⟨P, P, rfl, rfl, rfl, by omega, by omega, hof P hPN, ?_⟩
        refine V_if_neB g eX4_changed_34 (fun c_34 => ?_) (fun c_34 => ?_)
        · refine V_iconst (v := 0) g eX4_changed_68 (by decide) ?_
          refine V_iret g eX4_changed_69 ?_
          exact kI hk (by unfold chg; rw [if_pos c_34])
        · refine V_aload_0 g eX4_changed_37 ?_
          refine V_iload_2 g eX4_changed_38 ?_
          refine V_iload_2 g eX4_changed_39 ?_
          refine V_cv2 g (ctX4_fitsAs _) eX4_changed_40 pkX4_279 rfl rfl (by decide) (by decide) (Nat.le_of_ble_eq_true rfl) ?_
          refine ⟨Q, Q, rfl, rfl, rfl, by omega, by omega, hof Q hQN, ?_⟩
          refine V_if_neB g eX4_changed_43 (fun c_43 => ?_) (fun c_43 => ?_)
          · refine V_iconst (v := 0) g eX4_changed_68 (by decide) ?_
            refine V_iret g eX4_changed_69 ?_
            exact kI hk (by unfold chg; rw [if_neg c_34, if_pos c_43])
          · refine V_aload_0 g eX4_changed_46 ?_
            refine V_iload_1 g eX4_changed_47 ?_
            refine V_iload_2 g eX4_changed_48 ?_
            refine V_cv2 g (ctX4_fitsAs _) eX4_changed_49 pkX4_279 rfl rfl (by decide) (by decide) (Nat.le_of_ble_eq_true rfl) ?_
            refine ⟨P, Q, rfl, rfl, rfl, by omega, by omega, hof Q hQN, ?_⟩
            refine V_if_eqB g eX4_changed_52 (fun c_52 => ?_) (fun c_52 => ?_)
            · refine V_iconst (v := 0) g eX4_changed_68 (by decide) ?_
              refine V_iret g eX4_changed_69 ?_
              exact kI hk (by unfold chg; rw [if_neg c_34, if_neg c_43, if_neg c_52])
            · refine V_aload_0 g eX4_changed_55 ?_
              refine V_iload_2 g eX4_changed_56 ?_
              refine V_iload_1 g eX4_changed_57 ?_
              refine V_cv2 g (ctX4_fitsAs _) eX4_changed_58 pkX4_279 rfl rfl (by decide) (by decide) (Nat.le_of_ble_eq_true rfl) ?_
              refine ⟨Q, P, rfl, rfl, rfl, by omega, by omega, hof P hPN, ?_⟩
              refine V_if_eqB g eX4_changed_61 (fun c_61 => ?_) (fun c_61 => ?_)
              · refine V_iconst (v := 0) g eX4_changed_68 (by decide) ?_
                refine V_iret g eX4_changed_69 ?_
                exact kI hk (by unfold chg; rw [if_neg c_34, if_neg c_43, if_pos c_52, bI_f c_61])
              · refine V_iconst (v := 1) g eX4_changed_64 (by decide) ?_
                refine V_goto g eX4_changed_65 ?_
                refine V_iret g eX4_changed_69 ?_
                exact kI hk (by unfold chg; rw [if_neg c_34, if_neg c_43, if_pos c_52, bI_t c_61])
      · refine V_iconst (v := (-1)) g eX4_changed_26 (by decide) ?_
        refine V_iret g eX4_changed_27 ?_
        exact kI hk (if_pos (Or.inr (Or.inr c_23)))
abbrev spX4_name : Sp := fun av T I L R uc us k => ∃ p : Int32, ∃ n : Int32, ∃ N : Nat, ∃ G : Nat, av = [.ref 0, .int p, .int n] ∧ T = TM ∧ R = RM ∧ (fun J => J 0 37 = nI G ∧ G ≤ 300 ∧ if ¬ isP J p ∨ ¬ isNm n ∨ J 0 37 = 300 then k (.inl (some (.int 0))) T J L R uc us else k (.inl (some (.int 1))) T (u2 (u2 (u2 (u2 J 38 G p) 39 G n) 40 G (J 0 24)) 0 37 (nI (G + 1))) L R uc us) (u2 I 0 0 0)
theorem eX4_name_0 : dc cX4_name 0 (.aload_n 0) 1 1 := ⟨by decide +kernel, rfl⟩
theorem eX4_name_1 : dc cX4_name 1 (.iconst 0) 1 2 := ⟨by decide +kernel, rfl⟩
theorem eX4_name_2 : dc cX4_name 2 (.putfield 1) 3 5 := ⟨by decide +kernel, rfl⟩
theorem eX4_name_5 : dc cX4_name 5 (.aload_n 0) 1 6 := ⟨by decide +kernel, rfl⟩
theorem eX4_name_6 : dc cX4_name 6 (.iload_n 1) 1 7 := ⟨by decide +kernel, rfl⟩
theorem eX4_name_7 : dc cX4_name 7 (.invokevirtual 268) 3 10 := ⟨by decide +kernel, rfl⟩
theorem eX4_name_10 : dj cX4_name 10 (.ifCond .eq 20) 20 30 13 := ⟨by decide +kernel, by decide, rfl⟩
theorem eX4_name_30 : dc cX4_name 30 (.iconst 0) 1 31 := ⟨by decide +kernel, rfl⟩
theorem eX4_name_31 : dc cX4_name 31 (.ireturn) 1 32 := ⟨by decide +kernel, rfl⟩
theorem eX4_name_13 : dc cX4_name 13 (.iload_n 2) 1 14 := ⟨by decide +kernel, rfl⟩
theorem eX4_name_14 : dc cX4_name 14 (.invokestatic 283) 3 17 := ⟨by decide +kernel, rfl⟩
theorem pkX4_283 : PkS RX4 283 yX4_isName (.code yX4_isName cX4_isName 1 (some .boolean)) 1 1 := ⟨cwd_c, (lk q1546), (lk q1544), (lk q1545), (lk q67), nmd_c, ⟨⟨by decide, by decide⟩, by decide +kernel⟩, by decide⟩
theorem eX4_name_17 : dj cX4_name 17 (.ifCond .eq 13) 13 30 20 := ⟨by decide +kernel, by decide, rfl⟩
theorem eX4_name_20 : dc cX4_name 20 (.aload_n 0) 1 21 := ⟨by decide +kernel, rfl⟩
theorem eX4_name_21 : dc cX4_name 21 (.getfield 286) 3 24 := ⟨by decide +kernel, rfl⟩
theorem flX4_286 : FL RX4 286 3 37 := ⟨_, _, _, _, rfl, by decide, by decide, Or.inl (lk q1276), Or.inl rfl⟩
theorem eX4_name_24 : dc cX4_name 24 (.sipush 300) 3 27 := ⟨by decide +kernel, rfl⟩
theorem eX4_name_27 : dj cX4_name 27 (.if_icmp .ne 5) 5 32 30 := ⟨by decide +kernel, by decide, rfl⟩
theorem eX4_name_32 : dc cX4_name 32 (.aload_n 0) 1 33 := ⟨by decide +kernel, rfl⟩
theorem eX4_name_33 : dc cX4_name 33 (.getfield 123) 3 36 := ⟨by decide +kernel, rfl⟩
theorem flX4_123 : FL RX4 123 3 38 := ⟨_, _, _, _, rfl, by decide, by decide, Or.inl (lk q1277), Or.inl rfl⟩
theorem eX4_name_36 : dc cX4_name 36 (.aload_n 0) 1 37 := ⟨by decide +kernel, rfl⟩
theorem eX4_name_37 : dc cX4_name 37 (.getfield 286) 3 40 := ⟨by decide +kernel, rfl⟩
theorem eX4_name_40 : dc cX4_name 40 (.iload_n 1) 1 41 := ⟨by decide +kernel, rfl⟩
theorem eX4_name_41 : dc cX4_name 41 (.iastore) 1 42 := ⟨by decide +kernel, rfl⟩
theorem eX4_name_42 : dc cX4_name 42 (.aload_n 0) 1 43 := ⟨by decide +kernel, rfl⟩
theorem eX4_name_43 : dc cX4_name 43 (.getfield 126) 3 46 := ⟨by decide +kernel, rfl⟩
theorem flX4_126 : FL RX4 126 3 39 := ⟨_, _, _, _, rfl, by decide, by decide, Or.inl (lk q1278), Or.inl rfl⟩
theorem eX4_name_46 : dc cX4_name 46 (.aload_n 0) 1 47 := ⟨by decide +kernel, rfl⟩
theorem eX4_name_47 : dc cX4_name 47 (.getfield 286) 3 50 := ⟨by decide +kernel, rfl⟩
theorem eX4_name_50 : dc cX4_name 50 (.iload_n 2) 1 51 := ⟨by decide +kernel, rfl⟩
theorem eX4_name_51 : dc cX4_name 51 (.iastore) 1 52 := ⟨by decide +kernel, rfl⟩
theorem eX4_name_52 : dc cX4_name 52 (.aload_n 0) 1 53 := ⟨by decide +kernel, rfl⟩
theorem eX4_name_53 : dc cX4_name 53 (.getfield 129) 3 56 := ⟨by decide +kernel, rfl⟩
theorem flX4_129 : FL RX4 129 3 40 := ⟨_, _, _, _, rfl, by decide, by decide, Or.inl (lk q1279), Or.inl rfl⟩
theorem eX4_name_56 : dc cX4_name 56 (.aload_n 0) 1 57 := ⟨by decide +kernel, rfl⟩
theorem eX4_name_57 : dc cX4_name 57 (.getfield 286) 3 60 := ⟨by decide +kernel, rfl⟩
theorem eX4_name_60 : dc cX4_name 60 (.aload_n 0) 1 61 := ⟨by decide +kernel, rfl⟩
theorem eX4_name_61 : dc cX4_name 61 (.getfield 255) 3 64 := ⟨by decide +kernel, rfl⟩
theorem eX4_name_64 : dc cX4_name 64 (.iastore) 1 65 := ⟨by decide +kernel, rfl⟩
theorem eX4_name_65 : dc cX4_name 65 (.aload_n 0) 1 66 := ⟨by decide +kernel, rfl⟩
theorem eX4_name_66 : dc cX4_name 66 (.dup) 1 67 := ⟨by decide +kernel, rfl⟩
theorem eX4_name_67 : dc cX4_name 67 (.getfield 286) 3 70 := ⟨by decide +kernel, rfl⟩
theorem eX4_name_70 : dc cX4_name 70 (.iconst 1) 1 71 := ⟨by decide +kernel, rfl⟩
theorem eX4_name_71 : dc cX4_name 71 (.iadd) 1 72 := ⟨by decide +kernel, rfl⟩
theorem eX4_name_72 : dc cX4_name 72 (.putfield 286) 3 75 := ⟨by decide +kernel, rfl⟩
theorem pflX4_286 {nm : String} : (FL RX4 286 3 37 ∧ FN 3 37) ∨ (FF RX4 286 3 37 ∧ nm = "<init>") := Or.inl ⟨flX4_286, fun C Tb N h => by cases h; rfl⟩
theorem eX4_name_75 : dc cX4_name 75 (.iconst 1) 1 76 := ⟨by decide +kernel, rfl⟩
theorem eX4_name_76 : dc cX4_name 76 (.ireturn) 1 77 := ⟨by decide +kernel, rfl⟩
set_option maxHeartbeats 8000000 in
theorem ctX4_name (l : Launch) : Ct l yX4_name (.code yX4_name cX4_name 3 (some .boolean)) 2 spX4_name := by
  refine Ct.of (own := RX4) (nm := "name") (by decide) rfl rfl ?_
  rintro X av T I L R uc us rfl g hN hu hz ⟨p, n, N, G, rfl, rfl, rfl, hk⟩
  refine VE.go (ls := [some (.ref 0), some (.int p), some (.int n)]) g hu hz (fun _ => rfl) (fun _ => Nat.le_of_ble_eq_true rfl) ?_
  refine V_aload_0 g eX4_name_0 ?_
  refine V_iconst (v := 0) g eX4_name_1 (by decide) ?_
  refine V_putI g eX4_name_2 pflX4_1 rfl rfl rfl rfl ?_
  generalize u2 I 0 0 0 = J at hk ⊢
  obtain ⟨hG, hG3, hk⟩ := hk
  refine V_aload_0 g eX4_name_5 ?_
  refine V_iload_1 g eX4_name_6 ?_
  refine V_cv1 g (ctX4_isPlant _) eX4_name_7 pkX4_268 rfl rfl (by decide) (by decide) (Nat.le_of_ble_eq_true rfl) ?_
  refine ⟨_, rfl, rfl, rfl, ?_⟩
  refine V_if_eqB g eX4_name_10 (fun c_10 => ?_) (fun c_10 => ?_)
  · refine V_iconst (v := 0) g eX4_name_30 (by decide) ?_
    refine V_zret g eX4_name_31 rfl ?_
    first | contradiction | (simp only [c_10, or_false, false_or, true_or, or_true, and_true, true_and, and_false, false_and, if_true, if_false, not_true_eq_false, not_false_eq_true, and_self, or_self] at hk ⊢; exact hk) | (simp only [isP, isBd, isLt, isDg, aMany, isNm, isD9, c_10, or_false, false_or, true_or, or_true, and_true, true_and, and_false, false_and, if_true, if_false, not_true_eq_false, not_false_eq_true, and_self, or_self] at hk ⊢; exact hk) | ((try simp only [isP, isBd, isLt, isDg, aMany, isNm, isD9, ← Int32.not_le, Decidable.not_not] at hk c_10 ⊢); simp only [c_10, or_false, false_or, true_or, or_true, and_true, true_and, and_false, false_and, if_true, if_false, not_true_eq_false, not_false_eq_true, and_self, or_self] at hk ⊢; exact hk)
  · refine V_iload_2 g eX4_name_13 ?_
    refine V_cs1 g (ctX4_isName _) eX4_name_14 pkX4_283 (by decide) (Nat.le_of_ble_eq_true rfl) ?_
    refine ⟨_, rfl, rfl, rfl, ?_⟩
    refine V_if_eqB g eX4_name_17 (fun c_17 => ?_) (fun c_17 => ?_)
    · refine V_iconst (v := 0) g eX4_name_30 (by decide) ?_
      refine V_zret g eX4_name_31 rfl ?_
      first | contradiction | (simp only [c_10, c_17, or_false, false_or, true_or, or_true, and_true, true_and, and_false, false_and, if_true, if_false, not_true_eq_false, not_false_eq_true, and_self, or_self] at hk ⊢; exact hk) | (simp only [isP, isBd, isLt, isDg, aMany, isNm, isD9, c_10, c_17, or_false, false_or, true_or, or_true, and_true, true_and, and_false, false_and, if_true, if_false, not_true_eq_false, not_false_eq_true, and_self, or_self] at hk ⊢; exact hk) | ((try simp only [isP, isBd, isLt, isDg, aMany, isNm, isD9, ← Int32.not_le, Decidable.not_not] at hk c_10 c_17 ⊢); simp only [c_10, c_17, or_false, false_or, true_or, or_true, and_true, true_and, and_false, false_and, if_true, if_false, not_true_eq_false, not_false_eq_true, and_self, or_self] at hk ⊢; exact hk)
    · refine V_aload_0 g eX4_name_20 ?_
      refine V_getI g eX4_name_21 flX4_286 rfl rfl ?_
      refine V_sipush (v := 300) g eX4_name_24 (by decide) ?_
      refine V_icmp_ne g eX4_name_27 (fun c_27 => ?_) (fun c_27 => ?_)
      · have q_27 : G ≠ 300 := fun q => c_27 (by rw [hG, q]; rfl)
        refine V_aload_0 g eX4_name_32 ?_
        refine V_getR g eX4_name_33 flX4_123 rfl rfl rfl ?_
        refine V_aload_0 g eX4_name_36 ?_
        refine V_getI g eX4_name_37 flX4_286 rfl rfl ?_
        refine V_top (y := nI G) (by simp [u2, hG]) ?_
        refine V_iload_1 g eX4_name_40 ?_
        refine V_iastN g eX4_name_41 rfl (by omega) (by decide) ?_
        refine V_aload_0 g eX4_name_42 ?_
        refine V_getR g eX4_name_43 flX4_126 rfl rfl rfl ?_
        refine V_aload_0 g eX4_name_46 ?_
        refine V_getI g eX4_name_47 flX4_286 rfl rfl ?_
        refine V_top (y := nI G) (by simp [u2, hG]) ?_
        refine V_iload_2 g eX4_name_50 ?_
        refine V_iastN g eX4_name_51 rfl (by omega) (by decide) ?_
        refine V_aload_0 g eX4_name_52 ?_
        refine V_getR g eX4_name_53 flX4_129 rfl rfl rfl ?_
        refine V_aload_0 g eX4_name_56 ?_
        refine V_getI g eX4_name_57 flX4_286 rfl rfl ?_
        refine V_top (y := nI G) (by simp [u2, hG]) ?_
        refine V_aload_0 g eX4_name_60 ?_
        refine V_getI g eX4_name_61 flX4_255 rfl rfl ?_
        refine V_top (y := J 0 24) (by simp [u2]) ?_
        refine V_iastN g eX4_name_64 rfl (by omega) (by decide) ?_
        refine V_aload_0 g eX4_name_65 ?_
        refine V_dup g eX4_name_66 rfl ?_
        refine V_getI g eX4_name_67 flX4_286 rfl rfl ?_
        refine V_top (y := nI G) (by simp [u2, hG]) ?_
        refine V_iconst (v := 1) g eX4_name_70 (by decide) ?_
        refine V_iaddN (b := 1) g eX4_name_71 ?_
        refine V_putI g eX4_name_72 pflX4_286 rfl rfl rfl rfl ?_
        refine V_iconst (v := 1) g eX4_name_75 (by decide) ?_
        refine V_zret g eX4_name_76 rfl ?_
        first | contradiction | (simp only [c_10, c_17, c_27, or_false, false_or, true_or, or_true, and_true, true_and, and_false, false_and, if_true, if_false, not_true_eq_false, not_false_eq_true, and_self, or_self] at hk ⊢; exact hk) | (simp only [isP, isBd, isLt, isDg, aMany, isNm, isD9, c_10, c_17, c_27, or_false, false_or, true_or, or_true, and_true, true_and, and_false, false_and, if_true, if_false, not_true_eq_false, not_false_eq_true, and_self, or_self] at hk ⊢; exact hk) | ((try simp only [isP, isBd, isLt, isDg, aMany, isNm, isD9, ← Int32.not_le, Decidable.not_not] at hk c_10 c_17 c_27 ⊢); simp only [c_10, c_17, c_27, or_false, false_or, true_or, or_true, and_true, true_and, and_false, false_and, if_true, if_false, not_true_eq_false, not_false_eq_true, and_self, or_self] at hk ⊢; exact hk)
      · refine V_iconst (v := 0) g eX4_name_30 (by decide) ?_
        refine V_zret g eX4_name_31 rfl ?_
        first | contradiction | (simp only [c_10, c_17, c_27, or_false, false_or, true_or, or_true, and_true, true_and, and_false, false_and, if_true, if_false, not_true_eq_false, not_false_eq_true, and_self, or_self] at hk ⊢; exact hk) | (simp only [isP, isBd, isLt, isDg, aMany, isNm, isD9, c_10, c_17, c_27, or_false, false_or, true_or, or_true, and_true, true_and, and_false, false_and, if_true, if_false, not_true_eq_false, not_false_eq_true, and_self, or_self] at hk ⊢; exact hk) | ((try simp only [isP, isBd, isLt, isDg, aMany, isNm, isD9, ← Int32.not_le, Decidable.not_not] at hk c_10 c_17 c_27 ⊢); simp only [c_10, c_17, c_27, or_false, false_or, true_or, or_true, and_true, true_and, and_false, false_and, if_true, if_false, not_true_eq_false, not_false_eq_true, and_self, or_self] at hk ⊢; exact hk)
/-- where the first n joins lead a name as of a day: 0 if nowhere -/
def jTo (I : It) (day : Int32) : Nat → Int32 → Int32
  | 0, _ => 0
  | n + 1, x => if I 42 n = x ∧ ¬ day < I 44 n then I 43 n else jTo I day n x
abbrev spX4_joinedTo : Sp := fun av T I L R uc us k => ∃ nm : Int32, ∃ day : Int32, ∃ J : Nat, av = [.ref 0, .int nm, .int day] ∧ T = TM ∧ R = RM ∧ I 0 41 = nI J ∧ J ≤ 100 ∧ k (.inl (some (.int (jTo I day J nm)))) T I L R uc us
theorem eX4_joinedTo_5 : dc cX4_joinedTo 5 (.iload 4) 2 7 := ⟨by decide +kernel, rfl⟩
theorem eX4_joinedTo_7 : dc cX4_joinedTo 7 (.aload_n 0) 1 8 := ⟨by decide +kernel, rfl⟩
theorem eX4_joinedTo_8 : dc cX4_joinedTo 8 (.getfield 293) 3 11 := ⟨by decide +kernel, rfl⟩
theorem flX4_293 : FL RX4 293 3 41 := ⟨_, _, _, _, rfl, by decide, by decide, Or.inl (lk q1280), Or.inl rfl⟩
theorem eX4_joinedTo_11 : dj cX4_joinedTo 11 (.if_icmp .ge 43) 43 54 14 := ⟨by decide +kernel, by decide, rfl⟩
theorem eX4_joinedTo_54 : dc cX4_joinedTo 54 (.iload_n 3) 1 55 := ⟨by decide +kernel, rfl⟩
theorem eX4_joinedTo_55 : dc cX4_joinedTo 55 (.ireturn) 1 56 := ⟨by decide +kernel, rfl⟩
theorem eX4_joinedTo_14 : dc cX4_joinedTo 14 (.aload_n 0) 1 15 := ⟨by decide +kernel, rfl⟩
theorem eX4_joinedTo_15 : dc cX4_joinedTo 15 (.getfield 132) 3 18 := ⟨by decide +kernel, rfl⟩
theorem flX4_132 : FL RX4 132 3 42 := ⟨_, _, _, _, rfl, by decide, by decide, Or.inl (lk q1281), Or.inl rfl⟩
theorem eX4_joinedTo_18 : dc cX4_joinedTo 18 (.iload 4) 2 20 := ⟨by decide +kernel, rfl⟩
theorem eX4_joinedTo_20 : dc cX4_joinedTo 20 (.iaload) 1 21 := ⟨by decide +kernel, rfl⟩
theorem eX4_joinedTo_21 : dc cX4_joinedTo 21 (.iload_n 1) 1 22 := ⟨by decide +kernel, rfl⟩
theorem eX4_joinedTo_22 : dj cX4_joinedTo 22 (.if_icmp .ne 24) 24 46 25 := ⟨by decide +kernel, by decide, rfl⟩
theorem eX4_joinedTo_46 : dc cX4_joinedTo 46 (.iload_n 3) 1 47 := ⟨by decide +kernel, rfl⟩
theorem eX4_joinedTo_47 : dc cX4_joinedTo 47 (.istore_n 3) 1 48 := ⟨by decide +kernel, rfl⟩
theorem eX4_joinedTo_48 : dc cX4_joinedTo 48 (.iinc 4 1) 3 51 := ⟨by decide +kernel, rfl⟩
theorem eX4_joinedTo_51 : dj cX4_joinedTo 51 (.goto (-46)) (-46) 5 54 := ⟨by decide +kernel, by decide, rfl⟩
theorem eX4_joinedTo_25 : dc cX4_joinedTo 25 (.aload_n 0) 1 26 := ⟨by decide +kernel, rfl⟩
theorem eX4_joinedTo_26 : dc cX4_joinedTo 26 (.getfield 138) 3 29 := ⟨by decide +kernel, rfl⟩
theorem flX4_138 : FL RX4 138 3 44 := ⟨_, _, _, _, rfl, by decide, by decide, Or.inl (lk q1283), Or.inl rfl⟩
theorem eX4_joinedTo_29 : dc cX4_joinedTo 29 (.iload 4) 2 31 := ⟨by decide +kernel, rfl⟩
theorem eX4_joinedTo_31 : dc cX4_joinedTo 31 (.iaload) 1 32 := ⟨by decide +kernel, rfl⟩
theorem eX4_joinedTo_32 : dc cX4_joinedTo 32 (.iload_n 2) 1 33 := ⟨by decide +kernel, rfl⟩
theorem eX4_joinedTo_33 : dj cX4_joinedTo 33 (.if_icmp .gt 13) 13 46 36 := ⟨by decide +kernel, by decide, rfl⟩
theorem eX4_joinedTo_36 : dc cX4_joinedTo 36 (.aload_n 0) 1 37 := ⟨by decide +kernel, rfl⟩
theorem eX4_joinedTo_37 : dc cX4_joinedTo 37 (.getfield 135) 3 40 := ⟨by decide +kernel, rfl⟩
theorem flX4_135 : FL RX4 135 3 43 := ⟨_, _, _, _, rfl, by decide, by decide, Or.inl (lk q1282), Or.inl rfl⟩
theorem eX4_joinedTo_40 : dc cX4_joinedTo 40 (.iload 4) 2 42 := ⟨by decide +kernel, rfl⟩
theorem eX4_joinedTo_42 : dc cX4_joinedTo 42 (.iaload) 1 43 := ⟨by decide +kernel, rfl⟩
theorem eX4_joinedTo_43 : dj cX4_joinedTo 43 (.goto 4) 4 47 46 := ⟨by decide +kernel, by decide, rfl⟩
theorem eX4_joinedTo_0 : dc cX4_joinedTo 0 (.iconst 0) 1 1 := ⟨by decide +kernel, rfl⟩
theorem eX4_joinedTo_1 : dc cX4_joinedTo 1 (.istore_n 3) 1 2 := ⟨by decide +kernel, rfl⟩
theorem eX4_joinedTo_2 : dc cX4_joinedTo 2 (.iconst 0) 1 3 := ⟨by decide +kernel, rfl⟩
theorem eX4_joinedTo_3 : dc cX4_joinedTo 3 (.istore 4) 2 5 := ⟨by decide +kernel, rfl⟩
set_option maxHeartbeats 8000000 in
theorem ctX4_joinedTo (l : Launch) : Ct l yX4_joinedTo (.code yX4_joinedTo cX4_joinedTo 5 (some .int)) 1 spX4_joinedTo := by
  refine Ct.of (own := RX4) (nm := "joinedTo") (by decide) rfl rfl ?_
  rintro X av T I L R uc us rfl g hN hu hz ⟨nm, day, J, rfl, rfl, rfl, hJ, hJ1, hk⟩
  refine VE.go (ls := [some (.ref 0), some (.int nm), some (.int day), none, none]) g hu hz (fun _ => rfl) (fun _ => Nat.le_of_ble_eq_true rfl) ?_
  have loop : ∀ (n w : Nat) (to : Int32), w ≤ J → J + 1 ≤ w + n → to = jTo I day w nm → V X TM I L RM uc us 5 [some (.ref 0), some (.int nm), some (.int day), some (.int to), some (.int (nI w))] [] := by
    intro n
    induction n with
    | zero => intro w to h1 h2; exact absurd h2 (by omega)
    | succ n ih =>
      intro w to h1 h2 hto
      refine V_iload_4 g eX4_joinedTo_5 ?_
      refine V_aload_0 g eX4_joinedTo_7 ?_
      refine V_getI g eX4_joinedTo_8 flX4_293 rfl rfl ?_
      refine V_top (y := nI J) hJ ?_
      refine V_icmp_ge g eX4_joinedTo_11 (fun c_11 => ?_) (fun c_11 => ?_)
      · refine V_iload_3 g eX4_joinedTo_54 ?_
        refine V_iret g eX4_joinedTo_55 ?_
        have q_11 := nI_le' (a := J) (b := w) (by omega) (by omega) c_11
        obtain rfl : w = J := by omega
        exact kI hk hto.symm
      · have q_11 := nI_nle' (a := J) (b := w) (by omega) (by omega) c_11
        refine V_aload_0 g eX4_joinedTo_14 ?_
        refine V_getR g eX4_joinedTo_15 flX4_132 rfl rfl rfl ?_
        refine V_iload_4 g eX4_joinedTo_18 ?_
        refine V_ialdN g eX4_joinedTo_20 rfl (by omega) (by decide) ?_
        refine V_iload_1 g eX4_joinedTo_21 ?_
        refine V_icmp_ne g eX4_joinedTo_22 (fun c_22 => ?_) (fun c_22 => ?_)
        · refine V_iload_3 g eX4_joinedTo_46 ?_
          refine V_istore_3 g eX4_joinedTo_47 (by decide) rfl ?_
          refine V_iinc_4 (v := 1) g eX4_joinedTo_48 (by decide) (by decide) rfl ?_
          refine V_goto g eX4_joinedTo_51 ?_
          rw [nI_1]
          refine ih (w + 1) _ (by omega) (by omega) ?_
          unfold jTo
          simp only [c_11, c_22, or_false, false_or, true_or, or_true, and_true, true_and, and_false, false_and, if_true, if_false, not_true_eq_false, not_false_eq_true, and_self, or_self]
          try exact hto
        · refine V_aload_0 g eX4_joinedTo_25 ?_
          refine V_getR g eX4_joinedTo_26 flX4_138 rfl rfl rfl ?_
          refine V_iload_4 g eX4_joinedTo_29 ?_
          refine V_ialdN g eX4_joinedTo_31 rfl (by omega) (by decide) ?_
          refine V_iload_2 g eX4_joinedTo_32 ?_
          refine V_icmp_gt g eX4_joinedTo_33 (fun c_33 => ?_) (fun c_33 => ?_)
          · refine V_iload_3 g eX4_joinedTo_46 ?_
            refine V_istore_3 g eX4_joinedTo_47 (by decide) rfl ?_
            refine V_iinc_4 (v := 1) g eX4_joinedTo_48 (by decide) (by decide) rfl ?_
            refine V_goto g eX4_joinedTo_51 ?_
            rw [nI_1]
            refine ih (w + 1) _ (by omega) (by omega) ?_
            unfold jTo
            simp only [c_11, c_22, c_33, or_false, false_or, true_or, or_true, and_true, true_and, and_false, false_and, if_true, if_false, not_true_eq_false, not_false_eq_true, and_self, or_self]
            try exact hto
          · refine V_aload_0 g eX4_joinedTo_36 ?_
            refine V_getR g eX4_joinedTo_37 flX4_135 rfl rfl rfl ?_
            refine V_iload_4 g eX4_joinedTo_40 ?_
            refine V_ialdN g eX4_joinedTo_42 rfl (by omega) (by decide) ?_
            refine V_goto g eX4_joinedTo_43 ?_
            refine V_istore_3 g eX4_joinedTo_47 (by decide) rfl ?_
            refine V_iinc_4 (v := 1) g eX4_joinedTo_48 (by decide) (by decide) rfl ?_
            refine V_goto g eX4_joinedTo_51 ?_
            rw [nI_1]
            refine ih (w + 1) _ (by omega) (by omega) ?_
            unfold jTo
            simp only [c_11, c_22, c_33, or_false, false_or, true_or, or_true, and_true, true_and, and_false, false_and, if_true, if_false, not_true_eq_false, not_false_eq_true, and_self, or_self]
            try exact hto
  refine V_iconst (v := 0) g eX4_joinedTo_0 (by decide) ?_
  refine V_istore_3 g eX4_joinedTo_1 (by decide) rfl ?_
  refine V_iconst (v := 0) g eX4_joinedTo_2 (by decide) ?_
  refine V_istore_4 g eX4_joinedTo_3 (by decide) rfl ?_
  exact loop (J + 1) 0 0 (by omega) (by omega) rfl
/-- f again and again while it leads on -/
def ldF (f : Int32 → Int32) : Nat → Int32 → Int32
  | 0, x => x
  | n + 1, x => if f x ≤ 0 then x else ldF f n (f x)
def ldT (f : Int32 → Int32) : Nat → Int32 → Prop
  | 0, x => f x ≤ 0
  | n + 1, x => f x ≤ 0 ∨ ldT f n (f x)
abbrev spX4_leads : Sp := fun av T I L R uc us k => ∃ nm : Int32, ∃ day : Int32, ∃ J : Nat, av = [.ref 0, .int nm, .int day] ∧ T = TM ∧ R = RM ∧ I 0 41 = nI J ∧ J ≤ 100 ∧ ldT (jTo I day J) 60 nm ∧ k (.inl (some (.int (ldF (jTo I day J) 60 nm)))) T I L R uc us
theorem eX4_leads_10 : dc cX4_leads 10 (.iload 4) 2 12 := ⟨by decide +kernel, rfl⟩
theorem eX4_leads_12 : dj cX4_leads 12 (.ifCond .le 17) 17 29 15 := ⟨by decide +kernel, by decide, rfl⟩
theorem eX4_leads_29 : dc cX4_leads 29 (.iload_n 3) 1 30 := ⟨by decide +kernel, rfl⟩
theorem eX4_leads_30 : dc cX4_leads 30 (.ireturn) 1 31 := ⟨by decide +kernel, rfl⟩
theorem eX4_leads_15 : dc cX4_leads 15 (.iload 4) 2 17 := ⟨by decide +kernel, rfl⟩
theorem eX4_leads_17 : dc cX4_leads 17 (.istore_n 3) 1 18 := ⟨by decide +kernel, rfl⟩
theorem eX4_leads_18 : dc cX4_leads 18 (.aload_n 0) 1 19 := ⟨by decide +kernel, rfl⟩
theorem eX4_leads_19 : dc cX4_leads 19 (.iload_n 3) 1 20 := ⟨by decide +kernel, rfl⟩
theorem eX4_leads_20 : dc cX4_leads 20 (.iload_n 2) 1 21 := ⟨by decide +kernel, rfl⟩
theorem eX4_leads_21 : dc cX4_leads 21 (.invokevirtual 289) 3 24 := ⟨by decide +kernel, rfl⟩
theorem pkX4_289 : PkV RX4 289 yX4_joinedTo (.code yX4_joinedTo cX4_joinedTo 5 (some .int)) 5 "BedBookModel" 2 := ⟨cwd_c, (lk q1558), Or.inl (lk q1555), (lk q1557), (lk qs46), ⟨⟨by decide, by decide⟩, by decide +kernel⟩, (lk q67), by decide⟩
theorem eX4_leads_24 : dc cX4_leads 24 (.istore 4) 2 26 := ⟨by decide +kernel, rfl⟩
theorem eX4_leads_26 : dj cX4_leads 26 (.goto (-16)) (-16) 10 29 := ⟨by decide +kernel, by decide, rfl⟩
theorem eX4_leads_0 : dc cX4_leads 0 (.iload_n 1) 1 1 := ⟨by decide +kernel, rfl⟩
theorem eX4_leads_1 : dc cX4_leads 1 (.istore_n 3) 1 2 := ⟨by decide +kernel, rfl⟩
theorem eX4_leads_2 : dc cX4_leads 2 (.aload_n 0) 1 3 := ⟨by decide +kernel, rfl⟩
theorem eX4_leads_3 : dc cX4_leads 3 (.iload_n 3) 1 4 := ⟨by decide +kernel, rfl⟩
theorem eX4_leads_4 : dc cX4_leads 4 (.iload_n 2) 1 5 := ⟨by decide +kernel, rfl⟩
theorem eX4_leads_5 : dc cX4_leads 5 (.invokevirtual 289) 3 8 := ⟨by decide +kernel, rfl⟩
theorem eX4_leads_8 : dc cX4_leads 8 (.istore 4) 2 10 := ⟨by decide +kernel, rfl⟩
set_option maxHeartbeats 8000000 in
theorem ctX4_leads (l : Launch) : Ct l yX4_leads (.code yX4_leads cX4_leads 5 (some .int)) 2 spX4_leads := by
  refine Ct.of (own := RX4) (nm := "leads") (by decide) rfl rfl ?_
  rintro X av T I L R uc us rfl g hN hu hz ⟨nm, day, J, rfl, rfl, rfl, hJ, hJ1, ht, hk⟩
  refine VE.go (ls := [some (.ref 0), some (.int nm), some (.int day), none, none]) g hu hz (fun _ => rfl) (fun _ => Nat.le_of_ble_eq_true rfl) ?_
  have loop : ∀ (n : Nat) (x : Int32), ldT (jTo I day J) n x → x_k X (.inl (some (.int (ldF (jTo I day J) n x)))) TM I L RM uc us → V X TM I L RM uc us 10 [some (.ref 0), some (.int nm), some (.int day), some (.int x), some (.int (jTo I day J x))] [] := by
    intro n
    induction n with
    | zero =>
      intro x h1 h2
      refine V_iload_4 g eX4_leads_10 ?_
      refine V_if_le g eX4_leads_12 (fun c_12 => ?_) (fun c_12 => ?_)
      · refine V_iload_3 g eX4_leads_29 ?_
        refine V_iret g eX4_leads_30 ?_
        exact h2
      · exact absurd h1 c_12
    | succ n ih =>
      intro x h1 h2
      refine V_iload_4 g eX4_leads_10 ?_
      refine V_if_le g eX4_leads_12 (fun c_12 => ?_) (fun c_12 => ?_)
      · refine V_iload_3 g eX4_leads_29 ?_
        refine V_iret g eX4_leads_30 ?_
        exact kI h2 (if_pos c_12)
      · refine V_iload_4 g eX4_leads_15 ?_
        refine V_istore_3 g eX4_leads_17 (by decide) rfl ?_
        refine V_aload_0 g eX4_leads_18 ?_
        refine V_iload_3 g eX4_leads_19 ?_
        refine V_iload_2 g eX4_leads_20 ?_
        refine V_cv2 g (ctX4_joinedTo _) eX4_leads_21 pkX4_289 rfl rfl (by decide) (by decide) (Nat.le_of_ble_eq_true rfl) ?_
        refine ⟨_, _, J, rfl, rfl, rfl, hJ, hJ1, ?_⟩
        refine V_istore_4 g eX4_leads_24 (by decide) rfl ?_
        refine V_goto g eX4_leads_26 ?_
        exact ih _ (h1.resolve_left c_12) (kI h2 (if_neg c_12))
  refine V_iload_1 g eX4_leads_0 ?_
  refine V_istore_3 g eX4_leads_1 (by decide) rfl ?_
  refine V_aload_0 g eX4_leads_2 ?_
  refine V_iload_3 g eX4_leads_3 ?_
  refine V_iload_2 g eX4_leads_4 ?_
  refine V_cv2 g (ctX4_joinedTo _) eX4_leads_5 pkX4_289 rfl rfl (by decide) (by decide) (Nat.le_of_ble_eq_true rfl) ?_
  refine ⟨_, _, J, rfl, rfl, rfl, hJ, hJ1, ?_⟩
  refine V_istore_4 g eX4_leads_8 (by decide) rfl ?_
  exact loop 60 nm ht hk
def lbF (f : Int32 → Int32) (nm : Int32) : Nat → Int32 → Int32
  | 0, x => x
  | n + 1, x => if x ≤ 0 ∨ x = nm then x else lbF f nm n (f x)
def lbT (f : Int32 → Int32) (nm : Int32) : Nat → Int32 → Prop
  | 0, x => x ≤ 0 ∨ x = nm
  | n + 1, x => (x ≤ 0 ∨ x = nm) ∨ lbT f nm n (f x)
abbrev spX4_leadsBack : Sp := fun av T I L R uc us k => ∃ fr : Int32, ∃ nm : Int32, ∃ J : Nat, av = [.ref 0, .int fr, .int nm] ∧ T = TM ∧ R = RM ∧ I 0 41 = nI J ∧ J ≤ 100 ∧ lbT (jTo I (I 0 24) J) nm 60 fr ∧ k (.inl (some (.int (bI (lbF (jTo I (I 0 24) J) nm 60 fr = nm))))) T I L R uc us
theorem eX4_leadsBack_2 : dc cX4_leadsBack 2 (.iload_n 3) 1 3 := ⟨by decide +kernel, rfl⟩
theorem eX4_leadsBack_3 : dj cX4_leadsBack 3 (.ifCond .le 21) 21 24 6 := ⟨by decide +kernel, by decide, rfl⟩
theorem eX4_leadsBack_24 : dc cX4_leadsBack 24 (.iload_n 3) 1 25 := ⟨by decide +kernel, rfl⟩
theorem eX4_leadsBack_25 : dc cX4_leadsBack 25 (.iload_n 2) 1 26 := ⟨by decide +kernel, rfl⟩
theorem eX4_leadsBack_26 : dj cX4_leadsBack 26 (.if_icmp .ne 7) 7 33 29 := ⟨by decide +kernel, by decide, rfl⟩
theorem eX4_leadsBack_33 : dc cX4_leadsBack 33 (.iconst 0) 1 34 := ⟨by decide +kernel, rfl⟩
theorem eX4_leadsBack_34 : dc cX4_leadsBack 34 (.ireturn) 1 35 := ⟨by decide +kernel, rfl⟩
theorem eX4_leadsBack_29 : dc cX4_leadsBack 29 (.iconst 1) 1 30 := ⟨by decide +kernel, rfl⟩
theorem eX4_leadsBack_30 : dj cX4_leadsBack 30 (.goto 4) 4 34 33 := ⟨by decide +kernel, by decide, rfl⟩
theorem eX4_leadsBack_6 : dc cX4_leadsBack 6 (.iload_n 3) 1 7 := ⟨by decide +kernel, rfl⟩
theorem eX4_leadsBack_7 : dc cX4_leadsBack 7 (.iload_n 2) 1 8 := ⟨by decide +kernel, rfl⟩
theorem eX4_leadsBack_8 : dj cX4_leadsBack 8 (.if_icmp .eq 16) 16 24 11 := ⟨by decide +kernel, by decide, rfl⟩
theorem eX4_leadsBack_11 : dc cX4_leadsBack 11 (.aload_n 0) 1 12 := ⟨by decide +kernel, rfl⟩
theorem eX4_leadsBack_12 : dc cX4_leadsBack 12 (.iload_n 3) 1 13 := ⟨by decide +kernel, rfl⟩
theorem eX4_leadsBack_13 : dc cX4_leadsBack 13 (.aload_n 0) 1 14 := ⟨by decide +kernel, rfl⟩
theorem eX4_leadsBack_14 : dc cX4_leadsBack 14 (.getfield 255) 3 17 := ⟨by decide +kernel, rfl⟩
theorem eX4_leadsBack_17 : dc cX4_leadsBack 17 (.invokevirtual 289) 3 20 := ⟨by decide +kernel, rfl⟩
theorem eX4_leadsBack_20 : dc cX4_leadsBack 20 (.istore_n 3) 1 21 := ⟨by decide +kernel, rfl⟩
theorem eX4_leadsBack_21 : dj cX4_leadsBack 21 (.goto (-19)) (-19) 2 24 := ⟨by decide +kernel, by decide, rfl⟩
theorem eX4_leadsBack_0 : dc cX4_leadsBack 0 (.iload_n 1) 1 1 := ⟨by decide +kernel, rfl⟩
theorem eX4_leadsBack_1 : dc cX4_leadsBack 1 (.istore_n 3) 1 2 := ⟨by decide +kernel, rfl⟩
set_option maxHeartbeats 8000000 in
theorem ctX4_leadsBack (l : Launch) : Ct l yX4_leadsBack (.code yX4_leadsBack cX4_leadsBack 4 (some .boolean)) 2 spX4_leadsBack := by
  refine Ct.of (own := RX4) (nm := "leadsBack") (by decide) rfl rfl ?_
  rintro X av T I L R uc us rfl g hN hu hz ⟨fr, nm, J, rfl, rfl, rfl, hJ, hJ1, ht, hk⟩
  refine VE.go (ls := [some (.ref 0), some (.int fr), some (.int nm), none]) g hu hz (fun _ => rfl) (fun _ => Nat.le_of_ble_eq_true rfl) ?_
  have loop : ∀ (n : Nat) (x : Int32), lbT (jTo I (I 0 24) J) nm n x → x_k X (.inl (some (.int (bI (lbF (jTo I (I 0 24) J) nm n x = nm))))) TM I L RM uc us → V X TM I L RM uc us 2 [some (.ref 0), some (.int fr), some (.int nm), some (.int x)] [] := by
    intro n
    induction n with
    | zero =>
      intro x h1 h2
      refine V_iload_3 g eX4_leadsBack_2 ?_
      refine V_if_le g eX4_leadsBack_3 (fun c_3 => ?_) (fun c_3 => ?_)
      · refine V_iload_3 g eX4_leadsBack_24 ?_
        refine V_iload_2 g eX4_leadsBack_25 ?_
        refine V_icmp_ne g eX4_leadsBack_26 (fun c_26 => ?_) (fun c_26 => ?_)
        · refine V_iconst (v := 0) g eX4_leadsBack_33 (by decide) ?_
          refine V_zret g eX4_leadsBack_34 rfl ?_
          exact kI h2 (bI_f c_26)
        · refine V_iconst (v := 1) g eX4_leadsBack_29 (by decide) ?_
          refine V_goto g eX4_leadsBack_30 ?_
          refine V_zret g eX4_leadsBack_34 rfl ?_
          exact kI h2 (bI_t c_26)
      · refine V_iload_3 g eX4_leadsBack_6 ?_
        refine V_iload_2 g eX4_leadsBack_7 ?_
        refine V_icmp_eq g eX4_leadsBack_8 (fun c_8 => ?_) (fun c_8 => ?_)
        · refine V_iload_3 g eX4_leadsBack_24 ?_
          refine V_iload_2 g eX4_leadsBack_25 ?_
          refine V_icmp_ne g eX4_leadsBack_26 (fun c_26 => ?_) (fun c_26 => ?_)
          · refine V_iconst (v := 0) g eX4_leadsBack_33 (by decide) ?_
            refine V_zret g eX4_leadsBack_34 rfl ?_
            exact kI h2 (bI_f c_26)
          · refine V_iconst (v := 1) g eX4_leadsBack_29 (by decide) ?_
            refine V_goto g eX4_leadsBack_30 ?_
            refine V_zret g eX4_leadsBack_34 rfl ?_
            exact kI h2 (bI_t c_26)
        · exact absurd h1 (fun q => by rcases q with q | q; exact c_3 q; exact c_8 q)
    | succ n ih =>
      intro x h1 h2
      refine V_iload_3 g eX4_leadsBack_2 ?_
      refine V_if_le g eX4_leadsBack_3 (fun c_3 => ?_) (fun c_3 => ?_)
      · rw [lbF, if_pos (Or.inl c_3)] at h2
        refine V_iload_3 g eX4_leadsBack_24 ?_
        refine V_iload_2 g eX4_leadsBack_25 ?_
        refine V_icmp_ne g eX4_leadsBack_26 (fun c_26 => ?_) (fun c_26 => ?_)
        · refine V_iconst (v := 0) g eX4_leadsBack_33 (by decide) ?_
          refine V_zret g eX4_leadsBack_34 rfl ?_
          exact kI h2 (bI_f c_26)
        · refine V_iconst (v := 1) g eX4_leadsBack_29 (by decide) ?_
          refine V_goto g eX4_leadsBack_30 ?_
          refine V_zret g eX4_leadsBack_34 rfl ?_
          exact kI h2 (bI_t c_26)
      · refine V_iload_3 g eX4_leadsBack_6 ?_
        refine V_iload_2 g eX4_leadsBack_7 ?_
        refine V_icmp_eq g eX4_leadsBack_8 (fun c_8 => ?_) (fun c_8 => ?_)
        · rw [lbF, if_pos (Or.inr c_8)] at h2
          refine V_iload_3 g eX4_leadsBack_24 ?_
          refine V_iload_2 g eX4_leadsBack_25 ?_
          refine V_icmp_ne g eX4_leadsBack_26 (fun c_26 => ?_) (fun c_26 => ?_)
          · refine V_iconst (v := 0) g eX4_leadsBack_33 (by decide) ?_
            refine V_zret g eX4_leadsBack_34 rfl ?_
            exact kI h2 (bI_f c_26)
          · refine V_iconst (v := 1) g eX4_leadsBack_29 (by decide) ?_
            refine V_goto g eX4_leadsBack_30 ?_
            refine V_zret g eX4_leadsBack_34 rfl ?_
            exact kI h2 (bI_t c_26)
        · refine V_aload_0 g eX4_leadsBack_11 ?_
          refine V_iload_3 g eX4_leadsBack_12 ?_
          refine V_aload_0 g eX4_leadsBack_13 ?_
          refine V_getI g eX4_leadsBack_14 flX4_255 rfl rfl ?_
          refine V_cv2 g (ctX4_joinedTo _) eX4_leadsBack_17 pkX4_289 rfl rfl (by decide) (by decide) (Nat.le_of_ble_eq_true rfl) ?_
          refine ⟨_, _, J, rfl, rfl, rfl, hJ, hJ1, ?_⟩
          refine V_istore_3 g eX4_leadsBack_20 (by decide) rfl ?_
          refine V_goto g eX4_leadsBack_21 ?_
          exact ih _ (h1.resolve_left (fun q => by rcases q with q | q; exact c_3 q; exact c_8 q)) (by rw [lbF, if_neg (fun q => by rcases q with q | q; exact c_3 q; exact c_8 q)] at h2; exact h2)
  refine V_iload_1 g eX4_leadsBack_0 ?_
  refine V_istore_3 g eX4_leadsBack_1 (by decide) rfl ?_
  exact loop 60 fr ht hk
abbrev spX4_join : Sp := fun av T I L R uc us k => ∃ nm : Int32, ∃ to : Int32, ∃ Jn : Nat, av = [.ref 0, .int nm, .int to] ∧ T = TM ∧ R = RM ∧ (fun J => J 0 41 = nI Jn ∧ Jn ≤ 100 ∧ (isNm to → lbT (jTo J (J 0 24) Jn) nm 60 to) ∧ if ¬ isNm nm ∨ (¬ to = 0 ∧ ¬ isNm to) ∨ nm = to ∨ J 0 41 = 100 ∨ (¬ to ≤ 0 ∧ lbF (jTo J (J 0 24) Jn) nm 60 to = nm) then k (.inl (some (.int 0))) T J L R uc us else k (.inl (some (.int 1))) T (u2 (u2 (u2 (u2 J 42 Jn nm) 43 Jn to) 44 Jn (J 0 24)) 0 41 (nI (Jn + 1))) L R uc us) (u2 I 0 0 0)
theorem eX4_join_0 : dc cX4_join 0 (.aload_n 0) 1 1 := ⟨by decide +kernel, rfl⟩
theorem eX4_join_1 : dc cX4_join 1 (.iconst 0) 1 2 := ⟨by decide +kernel, rfl⟩
theorem eX4_join_2 : dc cX4_join 2 (.putfield 1) 3 5 := ⟨by decide +kernel, rfl⟩
theorem eX4_join_5 : dc cX4_join 5 (.iload_n 1) 1 6 := ⟨by decide +kernel, rfl⟩
theorem eX4_join_6 : dc cX4_join 6 (.invokestatic 283) 3 9 := ⟨by decide +kernel, rfl⟩
theorem eX4_join_9 : dj cX4_join 9 (.ifCond .eq 41) 41 50 12 := ⟨by decide +kernel, by decide, rfl⟩
theorem eX4_join_50 : dc cX4_join 50 (.iconst 0) 1 51 := ⟨by decide +kernel, rfl⟩
theorem eX4_join_51 : dc cX4_join 51 (.ireturn) 1 52 := ⟨by decide +kernel, rfl⟩
theorem eX4_join_12 : dc cX4_join 12 (.iload_n 2) 1 13 := ⟨by decide +kernel, rfl⟩
theorem eX4_join_13 : dj cX4_join 13 (.ifCond .eq 10) 10 23 16 := ⟨by decide +kernel, by decide, rfl⟩
theorem eX4_join_23 : dc cX4_join 23 (.iload_n 1) 1 24 := ⟨by decide +kernel, rfl⟩
theorem eX4_join_24 : dc cX4_join 24 (.iload_n 2) 1 25 := ⟨by decide +kernel, rfl⟩
theorem eX4_join_25 : dj cX4_join 25 (.if_icmp .eq 25) 25 50 28 := ⟨by decide +kernel, by decide, rfl⟩
theorem eX4_join_28 : dc cX4_join 28 (.aload_n 0) 1 29 := ⟨by decide +kernel, rfl⟩
theorem eX4_join_29 : dc cX4_join 29 (.getfield 293) 3 32 := ⟨by decide +kernel, rfl⟩
theorem eX4_join_32 : dc cX4_join 32 (.bipush 100) 2 34 := ⟨by decide +kernel, rfl⟩
theorem eX4_join_34 : dj cX4_join 34 (.if_icmp .eq 16) 16 50 37 := ⟨by decide +kernel, by decide, rfl⟩
theorem eX4_join_37 : dc cX4_join 37 (.iload_n 2) 1 38 := ⟨by decide +kernel, rfl⟩
theorem eX4_join_38 : dj cX4_join 38 (.ifCond .le 14) 14 52 41 := ⟨by decide +kernel, by decide, rfl⟩
theorem eX4_join_52 : dc cX4_join 52 (.aload_n 0) 1 53 := ⟨by decide +kernel, rfl⟩
theorem eX4_join_53 : dc cX4_join 53 (.getfield 132) 3 56 := ⟨by decide +kernel, rfl⟩
theorem eX4_join_56 : dc cX4_join 56 (.aload_n 0) 1 57 := ⟨by decide +kernel, rfl⟩
theorem eX4_join_57 : dc cX4_join 57 (.getfield 293) 3 60 := ⟨by decide +kernel, rfl⟩
theorem eX4_join_60 : dc cX4_join 60 (.iload_n 1) 1 61 := ⟨by decide +kernel, rfl⟩
theorem eX4_join_61 : dc cX4_join 61 (.iastore) 1 62 := ⟨by decide +kernel, rfl⟩
theorem eX4_join_62 : dc cX4_join 62 (.aload_n 0) 1 63 := ⟨by decide +kernel, rfl⟩
theorem eX4_join_63 : dc cX4_join 63 (.getfield 135) 3 66 := ⟨by decide +kernel, rfl⟩
theorem eX4_join_66 : dc cX4_join 66 (.aload_n 0) 1 67 := ⟨by decide +kernel, rfl⟩
theorem eX4_join_67 : dc cX4_join 67 (.getfield 293) 3 70 := ⟨by decide +kernel, rfl⟩
theorem eX4_join_70 : dc cX4_join 70 (.iload_n 2) 1 71 := ⟨by decide +kernel, rfl⟩
theorem eX4_join_71 : dc cX4_join 71 (.iastore) 1 72 := ⟨by decide +kernel, rfl⟩
theorem eX4_join_72 : dc cX4_join 72 (.aload_n 0) 1 73 := ⟨by decide +kernel, rfl⟩
theorem eX4_join_73 : dc cX4_join 73 (.getfield 138) 3 76 := ⟨by decide +kernel, rfl⟩
theorem eX4_join_76 : dc cX4_join 76 (.aload_n 0) 1 77 := ⟨by decide +kernel, rfl⟩
theorem eX4_join_77 : dc cX4_join 77 (.getfield 293) 3 80 := ⟨by decide +kernel, rfl⟩
theorem eX4_join_80 : dc cX4_join 80 (.aload_n 0) 1 81 := ⟨by decide +kernel, rfl⟩
theorem eX4_join_81 : dc cX4_join 81 (.getfield 255) 3 84 := ⟨by decide +kernel, rfl⟩
theorem eX4_join_84 : dc cX4_join 84 (.iastore) 1 85 := ⟨by decide +kernel, rfl⟩
theorem eX4_join_85 : dc cX4_join 85 (.aload_n 0) 1 86 := ⟨by decide +kernel, rfl⟩
theorem eX4_join_86 : dc cX4_join 86 (.dup) 1 87 := ⟨by decide +kernel, rfl⟩
theorem eX4_join_87 : dc cX4_join 87 (.getfield 293) 3 90 := ⟨by decide +kernel, rfl⟩
theorem eX4_join_90 : dc cX4_join 90 (.iconst 1) 1 91 := ⟨by decide +kernel, rfl⟩
theorem eX4_join_91 : dc cX4_join 91 (.iadd) 1 92 := ⟨by decide +kernel, rfl⟩
theorem eX4_join_92 : dc cX4_join 92 (.putfield 293) 3 95 := ⟨by decide +kernel, rfl⟩
theorem pflX4_293 {nm : String} : (FL RX4 293 3 41 ∧ FN 3 41) ∨ (FF RX4 293 3 41 ∧ nm = "<init>") := Or.inl ⟨flX4_293, fun C Tb N h => by cases h; rfl⟩
theorem eX4_join_95 : dc cX4_join 95 (.iconst 1) 1 96 := ⟨by decide +kernel, rfl⟩
theorem eX4_join_96 : dc cX4_join 96 (.ireturn) 1 97 := ⟨by decide +kernel, rfl⟩
theorem eX4_join_16 : dc cX4_join 16 (.iload_n 2) 1 17 := ⟨by decide +kernel, rfl⟩
theorem eX4_join_17 : dc cX4_join 17 (.invokestatic 283) 3 20 := ⟨by decide +kernel, rfl⟩
theorem eX4_join_20 : dj cX4_join 20 (.ifCond .eq 30) 30 50 23 := ⟨by decide +kernel, by decide, rfl⟩
theorem eX4_join_41 : dc cX4_join 41 (.aload_n 0) 1 42 := ⟨by decide +kernel, rfl⟩
theorem eX4_join_42 : dc cX4_join 42 (.iload_n 2) 1 43 := ⟨by decide +kernel, rfl⟩
theorem eX4_join_43 : dc cX4_join 43 (.iload_n 1) 1 44 := ⟨by decide +kernel, rfl⟩
theorem eX4_join_44 : dc cX4_join 44 (.invokevirtual 296) 3 47 := ⟨by decide +kernel, rfl⟩
theorem pkX4_296 : PkV RX4 296 yX4_leadsBack (.code yX4_leadsBack cX4_leadsBack 4 (some .boolean)) 4 "BedBookModel" 2 := ⟨cwd_c, (lk q1554), Or.inl (lk q1551), (lk q1553), (lk qs45), ⟨⟨by decide, by decide⟩, by decide +kernel⟩, (lk q67), by decide⟩
theorem eX4_join_47 : dj cX4_join 47 (.ifCond .eq 5) 5 52 50 := ⟨by decide +kernel, by decide, rfl⟩
set_option maxHeartbeats 8000000 in
theorem ctX4_join (l : Launch) : Ct l yX4_join (.code yX4_join cX4_join 3 (some .boolean)) 3 spX4_join := by
  refine Ct.of (own := RX4) (nm := "join") (by decide) rfl rfl ?_
  rintro X av T I L R uc us rfl g hN hu hz ⟨nm, to, Jn, rfl, rfl, rfl, hk⟩
  refine VE.go (ls := [some (.ref 0), some (.int nm), some (.int to)]) g hu hz (fun _ => rfl) (fun _ => Nat.le_of_ble_eq_true rfl) ?_
  refine V_aload_0 g eX4_join_0 ?_
  refine V_iconst (v := 0) g eX4_join_1 (by decide) ?_
  refine V_putI g eX4_join_2 pflX4_1 rfl rfl rfl rfl ?_
  generalize u2 I 0 0 0 = J at hk ⊢
  obtain ⟨hJ, hJ1, ht, hk⟩ := hk
  refine V_iload_1 g eX4_join_5 ?_
  refine V_cs1 g (ctX4_isName _) eX4_join_6 pkX4_283 (by decide) (Nat.le_of_ble_eq_true rfl) ?_
  refine ⟨_, rfl, rfl, rfl, ?_⟩
  refine V_if_eqB g eX4_join_9 (fun c_9 => ?_) (fun c_9 => ?_)
  · refine V_iconst (v := 0) g eX4_join_50 (by decide) ?_
    refine V_zret g eX4_join_51 rfl ?_
    first | contradiction | (simp only [c_9, or_false, false_or, true_or, or_true, and_true, true_and, and_false, false_and, if_true, if_false, not_true_eq_false, not_false_eq_true, and_self, or_self] at hk ⊢; exact hk) | (simp only [isP, isBd, isLt, isDg, aMany, isNm, isD9, c_9, or_false, false_or, true_or, or_true, and_true, true_and, and_false, false_and, if_true, if_false, not_true_eq_false, not_false_eq_true, and_self, or_self] at hk ⊢; exact hk) | ((try simp only [isP, isBd, isLt, isDg, aMany, isNm, isD9, ← Int32.not_le, Decidable.not_not] at hk c_9 ⊢); simp only [c_9, or_false, false_or, true_or, or_true, and_true, true_and, and_false, false_and, if_true, if_false, not_true_eq_false, not_false_eq_true, and_self, or_self] at hk ⊢; exact hk)
  · refine V_iload_2 g eX4_join_12 ?_
    refine V_if_eq g eX4_join_13 (fun c_13 => ?_) (fun c_13 => ?_)
    · refine V_iload_1 g eX4_join_23 ?_
      refine V_iload_2 g eX4_join_24 ?_
      refine V_icmp_eq g eX4_join_25 (fun c_25 => ?_) (fun c_25 => ?_)
      · refine V_iconst (v := 0) g eX4_join_50 (by decide) ?_
        refine V_zret g eX4_join_51 rfl ?_
        first | contradiction | (simp only [c_9, c_13, c_25, or_false, false_or, true_or, or_true, and_true, true_and, and_false, false_and, if_true, if_false, not_true_eq_false, not_false_eq_true, and_self, or_self] at hk ⊢; exact hk) | (simp only [isP, isBd, isLt, isDg, aMany, isNm, isD9, c_9, c_13, c_25, or_false, false_or, true_or, or_true, and_true, true_and, and_false, false_and, if_true, if_false, not_true_eq_false, not_false_eq_true, and_self, or_self] at hk ⊢; exact hk) | ((try simp only [isP, isBd, isLt, isDg, aMany, isNm, isD9, ← Int32.not_le, Decidable.not_not] at hk c_9 c_13 c_25 ⊢); simp only [c_9, c_13, c_25, or_false, false_or, true_or, or_true, and_true, true_and, and_false, false_and, if_true, if_false, not_true_eq_false, not_false_eq_true, and_self, or_self] at hk ⊢; exact hk)
      · refine V_aload_0 g eX4_join_28 ?_
        refine V_getI g eX4_join_29 flX4_293 rfl rfl ?_
        refine V_bipush (v := 100) g eX4_join_32 (by decide) ?_
        refine V_icmp_eq g eX4_join_34 (fun c_34 => ?_) (fun c_34 => ?_)
        · refine V_iconst (v := 0) g eX4_join_50 (by decide) ?_
          refine V_zret g eX4_join_51 rfl ?_
          first | contradiction | (simp only [c_9, c_13, c_25, c_34, or_false, false_or, true_or, or_true, and_true, true_and, and_false, false_and, if_true, if_false, not_true_eq_false, not_false_eq_true, and_self, or_self] at hk ⊢; exact hk) | (simp only [isP, isBd, isLt, isDg, aMany, isNm, isD9, c_9, c_13, c_25, c_34, or_false, false_or, true_or, or_true, and_true, true_and, and_false, false_and, if_true, if_false, not_true_eq_false, not_false_eq_true, and_self, or_self] at hk ⊢; exact hk) | ((try simp only [isP, isBd, isLt, isDg, aMany, isNm, isD9, ← Int32.not_le, Decidable.not_not] at hk c_9 c_13 c_25 c_34 ⊢); simp only [c_9, c_13, c_25, c_34, or_false, false_or, true_or, or_true, and_true, true_and, and_false, false_and, if_true, if_false, not_true_eq_false, not_false_eq_true, and_self, or_self] at hk ⊢; exact hk)
        · have q_34 : Jn ≠ 100 := fun q => c_34 (by rw [hJ, q]; rfl)
          refine V_iload_2 g eX4_join_37 ?_
          refine V_if_le g eX4_join_38 (fun c_38 => ?_) (fun c_38 => ?_)
          · refine V_aload_0 g eX4_join_52 ?_
            refine V_getR g eX4_join_53 flX4_132 rfl rfl rfl ?_
            refine V_aload_0 g eX4_join_56 ?_
            refine V_getI g eX4_join_57 flX4_293 rfl rfl ?_
            refine V_top (y := nI Jn) (by simp [u2, hJ]) ?_
            refine V_iload_1 g eX4_join_60 ?_
            refine V_iastN g eX4_join_61 rfl (by omega) (by decide) ?_
            refine V_aload_0 g eX4_join_62 ?_
            refine V_getR g eX4_join_63 flX4_135 rfl rfl rfl ?_
            refine V_aload_0 g eX4_join_66 ?_
            refine V_getI g eX4_join_67 flX4_293 rfl rfl ?_
            refine V_top (y := nI Jn) (by simp [u2, hJ]) ?_
            refine V_iload_2 g eX4_join_70 ?_
            refine V_iastN g eX4_join_71 rfl (by omega) (by decide) ?_
            refine V_aload_0 g eX4_join_72 ?_
            refine V_getR g eX4_join_73 flX4_138 rfl rfl rfl ?_
            refine V_aload_0 g eX4_join_76 ?_
            refine V_getI g eX4_join_77 flX4_293 rfl rfl ?_
            refine V_top (y := nI Jn) (by simp [u2, hJ]) ?_
            refine V_aload_0 g eX4_join_80 ?_
            refine V_getI g eX4_join_81 flX4_255 rfl rfl ?_
            refine V_top (y := J 0 24) (by simp [u2]) ?_
            refine V_iastN g eX4_join_84 rfl (by omega) (by decide) ?_
            refine V_aload_0 g eX4_join_85 ?_
            refine V_dup g eX4_join_86 rfl ?_
            refine V_getI g eX4_join_87 flX4_293 rfl rfl ?_
            refine V_top (y := nI Jn) (by simp [u2, hJ]) ?_
            refine V_iconst (v := 1) g eX4_join_90 (by decide) ?_
            refine V_iaddN (b := 1) g eX4_join_91 ?_
            refine V_putI g eX4_join_92 pflX4_293 rfl rfl rfl rfl ?_
            refine V_iconst (v := 1) g eX4_join_95 (by decide) ?_
            refine V_zret g eX4_join_96 rfl ?_
            rw [if_neg (fun q => by rcases q with q | q | q | q | q; exact q c_9; exact q.1 c_13; exact c_25 q; exact c_34 q; exact q.1 c_38)] at hk
            exact hk
          · exact absurd (by rw [c_13]; decide) c_38
    · refine V_iload_2 g eX4_join_16 ?_
      refine V_cs1 g (ctX4_isName _) eX4_join_17 pkX4_283 (by decide) (Nat.le_of_ble_eq_true rfl) ?_
      refine ⟨_, rfl, rfl, rfl, ?_⟩
      refine V_if_eqB g eX4_join_20 (fun c_20 => ?_) (fun c_20 => ?_)
      · refine V_iconst (v := 0) g eX4_join_50 (by decide) ?_
        refine V_zret g eX4_join_51 rfl ?_
        first | contradiction | (simp only [c_9, c_13, c_20, or_false, false_or, true_or, or_true, and_true, true_and, and_false, false_and, if_true, if_false, not_true_eq_false, not_false_eq_true, and_self, or_self] at hk ⊢; exact hk) | (simp only [isP, isBd, isLt, isDg, aMany, isNm, isD9, c_9, c_13, c_20, or_false, false_or, true_or, or_true, and_true, true_and, and_false, false_and, if_true, if_false, not_true_eq_false, not_false_eq_true, and_self, or_self] at hk ⊢; exact hk) | ((try simp only [isP, isBd, isLt, isDg, aMany, isNm, isD9, ← Int32.not_le, Decidable.not_not] at hk c_9 c_13 c_20 ⊢); simp only [c_9, c_13, c_20, or_false, false_or, true_or, or_true, and_true, true_and, and_false, false_and, if_true, if_false, not_true_eq_false, not_false_eq_true, and_self, or_self] at hk ⊢; exact hk)
      · refine V_iload_1 g eX4_join_23 ?_
        refine V_iload_2 g eX4_join_24 ?_
        refine V_icmp_eq g eX4_join_25 (fun c_25 => ?_) (fun c_25 => ?_)
        · refine V_iconst (v := 0) g eX4_join_50 (by decide) ?_
          refine V_zret g eX4_join_51 rfl ?_
          first | contradiction | (simp only [c_9, c_13, c_20, c_25, or_false, false_or, true_or, or_true, and_true, true_and, and_false, false_and, if_true, if_false, not_true_eq_false, not_false_eq_true, and_self, or_self] at hk ⊢; exact hk) | (simp only [isP, isBd, isLt, isDg, aMany, isNm, isD9, c_9, c_13, c_20, c_25, or_false, false_or, true_or, or_true, and_true, true_and, and_false, false_and, if_true, if_false, not_true_eq_false, not_false_eq_true, and_self, or_self] at hk ⊢; exact hk) | ((try simp only [isP, isBd, isLt, isDg, aMany, isNm, isD9, ← Int32.not_le, Decidable.not_not] at hk c_9 c_13 c_20 c_25 ⊢); simp only [c_9, c_13, c_20, c_25, or_false, false_or, true_or, or_true, and_true, true_and, and_false, false_and, if_true, if_false, not_true_eq_false, not_false_eq_true, and_self, or_self] at hk ⊢; exact hk)
        · refine V_aload_0 g eX4_join_28 ?_
          refine V_getI g eX4_join_29 flX4_293 rfl rfl ?_
          refine V_bipush (v := 100) g eX4_join_32 (by decide) ?_
          refine V_icmp_eq g eX4_join_34 (fun c_34 => ?_) (fun c_34 => ?_)
          · refine V_iconst (v := 0) g eX4_join_50 (by decide) ?_
            refine V_zret g eX4_join_51 rfl ?_
            first | contradiction | (simp only [c_9, c_13, c_20, c_25, c_34, or_false, false_or, true_or, or_true, and_true, true_and, and_false, false_and, if_true, if_false, not_true_eq_false, not_false_eq_true, and_self, or_self] at hk ⊢; exact hk) | (simp only [isP, isBd, isLt, isDg, aMany, isNm, isD9, c_9, c_13, c_20, c_25, c_34, or_false, false_or, true_or, or_true, and_true, true_and, and_false, false_and, if_true, if_false, not_true_eq_false, not_false_eq_true, and_self, or_self] at hk ⊢; exact hk) | ((try simp only [isP, isBd, isLt, isDg, aMany, isNm, isD9, ← Int32.not_le, Decidable.not_not] at hk c_9 c_13 c_20 c_25 c_34 ⊢); simp only [c_9, c_13, c_20, c_25, c_34, or_false, false_or, true_or, or_true, and_true, true_and, and_false, false_and, if_true, if_false, not_true_eq_false, not_false_eq_true, and_self, or_self] at hk ⊢; exact hk)
          · have q_34 : Jn ≠ 100 := fun q => c_34 (by rw [hJ, q]; rfl)
            refine V_iload_2 g eX4_join_37 ?_
            refine V_if_le g eX4_join_38 (fun c_38 => ?_) (fun c_38 => ?_)
            · refine V_aload_0 g eX4_join_52 ?_
              refine V_getR g eX4_join_53 flX4_132 rfl rfl rfl ?_
              refine V_aload_0 g eX4_join_56 ?_
              refine V_getI g eX4_join_57 flX4_293 rfl rfl ?_
              refine V_top (y := nI Jn) (by simp [u2, hJ]) ?_
              refine V_iload_1 g eX4_join_60 ?_
              refine V_iastN g eX4_join_61 rfl (by omega) (by decide) ?_
              refine V_aload_0 g eX4_join_62 ?_
              refine V_getR g eX4_join_63 flX4_135 rfl rfl rfl ?_
              refine V_aload_0 g eX4_join_66 ?_
              refine V_getI g eX4_join_67 flX4_293 rfl rfl ?_
              refine V_top (y := nI Jn) (by simp [u2, hJ]) ?_
              refine V_iload_2 g eX4_join_70 ?_
              refine V_iastN g eX4_join_71 rfl (by omega) (by decide) ?_
              refine V_aload_0 g eX4_join_72 ?_
              refine V_getR g eX4_join_73 flX4_138 rfl rfl rfl ?_
              refine V_aload_0 g eX4_join_76 ?_
              refine V_getI g eX4_join_77 flX4_293 rfl rfl ?_
              refine V_top (y := nI Jn) (by simp [u2, hJ]) ?_
              refine V_aload_0 g eX4_join_80 ?_
              refine V_getI g eX4_join_81 flX4_255 rfl rfl ?_
              refine V_top (y := J 0 24) (by simp [u2]) ?_
              refine V_iastN g eX4_join_84 rfl (by omega) (by decide) ?_
              refine V_aload_0 g eX4_join_85 ?_
              refine V_dup g eX4_join_86 rfl ?_
              refine V_getI g eX4_join_87 flX4_293 rfl rfl ?_
              refine V_top (y := nI Jn) (by simp [u2, hJ]) ?_
              refine V_iconst (v := 1) g eX4_join_90 (by decide) ?_
              refine V_iaddN (b := 1) g eX4_join_91 ?_
              refine V_putI g eX4_join_92 pflX4_293 rfl rfl rfl rfl ?_
              refine V_iconst (v := 1) g eX4_join_95 (by decide) ?_
              refine V_zret g eX4_join_96 rfl ?_
              first | contradiction | (simp only [c_9, c_13, c_20, c_25, c_34, c_38, or_false, false_or, true_or, or_true, and_true, true_and, and_false, false_and, if_true, if_false, not_true_eq_false, not_false_eq_true, and_self, or_self] at hk ⊢; exact hk) | (simp only [isP, isBd, isLt, isDg, aMany, isNm, isD9, c_9, c_13, c_20, c_25, c_34, c_38, or_false, false_or, true_or, or_true, and_true, true_and, and_false, false_and, if_true, if_false, not_true_eq_false, not_false_eq_true, and_self, or_self] at hk ⊢; exact hk) | ((try simp only [isP, isBd, isLt, isDg, aMany, isNm, isD9, ← Int32.not_le, Decidable.not_not] at hk c_9 c_13 c_20 c_25 c_34 c_38 ⊢); simp only [c_9, c_13, c_20, c_25, c_34, c_38, or_false, false_or, true_or, or_true, and_true, true_and, and_false, false_and, if_true, if_false, not_true_eq_false, not_false_eq_true, and_self, or_self] at hk ⊢; exact hk)
            · refine V_aload_0 g eX4_join_41 ?_
              refine V_iload_2 g eX4_join_42 ?_
              refine V_iload_1 g eX4_join_43 ?_
              refine V_cv2 g (ctX4_leadsBack _) eX4_join_44 pkX4_296 rfl rfl (by decide) (by decide) (Nat.le_of_ble_eq_true rfl) ?_
              refine ⟨_, _, Jn, rfl, rfl, rfl, hJ, hJ1, ht (by first | exact c_20 | (rw [c_13] at c_38; exact absurd (by decide) c_38)), ?_⟩
              refine V_if_eqB g eX4_join_47 (fun c_47 => ?_) (fun c_47 => ?_)
              · refine V_aload_0 g eX4_join_52 ?_
                refine V_getR g eX4_join_53 flX4_132 rfl rfl rfl ?_
                refine V_aload_0 g eX4_join_56 ?_
                refine V_getI g eX4_join_57 flX4_293 rfl rfl ?_
                refine V_top (y := nI Jn) (by simp [u2, hJ]) ?_
                refine V_iload_1 g eX4_join_60 ?_
                refine V_iastN g eX4_join_61 rfl (by omega) (by decide) ?_
                refine V_aload_0 g eX4_join_62 ?_
                refine V_getR g eX4_join_63 flX4_135 rfl rfl rfl ?_
                refine V_aload_0 g eX4_join_66 ?_
                refine V_getI g eX4_join_67 flX4_293 rfl rfl ?_
                refine V_top (y := nI Jn) (by simp [u2, hJ]) ?_
                refine V_iload_2 g eX4_join_70 ?_
                refine V_iastN g eX4_join_71 rfl (by omega) (by decide) ?_
                refine V_aload_0 g eX4_join_72 ?_
                refine V_getR g eX4_join_73 flX4_138 rfl rfl rfl ?_
                refine V_aload_0 g eX4_join_76 ?_
                refine V_getI g eX4_join_77 flX4_293 rfl rfl ?_
                refine V_top (y := nI Jn) (by simp [u2, hJ]) ?_
                refine V_aload_0 g eX4_join_80 ?_
                refine V_getI g eX4_join_81 flX4_255 rfl rfl ?_
                refine V_top (y := J 0 24) (by simp [u2]) ?_
                refine V_iastN g eX4_join_84 rfl (by omega) (by decide) ?_
                refine V_aload_0 g eX4_join_85 ?_
                refine V_dup g eX4_join_86 rfl ?_
                refine V_getI g eX4_join_87 flX4_293 rfl rfl ?_
                refine V_top (y := nI Jn) (by simp [u2, hJ]) ?_
                refine V_iconst (v := 1) g eX4_join_90 (by decide) ?_
                refine V_iaddN (b := 1) g eX4_join_91 ?_
                refine V_putI g eX4_join_92 pflX4_293 rfl rfl rfl rfl ?_
                refine V_iconst (v := 1) g eX4_join_95 (by decide) ?_
                refine V_zret g eX4_join_96 rfl ?_
                first | contradiction | (simp only [c_9, c_13, c_20, c_25, c_34, c_38, c_47, or_false, false_or, true_or, or_true, and_true, true_and, and_false, false_and, if_true, if_false, not_true_eq_false, not_false_eq_true, and_self, or_self] at hk ⊢; exact hk) | (simp only [isP, isBd, isLt, isDg, aMany, isNm, isD9, c_9, c_13, c_20, c_25, c_34, c_38, c_47, or_false, false_or, true_or, or_true, and_true, true_and, and_false, false_and, if_true, if_false, not_true_eq_false, not_false_eq_true, and_self, or_self] at hk ⊢; exact hk) | ((try simp only [isP, isBd, isLt, isDg, aMany, isNm, isD9, ← Int32.not_le, Decidable.not_not] at hk c_9 c_13 c_20 c_25 c_34 c_38 c_47 ⊢); simp only [c_9, c_13, c_20, c_25, c_34, c_38, c_47, or_false, false_or, true_or, or_true, and_true, true_and, and_false, false_and, if_true, if_false, not_true_eq_false, not_false_eq_true, and_self, or_self] at hk ⊢; exact hk)
              · refine V_iconst (v := 0) g eX4_join_50 (by decide) ?_
                refine V_zret g eX4_join_51 rfl ?_
                first | contradiction | (simp only [c_9, c_13, c_20, c_25, c_34, c_38, c_47, or_false, false_or, true_or, or_true, and_true, true_and, and_false, false_and, if_true, if_false, not_true_eq_false, not_false_eq_true, and_self, or_self] at hk ⊢; exact hk) | (simp only [isP, isBd, isLt, isDg, aMany, isNm, isD9, c_9, c_13, c_20, c_25, c_34, c_38, c_47, or_false, false_or, true_or, or_true, and_true, true_and, and_false, false_and, if_true, if_false, not_true_eq_false, not_false_eq_true, and_self, or_self] at hk ⊢; exact hk) | ((try simp only [isP, isBd, isLt, isDg, aMany, isNm, isD9, ← Int32.not_le, Decidable.not_not] at hk c_9 c_13 c_20 c_25 c_34 c_38 c_47 ⊢); simp only [c_9, c_13, c_20, c_25, c_34, c_38, c_47, or_false, false_or, true_or, or_true, and_true, true_and, and_false, false_and, if_true, if_false, not_true_eq_false, not_false_eq_true, and_self, or_self] at hk ⊢; exact hk)
/-- the name of p by the first n namings as of a day; 0 -/
def nO (I : It) (p day : Int32) : Nat → Int32
  | 0 => 0
  | n + 1 => if I 38 n = p ∧ ¬ day < I 40 n then I 39 n else nO I p day n
abbrev nmF (I : It) (G J : Nat) (p day jd : Int32) : Int32 := if nO I p day G = 0 then 0 else ldF (jTo I jd J) 60 (nO I p day G)
abbrev spX4_nameOf : Sp := fun av T I L R uc us k => ∃ p : Int32, ∃ day : Int32, ∃ jd : Int32, ∃ G : Nat, ∃ J : Nat, av = [.ref 0, .int p, .int day, .int jd] ∧ T = TM ∧ R = RM ∧ I 0 37 = nI G ∧ G ≤ 300 ∧ I 0 41 = nI J ∧ J ≤ 100 ∧ (¬ nO I p day G = 0 → ldT (jTo I jd J) 60 (nO I p day G)) ∧ k (.inl (some (.int (nmF I G J p day jd)))) T I L R uc us
theorem eX4_nameOf_6 : dc cX4_nameOf 6 (.iload 5) 2 8 := ⟨by decide +kernel, rfl⟩
theorem eX4_nameOf_8 : dc cX4_nameOf 8 (.aload_n 0) 1 9 := ⟨by decide +kernel, rfl⟩
theorem eX4_nameOf_9 : dc cX4_nameOf 9 (.getfield 286) 3 12 := ⟨by decide +kernel, rfl⟩
theorem eX4_nameOf_12 : dj cX4_nameOf 12 (.if_icmp .ge 45) 45 57 15 := ⟨by decide +kernel, by decide, rfl⟩
theorem eX4_nameOf_57 : dc cX4_nameOf 57 (.iload 4) 2 59 := ⟨by decide +kernel, rfl⟩
theorem eX4_nameOf_59 : dj cX4_nameOf 59 (.ifCond .ne 7) 7 66 62 := ⟨by decide +kernel, by decide, rfl⟩
theorem eX4_nameOf_66 : dc cX4_nameOf 66 (.aload_n 0) 1 67 := ⟨by decide +kernel, rfl⟩
theorem eX4_nameOf_67 : dc cX4_nameOf 67 (.iload 4) 2 69 := ⟨by decide +kernel, rfl⟩
theorem eX4_nameOf_69 : dc cX4_nameOf 69 (.iload_n 3) 1 70 := ⟨by decide +kernel, rfl⟩
theorem eX4_nameOf_70 : dc cX4_nameOf 70 (.invokevirtual 299) 3 73 := ⟨by decide +kernel, rfl⟩
theorem pkX4_299 : PkV RX4 299 yX4_leads (.code yX4_leads cX4_leads 5 (some .int)) 5 "BedBookModel" 2 := ⟨cwd_c, (lk q1570), Or.inl (lk q1567), (lk q1569), (lk qs48), ⟨⟨by decide, by decide⟩, by decide +kernel⟩, (lk q67), by decide⟩
theorem eX4_nameOf_73 : dc cX4_nameOf 73 (.ireturn) 1 74 := ⟨by decide +kernel, rfl⟩
theorem eX4_nameOf_62 : dc cX4_nameOf 62 (.iconst 0) 1 63 := ⟨by decide +kernel, rfl⟩
theorem eX4_nameOf_63 : dj cX4_nameOf 63 (.goto 10) 10 73 66 := ⟨by decide +kernel, by decide, rfl⟩
theorem eX4_nameOf_15 : dc cX4_nameOf 15 (.aload_n 0) 1 16 := ⟨by decide +kernel, rfl⟩
theorem eX4_nameOf_16 : dc cX4_nameOf 16 (.getfield 123) 3 19 := ⟨by decide +kernel, rfl⟩
theorem eX4_nameOf_19 : dc cX4_nameOf 19 (.iload 5) 2 21 := ⟨by decide +kernel, rfl⟩
theorem eX4_nameOf_21 : dc cX4_nameOf 21 (.iaload) 1 22 := ⟨by decide +kernel, rfl⟩
theorem eX4_nameOf_22 : dc cX4_nameOf 22 (.iload_n 1) 1 23 := ⟨by decide +kernel, rfl⟩
theorem eX4_nameOf_23 : dj cX4_nameOf 23 (.if_icmp .ne 24) 24 47 26 := ⟨by decide +kernel, by decide, rfl⟩
theorem eX4_nameOf_47 : dc cX4_nameOf 47 (.iload 4) 2 49 := ⟨by decide +kernel, rfl⟩
theorem eX4_nameOf_49 : dc cX4_nameOf 49 (.istore 4) 2 51 := ⟨by decide +kernel, rfl⟩
theorem eX4_nameOf_51 : dc cX4_nameOf 51 (.iinc 5 1) 3 54 := ⟨by decide +kernel, rfl⟩
theorem eX4_nameOf_54 : dj cX4_nameOf 54 (.goto (-48)) (-48) 6 57 := ⟨by decide +kernel, by decide, rfl⟩
theorem eX4_nameOf_26 : dc cX4_nameOf 26 (.aload_n 0) 1 27 := ⟨by decide +kernel, rfl⟩
theorem eX4_nameOf_27 : dc cX4_nameOf 27 (.getfield 129) 3 30 := ⟨by decide +kernel, rfl⟩
theorem eX4_nameOf_30 : dc cX4_nameOf 30 (.iload 5) 2 32 := ⟨by decide +kernel, rfl⟩
theorem eX4_nameOf_32 : dc cX4_nameOf 32 (.iaload) 1 33 := ⟨by decide +kernel, rfl⟩
theorem eX4_nameOf_33 : dc cX4_nameOf 33 (.iload_n 2) 1 34 := ⟨by decide +kernel, rfl⟩
theorem eX4_nameOf_34 : dj cX4_nameOf 34 (.if_icmp .gt 13) 13 47 37 := ⟨by decide +kernel, by decide, rfl⟩
theorem eX4_nameOf_37 : dc cX4_nameOf 37 (.aload_n 0) 1 38 := ⟨by decide +kernel, rfl⟩
theorem eX4_nameOf_38 : dc cX4_nameOf 38 (.getfield 126) 3 41 := ⟨by decide +kernel, rfl⟩
theorem eX4_nameOf_41 : dc cX4_nameOf 41 (.iload 5) 2 43 := ⟨by decide +kernel, rfl⟩
theorem eX4_nameOf_43 : dc cX4_nameOf 43 (.iaload) 1 44 := ⟨by decide +kernel, rfl⟩
theorem eX4_nameOf_44 : dj cX4_nameOf 44 (.goto 5) 5 49 47 := ⟨by decide +kernel, by decide, rfl⟩
theorem eX4_nameOf_0 : dc cX4_nameOf 0 (.iconst 0) 1 1 := ⟨by decide +kernel, rfl⟩
theorem eX4_nameOf_1 : dc cX4_nameOf 1 (.istore 4) 2 3 := ⟨by decide +kernel, rfl⟩
theorem eX4_nameOf_3 : dc cX4_nameOf 3 (.iconst 0) 1 4 := ⟨by decide +kernel, rfl⟩
theorem eX4_nameOf_4 : dc cX4_nameOf 4 (.istore 5) 2 6 := ⟨by decide +kernel, rfl⟩
set_option maxHeartbeats 8000000 in
theorem ctX4_nameOf (l : Launch) : Ct l yX4_nameOf (.code yX4_nameOf cX4_nameOf 6 (some .int)) 3 spX4_nameOf := by
  refine Ct.of (own := RX4) (nm := "nameOf") (by decide) rfl rfl ?_
  rintro X av T I L R uc us rfl g hN hu hz ⟨p, day, jd, G, J, rfl, rfl, rfl, hG, hG3, hJ, hJ1, ht, hk⟩
  refine VE.go (ls := [some (.ref 0), some (.int p), some (.int day), some (.int jd), none, none]) g hu hz (fun _ => rfl) (fun _ => Nat.le_of_ble_eq_true rfl) ?_
  have loop : ∀ (n w : Nat) (to : Int32), w ≤ G → G + 1 ≤ w + n → to = nO I p day w → V X TM I L RM uc us 6 [some (.ref 0), some (.int p), some (.int day), some (.int jd), some (.int to), some (.int (nI w))] [] := by
    intro n
    induction n with
    | zero => intro w to h1 h2; exact absurd h2 (by omega)
    | succ n ih =>
      intro w to h1 h2 hto
      refine V_iload_5 g eX4_nameOf_6 ?_
      refine V_aload_0 g eX4_nameOf_8 ?_
      refine V_getI g eX4_nameOf_9 flX4_286 rfl rfl ?_
      refine V_top (y := nI G) hG ?_
      refine V_icmp_ge g eX4_nameOf_12 (fun c_12 => ?_) (fun c_12 => ?_)
      · have q_12 := nI_le' (a := G) (b := w) (by omega) (by omega) c_12
        obtain rfl : w = G := by omega
        subst hto
        refine V_iload_4 g eX4_nameOf_57 ?_
        refine V_if_ne g eX4_nameOf_59 (fun c_59 => ?_) (fun c_59 => ?_)
        · refine V_aload_0 g eX4_nameOf_66 ?_
          refine V_iload_4 g eX4_nameOf_67 ?_
          refine V_iload_3 g eX4_nameOf_69 ?_
          refine V_cv2 g (ctX4_leads _) eX4_nameOf_70 pkX4_299 rfl rfl (by decide) (by decide) (Nat.le_of_ble_eq_true rfl) ?_
          refine ⟨_, _, J, rfl, rfl, rfl, hJ, hJ1, ht c_59, ?_⟩
          refine V_iret g eX4_nameOf_73 ?_
          exact kI hk (if_neg c_59)
        · refine V_iconst (v := 0) g eX4_nameOf_62 (by decide) ?_
          refine V_goto g eX4_nameOf_63 ?_
          refine V_iret g eX4_nameOf_73 ?_
          exact kI hk (if_pos c_59)
      · have q_12 := nI_nle' (a := G) (b := w) (by omega) (by omega) c_12
        refine V_aload_0 g eX4_nameOf_15 ?_
        refine V_getR g eX4_nameOf_16 flX4_123 rfl rfl rfl ?_
        refine V_iload_5 g eX4_nameOf_19 ?_
        refine V_ialdN g eX4_nameOf_21 rfl (by omega) (by decide) ?_
        refine V_iload_1 g eX4_nameOf_22 ?_
        refine V_icmp_ne g eX4_nameOf_23 (fun c_23 => ?_) (fun c_23 => ?_)
        · refine V_iload_4 g eX4_nameOf_47 ?_
          refine V_istore_4 g eX4_nameOf_49 (by decide) rfl ?_
          refine V_iinc_5 (v := 1) g eX4_nameOf_51 (by decide) (by decide) rfl ?_
          refine V_goto g eX4_nameOf_54 ?_
          rw [nI_1]
          refine ih (w + 1) _ (by omega) (by omega) ?_
          unfold nO
          simp only [c_12, c_23, or_false, false_or, true_or, or_true, and_true, true_and, and_false, false_and, if_true, if_false, not_true_eq_false, not_false_eq_true, and_self, or_self]
          try exact hto
        · refine V_aload_0 g eX4_nameOf_26 ?_
          refine V_getR g eX4_nameOf_27 flX4_129 rfl rfl rfl ?_
          refine V_iload_5 g eX4_nameOf_30 ?_
          refine V_ialdN g eX4_nameOf_32 rfl (by omega) (by decide) ?_
          refine V_iload_2 g eX4_nameOf_33 ?_
          refine V_icmp_gt g eX4_nameOf_34 (fun c_34 => ?_) (fun c_34 => ?_)
          · refine V_iload_4 g eX4_nameOf_47 ?_
            refine V_istore_4 g eX4_nameOf_49 (by decide) rfl ?_
            refine V_iinc_5 (v := 1) g eX4_nameOf_51 (by decide) (by decide) rfl ?_
            refine V_goto g eX4_nameOf_54 ?_
            rw [nI_1]
            refine ih (w + 1) _ (by omega) (by omega) ?_
            unfold nO
            simp only [c_12, c_23, c_34, or_false, false_or, true_or, or_true, and_true, true_and, and_false, false_and, if_true, if_false, not_true_eq_false, not_false_eq_true, and_self, or_self]
            try exact hto
          · refine V_aload_0 g eX4_nameOf_37 ?_
            refine V_getR g eX4_nameOf_38 flX4_126 rfl rfl rfl ?_
            refine V_iload_5 g eX4_nameOf_41 ?_
            refine V_ialdN g eX4_nameOf_43 rfl (by omega) (by decide) ?_
            refine V_goto g eX4_nameOf_44 ?_
            refine V_istore_4 g eX4_nameOf_49 (by decide) rfl ?_
            refine V_iinc_5 (v := 1) g eX4_nameOf_51 (by decide) (by decide) rfl ?_
            refine V_goto g eX4_nameOf_54 ?_
            rw [nI_1]
            refine ih (w + 1) _ (by omega) (by omega) ?_
            unfold nO
            simp only [c_12, c_23, c_34, or_false, false_or, true_or, or_true, and_true, true_and, and_false, false_and, if_true, if_false, not_true_eq_false, not_false_eq_true, and_self, or_self]
            try exact hto
  refine V_iconst (v := 0) g eX4_nameOf_0 (by decide) ?_
  refine V_istore_4 g eX4_nameOf_1 (by decide) rfl ?_
  refine V_iconst (v := 0) g eX4_nameOf_3 (by decide) ?_
  refine V_istore_5 g eX4_nameOf_4 (by decide) rfl ?_
  exact loop (G + 1) 0 0 (by omega) (by omega) rfl
abbrev nmdOK (I : It) (p day what : Int32) : Prop := isP I p ∧ ¬ day < 0 ∧ ¬ I 0 24 < day ∧ ¬ what < 0 ∧ ¬ 1 < what
abbrev spX4_named : Sp := fun av T I L R uc us k => ∃ p : Int32, ∃ day : Int32, ∃ what : Int32, ∃ G : Nat, ∃ J : Nat, av = [.ref 0, .int p, .int day, .int what] ∧ T = TM ∧ R = RM ∧ I 0 37 = nI G ∧ G ≤ 300 ∧ I 0 41 = nI J ∧ J ≤ 100 ∧ (∀ jd, nmdOK I p day what → ¬ nO I p day G = 0 → ldT (jTo I jd J) 60 (nO I p day G)) ∧ (¬ nmdOK I p day what → k (.inl (some (.int 0))) T (u2 I 0 0 1) L R uc us) ∧ (nmdOK I p day what → k (.inl (some (.int (nmF I G J p day (if what = 0 then day else I 0 24))))) T (u2 I 0 0 0) L R uc us)
theorem jTo_u {I : It} {d x : Int32} {y : Int32} : ∀ n, jTo (u2 I 0 0 y) d n x = jTo I d n x := by
  intro n
  induction n with
  | zero => rfl
  | succ n ih => unfold jTo; rw [ih]; simp [u2]
theorem nO_u {I : It} {p d : Int32} {y : Int32} : ∀ n, nO (u2 I 0 0 y) p d n = nO I p d n := by
  intro n
  induction n with
  | zero => rfl
  | succ n ih => unfold nO; rw [ih]; simp [u2]
theorem jTo_uf {I : It} {d : Int32} {y : Int32} {n : Nat} : jTo (u2 I 0 0 y) d n = jTo I d n := by funext x; exact jTo_u n
theorem eX4_named_34 : dc cX4_named 34 (.iconst 1) 1 35 := ⟨by decide +kernel, rfl⟩
theorem eX4_named_35 : dc cX4_named 35 (.putfield 1) 3 38 := ⟨by decide +kernel, rfl⟩
theorem eX4_named_38 : dc cX4_named 38 (.aload_n 0) 1 39 := ⟨by decide +kernel, rfl⟩
theorem eX4_named_39 : dc cX4_named 39 (.getfield 1) 3 42 := ⟨by decide +kernel, rfl⟩
theorem eX4_named_42 : dj cX4_named 42 (.ifCond .le 7) 7 49 45 := ⟨by decide +kernel, by decide, rfl⟩
theorem eX4_named_45 : dc cX4_named 45 (.iconst 0) 1 46 := ⟨by decide +kernel, rfl⟩
theorem eX4_named_46 : dj cX4_named 46 (.goto 21) 21 67 49 := ⟨by decide +kernel, by decide, rfl⟩
theorem eX4_named_67 : dc cX4_named 67 (.ireturn) 1 68 := ⟨by decide +kernel, rfl⟩
theorem eX4_named_0 : dc cX4_named 0 (.aload_n 0) 1 1 := ⟨by decide +kernel, rfl⟩
theorem eX4_named_1 : dc cX4_named 1 (.aload_n 0) 1 2 := ⟨by decide +kernel, rfl⟩
theorem eX4_named_2 : dc cX4_named 2 (.iload_n 1) 1 3 := ⟨by decide +kernel, rfl⟩
theorem eX4_named_3 : dc cX4_named 3 (.invokevirtual 268) 3 6 := ⟨by decide +kernel, rfl⟩
theorem eX4_named_6 : dj cX4_named 6 (.ifCond .eq 28) 28 34 9 := ⟨by decide +kernel, by decide, rfl⟩
theorem eX4_named_9 : dc cX4_named 9 (.iload_n 2) 1 10 := ⟨by decide +kernel, rfl⟩
theorem eX4_named_10 : dj cX4_named 10 (.ifCond .lt 24) 24 34 13 := ⟨by decide +kernel, by decide, rfl⟩
theorem eX4_named_13 : dc cX4_named 13 (.iload_n 2) 1 14 := ⟨by decide +kernel, rfl⟩
theorem eX4_named_14 : dc cX4_named 14 (.aload_n 0) 1 15 := ⟨by decide +kernel, rfl⟩
theorem eX4_named_15 : dc cX4_named 15 (.getfield 255) 3 18 := ⟨by decide +kernel, rfl⟩
theorem eX4_named_18 : dj cX4_named 18 (.if_icmp .gt 16) 16 34 21 := ⟨by decide +kernel, by decide, rfl⟩
theorem eX4_named_21 : dc cX4_named 21 (.iload_n 3) 1 22 := ⟨by decide +kernel, rfl⟩
theorem eX4_named_22 : dj cX4_named 22 (.ifCond .lt 12) 12 34 25 := ⟨by decide +kernel, by decide, rfl⟩
theorem eX4_named_25 : dc cX4_named 25 (.iload_n 3) 1 26 := ⟨by decide +kernel, rfl⟩
theorem eX4_named_26 : dc cX4_named 26 (.iconst 1) 1 27 := ⟨by decide +kernel, rfl⟩
theorem eX4_named_27 : dj cX4_named 27 (.if_icmp .gt 7) 7 34 30 := ⟨by decide +kernel, by decide, rfl⟩
theorem eX4_named_30 : dc cX4_named 30 (.iconst 0) 1 31 := ⟨by decide +kernel, rfl⟩
theorem eX4_named_31 : dj cX4_named 31 (.goto 4) 4 35 34 := ⟨by decide +kernel, by decide, rfl⟩
theorem eX4_named_49 : dc cX4_named 49 (.aload_n 0) 1 50 := ⟨by decide +kernel, rfl⟩
theorem eX4_named_50 : dc cX4_named 50 (.iload_n 1) 1 51 := ⟨by decide +kernel, rfl⟩
theorem eX4_named_51 : dc cX4_named 51 (.iload_n 2) 1 52 := ⟨by decide +kernel, rfl⟩
theorem eX4_named_52 : dc cX4_named 52 (.iload_n 3) 1 53 := ⟨by decide +kernel, rfl⟩
theorem eX4_named_53 : dj cX4_named 53 (.ifCond .ne 7) 7 60 56 := ⟨by decide +kernel, by decide, rfl⟩
theorem eX4_named_60 : dc cX4_named 60 (.aload_n 0) 1 61 := ⟨by decide +kernel, rfl⟩
theorem eX4_named_61 : dc cX4_named 61 (.getfield 255) 3 64 := ⟨by decide +kernel, rfl⟩
theorem eX4_named_64 : dc cX4_named 64 (.invokevirtual 302) 3 67 := ⟨by decide +kernel, rfl⟩
theorem pkX4_302 : PkV RX4 302 yX4_nameOf (.code yX4_nameOf cX4_nameOf 6 (some .int)) 6 "BedBookModel" 3 := ⟨cwd_c, (lk q1566), Or.inl (lk q1563), (lk q1565), (lk qs47), ⟨⟨by decide, by decide⟩, by decide +kernel⟩, (lk q67), by decide⟩
theorem eX4_named_56 : dc cX4_named 56 (.iload_n 2) 1 57 := ⟨by decide +kernel, rfl⟩
theorem eX4_named_57 : dj cX4_named 57 (.goto 7) 7 64 60 := ⟨by decide +kernel, by decide, rfl⟩
set_option maxHeartbeats 8000000 in
theorem ctX4_named (l : Launch) : Ct l yX4_named (.code yX4_named cX4_named 4 (some .int)) 4 spX4_named := by
  refine Ct.of (own := RX4) (nm := "named") (by decide) rfl rfl ?_
  rintro X av T I L R uc us rfl g hN hu hz ⟨p, day, what, G, J, rfl, rfl, rfl, hG, hG3, hJ, hJ1, ht, hk0, hk1⟩
  refine VE.go (ls := [some (.ref 0), some (.int p), some (.int day), some (.int what)]) g hu hz (fun _ => rfl) (fun _ => Nat.le_of_ble_eq_true rfl) ?_
  have bad : ¬ nmdOK I p day what → V X TM I L RM uc us 34 [some (.ref 0), some (.int p), some (.int day), some (.int what)] [.ref 0] := by
    intro hb
    refine V_iconst (v := 1) g eX4_named_34 (by decide) ?_
    refine V_putI g eX4_named_35 pflX4_1 rfl rfl rfl rfl ?_
    refine V_aload_0 g eX4_named_38 ?_
    refine V_getI g eX4_named_39 flX4_1 rfl rfl ?_
    refine V_top (y := 1) (by rw [u2_s]) ?_
    refine V_if_le g eX4_named_42 (fun c_42 => absurd c_42 (by decide)) (fun _ => ?_)
    refine V_iconst (v := 0) g eX4_named_45 (by decide) ?_
    refine V_goto g eX4_named_46 ?_
    refine V_iret g eX4_named_67 ?_
    exact hk0 hb
  refine V_aload_0 g eX4_named_0 ?_
  refine V_aload_0 g eX4_named_1 ?_
  refine V_iload_1 g eX4_named_2 ?_
  refine V_cv1 g (ctX4_isPlant _) eX4_named_3 pkX4_268 rfl rfl (by decide) (by decide) (Nat.le_of_ble_eq_true rfl) ?_
  refine ⟨_, rfl, rfl, rfl, ?_⟩
  refine V_if_eqB g eX4_named_6 (fun c_6 => ?_) (fun c_6 => ?_)
  · exact bad fun q => c_6 q.1
  · refine V_iload_2 g eX4_named_9 ?_
    refine V_if_lt g eX4_named_10 (fun c_10 => ?_) (fun c_10 => ?_)
    · exact bad fun q => q.2.1 c_10
    · refine V_iload_2 g eX4_named_13 ?_
      refine V_aload_0 g eX4_named_14 ?_
      refine V_getI g eX4_named_15 flX4_255 rfl rfl ?_
      refine V_icmp_gt g eX4_named_18 (fun c_18 => ?_) (fun c_18 => ?_)
      · exact bad fun q => q.2.2.1 c_18
      · refine V_iload_3 g eX4_named_21 ?_
        refine V_if_lt g eX4_named_22 (fun c_22 => ?_) (fun c_22 => ?_)
        · exact bad fun q => q.2.2.2.1 c_22
        · refine V_iload_3 g eX4_named_25 ?_
          refine V_iconst (v := 1) g eX4_named_26 (by decide) ?_
          refine V_icmp_gt g eX4_named_27 (fun c_27 => ?_) (fun c_27 => ?_)
          · exact bad fun q => q.2.2.2.2 c_27
          · refine V_iconst (v := 0) g eX4_named_30 (by decide) ?_
            refine V_goto g eX4_named_31 ?_
            refine V_putI g eX4_named_35 pflX4_1 rfl rfl rfl rfl ?_
            refine V_aload_0 g eX4_named_38 ?_
            refine V_getI g eX4_named_39 flX4_1 rfl rfl ?_
            refine V_top (y := 0) (by rw [u2_s]) ?_
            refine V_if_le g eX4_named_42 (fun _ => ?_) (fun c_42 => absurd c_42 (by decide))
            have ok : nmdOK I p day what := ⟨c_6, c_10, c_18, c_22, c_27⟩
            have hk := hk1 ok
            refine V_aload_0 g eX4_named_49 ?_
            refine V_iload_1 g eX4_named_50 ?_
            refine V_iload_2 g eX4_named_51 ?_
            refine V_iload_3 g eX4_named_52 ?_
            refine V_if_ne g eX4_named_53 (fun c_53 => ?_) (fun c_53 => ?_)
            · refine V_aload_0 g eX4_named_60 ?_
              refine V_getI g eX4_named_61 flX4_255 rfl rfl ?_
              refine V_top (y := I 0 24) (by simp [u2]) ?_
              refine V_cv3 g (ctX4_nameOf _) eX4_named_64 pkX4_302 rfl rfl (by decide) (by decide) (Nat.le_of_ble_eq_true rfl) ?_
              refine ⟨_, _, _, G, J, rfl, rfl, rfl, by simp [u2, hG], hG3, by simp [u2, hJ], hJ1, (by rw [nO_u, jTo_uf]; exact ht _ ok), ?_⟩
              rw [nmF, nO_u, jTo_uf]
              refine V_iret g eX4_named_67 ?_
              simp only [c_53, if_true, if_false] at hk
              exact hk
            · refine V_iload_2 g eX4_named_56 ?_
              refine V_goto g eX4_named_57 ?_
              refine V_cv3 g (ctX4_nameOf _) eX4_named_64 pkX4_302 rfl rfl (by decide) (by decide) (Nat.le_of_ble_eq_true rfl) ?_
              refine ⟨_, _, _, G, J, rfl, rfl, rfl, by simp [u2, hG], hG3, by simp [u2, hJ], hJ1, (by rw [nO_u, jTo_uf]; exact ht _ ok), ?_⟩
              rw [nmF, nO_u, jTo_uf]
              refine V_iret g eX4_named_67 ?_
              simp only [c_53, if_true, if_false] at hk
              exact hk

