/-! Part.fits (printed out of tmpl/t_pl8.txt) -/
set_option maxRecDepth 100000
abbrev spX8_fits : Sp := fun av T I L R uc us k => ∃ (a m o mo : Nat), av = [.ref a, .ref m] ∧ ((T a).1 = 6 ∨ (T a).1 = 7) ∧ R a 0 = some o ∧ IsPl T o ∧ R o (pf T o 6) = some mo ∧ T mo = (100, 8) ∧ T m = (100, 8) ∧ k (.inl (some (.int (bI (∀ j, j < 8 → I m j = I mo j))))) T I L R uc us
theorem eX8_fits_4 : dc cX8_fits 4 (.iload_n 3) 1 5 := ⟨by decide +kernel, rfl⟩
theorem eX8_fits_5 : dc cX8_fits 5 (.bipush 8) 2 7 := ⟨by decide +kernel, rfl⟩
theorem eX8_fits_7 : dj cX8_fits 7 (.if_icmp .ge 34) 34 41 10 := ⟨by decide +kernel, by decide, rfl⟩
theorem eX8_fits_41 : dc cX8_fits 41 (.iload_n 2) 1 42 := ⟨by decide +kernel, rfl⟩
theorem eX8_fits_42 : dc cX8_fits 42 (.ireturn) 1 43 := ⟨by decide +kernel, rfl⟩
theorem eX8_fits_34 : dc cX8_fits 34 (.istore_n 2) 1 35 := ⟨by decide +kernel, rfl⟩
theorem eX8_fits_35 : dc cX8_fits 35 (.iinc 3 1) 3 38 := ⟨by decide +kernel, rfl⟩
theorem eX8_fits_38 : dj cX8_fits 38 (.goto (-34)) (-34) 4 41 := ⟨by decide +kernel, by decide, rfl⟩
theorem eX8_fits_10 : dc cX8_fits 10 (.iload_n 2) 1 11 := ⟨by decide +kernel, rfl⟩
theorem eX8_fits_11 : dj cX8_fits 11 (.ifCond .eq 22) 22 33 14 := ⟨by decide +kernel, by decide, rfl⟩
theorem eX8_fits_33 : dc cX8_fits 33 (.iconst 0) 1 34 := ⟨by decide +kernel, rfl⟩
theorem eX8_fits_14 : dc cX8_fits 14 (.aload_n 1) 1 15 := ⟨by decide +kernel, rfl⟩
theorem eX8_fits_15 : dc cX8_fits 15 (.iload_n 3) 1 16 := ⟨by decide +kernel, rfl⟩
theorem eX8_fits_16 : dc cX8_fits 16 (.iaload) 1 17 := ⟨by decide +kernel, rfl⟩
theorem eX8_fits_17 : dc cX8_fits 17 (.aload_n 0) 1 18 := ⟨by decide +kernel, rfl⟩
theorem eX8_fits_18 : dc cX8_fits 18 (.getfield 9) 3 21 := ⟨by decide +kernel, rfl⟩
theorem eX8_fits_21 : dc cX8_fits 21 (.invokevirtual 15) 3 24 := ⟨by decide +kernel, rfl⟩
theorem eX8_fits_24 : dc cX8_fits 24 (.iload_n 3) 1 25 := ⟨by decide +kernel, rfl⟩
theorem eX8_fits_25 : dc cX8_fits 25 (.iaload) 1 26 := ⟨by decide +kernel, rfl⟩
theorem eX8_fits_26 : dj cX8_fits 26 (.if_icmp .ne 7) 7 33 29 := ⟨by decide +kernel, by decide, rfl⟩
theorem eX8_fits_29 : dc cX8_fits 29 (.iconst 1) 1 30 := ⟨by decide +kernel, rfl⟩
theorem eX8_fits_30 : dj cX8_fits 30 (.goto 4) 4 34 33 := ⟨by decide +kernel, by decide, rfl⟩
theorem eX8_fits_0 : dc cX8_fits 0 (.iconst 1) 1 1 := ⟨by decide +kernel, rfl⟩
theorem eX8_fits_1 : dc cX8_fits 1 (.istore_n 2) 1 2 := ⟨by decide +kernel, rfl⟩
theorem eX8_fits_2 : dc cX8_fits 2 (.iconst 0) 1 3 := ⟨by decide +kernel, rfl⟩
theorem eX8_fits_3 : dc cX8_fits 3 (.istore_n 3) 1 4 := ⟨by decide +kernel, rfl⟩
set_option maxHeartbeats 8000000 in
theorem ctX8_fits (l : Launch) : Ct l yX8_fits (.code yX8_fits cX8_fits 4 (some .boolean)) 3 spX8_fits := by
  refine Ct.of (own := RX8) (nm := "fits") (by decide) rfl rfl ?_
  rintro X av T I L R uc us rfl g hN hu hz ⟨a, m, o, mo, rfl, hT, hr, hp, hm, hTo, hTm, hk⟩
  refine VE.go (ls := [some (.ref a), some (.ref m), none, none]) g hu hz (fun _ => rfl) (fun _ => Nat.le_of_ble_eq_true rfl) ?_
  have loop : ∀ (q j : Nat), j + q = 8 → V X T I L R uc us 4 [some (.ref a), some (.ref m), some (.int (bI (∀ x, x < j → I m x = I mo x))), some (.int (nI j))] [] := by
    intro q
    induction q with
    | zero =>
      intro j hj
      obtain rfl : j = 8 := by omega
      refine V_iload_3 g eX8_fits_4 ?_
      refine V_bipush (v := 8) g eX8_fits_5 (by decide) ?_
      refine V_icmp_ge g eX8_fits_7 (fun _ => ?_) (fun c_7 => absurd c_7 (fun z => z (by decide)))
      refine V_iload_2 g eX8_fits_41 ?_
      refine V_zret g eX8_fits_42 bI_nar ?_
      exact hk
    | succ q ih =>
      intro j hj
      have nx : ∀ (b : Int32), b = bI (∀ x, x < j + 1 → I m x = I mo x) → V X T I L R uc us 34 [some (.ref a), some (.ref m), some (.int (bI (∀ x, x < j → I m x = I mo x))), some (.int (nI j))] [.int b] := by
        intro b hb
        subst hb
        refine V_istore_2 g eX8_fits_34 (by decide) rfl ?_
        refine V_iinc_3 (v := 1) g eX8_fits_35 (by decide) (by decide) rfl ?_
        refine V_goto g eX8_fits_38 ?_
        rw [nI_1]
        exact ih (j + 1) (by omega)
      rcases hT with hT | hT
      ·
        refine V_iload_3 g eX8_fits_4 ?_
        refine V_bipush (v := 8) g eX8_fits_5 (by decide) ?_
        refine V_icmp_ge g eX8_fits_7 (fun c_7 => absurd c_7 (fun z => absurd (nI_le' (a := 8) (b := j) (by decide) (by omega) z) (by omega))) (fun _ => ?_)
        refine V_iload_2 g eX8_fits_10 ?_
        refine V_if_eqB g eX8_fits_11 (fun c_11 => ?_) (fun c_11 => ?_)
        · refine V_iconst (v := 0) g eX8_fits_33 (by decide) ?_
          exact nx _ (bI_f fun z => c_11 fun x hx => z x (by omega)).symm
        · refine V_aload_1 g eX8_fits_14 ?_
          refine V_iload_3 g eX8_fits_15 ?_
          refine V_ialdN g eX8_fits_16 hTm (by omega) (by decide) ?_
          refine V_aload_0 g eX8_fits_17 ?_
          refine V_getR g eX8_fits_18 flX8_9_6 hT rfl hr ?_
          refine V_mk4 g eX8_fits_21 puX8_15_X6 puX8_15_X7 puX8_15_X9 puX8_15_X10 hp hm (by decide) (Nat.le_of_ble_eq_true rfl) ?_
          refine V_iload_3 g eX8_fits_24 ?_
          refine V_ialdN g eX8_fits_25 hTo (by omega) (by decide) ?_
          refine V_icmp_ne g eX8_fits_26 (fun c_26 => ?_) (fun c_26 => ?_)
          · refine V_iconst (v := 0) g eX8_fits_33 (by decide) ?_
            exact nx _ (bI_f fun z => c_26 (z j (by omega))).symm
          · refine V_iconst (v := 1) g eX8_fits_29 (by decide) ?_
            refine V_goto g eX8_fits_30 ?_
            exact nx _ (bI_t fun x hx => by by_cases e : x = j; rw [e]; exact c_26; exact c_11 x (by omega)).symm
      ·
        refine V_iload_3 g eX8_fits_4 ?_
        refine V_bipush (v := 8) g eX8_fits_5 (by decide) ?_
        refine V_icmp_ge g eX8_fits_7 (fun c_7 => absurd c_7 (fun z => absurd (nI_le' (a := 8) (b := j) (by decide) (by omega) z) (by omega))) (fun _ => ?_)
        refine V_iload_2 g eX8_fits_10 ?_
        refine V_if_eqB g eX8_fits_11 (fun c_11 => ?_) (fun c_11 => ?_)
        · refine V_iconst (v := 0) g eX8_fits_33 (by decide) ?_
          exact nx _ (bI_f fun z => c_11 fun x hx => z x (by omega)).symm
        · refine V_aload_1 g eX8_fits_14 ?_
          refine V_iload_3 g eX8_fits_15 ?_
          refine V_ialdN g eX8_fits_16 hTm (by omega) (by decide) ?_
          refine V_aload_0 g eX8_fits_17 ?_
          refine V_getR g eX8_fits_18 flX8_9_7 hT rfl hr ?_
          refine V_mk4 g eX8_fits_21 puX8_15_X6 puX8_15_X7 puX8_15_X9 puX8_15_X10 hp hm (by decide) (Nat.le_of_ble_eq_true rfl) ?_
          refine V_iload_3 g eX8_fits_24 ?_
          refine V_ialdN g eX8_fits_25 hTo (by omega) (by decide) ?_
          refine V_icmp_ne g eX8_fits_26 (fun c_26 => ?_) (fun c_26 => ?_)
          · refine V_iconst (v := 0) g eX8_fits_33 (by decide) ?_
            exact nx _ (bI_f fun z => c_26 (z j (by omega))).symm
          · refine V_iconst (v := 1) g eX8_fits_29 (by decide) ?_
            refine V_goto g eX8_fits_30 ?_
            exact nx _ (bI_t fun x hx => by by_cases e : x = j; rw [e]; exact c_26; exact c_11 x (by omega)).symm
  refine V_iconst (v := bI (∀ x, x < 0 → I m x = I mo x)) g eX8_fits_0 (bI_t fun x hx => absurd hx (by omega)).symm ?_
  refine V_istore_2 g eX8_fits_1 (by decide) rfl ?_
  refine V_iconst (v := 0) g eX8_fits_2 (by decide) ?_
  refine V_istore_3 g eX8_fits_3 (by decide) rfl ?_
  exact loop 8 0 rfl

