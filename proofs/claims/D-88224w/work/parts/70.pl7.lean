/-! Seed.has (printed out of tmpl/t_pl7.txt) -/
set_option maxRecDepth 100000
theorem puX7_18_X6 : PkU RX7 18 ⟨"BedBook$Plant", "marks", "()[I"⟩ "BedBook$Plant" yX5_marks (.code yX5_marks cX5_marks 1 (some (.array .int))) 1 RX6 0 := ⟨cwd_c, (lk q497), (lk q1136), (lk q492), Or.inr (lt_k q500 rfl), (lk q491), (lk q496), ⟨⟨by decide, by decide⟩, by decide +kernel⟩, (lk q68), by decide⟩
theorem puX7_18_X7 : PkU RX7 18 ⟨"BedBook$Plant", "marks", "()[I"⟩ "BedBook$Plant" yX5_marks (.code yX5_marks cX5_marks 1 (some (.array .int))) 1 RX7 0 := ⟨cwd_c, (lk q497), (lk q1136), (lk q492), Or.inr (lt_k q500 rfl), (lk q491), (lk q494), ⟨⟨by decide, by decide⟩, by decide +kernel⟩, (lk q68), by decide⟩
theorem puX7_18_X9 : PkU RX7 18 ⟨"BedBook$Plant", "marks", "()[I"⟩ "BedBook$Plant" yX5_marks (.code yX5_marks cX5_marks 1 (some (.array .int))) 1 RX9 0 := ⟨cwd_c, (lk q497), (lk q1136), (lk q492), Or.inr (lt_k q500 rfl), (lk q491), (lk q493), ⟨⟨by decide, by decide⟩, by decide +kernel⟩, (lk q68), by decide⟩
theorem puX7_18_X10 : PkU RX7 18 ⟨"BedBook$Plant", "marks", "()[I"⟩ "BedBook$Plant" yX5_marks (.code yX5_marks cX5_marks 1 (some (.array .int))) 1 RX10 0 := ⟨cwd_c, (lk q497), (lk q1136), (lk q492), Or.inr (lt_k q500 rfl), (lk q491), (lk q495), ⟨⟨by decide, by decide⟩, by decide +kernel⟩, (lk q68), by decide⟩
abbrev spX7_has : Sp := fun av T I L R uc us k => ∃ (p : Option Nat) (j : Nat) (v : Int32) (m : Nat), av = [rv p, .int (nI j), .int v] ∧ j < 4 ∧ (∀ a, p = some a → IsPl T a ∧ R a (pf T a 6) = some m ∧ T m = (100, 8)) ∧ k (.inl (some (.int (bI (p = none ∨ I m (2 * j) = v ∨ I m (2 * j + 1) = v))))) T I L R uc us
theorem eX7_has_0 : dc cX7_has 0 (.aload_n 0) 1 1 := ⟨by decide +kernel, rfl⟩
theorem eX7_has_1 : dj cX7_has 1 (.ifnull 29) 29 30 4 := ⟨by decide +kernel, by decide, rfl⟩
theorem eX7_has_30 : dc cX7_has 30 (.iconst 1) 1 31 := ⟨by decide +kernel, rfl⟩
theorem eX7_has_31 : dj cX7_has 31 (.goto 4) 4 35 34 := ⟨by decide +kernel, by decide, rfl⟩
theorem eX7_has_35 : dc cX7_has 35 (.ireturn) 1 36 := ⟨by decide +kernel, rfl⟩
theorem eX7_has_4 : dc cX7_has 4 (.aload_n 0) 1 5 := ⟨by decide +kernel, rfl⟩
theorem eX7_has_5 : dc cX7_has 5 (.invokevirtual 18) 3 8 := ⟨by decide +kernel, rfl⟩
theorem eX7_has_8 : dc cX7_has 8 (.iconst 2) 1 9 := ⟨by decide +kernel, rfl⟩
theorem eX7_has_9 : dc cX7_has 9 (.iload_n 1) 1 10 := ⟨by decide +kernel, rfl⟩
theorem eX7_has_10 : dc cX7_has 10 (.imul) 1 11 := ⟨by decide +kernel, rfl⟩
theorem eX7_has_11 : dc cX7_has 11 (.iaload) 1 12 := ⟨by decide +kernel, rfl⟩
theorem eX7_has_12 : dc cX7_has 12 (.iload_n 2) 1 13 := ⟨by decide +kernel, rfl⟩
theorem eX7_has_13 : dj cX7_has 13 (.if_icmp .eq 17) 17 30 16 := ⟨by decide +kernel, by decide, rfl⟩
theorem eX7_has_16 : dc cX7_has 16 (.aload_n 0) 1 17 := ⟨by decide +kernel, rfl⟩
theorem eX7_has_17 : dc cX7_has 17 (.invokevirtual 18) 3 20 := ⟨by decide +kernel, rfl⟩
theorem eX7_has_20 : dc cX7_has 20 (.iconst 2) 1 21 := ⟨by decide +kernel, rfl⟩
theorem eX7_has_21 : dc cX7_has 21 (.iload_n 1) 1 22 := ⟨by decide +kernel, rfl⟩
theorem eX7_has_22 : dc cX7_has 22 (.imul) 1 23 := ⟨by decide +kernel, rfl⟩
theorem eX7_has_23 : dc cX7_has 23 (.iconst 1) 1 24 := ⟨by decide +kernel, rfl⟩
theorem eX7_has_24 : dc cX7_has 24 (.iadd) 1 25 := ⟨by decide +kernel, rfl⟩
theorem eX7_has_25 : dc cX7_has 25 (.iaload) 1 26 := ⟨by decide +kernel, rfl⟩
theorem eX7_has_26 : dc cX7_has 26 (.iload_n 2) 1 27 := ⟨by decide +kernel, rfl⟩
theorem eX7_has_27 : dj cX7_has 27 (.if_icmp .ne 7) 7 34 30 := ⟨by decide +kernel, by decide, rfl⟩
theorem eX7_has_34 : dc cX7_has 34 (.iconst 0) 1 35 := ⟨by decide +kernel, rfl⟩
set_option maxHeartbeats 8000000 in
theorem ctX7_has (l : Launch) : Ct l yX7_has (.code yX7_has cX7_has 3 (some .boolean)) 2 spX7_has := by
  refine Ct.of (own := RX7) (nm := "has") (by decide) rfl rfl ?_
  rintro X av T I L R uc us rfl g hN hu hz ⟨p, j, v, m, rfl, hj, hp, hk⟩
  cases p with
  | none =>
    refine VE.go (ls := [some .null, some (.int (nI j)), some (.int v)]) g hu hz (fun _ => rfl) (fun _ => Nat.le_of_ble_eq_true rfl) ?_
    refine V_aloadN_0 g eX7_has_0 ?_
    refine V_ifnullN g eX7_has_1 ?_
    refine V_iconst (v := 1) g eX7_has_30 (by decide) ?_
    refine V_goto g eX7_has_31 ?_
    refine V_zret g eX7_has_35 rfl ?_
    exact kI hk (bI_t (Or.inl rfl))
  | some a =>
    obtain ⟨h1, h2, h3⟩ := hp a rfl
    refine VE.go (ls := [some (.ref a), some (.int (nI j)), some (.int v)]) g hu hz (fun _ => rfl) (fun _ => Nat.le_of_ble_eq_true rfl) ?_
    refine V_aload_0 g eX7_has_0 ?_
    refine V_ifnull g eX7_has_1 ?_
    refine V_aload_0 g eX7_has_4 ?_
    refine V_mk4 g eX7_has_5 puX7_18_X6 puX7_18_X7 puX7_18_X9 puX7_18_X10 h1 h2 (by decide) (Nat.le_of_ble_eq_true rfl) ?_
    refine V_iconst (v := 2) g eX7_has_8 (by decide) ?_
    refine V_iload_1 g eX7_has_9 ?_
    refine V_imulN (a := 2) g eX7_has_10 ?_
    refine V_ialdN g eX7_has_11 h3 (by omega) (by decide) ?_
    refine V_iload_2 g eX7_has_12 ?_
    refine V_icmp_eq g eX7_has_13 (fun c_13 => ?_) (fun c_13 => ?_)
    · refine V_iconst (v := 1) g eX7_has_30 (by decide) ?_
      refine V_goto g eX7_has_31 ?_
      refine V_zret g eX7_has_35 rfl ?_
      first | exact kI hk (bI_t (Or.inr (Or.inl c_13))) | exact kI hk (bI_t (Or.inr (Or.inr c_27))) | exact kI hk (bI_f (fun z => by rcases z with z | z | z; exact absurd z (by simp); exact c_13 z; exact c_27 z))
    · refine V_aload_0 g eX7_has_16 ?_
      refine V_mk4 g eX7_has_17 puX7_18_X6 puX7_18_X7 puX7_18_X9 puX7_18_X10 h1 h2 (by decide) (Nat.le_of_ble_eq_true rfl) ?_
      refine V_iconst (v := 2) g eX7_has_20 (by decide) ?_
      refine V_iload_1 g eX7_has_21 ?_
      refine V_imulN (a := 2) g eX7_has_22 ?_
      refine V_iconst (v := 1) g eX7_has_23 (by decide) ?_
      refine V_iaddN (b := 1) g eX7_has_24 ?_
      refine V_ialdN g eX7_has_25 h3 (by omega) (by decide) ?_
      refine V_iload_2 g eX7_has_26 ?_
      refine V_icmp_ne g eX7_has_27 (fun c_27 => ?_) (fun c_27 => ?_)
      · refine V_iconst (v := 0) g eX7_has_34 (by decide) ?_
        refine V_zret g eX7_has_35 rfl ?_
        first | exact kI hk (bI_t (Or.inr (Or.inl c_13))) | exact kI hk (bI_t (Or.inr (Or.inr c_27))) | exact kI hk (bI_f (fun z => by rcases z with z | z | z; exact absurd z (by simp); exact c_13 z; exact c_27 z))
      · refine V_iconst (v := 1) g eX7_has_30 (by decide) ?_
        refine V_goto g eX7_has_31 ?_
        refine V_zret g eX7_has_35 rfl ?_
        first | exact kI hk (bI_t (Or.inr (Or.inl c_13))) | exact kI hk (bI_t (Or.inr (Or.inr c_27))) | exact kI hk (bI_f (fun z => by rcases z with z | z | z; exact absurd z (by simp); exact c_13 z; exact c_27 z))

