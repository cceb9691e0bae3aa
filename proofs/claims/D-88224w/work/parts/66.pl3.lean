/-! plants: what they are of (printed out of tmpl/t_pl3.txt) -/
set_option maxRecDepth 100000
abbrev spX5_of : Sp := fun av T I L R uc us k => ∃ a : Nat, av = [.ref a] ∧ k (.inl (some .null)) T I L R uc us
theorem eX5_of_0 : dc cX5_of 0 (.aconst_null) 1 1 := ⟨by decide +kernel, rfl⟩
theorem eX5_of_1 : dc cX5_of 1 (.areturn) 1 2 := ⟨by decide +kernel, rfl⟩
set_option maxHeartbeats 8000000 in
theorem ctX5_of (l : Launch) : Ct l yX5_of (.code yX5_of cX5_of 1 (some (.object "BedBook$Plant"))) 1 spX5_of := by
  refine Ct.of (own := RX5) (nm := "of") (by decide) rfl rfl ?_
  rintro X av T I L R uc us rfl g hN hu hz ⟨a, rfl, hk⟩
  refine VE.go (ls := [some (.ref a)]) g hu hz (fun _ => rfl) (fun _ => Nat.le_of_ble_eq_true rfl) ?_
  refine V_null g eX5_of_0 ?_
  refine V_aret g eX5_of_1 (Or.inl ⟨_, rfl⟩) (Or.inl rfl) ?_
  exact hk
abbrev spX5_father : Sp := fun av T I L R uc us k => ∃ a : Nat, av = [.ref a] ∧ k (.inl (some .null)) T I L R uc us
theorem eX5_father_0 : dc cX5_father 0 (.aconst_null) 1 1 := ⟨by decide +kernel, rfl⟩
theorem eX5_father_1 : dc cX5_father 1 (.areturn) 1 2 := ⟨by decide +kernel, rfl⟩
set_option maxHeartbeats 8000000 in
theorem ctX5_father (l : Launch) : Ct l yX5_father (.code yX5_father cX5_father 1 (some (.object "BedBook$Plant"))) 1 spX5_father := by
  refine Ct.of (own := RX5) (nm := "father") (by decide) rfl rfl ?_
  rintro X av T I L R uc us rfl g hN hu hz ⟨a, rfl, hk⟩
  refine VE.go (ls := [some (.ref a)]) g hu hz (fun _ => rfl) (fun _ => Nat.le_of_ble_eq_true rfl) ?_
  refine V_null g eX5_father_0 ?_
  refine V_aret g eX5_father_1 (Or.inl ⟨_, rfl⟩) (Or.inl rfl) ?_
  exact hk
abbrev spX5_isCut : Sp := fun av T I L R uc us k => ∃ a : Nat, av = [.ref a] ∧ k (.inl (some (.int 0))) T I L R uc us
theorem eX5_isCut_0 : dc cX5_isCut 0 (.iconst 0) 1 1 := ⟨by decide +kernel, rfl⟩
theorem eX5_isCut_1 : dc cX5_isCut 1 (.ireturn) 1 2 := ⟨by decide +kernel, rfl⟩
set_option maxHeartbeats 8000000 in
theorem ctX5_isCut (l : Launch) : Ct l yX5_isCut (.code yX5_isCut cX5_isCut 1 (some .boolean)) 1 spX5_isCut := by
  refine Ct.of (own := RX5) (nm := "isCut") (by decide) rfl rfl ?_
  rintro X av T I L R uc us rfl g hN hu hz ⟨a, rfl, hk⟩
  refine VE.go (ls := [some (.ref a)]) g hu hz (fun _ => rfl) (fun _ => Nat.le_of_ble_eq_true rfl) ?_
  refine V_iconst (v := 0) g eX5_isCut_0 (by decide) ?_
  refine V_zret g eX5_isCut_1 rfl ?_
  exact hk
abbrev spX9_isCut : Sp := fun av T I L R uc us k => ∃ a : Nat, av = [.ref a] ∧ k (.inl (some (.int 1))) T I L R uc us
theorem eX9_isCut_0 : dc cX9_isCut 0 (.iconst 1) 1 1 := ⟨by decide +kernel, rfl⟩
theorem eX9_isCut_1 : dc cX9_isCut 1 (.ireturn) 1 2 := ⟨by decide +kernel, rfl⟩
set_option maxHeartbeats 8000000 in
theorem ctX9_isCut (l : Launch) : Ct l yX9_isCut (.code yX9_isCut cX9_isCut 1 (some .boolean)) 1 spX9_isCut := by
  refine Ct.of (own := RX9) (nm := "isCut") (by decide) rfl rfl ?_
  rintro X av T I L R uc us rfl g hN hu hz ⟨a, rfl, hk⟩
  refine VE.go (ls := [some (.ref a)]) g hu hz (fun _ => rfl) (fun _ => Nat.le_of_ble_eq_true rfl) ?_
  refine V_iconst (v := 1) g eX9_isCut_0 (by decide) ?_
  refine V_zret g eX9_isCut_1 rfl ?_
  exact hk
abbrev spX6_fits : Sp := fun av T I L R uc us k => ∃ a m : Nat, av = [.ref a, .ref m] ∧ k (.inl (some (.int 1))) T I L R uc us
theorem eX6_fits_0 : dc cX6_fits 0 (.iconst 1) 1 1 := ⟨by decide +kernel, rfl⟩
theorem eX6_fits_1 : dc cX6_fits 1 (.ireturn) 1 2 := ⟨by decide +kernel, rfl⟩
set_option maxHeartbeats 8000000 in
theorem ctX6_fits (l : Launch) : Ct l yX6_fits (.code yX6_fits cX6_fits 2 (some .boolean)) 1 spX6_fits := by
  refine Ct.of (own := RX6) (nm := "fits") (by decide) rfl rfl ?_
  rintro X av T I L R uc us rfl g hN hu hz ⟨a, m, rfl, hk⟩
  refine VE.go (ls := [some (.ref a), some (.ref m)]) g hu hz (fun _ => rfl) (fun _ => Nat.le_of_ble_eq_true rfl) ?_
  refine V_iconst (v := 1) g eX6_fits_0 (by decide) ?_
  refine V_zret g eX6_fits_1 rfl ?_
  exact hk
abbrev spX8_of : Sp := fun av T I L R uc us k => ∃ (a m : Nat), av = [.ref a] ∧ ((T a).1 = 6 ∨ (T a).1 = 7) ∧ R a 0 = some m ∧ k (.inl (some (.ref m))) T I L R uc us
theorem eX8_of_0 : dc cX8_of 0 (.aload_n 0) 1 1 := ⟨by decide +kernel, rfl⟩
theorem eX8_of_1 : dc cX8_of 1 (.getfield 9) 3 4 := ⟨by decide +kernel, rfl⟩
theorem flX8_9_6 : FL RX8 9 6 0 := ⟨_, _, _, _, rfl, by decide, by decide, Or.inl (lk q504), Or.inl rfl⟩
theorem eX8_of_4 : dc cX8_of 4 (.areturn) 1 5 := ⟨by decide +kernel, rfl⟩
theorem flX8_9_7 : FL RX8 9 7 0 := ⟨_, _, _, _, rfl, by decide, by decide, Or.inl (lk q504), Or.inl rfl⟩
set_option maxHeartbeats 8000000 in
theorem ctX8_of (l : Launch) : Ct l yX8_of (.code yX8_of cX8_of 1 (some (.object "BedBook$Plant"))) 1 spX8_of := by
  refine Ct.of (own := RX8) (nm := "of") (by decide) rfl rfl ?_
  rintro X av T I L R uc us rfl g hN hu hz ⟨a, m, rfl, hT, hr, hk⟩
  refine VE.go (ls := [some (.ref a)]) g hu hz (fun _ => rfl) (fun _ => Nat.le_of_ble_eq_true rfl) ?_
  rcases hT with hT | hT
  ·
    refine V_aload_0 g eX8_of_0 ?_
    refine V_getR g eX8_of_1 flX8_9_6 hT rfl hr ?_
    refine V_aret g eX8_of_4 (Or.inl ⟨_, rfl⟩) (Or.inr ⟨_, rfl⟩) ?_
    exact hk
  ·
    refine V_aload_0 g eX8_of_0 ?_
    refine V_getR g eX8_of_1 flX8_9_7 hT rfl hr ?_
    refine V_aret g eX8_of_4 (Or.inl ⟨_, rfl⟩) (Or.inr ⟨_, rfl⟩) ?_
    exact hk
abbrev spX7_father : Sp := fun av T I L R uc us k => ∃ (a : Nat) (r : Option Nat), av = [.ref a] ∧ (T a).1 = 5 ∧ R a 13 = r ∧ k (.inl (some (rv r))) T I L R uc us
theorem eX7_father_0 : dc cX7_father 0 (.aload_n 0) 1 1 := ⟨by decide +kernel, rfl⟩
theorem eX7_father_1 : dc cX7_father 1 (.getfield 15) 3 4 := ⟨by decide +kernel, rfl⟩
theorem flX7_15 : FL RX7 15 5 13 := ⟨_, _, _, _, rfl, by decide, by decide, Or.inl (lk q459), Or.inl rfl⟩
theorem eX7_father_4 : dc cX7_father 4 (.areturn) 1 5 := ⟨by decide +kernel, rfl⟩
set_option maxHeartbeats 8000000 in
theorem ctX7_father (l : Launch) : Ct l yX7_father (.code yX7_father cX7_father 1 (some (.object "BedBook$Plant"))) 1 spX7_father := by
  refine Ct.of (own := RX7) (nm := "father") (by decide) rfl rfl ?_
  rintro X av T I L R uc us rfl g hN hu hz ⟨a, r, rfl, hT, hr, hk⟩
  refine VE.go (ls := [some (.ref a)]) g hu hz (fun _ => rfl) (fun _ => Nat.le_of_ble_eq_true rfl) ?_
  cases r with
  | some m =>
    refine V_aload_0 g eX7_father_0 ?_
    refine V_getR g eX7_father_1 flX7_15 hT rfl hr ?_
    refine V_aret g eX7_father_4 (Or.inl ⟨_, rfl⟩) (Or.inr ⟨_, rfl⟩) ?_
    exact hk
  | none =>
    refine V_aload_0 g eX7_father_0 ?_
    refine V_getN g eX7_father_1 flX7_15 hT rfl hr ?_
    refine V_aret g eX7_father_4 (Or.inl ⟨_, rfl⟩) (Or.inl rfl) ?_
    exact hk

