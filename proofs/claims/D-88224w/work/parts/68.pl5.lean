/-! Seed: how it comes (printed out of tmpl/t_pl5.txt) -/
set_option maxRecDepth 100000
abbrev spX7_init : Sp := fun av T I L R uc us k => ∃ (a m : Nat) (f : Option Nat) (p r : Int32), av = [.ref a, .int p, .ref m, rv f, .int r] ∧ (T a).1 = 5 ∧ uc + 1 ≤ 600000 ∧ us + 8 ≤ 7293034 ∧ ((T uc).1 = 99 → k (.inl none) (va_up T uc (100, 8)) (u2 (u2 (u2 (u2 (u2 (va_up I uc fun _ => 0) a 8 9) a 10 9) a 0 p) a 1 1) a 2 r) (va_up L uc fun _ => 0) (u2 (u2 (u2 (va_up R uc fun _ => none) a 6 (some uc)) a 12 (some m)) a 13 f) (uc + 1) (us + 8))
theorem eX7_init_0 : dc cX7_init 0 (.aload_n 0) 1 1 := ⟨by decide +kernel, rfl⟩
theorem eX7_init_1 : dc cX7_init 1 (.iload_n 1) 1 2 := ⟨by decide +kernel, rfl⟩
theorem eX7_init_2 : dc cX7_init 2 (.iconst 1) 1 3 := ⟨by decide +kernel, rfl⟩
theorem eX7_init_3 : dc cX7_init 3 (.iload 4) 2 5 := ⟨by decide +kernel, rfl⟩
theorem eX7_init_5 : dc cX7_init 5 (.invokespecial 3) 3 8 := ⟨by decide +kernel, rfl⟩
theorem pkX7_3 : PkI RX7 3 yX5_init cX5_init 4 3 := ⟨(lk q303), Or.inl (lk q457), (lk q302), rfl, ⟨⟨by decide, by decide⟩, by decide +kernel⟩, (lk q68), by decide⟩
theorem eX7_init_8 : dc cX7_init 8 (.aload_n 0) 1 9 := ⟨by decide +kernel, rfl⟩
theorem eX7_init_9 : dc cX7_init 9 (.aload_n 2) 1 10 := ⟨by decide +kernel, rfl⟩
theorem eX7_init_10 : dc cX7_init 10 (.putfield 9) 3 13 := ⟨by decide +kernel, rfl⟩
theorem pflX7_9 : (FL RX7 9 5 12 ∧ FN 5 12) ∨ (FF RX7 9 5 12 ∧ "<init>" = "<init>") := Or.inr ⟨⟨_, _, _, rfl, by decide, by decide, (lk q458), rfl, rfl⟩, rfl⟩
theorem eX7_init_13 : dc cX7_init 13 (.aload_n 0) 1 14 := ⟨by decide +kernel, rfl⟩
theorem eX7_init_14 : dc cX7_init 14 (.aload_n 3) 1 15 := ⟨by decide +kernel, rfl⟩
theorem eX7_init_15 : dc cX7_init 15 (.putfield 15) 3 18 := ⟨by decide +kernel, rfl⟩
theorem pflX7_15 : (FL RX7 15 5 13 ∧ FN 5 13) ∨ (FF RX7 15 5 13 ∧ "<init>" = "<init>") := Or.inr ⟨⟨_, _, _, rfl, by decide, by decide, (lk q459), rfl, rfl⟩, rfl⟩
theorem eX7_init_18 : dc cX7_init 18 (.return_) 1 19 := ⟨by decide +kernel, rfl⟩
set_option maxHeartbeats 8000000 in
theorem ctX7_init (l : Launch) : Ct l yX7_init (.code yX7_init cX7_init 5 none) 3 spX7_init := by
  refine Ct.of (own := RX7) (nm := "<init>") (by decide) rfl rfl ?_
  rintro X av T I L R uc us rfl g hN hu hz ⟨a, m, f, p, r, rfl, hT, huc, hus, hk⟩
  cases f with
  | some f =>
    refine VE.go (ls := [some (.ref a), some (.int p), some (.ref m), some (.ref f), some (.int r)]) g hu hz (fun _ => rfl) (fun _ => Nat.le_of_ble_eq_true rfl) ?_
    refine V_aload_0 g eX7_init_0 ?_
    refine V_iload_1 g eX7_init_1 ?_
    refine V_iconst (v := 1) g eX7_init_2 (by decide) ?_
    refine V_iload_4 g eX7_init_3 ?_
    refine V_ci3 g (ctX5_init _) eX7_init_5 pkX7_3 (by decide) (Nat.le_of_ble_eq_true rfl) ?_
    refine ⟨a, p, 1, r, rfl, Or.inr (Or.inl hT), huc, hus, fun h99 => ?_⟩
    simp only [pf_lo (T := T) (a := a) (Or.inr hT)]
    refine V_aload_0 g eX7_init_8 ?_
    refine V_aload_2 g eX7_init_9 ?_
    refine V_putR (r := some _) g eX7_init_10 pflX7_9 (by rw [va_up_ne _ _ (ne_of99 h99 (by rw [hT]; decide))]; exact hT) rfl rfl ?_
    refine V_aload_0 g eX7_init_13 ?_
    refine V_aload_3 g eX7_init_14 ?_
    refine V_putR (r := some _) g eX7_init_15 pflX7_15 (by rw [va_up_ne _ _ (ne_of99 h99 (by rw [hT]; decide))]; exact hT) rfl rfl ?_
    refine V_vret g eX7_init_18 ?_
    exact hk h99
  | none =>
    refine VE.go (ls := [some (.ref a), some (.int p), some (.ref m), some .null, some (.int r)]) g hu hz (fun _ => rfl) (fun _ => Nat.le_of_ble_eq_true rfl) ?_
    refine V_aload_0 g eX7_init_0 ?_
    refine V_iload_1 g eX7_init_1 ?_
    refine V_iconst (v := 1) g eX7_init_2 (by decide) ?_
    refine V_iload_4 g eX7_init_3 ?_
    refine V_ci3 g (ctX5_init _) eX7_init_5 pkX7_3 (by decide) (Nat.le_of_ble_eq_true rfl) ?_
    refine ⟨a, p, 1, r, rfl, Or.inr (Or.inl hT), huc, hus, fun h99 => ?_⟩
    simp only [pf_lo (T := T) (a := a) (Or.inr hT)]
    refine V_aload_0 g eX7_init_8 ?_
    refine V_aload_2 g eX7_init_9 ?_
    refine V_putR (r := some _) g eX7_init_10 pflX7_9 (by rw [va_up_ne _ _ (ne_of99 h99 (by rw [hT]; decide))]; exact hT) rfl rfl ?_
    refine V_aload_0 g eX7_init_13 ?_
    refine V_aloadN_3 g eX7_init_14 ?_
    refine V_putR (r := none) g eX7_init_15 pflX7_15 (by rw [va_up_ne _ _ (ne_of99 h99 (by rw [hT]; decide))]; exact hT) rfl rfl ?_
    refine V_vret g eX7_init_18 ?_
    exact hk h99

