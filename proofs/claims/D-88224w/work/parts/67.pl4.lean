/-! plants: how they come (printed out of tmpl/t_pl4.txt) -/
set_option maxRecDepth 100000
theorem pf_up {T : Tt} {a u : Nat} {z : Nat × Nat} (h : a ≠ u) (k : Nat) : pf (va_up T u z) a k = pf T a k := by
  unfold pf
  rw [va_up_ne _ _ h]
theorem IsPl.up {T : Tt} {a u : Nat} {z : Nat × Nat} (h : IsPl T a) (hn : a ≠ u) : IsPl (va_up T u z) a := by
  unfold IsPl
  rw [va_up_ne _ _ hn]
  exact h
theorem IsPl.n99 {T : Tt} {a : Nat} (h : IsPl T a) : (T a).1 ≠ 99 := by rcases h with h | h | h | h <;> rw [h] <;> decide
abbrev spX5_init : Sp := fun av T I L R uc us k => ∃ (a : Nat) (p q r : Int32), av = [.ref a, .int p, .int q, .int r] ∧ IsPl T a ∧ uc + 1 ≤ 600000 ∧ us + 8 ≤ 7293034 ∧ ((T uc).1 = 99 → k (.inl none) (va_up T uc (100, 8)) (u2 (u2 (u2 (u2 (u2 (va_up I uc fun _ => 0) a (pf T a 8) 9) a (pf T a 10) 9) a (pf T a 0) p) a (pf T a 1) q) a (pf T a 2) r) (va_up L uc fun _ => 0) (u2 (va_up R uc fun _ => none) a (pf T a 6) (some uc)) (uc + 1) (us + 8))
theorem eX5_init_0 : dc cX5_init 0 (.aload_n 0) 1 1 := ⟨by decide +kernel, rfl⟩
theorem eX5_init_1 : dc cX5_init 1 (.invokespecial 3) 3 4 := ⟨by decide +kernel, rfl⟩
theorem eX5_init_4 : dc cX5_init 4 (.aload_n 0) 1 5 := ⟨by decide +kernel, rfl⟩
theorem eX5_init_5 : dc cX5_init 5 (.bipush 8) 2 7 := ⟨by decide +kernel, rfl⟩
theorem eX5_init_7 : dc cX5_init 7 (.newarray .int) 2 9 := ⟨by decide +kernel, rfl⟩
theorem eX5_init_9 : dc cX5_init 9 (.putfield 9) 3 12 := ⟨by decide +kernel, rfl⟩
theorem pflX5_9_4 : (FL RX5 9 4 6 ∧ FN 4 6) ∨ (FF RX5 9 4 6 ∧ "<init>" = "<init>") := Or.inr ⟨⟨_, _, _, rfl, by decide, by decide, (lk q315), rfl, rfl⟩, rfl⟩
theorem pflX5_9_5 : (FL RX5 9 5 6 ∧ FN 5 6) ∨ (FF RX5 9 5 6 ∧ "<init>" = "<init>") := Or.inr ⟨⟨_, _, _, rfl, by decide, by decide, (lk q315), rfl, rfl⟩, rfl⟩
theorem pflX5_9_6 : (FL RX5 9 6 7 ∧ FN 6 7) ∨ (FF RX5 9 6 7 ∧ "<init>" = "<init>") := Or.inr ⟨⟨_, _, _, rfl, by decide, by decide, (lk q315), rfl, rfl⟩, rfl⟩
theorem pflX5_9_7 : (FL RX5 9 7 7 ∧ FN 7 7) ∨ (FF RX5 9 7 7 ∧ "<init>" = "<init>") := Or.inr ⟨⟨_, _, _, rfl, by decide, by decide, (lk q315), rfl, rfl⟩, rfl⟩
theorem eX5_init_12 : dc cX5_init 12 (.aload_n 0) 1 13 := ⟨by decide +kernel, rfl⟩
theorem eX5_init_13 : dc cX5_init 13 (.bipush 9) 2 15 := ⟨by decide +kernel, rfl⟩
theorem eX5_init_15 : dc cX5_init 15 (.putfield 15) 3 18 := ⟨by decide +kernel, rfl⟩
theorem pflX5_15_4 {nm : String} : (FL RX5 15 4 8 ∧ FN 4 8) ∨ (FF RX5 15 4 8 ∧ nm = "<init>") := Or.inl ⟨flX5_15_4, fun C Tb N h => by cases h; rfl⟩
theorem pflX5_15_5 {nm : String} : (FL RX5 15 5 8 ∧ FN 5 8) ∨ (FF RX5 15 5 8 ∧ nm = "<init>") := Or.inl ⟨flX5_15_5, fun C Tb N h => by cases h; rfl⟩
theorem pflX5_15_6 {nm : String} : (FL RX5 15 6 9 ∧ FN 6 9) ∨ (FF RX5 15 6 9 ∧ nm = "<init>") := Or.inl ⟨flX5_15_6, fun C Tb N h => by cases h; rfl⟩
theorem pflX5_15_7 {nm : String} : (FL RX5 15 7 9 ∧ FN 7 9) ∨ (FF RX5 15 7 9 ∧ nm = "<init>") := Or.inl ⟨flX5_15_7, fun C Tb N h => by cases h; rfl⟩
theorem eX5_init_18 : dc cX5_init 18 (.aload_n 0) 1 19 := ⟨by decide +kernel, rfl⟩
theorem eX5_init_19 : dc cX5_init 19 (.bipush 9) 2 21 := ⟨by decide +kernel, rfl⟩
theorem eX5_init_21 : dc cX5_init 21 (.putfield 19) 3 24 := ⟨by decide +kernel, rfl⟩
theorem pflX5_19_4 {nm : String} : (FL RX5 19 4 10 ∧ FN 4 10) ∨ (FF RX5 19 4 10 ∧ nm = "<init>") := Or.inl ⟨flX5_19_4, fun C Tb N h => by cases h; rfl⟩
theorem pflX5_19_5 {nm : String} : (FL RX5 19 5 10 ∧ FN 5 10) ∨ (FF RX5 19 5 10 ∧ nm = "<init>") := Or.inl ⟨flX5_19_5, fun C Tb N h => by cases h; rfl⟩
theorem pflX5_19_6 {nm : String} : (FL RX5 19 6 11 ∧ FN 6 11) ∨ (FF RX5 19 6 11 ∧ nm = "<init>") := Or.inl ⟨flX5_19_6, fun C Tb N h => by cases h; rfl⟩
theorem pflX5_19_7 {nm : String} : (FL RX5 19 7 11 ∧ FN 7 11) ∨ (FF RX5 19 7 11 ∧ nm = "<init>") := Or.inl ⟨flX5_19_7, fun C Tb N h => by cases h; rfl⟩
theorem eX5_init_24 : dc cX5_init 24 (.aload_n 0) 1 25 := ⟨by decide +kernel, rfl⟩
theorem eX5_init_25 : dc cX5_init 25 (.iload_n 1) 1 26 := ⟨by decide +kernel, rfl⟩
theorem eX5_init_26 : dc cX5_init 26 (.putfield 22) 3 29 := ⟨by decide +kernel, rfl⟩
theorem pflX5_22_4 : (FL RX5 22 4 0 ∧ FN 4 0) ∨ (FF RX5 22 4 0 ∧ "<init>" = "<init>") := Or.inr ⟨⟨_, _, _, rfl, by decide, by decide, (lk q306), rfl, rfl⟩, rfl⟩
theorem pflX5_22_5 : (FL RX5 22 5 0 ∧ FN 5 0) ∨ (FF RX5 22 5 0 ∧ "<init>" = "<init>") := Or.inr ⟨⟨_, _, _, rfl, by decide, by decide, (lk q306), rfl, rfl⟩, rfl⟩
theorem pflX5_22_6 : (FL RX5 22 6 1 ∧ FN 6 1) ∨ (FF RX5 22 6 1 ∧ "<init>" = "<init>") := Or.inr ⟨⟨_, _, _, rfl, by decide, by decide, (lk q306), rfl, rfl⟩, rfl⟩
theorem pflX5_22_7 : (FL RX5 22 7 1 ∧ FN 7 1) ∨ (FF RX5 22 7 1 ∧ "<init>" = "<init>") := Or.inr ⟨⟨_, _, _, rfl, by decide, by decide, (lk q306), rfl, rfl⟩, rfl⟩
theorem eX5_init_29 : dc cX5_init 29 (.aload_n 0) 1 30 := ⟨by decide +kernel, rfl⟩
theorem eX5_init_30 : dc cX5_init 30 (.iload_n 2) 1 31 := ⟨by decide +kernel, rfl⟩
theorem eX5_init_31 : dc cX5_init 31 (.putfield 25) 3 34 := ⟨by decide +kernel, rfl⟩
theorem flX5_25_4 : FL RX5 25 4 1 := ⟨_, _, _, _, rfl, by decide, by decide, Or.inl (lk q308), Or.inl rfl⟩
theorem pflX5_25_4 : (FL RX5 25 4 1 ∧ FN 4 1) ∨ (FF RX5 25 4 1 ∧ "<init>" = "<init>") := Or.inr ⟨⟨_, _, _, rfl, by decide, by decide, (lk q308), rfl, rfl⟩, rfl⟩
theorem flX5_25_5 : FL RX5 25 5 1 := ⟨_, _, _, _, rfl, by decide, by decide, Or.inl (lk q308), Or.inl rfl⟩
theorem pflX5_25_5 : (FL RX5 25 5 1 ∧ FN 5 1) ∨ (FF RX5 25 5 1 ∧ "<init>" = "<init>") := Or.inr ⟨⟨_, _, _, rfl, by decide, by decide, (lk q308), rfl, rfl⟩, rfl⟩
theorem flX5_25_6 : FL RX5 25 6 2 := ⟨_, _, _, _, rfl, by decide, by decide, Or.inl (lk q308), Or.inl rfl⟩
theorem pflX5_25_6 : (FL RX5 25 6 2 ∧ FN 6 2) ∨ (FF RX5 25 6 2 ∧ "<init>" = "<init>") := Or.inr ⟨⟨_, _, _, rfl, by decide, by decide, (lk q308), rfl, rfl⟩, rfl⟩
theorem flX5_25_7 : FL RX5 25 7 2 := ⟨_, _, _, _, rfl, by decide, by decide, Or.inl (lk q308), Or.inl rfl⟩
theorem pflX5_25_7 : (FL RX5 25 7 2 ∧ FN 7 2) ∨ (FF RX5 25 7 2 ∧ "<init>" = "<init>") := Or.inr ⟨⟨_, _, _, rfl, by decide, by decide, (lk q308), rfl, rfl⟩, rfl⟩
theorem eX5_init_34 : dc cX5_init 34 (.aload_n 0) 1 35 := ⟨by decide +kernel, rfl⟩
theorem eX5_init_35 : dc cX5_init 35 (.iload_n 3) 1 36 := ⟨by decide +kernel, rfl⟩
theorem eX5_init_36 : dc cX5_init 36 (.putfield 28) 3 39 := ⟨by decide +kernel, rfl⟩
theorem flX5_28_4 : FL RX5 28 4 2 := ⟨_, _, _, _, rfl, by decide, by decide, Or.inl (lk q310), Or.inl rfl⟩
theorem pflX5_28_4 {nm : String} : (FL RX5 28 4 2 ∧ FN 4 2) ∨ (FF RX5 28 4 2 ∧ nm = "<init>") := Or.inl ⟨flX5_28_4, fun C Tb N h => by cases h; rfl⟩
theorem flX5_28_5 : FL RX5 28 5 2 := ⟨_, _, _, _, rfl, by decide, by decide, Or.inl (lk q310), Or.inl rfl⟩
theorem pflX5_28_5 {nm : String} : (FL RX5 28 5 2 ∧ FN 5 2) ∨ (FF RX5 28 5 2 ∧ nm = "<init>") := Or.inl ⟨flX5_28_5, fun C Tb N h => by cases h; rfl⟩
theorem flX5_28_6 : FL RX5 28 6 3 := ⟨_, _, _, _, rfl, by decide, by decide, Or.inl (lk q310), Or.inl rfl⟩
theorem pflX5_28_6 {nm : String} : (FL RX5 28 6 3 ∧ FN 6 3) ∨ (FF RX5 28 6 3 ∧ nm = "<init>") := Or.inl ⟨flX5_28_6, fun C Tb N h => by cases h; rfl⟩
theorem flX5_28_7 : FL RX5 28 7 3 := ⟨_, _, _, _, rfl, by decide, by decide, Or.inl (lk q310), Or.inl rfl⟩
theorem pflX5_28_7 {nm : String} : (FL RX5 28 7 3 ∧ FN 7 3) ∨ (FF RX5 28 7 3 ∧ nm = "<init>") := Or.inl ⟨flX5_28_7, fun C Tb N h => by cases h; rfl⟩
theorem eX5_init_39 : dc cX5_init 39 (.return_) 1 40 := ⟨by decide +kernel, rfl⟩
set_option maxHeartbeats 8000000 in
theorem ctX5_init (l : Launch) : Ct l yX5_init (.code yX5_init cX5_init 4 none) 2 spX5_init := by
  refine Ct.of (own := RX5) (nm := "<init>") (by decide) rfl rfl ?_
  rintro X av T I L R uc us rfl g hN hu hz ⟨a, p, q, r, rfl, hp, huc, hus, hk⟩
  refine VE.go (ls := [some (.ref a), some (.int p), some (.int q), some (.int r)]) g hu hz (fun _ => rfl) (fun _ => Nat.le_of_ble_eq_true rfl) ?_
  refine V_aload_0 g eX5_init_0 ?_
  refine V_objInit g eX5_init_1 (lk q304) (lk q103) (lk q104) (by decide) (Nat.le_of_ble_eq_true rfl) ?_
  refine V_aload_0 g eX5_init_4 ?_
  refine V_bipush (v := nI 8) g eX5_init_5 (by decide) ?_
  refine V_newa (tg := 100) (N := 8) g eX5_init_7 (by decide) rfl (lk q161) (by omega) (by omega) (by omega) (fun hd_7 => ?_)
  refine V_ppR (r := some _) g eX5_init_9 ⟨pflX5_9_4, pflX5_9_5, pflX5_9_6, pflX5_9_7⟩ (hp.up (ne_of99 hd_7 hp.n99)) ⟨rfl, rfl, rfl, rfl⟩ rfl ?_
  refine V_aload_0 g eX5_init_12 ?_
  refine V_bipush (v := 9) g eX5_init_13 (by decide) ?_
  refine V_ppI g eX5_init_15 ⟨pflX5_15_4, pflX5_15_5, pflX5_15_6, pflX5_15_7⟩ (hp.up (ne_of99 hd_7 hp.n99)) ⟨rfl, rfl, rfl, rfl⟩ ⟨rfl, rfl, rfl, rfl⟩ ⟨rfl, rfl, rfl, rfl⟩ ?_
  refine V_aload_0 g eX5_init_18 ?_
  refine V_bipush (v := 9) g eX5_init_19 (by decide) ?_
  refine V_ppI g eX5_init_21 ⟨pflX5_19_4, pflX5_19_5, pflX5_19_6, pflX5_19_7⟩ (hp.up (ne_of99 hd_7 hp.n99)) ⟨rfl, rfl, rfl, rfl⟩ ⟨rfl, rfl, rfl, rfl⟩ ⟨rfl, rfl, rfl, rfl⟩ ?_
  refine V_aload_0 g eX5_init_24 ?_
  refine V_iload_1 g eX5_init_25 ?_
  refine V_ppI g eX5_init_26 ⟨pflX5_22_4, pflX5_22_5, pflX5_22_6, pflX5_22_7⟩ (hp.up (ne_of99 hd_7 hp.n99)) ⟨rfl, rfl, rfl, rfl⟩ ⟨rfl, rfl, rfl, rfl⟩ ⟨rfl, rfl, rfl, rfl⟩ ?_
  refine V_aload_0 g eX5_init_29 ?_
  refine V_iload_2 g eX5_init_30 ?_
  refine V_ppI g eX5_init_31 ⟨pflX5_25_4, pflX5_25_5, pflX5_25_6, pflX5_25_7⟩ (hp.up (ne_of99 hd_7 hp.n99)) ⟨rfl, rfl, rfl, rfl⟩ ⟨rfl, rfl, rfl, rfl⟩ ⟨rfl, rfl, rfl, rfl⟩ ?_
  refine V_aload_0 g eX5_init_34 ?_
  refine V_iload_3 g eX5_init_35 ?_
  refine V_ppI g eX5_init_36 ⟨pflX5_28_4, pflX5_28_5, pflX5_28_6, pflX5_28_7⟩ (hp.up (ne_of99 hd_7 hp.n99)) ⟨rfl, rfl, rfl, rfl⟩ ⟨rfl, rfl, rfl, rfl⟩ ⟨rfl, rfl, rfl, rfl⟩ ?_
  refine V_vret g eX5_init_39 ?_
  have := hk hd_7
  simp only [pf_up (ne_of99 hd_7 hp.n99)]
  exact this
theorem pf_lo {T : Tt} {a : Nat} (h : (T a).1 = 4 ∨ (T a).1 = 5) (k : Nat) : pf T a k = k := by
  unfold pf
  rcases h with h | h <;> rw [h] <;> rfl
theorem pf_hi {T : Tt} {a : Nat} (h : (T a).1 = 6 ∨ (T a).1 = 7) (k : Nat) : pf T a k = k + 1 := by
  unfold pf
  rcases h with h | h <;> rw [h] <;> rfl
abbrev spX6_init : Sp := fun av T I L R uc us k => ∃ (a : Nat) (p q r : Int32), av = [.ref a, .int p, .int q, .int r] ∧ (T a).1 = 4 ∧ uc + 1 ≤ 600000 ∧ us + 8 ≤ 7293034 ∧ ((T uc).1 = 99 → k (.inl none) (va_up T uc (100, 8)) (u2 (u2 (u2 (u2 (u2 (u2 (va_up I uc fun _ => 0) a 8 9) a 10 9) a 0 p) a 1 0) a 2 r) a 12 q) (va_up L uc fun _ => 0) (u2 (va_up R uc fun _ => none) a 6 (some uc)) (uc + 1) (us + 8))
theorem eX6_init_0 : dc cX6_init 0 (.aload_n 0) 1 1 := ⟨by decide +kernel, rfl⟩
theorem eX6_init_1 : dc cX6_init 1 (.iload_n 1) 1 2 := ⟨by decide +kernel, rfl⟩
theorem eX6_init_2 : dc cX6_init 2 (.iconst 0) 1 3 := ⟨by decide +kernel, rfl⟩
theorem eX6_init_3 : dc cX6_init 3 (.iload_n 3) 1 4 := ⟨by decide +kernel, rfl⟩
theorem eX6_init_4 : dc cX6_init 4 (.invokespecial 1) 3 7 := ⟨by decide +kernel, rfl⟩
theorem pkX6_1 : PkI RX6 1 yX5_init cX5_init 4 3 := ⟨(lk q303), Or.inl (lk q301), (lk q302), rfl, ⟨⟨by decide, by decide⟩, by decide +kernel⟩, (lk q68), by decide⟩
theorem eX6_init_7 : dc cX6_init 7 (.aload_n 0) 1 8 := ⟨by decide +kernel, rfl⟩
theorem eX6_init_8 : dc cX6_init 8 (.iload_n 2) 1 9 := ⟨by decide +kernel, rfl⟩
theorem eX6_init_9 : dc cX6_init 9 (.putfield 7) 3 12 := ⟨by decide +kernel, rfl⟩
theorem pflX6_7 : (FL RX6 7 4 12 ∧ FN 4 12) ∨ (FF RX6 7 4 12 ∧ "<init>" = "<init>") := Or.inr ⟨⟨_, _, _, rfl, by decide, by decide, (lk q305), rfl, rfl⟩, rfl⟩
theorem eX6_init_12 : dc cX6_init 12 (.return_) 1 13 := ⟨by decide +kernel, rfl⟩
set_option maxHeartbeats 8000000 in
theorem ctX6_init (l : Launch) : Ct l yX6_init (.code yX6_init cX6_init 4 none) 3 spX6_init := by
  refine Ct.of (own := RX6) (nm := "<init>") (by decide) rfl rfl ?_
  rintro X av T I L R uc us rfl g hN hu hz ⟨a, p, q, r, rfl, hT, huc, hus, hk⟩
  refine VE.go (ls := [some (.ref a), some (.int p), some (.int q), some (.int r)]) g hu hz (fun _ => rfl) (fun _ => Nat.le_of_ble_eq_true rfl) ?_
  refine V_aload_0 g eX6_init_0 ?_
  refine V_iload_1 g eX6_init_1 ?_
  refine V_iconst (v := 0) g eX6_init_2 (by decide) ?_
  refine V_iload_3 g eX6_init_3 ?_
  refine V_ci3 g (ctX5_init _) eX6_init_4 pkX6_1 (by decide) (Nat.le_of_ble_eq_true rfl) ?_
  refine ⟨a, p, 0, r, rfl, Or.inl hT, huc, hus, fun h99 => ?_⟩
  simp only [pf_lo (T := T) (a := a) (Or.inl hT)]
  refine V_aload_0 g eX6_init_7 ?_
  refine V_iload_2 g eX6_init_8 ?_
  refine V_putI g eX6_init_9 pflX6_7 (by rw [va_up_ne _ _ (ne_of99 h99 (by rw [hT]; decide))]; exact hT) rfl rfl rfl ?_
  refine V_vret g eX6_init_12 ?_
  exact hk h99

