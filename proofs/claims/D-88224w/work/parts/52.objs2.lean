/-! Wrong and the objects of a text: how they come (printed out of tmpl/t_objs2.txt) -/
set_option maxRecDepth 100000
abbrev spJ8_init_2 : Sp := fun av T I L R uc us k => ∃ a : Nat, av = [.ref a, .null, .null, .int 0, .int 0] ∧ (T a).1 = 9 ∧ (∀ R', (∀ x, x ≠ a → R' x = R x) → k (.inl none) T I L R' uc us)
theorem eJ8_init_2_0 : dc cJ8_init_2 0 (.aload_n 0) 1 1 := ⟨by decide +kernel, rfl⟩
theorem eJ8_init_2_1 : dc cJ8_init_2 1 (.invokespecial 1) 3 4 := ⟨by decide +kernel, rfl⟩
theorem eJ8_init_2_4 : dc cJ8_init_2 4 (.aload_n 0) 1 5 := ⟨by decide +kernel, rfl⟩
theorem eJ8_init_2_5 : dc cJ8_init_2 5 (.aload_n 0) 1 6 := ⟨by decide +kernel, rfl⟩
theorem eJ8_init_2_6 : dc cJ8_init_2 6 (.putfield 7) 3 9 := ⟨by decide +kernel, rfl⟩
theorem flJ8_7_9 : FL RJ8 7 9 0 := ⟨_, _, _, _, rfl, by decide, by decide, Or.inl (lk q832), Or.inl rfl⟩
theorem pflJ8_7_9 {nm : String} : (FL RJ8 7 9 0 ∧ FN 9 0) ∨ (FF RJ8 7 9 0 ∧ nm = "<init>") := Or.inl ⟨flJ8_7_9, fun C Tb N h => by cases h; rfl⟩
theorem eJ8_init_2_9 : dc cJ8_init_2 9 (.aload_n 0) 1 10 := ⟨by decide +kernel, rfl⟩
theorem eJ8_init_2_10 : dc cJ8_init_2 10 (.getstatic 13) 3 13 := ⟨by decide +kernel, rfl⟩
theorem eJ8_init_2_13 : dc cJ8_init_2 13 (.putfield 17) 3 16 := ⟨by decide +kernel, rfl⟩
theorem flJ8_17_9 : FL RJ8 17 9 1 := ⟨_, _, _, _, rfl, by decide, by decide, Or.inl (lk q833), Or.inl rfl⟩
theorem pflJ8_17_9 {nm : String} : (FL RJ8 17 9 1 ∧ FN 9 1) ∨ (FF RJ8 17 9 1 ∧ nm = "<init>") := Or.inl ⟨flJ8_17_9, fun C Tb N h => by cases h; rfl⟩
theorem eJ8_init_2_16 : dc cJ8_init_2 16 (.aload_n 0) 1 17 := ⟨by decide +kernel, rfl⟩
theorem eJ8_init_2_17 : dc cJ8_init_2 17 (.getstatic 20) 3 20 := ⟨by decide +kernel, rfl⟩
theorem eJ8_init_2_20 : dc cJ8_init_2 20 (.putfield 24) 3 23 := ⟨by decide +kernel, rfl⟩
theorem flJ8_24_9 : FL RJ8 24 9 2 := ⟨_, _, _, _, rfl, by decide, by decide, Or.inl (lk q834), Or.inl rfl⟩
theorem pflJ8_24_9 {nm : String} : (FL RJ8 24 9 2 ∧ FN 9 2) ∨ (FF RJ8 24 9 2 ∧ nm = "<init>") := Or.inl ⟨flJ8_24_9, fun C Tb N h => by cases h; rfl⟩
theorem eJ8_init_2_23 : dc cJ8_init_2 23 (.iload 4) 2 25 := ⟨by decide +kernel, rfl⟩
theorem eJ8_init_2_25 : dj cJ8_init_2 25 (.ifCond .eq 11) 11 36 28 := ⟨by decide +kernel, by decide, rfl⟩
theorem eJ8_init_2_36 : dc cJ8_init_2 36 (.aload_n 0) 1 37 := ⟨by decide +kernel, rfl⟩
theorem eJ8_init_2_37 : dc cJ8_init_2 37 (.aconst_null) 1 38 := ⟨by decide +kernel, rfl⟩
theorem eJ8_init_2_38 : dc cJ8_init_2 38 (.putfield 17) 3 41 := ⟨by decide +kernel, rfl⟩
theorem eJ8_init_2_41 : dc cJ8_init_2 41 (.aload_n 0) 1 42 := ⟨by decide +kernel, rfl⟩
theorem eJ8_init_2_42 : dc cJ8_init_2 42 (.aload_n 1) 1 43 := ⟨by decide +kernel, rfl⟩
theorem eJ8_init_2_43 : dc cJ8_init_2 43 (.putfield 31) 3 46 := ⟨by decide +kernel, rfl⟩
theorem flJ8_31_9 : FL RJ8 31 9 3 := ⟨_, _, _, _, rfl, by decide, by decide, Or.inl (lk q831), Or.inl rfl⟩
theorem pflJ8_31_9 {nm : String} : (FL RJ8 31 9 3 ∧ FN 9 3) ∨ (FF RJ8 31 9 3 ∧ nm = "<init>") := Or.inl ⟨flJ8_31_9, fun C Tb N h => by cases h; rfl⟩
theorem eJ8_init_2_46 : dc cJ8_init_2 46 (.aload_n 0) 1 47 := ⟨by decide +kernel, rfl⟩
theorem eJ8_init_2_47 : dc cJ8_init_2 47 (.aload_n 2) 1 48 := ⟨by decide +kernel, rfl⟩
theorem eJ8_init_2_48 : dc cJ8_init_2 48 (.putfield 7) 3 51 := ⟨by decide +kernel, rfl⟩
theorem eJ8_init_2_51 : dc cJ8_init_2 51 (.iload_n 3) 1 52 := ⟨by decide +kernel, rfl⟩
theorem eJ8_init_2_52 : dj cJ8_init_2 52 (.ifCond .ne 8) 8 60 55 := ⟨by decide +kernel, by decide, rfl⟩
theorem eJ8_init_2_55 : dc cJ8_init_2 55 (.aload_n 0) 1 56 := ⟨by decide +kernel, rfl⟩
theorem eJ8_init_2_56 : dc cJ8_init_2 56 (.aconst_null) 1 57 := ⟨by decide +kernel, rfl⟩
theorem eJ8_init_2_57 : dc cJ8_init_2 57 (.putfield 24) 3 60 := ⟨by decide +kernel, rfl⟩
theorem eJ8_init_2_60 : dc cJ8_init_2 60 (.return_) 1 61 := ⟨by decide +kernel, rfl⟩
set_option maxHeartbeats 8000000 in
theorem ctJ8_init_2 (l : Launch) : Ct l yJ8_init_2 (.code yJ8_init_2 cJ8_init_2 5 none) 2 spJ8_init_2 := by
  refine Ct.of (own := RJ8) (nm := "<init>") (by decide) rfl rfl ?_
  rintro X av T I L R uc us rfl g hN hu hz ⟨a, rfl, hT, hk⟩
  refine VE.go (ls := [some (.ref a), some .null, some .null, some (.int 0), some (.int 0)]) g hu hz (fun _ => rfl) (fun _ => Nat.le_of_ble_eq_true rfl) ?_
  refine V_aload_0 g eJ8_init_2_0 ?_
  refine V_objInit g eJ8_init_2_1 (lk q801) (lk q103) (lk q104) (by decide) (Nat.le_of_ble_eq_true rfl) ?_
  refine V_aload_0 g eJ8_init_2_4 ?_
  refine V_aload_0 g eJ8_init_2_5 ?_
  refine V_putR (r := some _) g eJ8_init_2_6 pflJ8_7_9 hT rfl rfl ?_
  refine V_aload_0 g eJ8_init_2_9 ?_
  refine V_getsR g eJ8_init_2_10 (fun _ _ _ h => h.2.2.2.2.1) (lk q802) (fun r_10 => ?_)
  refine V_putR (r := r_10) g eJ8_init_2_13 pflJ8_17_9 hT rfl rfl ?_
  refine V_aload_0 g eJ8_init_2_16 ?_
  refine V_getsR g eJ8_init_2_17 (fun _ _ _ h => h.2.2.2.2.2.1) (lk q804) (fun r_17 => ?_)
  refine V_putR (r := r_17) g eJ8_init_2_20 pflJ8_24_9 hT rfl rfl ?_
  refine V_iload_4 g eJ8_init_2_23 ?_
  refine V_if_eq g eJ8_init_2_25 (fun _ => ?_) (fun c_25 => absurd c_25 (fun z => z rfl))
  refine V_aload_0 g eJ8_init_2_36 ?_
  refine V_null g eJ8_init_2_37 ?_
  refine V_putR (r := none) g eJ8_init_2_38 pflJ8_17_9 hT rfl rfl ?_
  refine V_aload_0 g eJ8_init_2_41 ?_
  refine V_aloadN_1 g eJ8_init_2_42 ?_
  refine V_putR (r := none) g eJ8_init_2_43 pflJ8_31_9 hT rfl rfl ?_
  refine V_aload_0 g eJ8_init_2_46 ?_
  refine V_aloadN_2 g eJ8_init_2_47 ?_
  refine V_putR (r := none) g eJ8_init_2_48 pflJ8_7_9 hT rfl rfl ?_
  refine V_iload_3 g eJ8_init_2_51 ?_
  refine V_if_ne g eJ8_init_2_52 (fun c_52 => absurd c_52 (fun z => z rfl)) (fun _ => ?_)
  refine V_aload_0 g eJ8_init_2_55 ?_
  refine V_null g eJ8_init_2_56 ?_
  refine V_putR (r := none) g eJ8_init_2_57 pflJ8_24_9 hT rfl rfl ?_
  refine V_vret g eJ8_init_2_60 ?_
  refine hk _ fun x hx => ?_
  simp only [u2_o _ _ hx]
abbrev spJ9_init : Sp := spJ8_init_2
theorem eJ9_init_0 : dc cJ9_init 0 (.aload_n 0) 1 1 := ⟨by decide +kernel, rfl⟩
theorem eJ9_init_1 : dc cJ9_init 1 (.aload_n 1) 1 2 := ⟨by decide +kernel, rfl⟩
theorem eJ9_init_2 : dc cJ9_init 2 (.aload_n 2) 1 3 := ⟨by decide +kernel, rfl⟩
theorem eJ9_init_3 : dc cJ9_init 3 (.iload_n 3) 1 4 := ⟨by decide +kernel, rfl⟩
theorem eJ9_init_4 : dc cJ9_init 4 (.iload 4) 2 6 := ⟨by decide +kernel, rfl⟩
theorem eJ9_init_6 : dc cJ9_init 6 (.invokespecial 16) 3 9 := ⟨by decide +kernel, rfl⟩
theorem pkJ9_16 : PkI RJ9 16 yJ8_init_2 cJ8_init_2 5 4 := ⟨(lk q827), Or.inl (lk q825), (lk q826), rfl, ⟨⟨by decide, by decide⟩, by decide +kernel⟩, (lk q80), by decide⟩
theorem eJ9_init_9 : dc cJ9_init 9 (.return_) 1 10 := ⟨by decide +kernel, rfl⟩
set_option maxHeartbeats 8000000 in
theorem ctJ9_init (l : Launch) : Ct l yJ9_init (.code yJ9_init cJ9_init 5 none) 3 spJ9_init := by
  refine Ct.of (own := RJ9) (nm := "<init>") (by decide) rfl rfl ?_
  rintro X av T I L R uc us rfl g hN hu hz ⟨a, rfl, hT, hk⟩
  refine VE.go (ls := [some (.ref a), some .null, some .null, some (.int 0), some (.int 0)]) g hu hz (fun _ => rfl) (fun _ => Nat.le_of_ble_eq_true rfl) ?_
  refine V_aload_0 g eJ9_init_0 ?_
  refine V_aloadN_1 g eJ9_init_1 ?_
  refine V_aloadN_2 g eJ9_init_2 ?_
  refine V_iload_3 g eJ9_init_3 ?_
  refine V_iload_4 g eJ9_init_4 ?_
  refine V_ci4 g (ctJ8_init_2 _) eJ9_init_6 pkJ9_16 (by decide) (Nat.le_of_ble_eq_true rfl) ?_
  refine ⟨a, rfl, hT, fun R' hR' => ?_⟩
  refine V_vret g eJ9_init_9 ?_
  exact hk R' hR'
abbrev spJ10_init : Sp := spJ8_init_2
theorem eJ10_init_0 : dc cJ10_init 0 (.aload_n 0) 1 1 := ⟨by decide +kernel, rfl⟩
theorem eJ10_init_1 : dc cJ10_init 1 (.aload_n 1) 1 2 := ⟨by decide +kernel, rfl⟩
theorem eJ10_init_2 : dc cJ10_init 2 (.aload_n 2) 1 3 := ⟨by decide +kernel, rfl⟩
theorem eJ10_init_3 : dc cJ10_init 3 (.iload_n 3) 1 4 := ⟨by decide +kernel, rfl⟩
theorem eJ10_init_4 : dc cJ10_init 4 (.iload 4) 2 6 := ⟨by decide +kernel, rfl⟩
theorem eJ10_init_6 : dc cJ10_init 6 (.invokespecial 16) 3 9 := ⟨by decide +kernel, rfl⟩
theorem pkJ10_16 : PkI RJ10 16 yJ9_init cJ9_init 5 4 := ⟨(lk q824), Or.inl (lk q822), (lk q823), rfl, ⟨⟨by decide, by decide⟩, by decide +kernel⟩, (lk q81), by decide⟩
theorem eJ10_init_9 : dc cJ10_init 9 (.return_) 1 10 := ⟨by decide +kernel, rfl⟩
set_option maxHeartbeats 8000000 in
theorem ctJ10_init (l : Launch) : Ct l yJ10_init (.code yJ10_init cJ10_init 5 none) 4 spJ10_init := by
  refine Ct.of (own := RJ10) (nm := "<init>") (by decide) rfl rfl ?_
  rintro X av T I L R uc us rfl g hN hu hz ⟨a, rfl, hT, hk⟩
  refine VE.go (ls := [some (.ref a), some .null, some .null, some (.int 0), some (.int 0)]) g hu hz (fun _ => rfl) (fun _ => Nat.le_of_ble_eq_true rfl) ?_
  refine V_aload_0 g eJ10_init_0 ?_
  refine V_aloadN_1 g eJ10_init_1 ?_
  refine V_aloadN_2 g eJ10_init_2 ?_
  refine V_iload_3 g eJ10_init_3 ?_
  refine V_iload_4 g eJ10_init_4 ?_
  refine V_ci4 g (ctJ9_init _) eJ10_init_6 pkJ10_16 (by decide) (Nat.le_of_ble_eq_true rfl) ?_
  refine ⟨a, rfl, hT, fun R' hR' => ?_⟩
  refine V_vret g eJ10_init_9 ?_
  exact hk R' hR'
abbrev spX12_init : Sp := fun av T I L R uc us k => ∃ (a q p : Nat), av = [.ref a, .int (nI q), .int (nI p)] ∧ (T a).1 = 9 ∧ (∀ R', (∀ x, x ≠ a → R' x = R x) → k (.inl none) T (u2 I a 6 (nI q + 16 * nI p)) L R' uc us)
theorem eX12_init_0 : dc cX12_init 0 (.aload_n 0) 1 1 := ⟨by decide +kernel, rfl⟩
theorem eX12_init_1 : dc cX12_init 1 (.aconst_null) 1 2 := ⟨by decide +kernel, rfl⟩
theorem eX12_init_2 : dc cX12_init 2 (.aconst_null) 1 3 := ⟨by decide +kernel, rfl⟩
theorem eX12_init_3 : dc cX12_init 3 (.iconst 0) 1 4 := ⟨by decide +kernel, rfl⟩
theorem eX12_init_4 : dc cX12_init 4 (.iconst 0) 1 5 := ⟨by decide +kernel, rfl⟩
theorem eX12_init_5 : dc cX12_init 5 (.invokespecial 1) 3 8 := ⟨by decide +kernel, rfl⟩
theorem pkX12_1 : PkI RX12 1 yJ10_init cJ10_init 5 4 := ⟨(lk q821), Or.inl (lk q819), (lk q820), rfl, ⟨⟨by decide, by decide⟩, by decide +kernel⟩, (lk q82), by decide⟩
theorem eX12_init_8 : dc cX12_init 8 (.aload_n 0) 1 9 := ⟨by decide +kernel, rfl⟩
theorem eX12_init_9 : dc cX12_init 9 (.iload_n 1) 1 10 := ⟨by decide +kernel, rfl⟩
theorem eX12_init_10 : dc cX12_init 10 (.bipush 16) 2 12 := ⟨by decide +kernel, rfl⟩
theorem eX12_init_12 : dc cX12_init 12 (.iload_n 2) 1 13 := ⟨by decide +kernel, rfl⟩
theorem eX12_init_13 : dc cX12_init 13 (.imul) 1 14 := ⟨by decide +kernel, rfl⟩
theorem eX12_init_14 : dc cX12_init 14 (.iadd) 1 15 := ⟨by decide +kernel, rfl⟩
theorem eX12_init_15 : dc cX12_init 15 (.putfield 7) 3 18 := ⟨by decide +kernel, rfl⟩
theorem flX12_7 : FL RX12 7 9 6 := ⟨_, _, _, _, rfl, by decide, by decide, Or.inl (lk q828), Or.inl rfl⟩
theorem pflX12_7 : (FL RX12 7 9 6 ∧ FN 9 6) ∨ (FF RX12 7 9 6 ∧ "<init>" = "<init>") := Or.inr ⟨⟨_, _, _, rfl, by decide, by decide, (lk q828), rfl, rfl⟩, rfl⟩
theorem eX12_init_18 : dc cX12_init 18 (.return_) 1 19 := ⟨by decide +kernel, rfl⟩
set_option maxHeartbeats 8000000 in
theorem ctX12_init (l : Launch) : Ct l yX12_init (.code yX12_init cX12_init 3 none) 5 spX12_init := by
  refine Ct.of (own := RX12) (nm := "<init>") (by decide) rfl rfl ?_
  rintro X av T I L R uc us rfl g hN hu hz ⟨a, q, p, rfl, hT, hk⟩
  refine VE.go (ls := [some (.ref a), some (.int (nI q)), some (.int (nI p))]) g hu hz (fun _ => rfl) (fun _ => Nat.le_of_ble_eq_true rfl) ?_
  refine V_aload_0 g eX12_init_0 ?_
  refine V_null g eX12_init_1 ?_
  refine V_null g eX12_init_2 ?_
  refine V_iconst (v := 0) g eX12_init_3 (by decide) ?_
  refine V_iconst (v := 0) g eX12_init_4 (by decide) ?_
  refine V_ci4 g (ctJ10_init _) eX12_init_5 pkX12_1 (by decide) (Nat.le_of_ble_eq_true rfl) ?_
  refine ⟨a, rfl, hT, fun R' hR' => ?_⟩
  refine V_aload_0 g eX12_init_8 ?_
  refine V_iload_1 g eX12_init_9 ?_
  refine V_bipush (v := 16) g eX12_init_10 (by decide) ?_
  refine V_iload_2 g eX12_init_12 ?_
  refine V_imul g eX12_init_13 ?_
  refine V_iadd g eX12_init_14 ?_
  refine V_putI g eX12_init_15 pflX12_7 hT rfl rfl rfl ?_
  refine V_vret g eX12_init_18 ?_
  exact hk R' hR'
abbrev spX2_wrong : Sp := fun av T I L R uc us k => ∃ (rd q p : Nat), av = [.ref rd, .int (nI q)] ∧ (T rd).1 = 1 ∧ I rd 4 = nI p ∧ uc + 1 ≤ 600000 ∧ us + 7 ≤ 7293034 ∧ (∀ T' I' L' R', (∀ x, x ≠ uc → T' x = T x ∧ I' x = I x ∧ L' x = L x ∧ R' x = R x) → (T' uc).1 = 9 → I' uc 6 = nI q + 16 * nI p → k (.inl (some (.ref uc))) T' I' L' R' (uc + 1) (us + 7))
theorem eX2_wrong_0 : dc cX2_wrong 0 (.new 55) 3 3 := ⟨by decide +kernel, rfl⟩
theorem eX2_wrong_3 : dc cX2_wrong 3 (.dup) 1 4 := ⟨by decide +kernel, rfl⟩
theorem eX2_wrong_4 : dc cX2_wrong 4 (.iload_n 1) 1 5 := ⟨by decide +kernel, rfl⟩
theorem eX2_wrong_5 : dc cX2_wrong 5 (.aload_n 0) 1 6 := ⟨by decide +kernel, rfl⟩
theorem eX2_wrong_6 : dc cX2_wrong 6 (.getfield 28) 3 9 := ⟨by decide +kernel, rfl⟩
theorem eX2_wrong_9 : dc cX2_wrong 9 (.invokespecial 57) 3 12 := ⟨by decide +kernel, rfl⟩
theorem pkX2_57 : PkI RX2 57 yX12_init cX12_init 3 2 := ⟨(lk q818), Or.inl (lk q816), (lk q817), rfl, ⟨⟨by decide, by decide⟩, by decide +kernel⟩, (lk q89), by decide⟩
theorem eX2_wrong_12 : dc cX2_wrong 12 (.areturn) 1 13 := ⟨by decide +kernel, rfl⟩
set_option maxHeartbeats 8000000 in
theorem ctX2_wrong (l : Launch) : Ct l yX2_wrong (.code yX2_wrong cX2_wrong 2 (some (.object "BedBook$Wrong"))) 6 spX2_wrong := by
  refine Ct.of (own := RX2) (nm := "wrong") (by decide) rfl rfl ?_
  rintro X av T I L R uc us rfl g hN hu hz ⟨rd, q, p, rfl, hT, hp, huc, hus, hk⟩
  refine VE.go (ls := [some (.ref rd), some (.int (nI q))]) g hu hz (fun _ => rfl) (fun _ => Nat.le_of_ble_eq_true rfl) ?_
  refine V_new (tg := 9) g eX2_wrong_0 rfl (by decide) (lk q776) (by omega) (by omega) (fun hd_0 => ?_)
  refine V_dup g eX2_wrong_3 rfl ?_
  refine V_iload_1 g eX2_wrong_4 ?_
  refine V_aload_0 g eX2_wrong_5 ?_
  refine V_getI g eX2_wrong_6 flX2_28 (by rw [va_up_ne _ _ (ne_of99 hd_0 (by rw [hT]; decide))]; exact hT) rfl ?_
  refine V_top (y := nI p) (by rw [va_up_ne _ _ (ne_of99 hd_0 (by rw [hT]; decide))]; exact hp) ?_
  refine V_ci2 g (ctX12_init _) eX2_wrong_9 pkX2_57 (by decide) (Nat.le_of_ble_eq_true rfl) ?_
  refine ⟨uc, q, p, rfl, by rw [va_up_self], fun R' hR' => ?_⟩
  refine V_aret g eX2_wrong_12 (Or.inl ⟨_, rfl⟩) (Or.inr ⟨_, rfl⟩) ?_
  refine hk _ _ _ _ (fun x hx => ⟨va_up_ne _ _ hx, by rw [u2_o _ _ hx, va_up_ne _ _ hx], va_up_ne _ _ hx, by rw [hR' x hx, va_up_ne _ _ hx]⟩) (by rw [va_up_self]) (u2_s _ _ _ _)
theorem cpy0 {α : Type} (f d : Nat → α) (n j : Nat) : va_cpy f d 0 0 n j = if j < n then f j else d j := by
  unfold va_cpy
  by_cases h : j < n
  · rw [if_pos ⟨Nat.zero_le _, by omega⟩, if_pos h, Nat.zero_add, Nat.sub_zero]
  · rw [if_neg (fun q => by omega), if_neg h]
def upf (f : Nat → Nat) (n q : Nat) : Nat → Nat := fun j => if j = n then q else f j
theorem SBt.app {T : Tt} {I : It} {R : Rt} {s v cp n : Nat} {f : Nat → Nat} (h : SBt T I R s v cp n f) {q : Nat} (hq : q < 128) (hn : n < cp) : SBt T (u2 (u2 I s 3 (nI (n + 1))) v n (nI q)) R s v cp (n + 1) (upf f n q) := by
  obtain ⟨a1, a2, a3, a4, a5, a6, a7, a8, a9⟩ := h
  have hne : s ≠ v := fun e => by rw [e, a3] at a1; exact absurd (show (101 : Nat) = 15 from a1) (by decide)
  refine ⟨a1, a2, a3, ?_, ?_, by omega, a7, fun j hj => ?_, fun j hj => ?_⟩
  · rw [u2_o _ _ hne, u2_n _ _ (by omega)]; exact a4
  · rw [u2_o _ _ hne, u2_s]
  · unfold upf
    by_cases e : j = n
    · rw [if_pos e, e, u2_s]; exact ⟨rfl, hq⟩
    · rw [if_neg e, u2_n _ _ (by omega), u2_o _ _ (Ne.symm hne)]; exact a8 j (by omega)
  · rw [u2_n _ _ (by omega), u2_o _ _ (Ne.symm hne)]; exact a9 j (by omega)
theorem SBt.gro {T : Tt} {I : It} {R : Rt} {s v n uc : Nat} {f : Nat → Nat} (h : SBt T I R s v n n f) {q : Nat} (hq : q < 128) (h99 : (T uc).1 = 99) (hc : 2 * n + 2 < 40000) : SBt (va_up T uc (101, 2 * n + 2)) (u2 (u2 (va_up I uc (va_cpy (I v) (fun _ => 0) 0 0 n)) s 3 (nI (n + 1))) uc n (nI q)) (u2 (va_up R uc fun _ => none) s 0 (some uc)) s uc (2 * n + 2) (n + 1) (upf f n q) := by
  obtain ⟨a1, a2, a3, a4, a5, a6, a7, a8, a9⟩ := h
  have hne : s ≠ uc := ne_of99 h99 (by rw [a1]; decide)
  refine ⟨by rw [va_up_ne _ _ hne]; exact a1, u2_s _ _ _ _, va_up_self _ _ _, ?_, ?_, by omega, hc, fun j hj => ?_, fun j hj => ?_⟩
  · rw [u2_o _ _ hne, u2_n _ _ (by omega), va_up_ne _ _ hne]; exact a4
  · rw [u2_o _ _ hne, u2_s]
  · unfold upf
    by_cases e : j = n
    · rw [if_pos e, e, u2_s]; exact ⟨rfl, hq⟩
    · rw [if_neg e, u2_n _ _ (by omega), u2_o _ _ (Ne.symm hne), va_up_self, cpy0, if_pos (by omega)]; exact a8 j (by omega)
  · rw [u2_n _ _ (by omega), u2_o _ _ (Ne.symm hne), va_up_self, cpy0, if_neg (by omega)]
theorem LSt.put {T : Tt} {I : It} {R : Rt} {l e cap n : Nat} {h : Nat → Nat} (hL : LSt T I R l e cap n h) {y : Nat} (hy : (T y).1 < 17) (hn : n < cap) (v : Int32) : LSt T (u2 (u2 I l 0 v) l 2 (nI (n + 1))) (u2 R e n (some y)) l e cap (n + 1) (upf h n y) := by
  obtain ⟨a1, a2, a3, a4, a5, a6, a7, a8, a9⟩ := hL
  have hne : l ≠ e := fun z => by rw [z, a4] at a1; exact absurd (show (104 : Nat) = 14 from a1) (by decide)
  refine ⟨a1, u2_s _ _ _ _, by rw [u2_o _ _ hne]; exact a3, a4, a5, a6, by omega, fun j hj => ?_, fun j hj => ?_⟩
  · unfold upf
    by_cases z : j = n
    · rw [if_pos z, z, u2_s]; exact ⟨rfl, hy⟩
    · rw [if_neg z, u2_n _ _ (by omega)]; exact a8 j (by omega)
  · rw [u2_n _ _ (by omega)]; exact a9 j (by omega)
theorem LSt.gro {T : Tt} {I : It} {R : Rt} {l e n uc : Nat} {h : Nat → Nat} (hL : LSt T I R l e n n h) {y : Nat} (hy : (T y).1 < 17) (h99 : (T uc).1 = 99) (hc : gcap n < 50000) (v : Int32) : LSt (va_up T uc (104, gcap n)) (u2 (va_up (u2 I l 0 v) uc fun _ => 0) l 2 (nI (n + 1))) (u2 (u2 (va_up R uc (va_cpy (R e) (fun _ => none) 0 0 n)) l 1 (some uc)) uc n (some y)) l uc (gcap n) (n + 1) (upf h n y) := by
  obtain ⟨a1, a2, a3, a4, a5, a6, a7, a8, a9⟩ := hL
  have hne : l ≠ uc := ne_of99 h99 (by rw [a1]; decide)
  have hg : n + 1 ≤ gcap n := by unfold gcap; omega
  refine ⟨by rw [va_up_ne _ _ hne]; exact a1, u2_s _ _ _ _, by rw [u2_o _ _ hne, u2_s], va_up_self _ _ _, by omega, hc, hg, fun j hj => ?_, fun j hj => ?_⟩
  · unfold upf
    by_cases z : j = n
    · rw [if_pos z, z, u2_s, va_up_ne _ _ (ne_of99 h99 (by omega))]; exact ⟨rfl, hy⟩
    · obtain ⟨b1, b2⟩ := a8 j (by omega)
      rw [if_neg z, u2_n _ _ (by omega), u2_o _ _ (Ne.symm hne), va_up_self, cpy0, if_pos (by omega), va_up_ne _ _ (ne_of99 h99 (by omega))]; exact ⟨b1, b2⟩
  · rw [u2_n _ _ (by omega), u2_o _ _ (Ne.symm hne), va_up_self, cpy0, if_neg (by omega)]
abbrev spX13_init : Sp := fun av T I L R uc us k => ∃ a : Nat, av = [.ref a] ∧ k (.inl none) T I L R uc us
theorem eX13_init_0 : dc cX13_init 0 (.aload_n 0) 1 1 := ⟨by decide +kernel, rfl⟩
theorem eX13_init_1 : dc cX13_init 1 (.invokespecial 1) 3 4 := ⟨by decide +kernel, rfl⟩
theorem eX13_init_4 : dc cX13_init 4 (.return_) 1 5 := ⟨by decide +kernel, rfl⟩
set_option maxHeartbeats 8000000 in
theorem ctX13_init (l : Launch) : Ct l yX13_init (.code yX13_init cX13_init 1 none) 1 spX13_init := by
  refine Ct.of (own := RX13) (nm := "<init>") (by decide) rfl rfl ?_
  rintro X av T I L R uc us rfl g hN hu hz ⟨a, rfl, hk⟩
  refine VE.go (ls := [some (.ref a)]) g hu hz (fun _ => rfl) (fun _ => Nat.le_of_ble_eq_true rfl) ?_
  refine V_aload_0 g eX13_init_0 ?_
  refine V_objInit g eX13_init_1 (lk q880) (lk q103) (lk q104) (by decide) (Nat.le_of_ble_eq_true rfl) ?_
  refine V_vret g eX13_init_4 ?_
  exact hk
abbrev spX14_init : Sp := fun av T I L R uc us k => ∃ (a : Nat) (v : Int32), av = [.ref a, .int v] ∧ (T a).1 = 10 ∧ k (.inl none) T (u2 I a 0 v) L R uc us
theorem eX14_init_0 : dc cX14_init 0 (.aload_n 0) 1 1 := ⟨by decide +kernel, rfl⟩
theorem eX14_init_1 : dc cX14_init 1 (.invokespecial 1) 3 4 := ⟨by decide +kernel, rfl⟩
theorem pkX14_1 : PkI RX14 1 yX13_init cX13_init 1 0 := ⟨(lk q879), Or.inr ⟨_, (lt_k q877 rfl)⟩, (lk q878), rfl, ⟨⟨by decide, by decide⟩, by decide +kernel⟩, (lk q90), by decide⟩
theorem eX14_init_4 : dc cX14_init 4 (.aload_n 0) 1 5 := ⟨by decide +kernel, rfl⟩
theorem eX14_init_5 : dc cX14_init 5 (.iload_n 1) 1 6 := ⟨by decide +kernel, rfl⟩
theorem eX14_init_6 : dc cX14_init 6 (.putfield 7) 3 9 := ⟨by decide +kernel, rfl⟩
theorem pflX14_7 : (FL RX14 7 10 0 ∧ FN 10 0) ∨ (FF RX14 7 10 0 ∧ "<init>" = "<init>") := Or.inr ⟨⟨_, _, _, rfl, by decide, by decide, (lk q881), rfl, rfl⟩, rfl⟩
theorem eX14_init_9 : dc cX14_init 9 (.return_) 1 10 := ⟨by decide +kernel, rfl⟩
set_option maxHeartbeats 8000000 in
theorem ctX14_init (l : Launch) : Ct l yX14_init (.code yX14_init cX14_init 2 none) 2 spX14_init := by
  refine Ct.of (own := RX14) (nm := "<init>") (by decide) rfl rfl ?_
  rintro X av T I L R uc us rfl g hN hu hz ⟨a, v, rfl, hT, hk⟩
  refine VE.go (ls := [some (.ref a), some (.int v)]) g hu hz (fun _ => rfl) (fun _ => Nat.le_of_ble_eq_true rfl) ?_
  refine V_aload_0 g eX14_init_0 ?_
  refine V_ci0 g (ctX13_init _) eX14_init_1 pkX14_1 (by decide) (Nat.le_of_ble_eq_true rfl) ?_
  refine ⟨a, rfl, ?_⟩
  refine V_aload_0 g eX14_init_4 ?_
  refine V_iload_1 g eX14_init_5 ?_
  refine V_putI g eX14_init_6 pflX14_7 hT rfl rfl rfl ?_
  refine V_vret g eX14_init_9 ?_
  exact hk
abbrev spX15_init : Sp := fun av T I L R uc us k => ∃ (a : Nat) (v : Int32), av = [.ref a, .int v] ∧ (T a).1 = 11 ∧ k (.inl none) T (u2 I a 0 v) L R uc us
theorem eX15_init_0 : dc cX15_init 0 (.aload_n 0) 1 1 := ⟨by decide +kernel, rfl⟩
theorem eX15_init_1 : dc cX15_init 1 (.invokespecial 1) 3 4 := ⟨by decide +kernel, rfl⟩
theorem pkX15_1 : PkI RX15 1 yX13_init cX13_init 1 0 := ⟨(lk q879), Or.inr ⟨_, (lt_k q890 rfl)⟩, (lk q878), rfl, ⟨⟨by decide, by decide⟩, by decide +kernel⟩, (lk q90), by decide⟩
theorem eX15_init_4 : dc cX15_init 4 (.aload_n 0) 1 5 := ⟨by decide +kernel, rfl⟩
theorem eX15_init_5 : dc cX15_init 5 (.iload_n 1) 1 6 := ⟨by decide +kernel, rfl⟩
theorem eX15_init_6 : dc cX15_init 6 (.putfield 7) 3 9 := ⟨by decide +kernel, rfl⟩
theorem pflX15_7 : (FL RX15 7 11 0 ∧ FN 11 0) ∨ (FF RX15 7 11 0 ∧ "<init>" = "<init>") := Or.inr ⟨⟨_, _, _, rfl, by decide, by decide, (lk q891), rfl, rfl⟩, rfl⟩
theorem eX15_init_9 : dc cX15_init 9 (.return_) 1 10 := ⟨by decide +kernel, rfl⟩
set_option maxHeartbeats 8000000 in
theorem ctX15_init (l : Launch) : Ct l yX15_init (.code yX15_init cX15_init 2 none) 2 spX15_init := by
  refine Ct.of (own := RX15) (nm := "<init>") (by decide) rfl rfl ?_
  rintro X av T I L R uc us rfl g hN hu hz ⟨a, v, rfl, hT, hk⟩
  refine VE.go (ls := [some (.ref a), some (.int v)]) g hu hz (fun _ => rfl) (fun _ => Nat.le_of_ble_eq_true rfl) ?_
  refine V_aload_0 g eX15_init_0 ?_
  refine V_ci0 g (ctX13_init _) eX15_init_1 pkX15_1 (by decide) (Nat.le_of_ble_eq_true rfl) ?_
  refine ⟨a, rfl, ?_⟩
  refine V_aload_0 g eX15_init_4 ?_
  refine V_iload_1 g eX15_init_5 ?_
  refine V_putI g eX15_init_6 pflX15_7 hT rfl rfl rfl ?_
  refine V_vret g eX15_init_9 ?_
  exact hk
theorem bit_nar {b : Nat} (h : b < 2) : narrow .boolean (.int (nI b)) = .int (nI b) := by
  have : ∀ b, b < 2 → narrow .boolean (.int (nI b)) = .int (nI b) := by decide
  exact this b h
theorem bit_fit {b : Nat} (h : b < 2) : fits .boolean (.int (nI b)) = true := by
  have : ∀ b, b < 2 → fits .boolean (.int (nI b)) = true := by decide
  exact this b h
abbrev spX17_init : Sp := fun av T I L R uc us k => ∃ (a e b : Nat), av = [.ref a, .int (nI b), .ref e] ∧ b < 2 ∧ (T a).1 = 13 ∧ k (.inl none) T (u2 I a 0 (nI b)) L (u2 R a 1 (some e)) uc us
theorem eX17_init_0 : dc cX17_init 0 (.aload_n 0) 1 1 := ⟨by decide +kernel, rfl⟩
theorem eX17_init_1 : dc cX17_init 1 (.invokespecial 1) 3 4 := ⟨by decide +kernel, rfl⟩
theorem eX17_init_4 : dc cX17_init 4 (.aload_n 0) 1 5 := ⟨by decide +kernel, rfl⟩
theorem eX17_init_5 : dc cX17_init 5 (.iload_n 1) 1 6 := ⟨by decide +kernel, rfl⟩
theorem eX17_init_6 : dc cX17_init 6 (.putfield 7) 3 9 := ⟨by decide +kernel, rfl⟩
theorem flX17_7 : FL RX17 7 13 0 := ⟨_, _, _, _, rfl, by decide, by decide, Or.inl (lk q1015), Or.inl rfl⟩
theorem pflX17_7 : (FL RX17 7 13 0 ∧ FN 13 0) ∨ (FF RX17 7 13 0 ∧ "<init>" = "<init>") := Or.inr ⟨⟨_, _, _, rfl, by decide, by decide, (lk q1015), rfl, rfl⟩, rfl⟩
theorem eX17_init_9 : dc cX17_init 9 (.aload_n 0) 1 10 := ⟨by decide +kernel, rfl⟩
theorem eX17_init_10 : dc cX17_init 10 (.aload_n 2) 1 11 := ⟨by decide +kernel, rfl⟩
theorem eX17_init_11 : dc cX17_init 11 (.putfield 13) 3 14 := ⟨by decide +kernel, rfl⟩
theorem flX17_13 : FL RX17 13 13 1 := ⟨_, _, _, _, rfl, by decide, by decide, Or.inl (lk q1017), Or.inl rfl⟩
theorem pflX17_13 : (FL RX17 13 13 1 ∧ FN 13 1) ∨ (FF RX17 13 13 1 ∧ "<init>" = "<init>") := Or.inr ⟨⟨_, _, _, rfl, by decide, by decide, (lk q1017), rfl, rfl⟩, rfl⟩
theorem eX17_init_14 : dc cX17_init 14 (.return_) 1 15 := ⟨by decide +kernel, rfl⟩
set_option maxHeartbeats 8000000 in
theorem ctX17_init (l : Launch) : Ct l yX17_init (.code yX17_init cX17_init 3 none) 2 spX17_init := by
  refine Ct.of (own := RX17) (nm := "<init>") (by decide) rfl rfl ?_
  rintro X av T I L R uc us rfl g hN hu hz ⟨a, e, b, rfl, hb, hT, hk⟩
  refine VE.go (ls := [some (.ref a), some (.int (nI b)), some (.ref e)]) g hu hz (fun _ => rfl) (fun _ => Nat.le_of_ble_eq_true rfl) ?_
  refine V_aload_0 g eX17_init_0 ?_
  refine V_objInit g eX17_init_1 (lk q1014) (lk q103) (lk q104) (by decide) (Nat.le_of_ble_eq_true rfl) ?_
  refine V_aload_0 g eX17_init_4 ?_
  refine V_iload_1 g eX17_init_5 ?_
  refine V_putI g eX17_init_6 pflX17_7 hT rfl (bit_nar hb) (bit_fit hb) ?_
  refine V_aload_0 g eX17_init_9 ?_
  refine V_aload_2 g eX17_init_10 ?_
  refine V_putR (r := some _) g eX17_init_11 pflX17_13 hT rfl rfl ?_
  refine V_vret g eX17_init_14 ?_
  exact hk

