/-! JDK: ArrayList and what it calls (printed out of tmpl/t_jdk1.txt) -/
set_option maxRecDepth 100000
theorem ne_of99 {T : Tt} {a b : Nat} (h : (T b).1 = 99) (ha : (T a).1 ≠ 99) : a ≠ b := fun q => ha (by rw [q]; exact h)
abbrev spJ0_init : Sp := fun av T I L R uc us k => ∃ a : Nat, av = [.ref a] ∧ k (.inl none) T I L R uc us
theorem eJ0_init_0 : dc cJ0_init 0 (.aload_n 0) 1 1 := ⟨by decide +kernel, rfl⟩
theorem eJ0_init_1 : dc cJ0_init 1 (.invokespecial 1) 3 4 := ⟨by decide +kernel, rfl⟩
theorem eJ0_init_4 : dc cJ0_init 4 (.return_) 1 5 := ⟨by decide +kernel, rfl⟩
set_option maxHeartbeats 8000000 in
theorem ctJ0_init (l : Launch) : Ct l yJ0_init (.code yJ0_init cJ0_init 1 none) 2 spJ0_init := by
  refine Ct.of (own := RJ0) (nm := "<init>") (by decide) rfl rfl ?_
  rintro X av T I L R uc us rfl g hN hu hz ⟨a, rfl, hk⟩
  refine VE.go (ls := [some (.ref a)]) g hu hz (fun _ => rfl) (fun _ => Nat.le_of_ble_eq_true rfl) ?_
  refine V_aload_0 g eJ0_init_0 ?_
  refine V_objInit g eJ0_init_1 (lk q116) (lk q103) (lk q104) (by decide) (Nat.le_of_ble_eq_true rfl) ?_
  refine V_vret g eJ0_init_4 ?_
  exact hk
abbrev spJ1_init : Sp := fun av T I L R uc us k => ∃ a : Nat, av = [.ref a] ∧ (T a).1 = 14 ∧ k (.inl none) T (u2 I a 0 0) L R uc us
theorem eJ1_init_0 : dc cJ1_init 0 (.aload_n 0) 1 1 := ⟨by decide +kernel, rfl⟩
theorem eJ1_init_1 : dc cJ1_init 1 (.invokespecial 1) 3 4 := ⟨by decide +kernel, rfl⟩
theorem pkJ1_1 : PkI RJ1 1 yJ0_init cJ0_init 1 0 := ⟨(lk q115), Or.inl (lk q113), (lk q114), rfl, ⟨⟨by decide, by decide⟩, by decide +kernel⟩, (lk q62), by decide⟩
theorem eJ1_init_4 : dc cJ1_init 4 (.aload_n 0) 1 5 := ⟨by decide +kernel, rfl⟩
theorem eJ1_init_5 : dc cJ1_init 5 (.iconst 0) 1 6 := ⟨by decide +kernel, rfl⟩
theorem eJ1_init_6 : dc cJ1_init 6 (.putfield 7) 3 9 := ⟨by decide +kernel, rfl⟩
theorem flJ1_7_14 : FL RJ1 7 14 0 := ⟨_, _, _, _, rfl, by decide, by decide, Or.inl (lk q123), Or.inl rfl⟩
theorem pflJ1_7_14 {nm : String} : (FL RJ1 7 14 0 ∧ FN 14 0) ∨ (FF RJ1 7 14 0 ∧ nm = "<init>") := Or.inl ⟨flJ1_7_14, fun C Tb N h => by cases h; rfl⟩
theorem eJ1_init_9 : dc cJ1_init 9 (.return_) 1 10 := ⟨by decide +kernel, rfl⟩
set_option maxHeartbeats 8000000 in
theorem ctJ1_init (l : Launch) : Ct l yJ1_init (.code yJ1_init cJ1_init 1 none) 3 spJ1_init := by
  refine Ct.of (own := RJ1) (nm := "<init>") (by decide) rfl rfl ?_
  rintro X av T I L R uc us rfl g hN hu hz ⟨a, rfl, hT, hk⟩
  refine VE.go (ls := [some (.ref a)]) g hu hz (fun _ => rfl) (fun _ => Nat.le_of_ble_eq_true rfl) ?_
  refine V_aload_0 g eJ1_init_0 ?_
  refine V_ci0 g (ctJ0_init _) eJ1_init_1 pkJ1_1 (by decide) (Nat.le_of_ble_eq_true rfl) ?_
  refine ⟨_, rfl, ?_⟩
  refine V_aload_0 g eJ1_init_4 ?_
  refine V_iconst (v := 0) g eJ1_init_5 (by decide) ?_
  refine V_putI g eJ1_init_6 pflJ1_7_14 hT rfl rfl rfl ?_
  refine V_vret g eJ1_init_9 ?_
  exact hk
abbrev spJ2_init : Sp := fun av T I L R uc us k => ∃ (a N : Nat), av = [.ref a, .int (nI N)] ∧ (T a).1 = 14 ∧ 0 < N ∧ N < 1000 ∧ uc + 1 ≤ 600000 ∧ us + N ≤ 7293034 ∧ ((T uc).1 = 99 → k (.inl none) (va_up T uc (104, N)) (va_up (u2 I a 0 0) uc fun _ => 0) (va_up L uc fun _ => 0) (u2 (va_up R uc fun _ => none) a 1 (some uc)) (uc + 1) (us + N))
theorem eJ2_init_0 : dc cJ2_init 0 (.aload_n 0) 1 1 := ⟨by decide +kernel, rfl⟩
theorem eJ2_init_1 : dc cJ2_init 1 (.invokespecial 1) 3 4 := ⟨by decide +kernel, rfl⟩
theorem pkJ2_1 : PkI RJ2 1 yJ1_init cJ1_init 1 0 := ⟨(lk q112), Or.inl (lk q110), (lk q111), rfl, ⟨⟨by decide, by decide⟩, by decide +kernel⟩, (lk q63), by decide⟩
theorem eJ2_init_4 : dc cJ2_init 4 (.iload_n 1) 1 5 := ⟨by decide +kernel, rfl⟩
theorem eJ2_init_5 : dj cJ2_init 5 (.ifCond .le 14) 14 19 8 := ⟨by decide +kernel, by decide, rfl⟩
theorem eJ2_init_8 : dc cJ2_init 8 (.aload_n 0) 1 9 := ⟨by decide +kernel, rfl⟩
theorem eJ2_init_9 : dc cJ2_init 9 (.iload_n 1) 1 10 := ⟨by decide +kernel, rfl⟩
theorem eJ2_init_10 : dc cJ2_init 10 (.anewarray 7) 3 13 := ⟨by decide +kernel, rfl⟩
theorem eJ2_init_13 : dc cJ2_init 13 (.putfield 9) 3 16 := ⟨by decide +kernel, rfl⟩
theorem flJ2_9 : FL RJ2 9 14 1 := ⟨_, _, _, _, rfl, by decide, by decide, Or.inl (lk q121), Or.inl rfl⟩
theorem pflJ2_9 {nm : String} : (FL RJ2 9 14 1 ∧ FN 14 1) ∨ (FF RJ2 9 14 1 ∧ nm = "<init>") := Or.inl ⟨flJ2_9, fun C Tb N h => by cases h; rfl⟩
theorem eJ2_init_16 : dj cJ2_init 16 (.goto 44) 44 60 19 := ⟨by decide +kernel, by decide, rfl⟩
theorem eJ2_init_60 : dc cJ2_init 60 (.return_) 1 61 := ⟨by decide +kernel, rfl⟩
set_option maxHeartbeats 8000000 in
theorem ctJ2_init (l : Launch) : Ct l yJ2_init (.code yJ2_init cJ2_init 2 none) 4 spJ2_init := by
  refine Ct.of (own := RJ2) (nm := "<init>") (by decide) rfl rfl ?_
  rintro X av T I L R uc us rfl g hN hu hz ⟨a, N, rfl, hT, hN0, hN, huc, hus, hk⟩
  refine VE.go (ls := [some (.ref a), some (.int (nI N))]) g hu hz (fun _ => rfl) (fun _ => Nat.le_of_ble_eq_true rfl) ?_
  refine V_aload_0 g eJ2_init_0 ?_
  refine V_ci0 g (ctJ1_init _) eJ2_init_1 pkJ2_1 (by decide) (Nat.le_of_ble_eq_true rfl) ?_
  refine ⟨_, rfl, hT, ?_⟩
  refine V_iload_1 g eJ2_init_4 ?_
  refine V_if_le g eJ2_init_5 (fun c_5 => absurd c_5 (nI_nle hN0 (by omega))) (fun _ => ?_)
  refine V_aload_0 g eJ2_init_8 ?_
  refine V_iload_1 g eJ2_init_9 ?_
  refine V_newq (N := N) g eJ2_init_10 (lk q117) (by omega) (by omega) (by omega) (fun hd_10 => ?_)
  refine V_putR (r := some _) g eJ2_init_13 pflJ2_9 (by rw [va_up_ne _ _ (ne_of99 hd_10 (by rw [hT]; decide))]; exact hT) rfl rfl ?_
  refine V_goto g eJ2_init_16 ?_
  refine V_vret g eJ2_init_60 ?_
  exact hk hd_10
abbrev spJ2_size : Sp := fun av T I L R uc us k => ∃ a : Nat, av = [.ref a] ∧ (T a).1 = 14 ∧ k (.inl (some (.int (I a 2)))) T I L R uc us
theorem eJ2_size_0 : dc cJ2_size 0 (.aload_n 0) 1 1 := ⟨by decide +kernel, rfl⟩
theorem eJ2_size_1 : dc cJ2_size 1 (.getfield 48) 3 4 := ⟨by decide +kernel, rfl⟩
theorem flJ2_48 : FL RJ2 48 14 2 := ⟨_, _, _, _, rfl, by decide, by decide, Or.inl (lk q122), Or.inl rfl⟩
theorem eJ2_size_4 : dc cJ2_size 4 (.ireturn) 1 5 := ⟨by decide +kernel, rfl⟩
set_option maxHeartbeats 8000000 in
theorem ctJ2_size (l : Launch) : Ct l yJ2_size (.code yJ2_size cJ2_size 1 (some .int)) 1 spJ2_size := by
  refine Ct.of (own := RJ2) (nm := "size") (by decide) rfl rfl ?_
  rintro X av T I L R uc us rfl g hN hu hz ⟨a, rfl, hT, hk⟩
  refine VE.go (ls := [some (.ref a)]) g hu hz (fun _ => rfl) (fun _ => Nat.le_of_ble_eq_true rfl) ?_
  refine V_aload_0 g eJ2_size_0 ?_
  refine V_getI g eJ2_size_1 flJ2_48 hT rfl ?_
  refine V_iret g eJ2_size_4 ?_
  exact hk
abbrev spJ2_elementData : Sp := fun av T I L R uc us k => ∃ (a e cap j y : Nat), av = [.ref a, .int (nI j)] ∧ (T a).1 = 14 ∧ R a 1 = some e ∧ T e = (104, cap) ∧ j < cap ∧ cap < 100000 ∧ R e j = some y ∧ k (.inl (some (.ref y))) T I L R uc us
theorem eJ2_elementData_0 : dc cJ2_elementData 0 (.aload_n 0) 1 1 := ⟨by decide +kernel, rfl⟩
theorem eJ2_elementData_1 : dc cJ2_elementData 1 (.getfield 9) 3 4 := ⟨by decide +kernel, rfl⟩
theorem eJ2_elementData_4 : dc cJ2_elementData 4 (.iload_n 1) 1 5 := ⟨by decide +kernel, rfl⟩
theorem eJ2_elementData_5 : dc cJ2_elementData 5 (.aaload) 1 6 := ⟨by decide +kernel, rfl⟩
theorem eJ2_elementData_6 : dc cJ2_elementData 6 (.areturn) 1 7 := ⟨by decide +kernel, rfl⟩
set_option maxHeartbeats 8000000 in
theorem ctJ2_elementData (l : Launch) : Ct l yJ2_elementData (.code yJ2_elementData cJ2_elementData 2 (some (.object "java/lang/Object"))) 1 spJ2_elementData := by
  refine Ct.of (own := RJ2) (nm := "elementData") (by decide) rfl rfl ?_
  rintro X av T I L R uc us rfl g hN hu hz ⟨a, e, cap, j, y, rfl, hT, hR, hE, hj, hcap, hy, hk⟩
  refine VE.go (ls := [some (.ref a), some (.int (nI j))]) g hu hz (fun _ => rfl) (fun _ => Nat.le_of_ble_eq_true rfl) ?_
  refine V_aload_0 g eJ2_elementData_0 ?_
  refine V_getR g eJ2_elementData_1 flJ2_9 hT rfl hR ?_
  refine V_iload_1 g eJ2_elementData_4 ?_
  refine V_aaldN g eJ2_elementData_5 hE hj (by omega) hy ?_
  refine V_aret g eJ2_elementData_6 (Or.inl ⟨_, rfl⟩) (Or.inr ⟨_, rfl⟩) ?_
  exact hk
abbrev spJ7_checkIndex : Sp := fun av T I L R uc us k => ∃ (i n : Nat) (r : Option Nat), av = [.int (nI i), .int (nI n), rv r] ∧ i < n ∧ n < 2 ^ 31 ∧ k (.inl (some (.int (nI i)))) T I L R uc us
theorem eJ7_checkIndex_0 : dc cJ7_checkIndex 0 (.iload_n 0) 1 1 := ⟨by decide +kernel, rfl⟩
theorem eJ7_checkIndex_1 : dj cJ7_checkIndex 1 (.ifCond .lt 8) 8 9 4 := ⟨by decide +kernel, by decide, rfl⟩
theorem eJ7_checkIndex_4 : dc cJ7_checkIndex 4 (.iload_n 0) 1 5 := ⟨by decide +kernel, rfl⟩
theorem eJ7_checkIndex_5 : dc cJ7_checkIndex 5 (.iload_n 1) 1 6 := ⟨by decide +kernel, rfl⟩
theorem eJ7_checkIndex_6 : dj cJ7_checkIndex 6 (.if_icmp .lt 10) 10 16 9 := ⟨by decide +kernel, by decide, rfl⟩
theorem eJ7_checkIndex_16 : dc cJ7_checkIndex 16 (.iload_n 0) 1 17 := ⟨by decide +kernel, rfl⟩
theorem eJ7_checkIndex_17 : dc cJ7_checkIndex 17 (.ireturn) 1 18 := ⟨by decide +kernel, rfl⟩
set_option maxHeartbeats 8000000 in
theorem ctJ7_checkIndex (l : Launch) : Ct l yJ7_checkIndex (.code yJ7_checkIndex cJ7_checkIndex 3 (some .int)) 1 spJ7_checkIndex := by
  refine Ct.of (own := RJ7) (nm := "checkIndex") (by decide) rfl rfl ?_
  rintro X av T I L R uc us rfl g hN hu hz ⟨i, n, r, rfl, hi, hn, hk⟩
  have main : ∀ l2 : Option Value, V X T I L R uc us 0 [some (.int (nI i)), some (.int (nI n)), l2] [] := by
    intro l2
    refine V_iload_0 g eJ7_checkIndex_0 ?_
    refine V_if_lt g eJ7_checkIndex_1 (fun c_1 => absurd c_1 (nI_pos (by omega))) (fun _ => ?_)
    refine V_iload_0 g eJ7_checkIndex_4 ?_
    refine V_iload_1 g eJ7_checkIndex_5 ?_
    refine V_icmp_lt g eJ7_checkIndex_6 (fun _ => ?_) (fun c_6 => absurd c_6 (fun q => q (nI_lt hi hn)))
    refine V_iload_0 g eJ7_checkIndex_16 ?_
    refine V_iret g eJ7_checkIndex_17 ?_
    exact hk
  cases r with
  | none =>
    refine VE.go (ls := [some (.int (nI i)), some (.int (nI n)), some .null]) g hu hz (fun _ => rfl) (fun _ => Nat.le_of_ble_eq_true rfl) ?_
    exact main _
  | some r =>
    refine VE.go (ls := [some (.int (nI i)), some (.int (nI n)), some (.ref r)]) g hu hz (fun _ => rfl) (fun _ => Nat.le_of_ble_eq_true rfl) ?_
    exact main _
abbrev spJ6_checkIndex : Sp := fun av T I L R uc us k => ∃ (i n : Nat), av = [.int (nI i), .int (nI n)] ∧ i < n ∧ n < 2 ^ 31 ∧ k (.inl (some (.int (nI i)))) T I L R uc us
theorem eJ6_checkIndex_0 : dc cJ6_checkIndex 0 (.iload_n 0) 1 1 := ⟨by decide +kernel, rfl⟩
theorem eJ6_checkIndex_1 : dc cJ6_checkIndex 1 (.iload_n 1) 1 2 := ⟨by decide +kernel, rfl⟩
theorem eJ6_checkIndex_2 : dc cJ6_checkIndex 2 (.aconst_null) 1 3 := ⟨by decide +kernel, rfl⟩
theorem eJ6_checkIndex_3 : dc cJ6_checkIndex 3 (.invokestatic 105) 3 6 := ⟨by decide +kernel, rfl⟩
theorem pkJ6_105 : PkS RJ6 105 yJ7_checkIndex (.code yJ7_checkIndex cJ7_checkIndex 3 (some .int)) 3 3 := ⟨cwd_c, (lk q448), (lk q446), (lk q447), (lk q76), nmd_c, ⟨⟨by decide, by decide⟩, by decide +kernel⟩, by decide⟩
theorem eJ6_checkIndex_6 : dc cJ6_checkIndex 6 (.ireturn) 1 7 := ⟨by decide +kernel, rfl⟩
set_option maxHeartbeats 8000000 in
theorem ctJ6_checkIndex (l : Launch) : Ct l yJ6_checkIndex (.code yJ6_checkIndex cJ6_checkIndex 2 (some .int)) 2 spJ6_checkIndex := by
  refine Ct.of (own := RJ6) (nm := "checkIndex") (by decide) rfl rfl ?_
  rintro X av T I L R uc us rfl g hN hu hz ⟨i, n, rfl, hi, hn, hk⟩
  refine VE.go (ls := [some (.int (nI i)), some (.int (nI n))]) g hu hz (fun _ => rfl) (fun _ => Nat.le_of_ble_eq_true rfl) ?_
  refine V_iload_0 g eJ6_checkIndex_0 ?_
  refine V_iload_1 g eJ6_checkIndex_1 ?_
  refine V_null g eJ6_checkIndex_2 ?_
  refine V_cs3 g (ctJ7_checkIndex _) eJ6_checkIndex_3 pkJ6_105 (by decide) (Nat.le_of_ble_eq_true rfl) ?_
  refine ⟨i, n, none, rfl, hi, hn, ?_⟩
  refine V_iret g eJ6_checkIndex_6 ?_
  exact hk
abbrev spJ2_get : Sp := fun av T I L R uc us k => ∃ (a e cap n j y : Nat), av = [.ref a, .int (nI j)] ∧ (T a).1 = 14 ∧ R a 1 = some e ∧ T e = (104, cap) ∧ I a 2 = nI n ∧ j < n ∧ n ≤ cap ∧ cap < 100000 ∧ R e j = some y ∧ k (.inl (some (.ref y))) T I L R uc us
theorem eJ2_get_0 : dc cJ2_get 0 (.iload_n 1) 1 1 := ⟨by decide +kernel, rfl⟩
theorem eJ2_get_1 : dc cJ2_get 1 (.aload_n 0) 1 2 := ⟨by decide +kernel, rfl⟩
theorem eJ2_get_2 : dc cJ2_get 2 (.getfield 48) 3 5 := ⟨by decide +kernel, rfl⟩
theorem eJ2_get_5 : dc cJ2_get 5 (.invokestatic 118) 3 8 := ⟨by decide +kernel, rfl⟩
theorem pkJ2_118 : PkS RJ2 118 yJ6_checkIndex (.code yJ6_checkIndex cJ6_checkIndex 2 (some .int)) 2 2 := ⟨cwd_c, (lk q445), (lk q443), (lk q444), (lk q75), nmd_c, ⟨⟨by decide, by decide⟩, by decide +kernel⟩, by decide⟩
theorem eJ2_get_8 : dc cJ2_get 8 (.pop) 1 9 := ⟨by decide +kernel, rfl⟩
theorem eJ2_get_9 : dc cJ2_get 9 (.aload_n 0) 1 10 := ⟨by decide +kernel, rfl⟩
theorem eJ2_get_10 : dc cJ2_get 10 (.iload_n 1) 1 11 := ⟨by decide +kernel, rfl⟩
theorem eJ2_get_11 : dc cJ2_get 11 (.invokevirtual 123) 3 14 := ⟨by decide +kernel, rfl⟩
theorem pkJ2_123 : PkV RJ2 123 yJ2_elementData (.code yJ2_elementData cJ2_elementData 2 (some (.object "java/lang/Object"))) 2 "java/util/ArrayList" 1 := ⟨cwd_c, (lk q452), Or.inl (lk q449), (lk q450), (lk q451), ⟨⟨by decide, by decide⟩, by decide +kernel⟩, (lk q64), by decide⟩
theorem eJ2_get_14 : dc cJ2_get 14 (.areturn) 1 15 := ⟨by decide +kernel, rfl⟩
set_option maxHeartbeats 8000000 in
theorem ctJ2_get (l : Launch) : Ct l yJ2_get (.code yJ2_get cJ2_get 2 (some (.object "java/lang/Object"))) 3 spJ2_get := by
  refine Ct.of (own := RJ2) (nm := "get") (by decide) rfl rfl ?_
  rintro X av T I L R uc us rfl g hN hu hz ⟨a, e, cap, n, j, y, rfl, hT, hR, hE, hn, hj, hnc, hcap, hy, hk⟩
  refine VE.go (ls := [some (.ref a), some (.int (nI j))]) g hu hz (fun _ => rfl) (fun _ => Nat.le_of_ble_eq_true rfl) ?_
  refine V_iload_1 g eJ2_get_0 ?_
  refine V_aload_0 g eJ2_get_1 ?_
  refine V_getI g eJ2_get_2 flJ2_48 hT rfl ?_
  refine V_top (y := nI n) hn ?_
  refine V_cs2 g (ctJ6_checkIndex _) eJ2_get_5 pkJ2_118 (by decide) (Nat.le_of_ble_eq_true rfl) ?_
  refine ⟨j, n, rfl, hj, by omega, ?_⟩
  refine V_pop g eJ2_get_8 rfl ?_
  refine V_aload_0 g eJ2_get_9 ?_
  refine V_iload_1 g eJ2_get_10 ?_
  refine V_cv1 g (ctJ2_elementData _) eJ2_get_11 pkJ2_123 hT rfl (by decide) (by decide) (Nat.le_of_ble_eq_true rfl) ?_
  refine ⟨a, e, cap, j, y, rfl, hT, hR, hE, by omega, hcap, hy, ?_⟩
  refine V_aret g eJ2_get_14 (Or.inl ⟨_, rfl⟩) (Or.inr ⟨_, rfl⟩) ?_
  exact hk
theorem mxN {a b : Nat} (ha : a < 2 ^ 31) (hb : b < 2 ^ 31) : (if nI a < nI b then nI b else nI a) = nI (max a b) := by
  by_cases h : a < b
  · rw [if_pos (nI_lt h hb), Nat.max_eq_right (by omega)]
  · rw [if_neg (nI_nlt (by omega) ha), Nat.max_eq_left (by omega)]
theorem miN {a b : Nat} (ha : a < 2 ^ 31) (hb : b < 2 ^ 31) : (if nI b < nI a then nI b else nI a) = nI (min a b) := by
  by_cases h : b < a
  · rw [if_pos (nI_lt h ha), Nat.min_eq_right (by omega)]
  · rw [if_neg (nI_nlt (by omega) hb), Nat.min_eq_left (by omega)]
abbrev spJ3_newLength : Sp := fun av T I L R uc us k => ∃ (a b c : Nat), av = [.int (nI a), .int (nI b), .int (nI c)] ∧ 0 < a + max b c ∧ a < 1000000 ∧ b < 1000000 ∧ c < 1000000 ∧ k (.inl (some (.int (nI (a + max b c))))) T I L R uc us
theorem eJ3_newLength_0 : dc cJ3_newLength 0 (.iload_n 0) 1 1 := ⟨by decide +kernel, rfl⟩
theorem eJ3_newLength_1 : dc cJ3_newLength 1 (.iload_n 1) 1 2 := ⟨by decide +kernel, rfl⟩
theorem eJ3_newLength_2 : dc cJ3_newLength 2 (.iload_n 2) 1 3 := ⟨by decide +kernel, rfl⟩
theorem eJ3_newLength_3 : dc cJ3_newLength 3 (.invokestatic 194) 3 6 := ⟨by decide +kernel, rfl⟩
theorem eJ3_newLength_6 : dc cJ3_newLength 6 (.iadd) 1 7 := ⟨by decide +kernel, rfl⟩
theorem eJ3_newLength_7 : dc cJ3_newLength 7 (.istore_n 3) 1 8 := ⟨by decide +kernel, rfl⟩
theorem eJ3_newLength_8 : dc cJ3_newLength 8 (.iconst 0) 1 9 := ⟨by decide +kernel, rfl⟩
theorem eJ3_newLength_9 : dc cJ3_newLength 9 (.iload_n 3) 1 10 := ⟨by decide +kernel, rfl⟩
theorem eJ3_newLength_10 : dj cJ3_newLength 10 (.if_icmp .ge 11) 11 21 13 := ⟨by decide +kernel, by decide, rfl⟩
theorem eJ3_newLength_13 : dc cJ3_newLength 13 (.iload_n 3) 1 14 := ⟨by decide +kernel, rfl⟩
theorem eJ3_newLength_14 : dc cJ3_newLength 14 (.ldc 200) 2 16 := ⟨by decide +kernel, rfl⟩
theorem eJ3_newLength_16 : dj cJ3_newLength 16 (.if_icmp .gt 5) 5 21 19 := ⟨by decide +kernel, by decide, rfl⟩
theorem eJ3_newLength_19 : dc cJ3_newLength 19 (.iload_n 3) 1 20 := ⟨by decide +kernel, rfl⟩
theorem eJ3_newLength_20 : dc cJ3_newLength 20 (.ireturn) 1 21 := ⟨by decide +kernel, rfl⟩
set_option maxHeartbeats 8000000 in
theorem ctJ3_newLength (l : Launch) : Ct l yJ3_newLength (.code yJ3_newLength cJ3_newLength 4 (some .int)) 2 spJ3_newLength := by
  refine Ct.of (own := RJ3) (nm := "newLength") (by decide) rfl rfl ?_
  rintro X av T I L R uc us rfl g hN hu hz ⟨a, b, c, rfl, h0, ha, hb, hc, hk⟩
  refine VE.go (ls := [some (.int (nI a)), some (.int (nI b)), some (.int (nI c)), none]) g hu hz (fun _ => rfl) (fun _ => Nat.le_of_ble_eq_true rfl) ?_
  have hm : max b c < 1000000 := by omega
  refine V_iload_0 g eJ3_newLength_0 ?_
  refine V_iload_1 g eJ3_newLength_1 ?_
  refine V_iload_2 g eJ3_newLength_2 ?_
  refine V_mmax g eJ3_newLength_3 (lk q378) (by decide) (Nat.le_of_ble_eq_true rfl) ?_
  rw [mxN (by omega) (by omega)]
  refine V_iaddN g eJ3_newLength_6 ?_
  refine V_istore_3 g eJ3_newLength_7 (by decide) rfl ?_
  refine V_iconst (v := 0) g eJ3_newLength_8 (by decide) ?_
  refine V_iload_3 g eJ3_newLength_9 ?_
  refine V_icmp_ge g eJ3_newLength_10 (fun c_10 => absurd c_10 (by show ¬ nI (a + max b c) ≤ 0; exact nI_nle h0 (by omega))) (fun _ => ?_)
  refine V_iload_3 g eJ3_newLength_13 ?_
  refine V_ldc g eJ3_newLength_14 (lk q381) ?_
  refine V_icmp_gt g eJ3_newLength_16 (fun c_16 => absurd c_16 (by show ¬ nI 2147483639 < nI (a + max b c); exact nI_nlt (by omega) (by decide))) (fun _ => ?_)
  refine V_iload_3 g eJ3_newLength_19 ?_
  refine V_iret g eJ3_newLength_20 ?_
  exact hk
abbrev spJ5_copyOf_2 : Sp := fun av T I L R uc us k => ∃ (a n N : Nat), av = [.ref a, .int (nI N), .ref sM] ∧ T a = (104, n) ∧ n ≤ N ∧ N < 100000 ∧ (∀ j y, j < n → R a j = some y → (T y).1 < 17) ∧ uc + 1 ≤ 600000 ∧ us + N ≤ 7293034 ∧ ((T uc).1 = 99 → k (.inl (some (.ref uc))) (va_up T uc (104, N)) (va_up I uc fun _ => 0) (va_up L uc fun _ => 0) (va_up R uc (va_cpy (R a) (fun _ => none) 0 0 n)) (uc + 1) (us + N))
theorem eJ5_copyOf_2_0 : dc cJ5_copyOf_2 0 (.aload_n 2) 1 1 := ⟨by decide +kernel, rfl⟩
theorem eJ5_copyOf_2_1 : dc cJ5_copyOf_2 1 (.ldc 110) 2 3 := ⟨by decide +kernel, rfl⟩
theorem eJ5_copyOf_2_3 : dj cJ5_copyOf_2 3 (.if_acmp .ne 10) 10 13 6 := ⟨by decide +kernel, by decide, rfl⟩
theorem eJ5_copyOf_2_6 : dc cJ5_copyOf_2 6 (.iload_n 1) 1 7 := ⟨by decide +kernel, rfl⟩
theorem eJ5_copyOf_2_7 : dc cJ5_copyOf_2 7 (.anewarray 2) 3 10 := ⟨by decide +kernel, rfl⟩
theorem eJ5_copyOf_2_10 : dj cJ5_copyOf_2 10 (.goto 14) 14 24 13 := ⟨by decide +kernel, by decide, rfl⟩
theorem eJ5_copyOf_2_24 : dc cJ5_copyOf_2 24 (.astore_n 3) 1 25 := ⟨by decide +kernel, rfl⟩
theorem eJ5_copyOf_2_25 : dc cJ5_copyOf_2 25 (.aload_n 0) 1 26 := ⟨by decide +kernel, rfl⟩
theorem eJ5_copyOf_2_26 : dc cJ5_copyOf_2 26 (.iconst 0) 1 27 := ⟨by decide +kernel, rfl⟩
theorem eJ5_copyOf_2_27 : dc cJ5_copyOf_2 27 (.aload_n 3) 1 28 := ⟨by decide +kernel, rfl⟩
theorem eJ5_copyOf_2_28 : dc cJ5_copyOf_2 28 (.iconst 0) 1 29 := ⟨by decide +kernel, rfl⟩
theorem eJ5_copyOf_2_29 : dc cJ5_copyOf_2 29 (.aload_n 0) 1 30 := ⟨by decide +kernel, rfl⟩
theorem eJ5_copyOf_2_30 : dc cJ5_copyOf_2 30 (.arraylength) 1 31 := ⟨by decide +kernel, rfl⟩
theorem eJ5_copyOf_2_31 : dc cJ5_copyOf_2 31 (.iload_n 1) 1 32 := ⟨by decide +kernel, rfl⟩
theorem eJ5_copyOf_2_32 : dc cJ5_copyOf_2 32 (.invokestatic 304) 3 35 := ⟨by decide +kernel, rfl⟩
theorem eJ5_copyOf_2_35 : dc cJ5_copyOf_2 35 (.invokestatic 150) 3 38 := ⟨by decide +kernel, rfl⟩
theorem eJ5_copyOf_2_38 : dc cJ5_copyOf_2 38 (.aload_n 3) 1 39 := ⟨by decide +kernel, rfl⟩
theorem eJ5_copyOf_2_39 : dc cJ5_copyOf_2 39 (.areturn) 1 40 := ⟨by decide +kernel, rfl⟩
set_option maxHeartbeats 8000000 in
theorem ctJ5_copyOf_2 (l : Launch) : Ct l yJ5_copyOf_2 (.code yJ5_copyOf_2 cJ5_copyOf_2 4 (some (.array (.object "java/lang/Object")))) 2 spJ5_copyOf_2 := by
  refine Ct.of (own := RJ5) (nm := "copyOf") (by decide) rfl rfl ?_
  rintro X av T I L R uc us rfl g hN hu hz ⟨a, n, N, rfl, hT, hnN, hN, hel, huc, hus, hk⟩
  refine VE.go (ls := [some (.ref a), some (.int (nI N)), some (.ref sM), none]) g hu hz (fun _ => rfl) (fun _ => Nat.le_of_ble_eq_true rfl) ?_
  refine V_aload_2 g eJ5_copyOf_2_0 ?_
  refine V_ldcM g eJ5_copyOf_2_1 (lk q412) ?_
  refine V_acmp_neS g eJ5_copyOf_2_3 ?_
  refine V_iload_1 g eJ5_copyOf_2_6 ?_
  refine V_newq (N := N) g eJ5_copyOf_2_7 (lk q413) (by omega) (by omega) (by omega) (fun hd_7 => ?_)
  refine V_goto g eJ5_copyOf_2_10 ?_
  have hne : a ≠ uc := ne_of99 hd_7 (by rw [hT]; show 104 ≠ 99; decide)
  have hTa : va_up T uc (104, N) a = (104, n) := by rw [va_up_ne _ _ hne]; exact hT
  refine V_astore_3 g eJ5_copyOf_2_24 (by decide) rfl ?_
  refine V_aload_0 g eJ5_copyOf_2_25 ?_
  refine V_iconst (v := nI 0) g eJ5_copyOf_2_26 (by decide) ?_
  refine V_aload_3 g eJ5_copyOf_2_27 ?_
  refine V_iconst (v := nI 0) g eJ5_copyOf_2_28 (by decide) ?_
  refine V_aload_0 g eJ5_copyOf_2_29 ?_
  refine V_alen g eJ5_copyOf_2_30 hTa (by decide) ?_
  refine V_iload_1 g eJ5_copyOf_2_31 ?_
  refine V_mmin g eJ5_copyOf_2_32 (lk q414) (by decide) (Nat.le_of_ble_eq_true rfl) ?_
  rw [miN (by omega) (by omega), Nat.min_eq_left hnN]
  refine V_copyR g eJ5_copyOf_2_35 (lk q417) hTa (va_up_self _ _ _) (by omega) (by omega) (by omega) (by omega) (fun i y hi hy => by rw [va_up_ne _ _ hne] at hy; rw [Nat.zero_add] at hy; have := hel i y hi hy; rw [va_up_ne _ _ (ne_of99 hd_7 (by omega))]; exact this) (by decide) (Nat.le_of_ble_eq_true rfl) ?_
  refine V_aload_3 g eJ5_copyOf_2_38 ?_
  refine V_aret g eJ5_copyOf_2_39 (Or.inr ⟨_, rfl⟩) (Or.inr ⟨_, rfl⟩) ?_
  have := hk hd_7
  rw [bx_uu, va_up_ne _ _ hne, va_up_self]
  exact this
abbrev spJ5_copyOf : Sp := fun av T I L R uc us k => ∃ (a n N : Nat), av = [.ref a, .int (nI N)] ∧ T a = (104, n) ∧ n ≤ N ∧ N < 100000 ∧ (∀ j y, j < n → R a j = some y → (T y).1 < 17) ∧ uc + 1 ≤ 600000 ∧ us + N ≤ 7293034 ∧ ((T uc).1 = 99 → k (.inl (some (.ref uc))) (va_up T uc (104, N)) (va_up I uc fun _ => 0) (va_up L uc fun _ => 0) (va_up R uc (va_cpy (R a) (fun _ => none) 0 0 n)) (uc + 1) (us + N))
theorem eJ5_copyOf_0 : dc cJ5_copyOf 0 (.aload_n 0) 1 1 := ⟨by decide +kernel, rfl⟩
theorem eJ5_copyOf_1 : dc cJ5_copyOf 1 (.iload_n 1) 1 2 := ⟨by decide +kernel, rfl⟩
theorem eJ5_copyOf_2 : dc cJ5_copyOf 2 (.aload_n 0) 1 3 := ⟨by decide +kernel, rfl⟩
theorem eJ5_copyOf_3 : dc cJ5_copyOf 3 (.invokevirtual 86) 3 6 := ⟨by decide +kernel, rfl⟩
theorem eJ5_copyOf_6 : dc cJ5_copyOf 6 (.invokestatic 300) 3 9 := ⟨by decide +kernel, rfl⟩
theorem pkJ5_300 : PkS RJ5 300 yJ5_copyOf_2 (.code yJ5_copyOf_2 cJ5_copyOf_2 4 (some (.array (.object "java/lang/Object")))) 4 3 := ⟨cwd_c, (lk q411), (lk q409), (lk q410), (lk q72), nmd_c, ⟨⟨by decide, by decide⟩, by decide +kernel⟩, by decide⟩
theorem eJ5_copyOf_9 : dc cJ5_copyOf 9 (.areturn) 1 10 := ⟨by decide +kernel, rfl⟩
set_option maxHeartbeats 8000000 in
theorem ctJ5_copyOf (l : Launch) : Ct l yJ5_copyOf (.code yJ5_copyOf cJ5_copyOf 2 (some (.array (.object "java/lang/Object")))) 3 spJ5_copyOf := by
  refine Ct.of (own := RJ5) (nm := "copyOf") (by decide) rfl rfl ?_
  rintro X av T I L R uc us rfl g hN hu hz ⟨a, n, N, rfl, hT, hnN, hN, hel, huc, hus, hk⟩
  refine VE.go (ls := [some (.ref a), some (.int (nI N))]) g hu hz (fun _ => rfl) (fun _ => Nat.le_of_ble_eq_true rfl) ?_
  refine V_aload_0 g eJ5_copyOf_0 ?_
  refine V_iload_1 g eJ5_copyOf_1 ?_
  refine V_aload_0 g eJ5_copyOf_2 ?_
  refine V_getC g eJ5_copyOf_3 hT (lk q388) (by decide) (Nat.le_of_ble_eq_true rfl) ?_
  refine V_cs3 g (ctJ5_copyOf_2 _) eJ5_copyOf_6 pkJ5_300 (by decide) (Nat.le_of_ble_eq_true rfl) ?_
  refine ⟨a, n, N, rfl, hT, hnN, hN, hel, huc, hus, fun h99 => ?_⟩
  have hk := hk h99
  refine V_aret g eJ5_copyOf_9 (Or.inr ⟨_, rfl⟩) (Or.inr ⟨_, rfl⟩) ?_
  exact hk
/-- how an ArrayList of n places grows -/
def gcap (n : Nat) : Nat := n + max 1 (n / 2)
abbrev spJ2_grow_2 : Sp := fun av T I L R uc us k => ∃ (a e cap : Nat), av = [.ref a, .int (nI (cap + 1))] ∧ (T a).1 = 14 ∧ R a 1 = some e ∧ T e = (104, cap) ∧ 0 < cap ∧ cap < 50000 ∧ (∀ j y, j < cap → R e j = some y → (T y).1 < 17) ∧ uc + 1 ≤ 600000 ∧ us + gcap cap ≤ 7293034 ∧ ((T uc).1 = 99 → k (.inl (some (.ref uc))) (va_up T uc (104, gcap cap)) (va_up I uc fun _ => 0) (va_up L uc fun _ => 0) (u2 (va_up R uc (va_cpy (R e) (fun _ => none) 0 0 cap)) a 1 (some uc)) (uc + 1) (us + gcap cap))
theorem eJ2_grow_2_0 : dc cJ2_grow_2 0 (.aload_n 0) 1 1 := ⟨by decide +kernel, rfl⟩
theorem eJ2_grow_2_1 : dc cJ2_grow_2 1 (.getfield 9) 3 4 := ⟨by decide +kernel, rfl⟩
theorem eJ2_grow_2_4 : dc cJ2_grow_2 4 (.arraylength) 1 5 := ⟨by decide +kernel, rfl⟩
theorem eJ2_grow_2_5 : dc cJ2_grow_2 5 (.istore_n 2) 1 6 := ⟨by decide +kernel, rfl⟩
theorem eJ2_grow_2_6 : dc cJ2_grow_2 6 (.iload_n 2) 1 7 := ⟨by decide +kernel, rfl⟩
theorem eJ2_grow_2_7 : dj cJ2_grow_2 7 (.ifCond .gt 13) 13 20 10 := ⟨by decide +kernel, by decide, rfl⟩
theorem eJ2_grow_2_20 : dc cJ2_grow_2 20 (.iload_n 2) 1 21 := ⟨by decide +kernel, rfl⟩
theorem eJ2_grow_2_21 : dc cJ2_grow_2 21 (.iload_n 1) 1 22 := ⟨by decide +kernel, rfl⟩
theorem eJ2_grow_2_22 : dc cJ2_grow_2 22 (.iload_n 2) 1 23 := ⟨by decide +kernel, rfl⟩
theorem eJ2_grow_2_23 : dc cJ2_grow_2 23 (.isub) 1 24 := ⟨by decide +kernel, rfl⟩
theorem eJ2_grow_2_24 : dc cJ2_grow_2 24 (.iload_n 2) 1 25 := ⟨by decide +kernel, rfl⟩
theorem eJ2_grow_2_25 : dc cJ2_grow_2 25 (.iconst 1) 1 26 := ⟨by decide +kernel, rfl⟩
theorem eJ2_grow_2_26 : dc cJ2_grow_2 26 (.ishr) 1 27 := ⟨by decide +kernel, rfl⟩
theorem eJ2_grow_2_27 : dc cJ2_grow_2 27 (.invokestatic 73) 3 30 := ⟨by decide +kernel, rfl⟩
theorem pkJ2_73 : PkS RJ2 73 yJ3_newLength (.code yJ3_newLength cJ3_newLength 4 (some .int)) 4 3 := ⟨cwd_c, (lk q377), (lk q375), (lk q376), (lk q70), nmd_c, ⟨⟨by decide, by decide⟩, by decide +kernel⟩, by decide⟩
theorem eJ2_grow_2_30 : dc cJ2_grow_2 30 (.istore_n 3) 1 31 := ⟨by decide +kernel, rfl⟩
theorem eJ2_grow_2_31 : dc cJ2_grow_2 31 (.aload_n 0) 1 32 := ⟨by decide +kernel, rfl⟩
theorem eJ2_grow_2_32 : dc cJ2_grow_2 32 (.aload_n 0) 1 33 := ⟨by decide +kernel, rfl⟩
theorem eJ2_grow_2_33 : dc cJ2_grow_2 33 (.getfield 9) 3 36 := ⟨by decide +kernel, rfl⟩
theorem eJ2_grow_2_36 : dc cJ2_grow_2 36 (.iload_n 3) 1 37 := ⟨by decide +kernel, rfl⟩
theorem eJ2_grow_2_37 : dc cJ2_grow_2 37 (.invokestatic 66) 3 40 := ⟨by decide +kernel, rfl⟩
theorem pkJ2_66 : PkS RJ2 66 yJ5_copyOf (.code yJ5_copyOf cJ5_copyOf 2 (some (.array (.object "java/lang/Object")))) 2 2 := ⟨cwd_c, (lk q387), (lk q385), (lk q386), (lk q72), nmd_c, ⟨⟨by decide, by decide⟩, by decide +kernel⟩, by decide⟩
theorem eJ2_grow_2_40 : dc cJ2_grow_2 40 (.dup_x1) 1 41 := ⟨by decide +kernel, rfl⟩
theorem eJ2_grow_2_41 : dc cJ2_grow_2 41 (.putfield 9) 3 44 := ⟨by decide +kernel, rfl⟩
theorem eJ2_grow_2_44 : dc cJ2_grow_2 44 (.areturn) 1 45 := ⟨by decide +kernel, rfl⟩
set_option maxHeartbeats 8000000 in
theorem ctJ2_grow_2 (l : Launch) : Ct l yJ2_grow_2 (.code yJ2_grow_2 cJ2_grow_2 4 (some (.array (.object "java/lang/Object")))) 4 spJ2_grow_2 := by
  refine Ct.of (own := RJ2) (nm := "grow") (by decide) rfl rfl ?_
  rintro X av T I L R uc us rfl g hN hu hz ⟨a, e, cap, rfl, hT, hR, hE, h0, hcap, hel, huc, hus, hk⟩
  refine VE.go (ls := [some (.ref a), some (.int (nI (cap + 1))), none, none]) g hu hz (fun _ => rfl) (fun _ => Nat.le_of_ble_eq_true rfl) ?_
  have hg : gcap cap < 100000 := by unfold gcap; omega
  refine V_aload_0 g eJ2_grow_2_0 ?_
  refine V_getR g eJ2_grow_2_1 flJ2_9 hT rfl hR ?_
  refine V_alen g eJ2_grow_2_4 hE (by decide) ?_
  refine V_istore_2 g eJ2_grow_2_5 (by decide) rfl ?_
  refine V_iload_2 g eJ2_grow_2_6 ?_
  refine V_if_gt g eJ2_grow_2_7 (fun _ => ?_) (fun c_7 => absurd c_7 (fun q => q (nI_lt (a := 0) h0 (by omega))))
  refine V_iload_2 g eJ2_grow_2_20 ?_
  refine V_iload_1 g eJ2_grow_2_21 ?_
  refine V_iload_2 g eJ2_grow_2_22 ?_
  refine V_isubN g eJ2_grow_2_23 (by omega) ?_
  refine V_iload_2 g eJ2_grow_2_24 ?_
  refine V_iconst (v := 1) g eJ2_grow_2_25 (by decide) ?_
  refine V_ishr g eJ2_grow_2_26 ?_
  refine V_top (y := nI (cap / 2)) (by have := pk_shrN (n := cap) (by omega) (1 &&& 31) 1 (by decide); rw [this]) ?_
  refine V_cs3 g (ctJ3_newLength _) eJ2_grow_2_27 pkJ2_73 (by decide) (Nat.le_of_ble_eq_true rfl) ?_
  refine ⟨cap, cap + 1 - cap, cap / 2, rfl, by omega, by omega, by omega, by omega, ?_⟩
  rw [show cap + max (cap + 1 - cap) (cap / 2) = gcap cap by unfold gcap; rw [Nat.add_sub_cancel_left]]
  refine V_istore_3 g eJ2_grow_2_30 (by decide) rfl ?_
  refine V_aload_0 g eJ2_grow_2_31 ?_
  refine V_aload_0 g eJ2_grow_2_32 ?_
  refine V_getR g eJ2_grow_2_33 flJ2_9 hT rfl hR ?_
  refine V_iload_3 g eJ2_grow_2_36 ?_
  refine V_cs2 g (ctJ5_copyOf _) eJ2_grow_2_37 pkJ2_66 (by decide) (Nat.le_of_ble_eq_true rfl) ?_
  refine ⟨e, cap, gcap cap, rfl, hE, by unfold gcap; omega, hg, hel, huc, hus, fun h99 => ?_⟩
  have hk := hk h99
  refine V_dup_x1 g eJ2_grow_2_40 rfl rfl ?_
  refine V_putR (r := some _) g eJ2_grow_2_41 pflJ2_9 (by rw [va_up_ne _ _ (ne_of99 h99 (by rw [hT]; decide))]; exact hT) rfl rfl ?_
  refine V_aret g eJ2_grow_2_44 (Or.inr ⟨_, rfl⟩) (Or.inr ⟨_, rfl⟩) ?_
  exact hk
abbrev spJ2_grow : Sp := fun av T I L R uc us k => ∃ (a e cap : Nat), av = [.ref a] ∧ (T a).1 = 14 ∧ I a 2 = nI cap ∧ R a 1 = some e ∧ T e = (104, cap) ∧ 0 < cap ∧ cap < 50000 ∧ (∀ j y, j < cap → R e j = some y → (T y).1 < 17) ∧ uc + 1 ≤ 600000 ∧ us + gcap cap ≤ 7293034 ∧ ((T uc).1 = 99 → k (.inl (some (.ref uc))) (va_up T uc (104, gcap cap)) (va_up I uc fun _ => 0) (va_up L uc fun _ => 0) (u2 (va_up R uc (va_cpy (R e) (fun _ => none) 0 0 cap)) a 1 (some uc)) (uc + 1) (us + gcap cap))
theorem eJ2_grow_0 : dc cJ2_grow 0 (.aload_n 0) 1 1 := ⟨by decide +kernel, rfl⟩
theorem eJ2_grow_1 : dc cJ2_grow 1 (.aload_n 0) 1 2 := ⟨by decide +kernel, rfl⟩
theorem eJ2_grow_2 : dc cJ2_grow 2 (.getfield 48) 3 5 := ⟨by decide +kernel, rfl⟩
theorem eJ2_grow_5 : dc cJ2_grow 5 (.iconst 1) 1 6 := ⟨by decide +kernel, rfl⟩
theorem eJ2_grow_6 : dc cJ2_grow 6 (.iadd) 1 7 := ⟨by decide +kernel, rfl⟩
theorem eJ2_grow_7 : dc cJ2_grow 7 (.invokevirtual 69) 3 10 := ⟨by decide +kernel, rfl⟩
theorem pkJ2_69 : PkV RJ2 69 yJ2_grow_2 (.code yJ2_grow_2 cJ2_grow_2 4 (some (.array (.object "java/lang/Object")))) 4 "java/util/ArrayList" 1 := ⟨cwd_c, (lk q372), Or.inl (lk q369), (lk q371), (lk qs4), ⟨⟨by decide, by decide⟩, by decide +kernel⟩, (lk q64), by decide⟩
theorem eJ2_grow_10 : dc cJ2_grow 10 (.areturn) 1 11 := ⟨by decide +kernel, rfl⟩
set_option maxHeartbeats 8000000 in
theorem ctJ2_grow (l : Launch) : Ct l yJ2_grow (.code yJ2_grow cJ2_grow 1 (some (.array (.object "java/lang/Object")))) 5 spJ2_grow := by
  refine Ct.of (own := RJ2) (nm := "grow") (by decide) rfl rfl ?_
  rintro X av T I L R uc us rfl g hN hu hz ⟨a, e, cap, rfl, hT, hI, hR, hE, h0, hcap, hel, huc, hus, hk⟩
  refine VE.go (ls := [some (.ref a)]) g hu hz (fun _ => rfl) (fun _ => Nat.le_of_ble_eq_true rfl) ?_
  refine V_aload_0 g eJ2_grow_0 ?_
  refine V_aload_0 g eJ2_grow_1 ?_
  refine V_getI g eJ2_grow_2 flJ2_48 hT rfl ?_
  refine V_top (y := nI cap) hI ?_
  refine V_iconst (v := 1) g eJ2_grow_5 (by decide) ?_
  refine V_iaddN (b := 1) g eJ2_grow_6 ?_
  refine V_cv1 g (ctJ2_grow_2 _) eJ2_grow_7 pkJ2_69 hT rfl (by decide) (by decide) (Nat.le_of_ble_eq_true rfl) ?_
  refine ⟨a, e, cap, rfl, hT, hR, hE, h0, hcap, hel, huc, hus, fun h99 => ?_⟩
  have hk := hk h99
  refine V_aret g eJ2_grow_10 (Or.inr ⟨_, rfl⟩) (Or.inr ⟨_, rfl⟩) ?_
  exact hk
/-- a list of n objects at e, of cap places -/
def LSt (T : Tt) (I : It) (R : Rt) (l e cap n : Nat) (f : Nat → Nat) : Prop := (T l).1 = 14 ∧ I l 2 = nI n ∧ R l 1 = some e ∧ T e = (104, cap) ∧ 0 < cap ∧ cap < 50000 ∧ n ≤ cap ∧ (∀ j, j < n → R e j = some (f j) ∧ (T (f j)).1 < 17) ∧ ∀ j, n ≤ j → R e j = none
theorem LSt.el {T : Tt} {I : It} {R : Rt} {l e cap n : Nat} {f : Nat → Nat} (h : LSt T I R l e cap n f) : ∀ j y, j < cap → R e j = some y → (T y).1 < 17 := by
  intro j y _ hy
  rcases Nat.lt_or_ge j n with q | q
  · have := h.2.2.2.2.2.2.2.1 j q
    rw [this.1] at hy
    cases hy
    exact this.2
  · rw [h.2.2.2.2.2.2.2.2 j q] at hy; cases hy
abbrev spJ2_add_2 : Sp := fun av T I L R uc us k => ∃ (l e cap n y : Nat) (f : Nat → Nat), av = [.ref l, .ref y, .ref e, .int (nI n)] ∧ LSt T I R l e cap n f ∧ (T y).1 < 17 ∧ uc + 1 ≤ 600000 ∧ us + gcap cap ≤ 7293034 ∧ (n < cap → k (.inl none) T (u2 I l 2 (nI (n + 1))) L (u2 R e n (some y)) uc us) ∧ (n = cap → (T uc).1 = 99 → k (.inl none) (va_up T uc (104, gcap cap)) (u2 (va_up I uc fun _ => 0) l 2 (nI (n + 1))) (va_up L uc fun _ => 0) (u2 (u2 (va_up R uc (va_cpy (R e) (fun _ => none) 0 0 cap)) l 1 (some uc)) uc n (some y)) (uc + 1) (us + gcap cap))
theorem eJ2_add_2_11 : dc cJ2_add_2 11 (.aload_n 2) 1 12 := ⟨by decide +kernel, rfl⟩
theorem eJ2_add_2_12 : dc cJ2_add_2 12 (.iload_n 3) 1 13 := ⟨by decide +kernel, rfl⟩
theorem eJ2_add_2_13 : dc cJ2_add_2 13 (.aload_n 1) 1 14 := ⟨by decide +kernel, rfl⟩
theorem eJ2_add_2_14 : dc cJ2_add_2 14 (.aastore) 1 15 := ⟨by decide +kernel, rfl⟩
theorem eJ2_add_2_15 : dc cJ2_add_2 15 (.aload_n 0) 1 16 := ⟨by decide +kernel, rfl⟩
theorem eJ2_add_2_16 : dc cJ2_add_2 16 (.iload_n 3) 1 17 := ⟨by decide +kernel, rfl⟩
theorem eJ2_add_2_17 : dc cJ2_add_2 17 (.iconst 1) 1 18 := ⟨by decide +kernel, rfl⟩
theorem eJ2_add_2_18 : dc cJ2_add_2 18 (.iadd) 1 19 := ⟨by decide +kernel, rfl⟩
theorem eJ2_add_2_19 : dc cJ2_add_2 19 (.putfield 48) 3 22 := ⟨by decide +kernel, rfl⟩
theorem pflJ2_48 {nm : String} : (FL RJ2 48 14 2 ∧ FN 14 2) ∨ (FF RJ2 48 14 2 ∧ nm = "<init>") := Or.inl ⟨flJ2_48, fun C Tb N h => by cases h; rfl⟩
theorem eJ2_add_2_22 : dc cJ2_add_2 22 (.return_) 1 23 := ⟨by decide +kernel, rfl⟩
theorem eJ2_add_2_0 : dc cJ2_add_2 0 (.iload_n 3) 1 1 := ⟨by decide +kernel, rfl⟩
theorem eJ2_add_2_1 : dc cJ2_add_2 1 (.aload_n 2) 1 2 := ⟨by decide +kernel, rfl⟩
theorem eJ2_add_2_2 : dc cJ2_add_2 2 (.arraylength) 1 3 := ⟨by decide +kernel, rfl⟩
theorem eJ2_add_2_3 : dj cJ2_add_2 3 (.if_icmp .ne 8) 8 11 6 := ⟨by decide +kernel, by decide, rfl⟩
theorem eJ2_add_2_6 : dc cJ2_add_2 6 (.aload_n 0) 1 7 := ⟨by decide +kernel, rfl⟩
theorem eJ2_add_2_7 : dc cJ2_add_2 7 (.invokevirtual 129) 3 10 := ⟨by decide +kernel, rfl⟩
theorem pkJ2_129 : PkV RJ2 129 yJ2_grow (.code yJ2_grow cJ2_grow 1 (some (.array (.object "java/lang/Object")))) 1 "java/util/ArrayList" 0 := ⟨cwd_c, (lk q368), Or.inl (lk q365), (lk q367), (lk qs3), ⟨⟨by decide, by decide⟩, by decide +kernel⟩, (lk q64), by decide⟩
theorem eJ2_add_2_10 : dc cJ2_add_2 10 (.astore_n 2) 1 11 := ⟨by decide +kernel, rfl⟩
set_option maxHeartbeats 8000000 in
theorem ctJ2_add_2 (l : Launch) : Ct l yJ2_add_2 (.code yJ2_add_2 cJ2_add_2 4 none) 6 spJ2_add_2 := by
  refine Ct.of (own := RJ2) (nm := "add") (by decide) rfl rfl ?_
  rintro X av T I L R uc us rfl g hN hu hz ⟨l, e, cap, n, y, f, rfl, hLS, hy, huc, hus, hk1, hk2⟩
  refine VE.go (ls := [some (.ref l), some (.ref y), some (.ref e), some (.int (nI n))]) g hu hz (fun _ => rfl) (fun _ => Nat.le_of_ble_eq_true rfl) ?_
  obtain ⟨hT, hI, hR, hE, h0, hcap, hnc, hf, hnn⟩ := hLS
  have hel := LSt.el (T := T) (I := I) (R := R) ⟨hT, hI, hR, hE, h0, hcap, hnc, hf, hnn⟩
  have hg : gcap cap < 100000 := by unfold gcap; omega
  have noGrow : n < cap → V X T I L R uc us 11 [some (.ref l), some (.ref y), some (.ref e), some (.int (nI n))] [] := by
    intro hlt
    refine V_aload_2 g eJ2_add_2_11 ?_
    refine V_iload_3 g eJ2_add_2_12 ?_
    refine V_aload_1 g eJ2_add_2_13 ?_
    refine V_aastN g eJ2_add_2_14 hE hlt (by omega) hy ?_
    refine V_aload_0 g eJ2_add_2_15 ?_
    refine V_iload_3 g eJ2_add_2_16 ?_
    refine V_iconst (v := 1) g eJ2_add_2_17 (by decide) ?_
    refine V_iaddN (b := 1) g eJ2_add_2_18 ?_
    refine V_putI g eJ2_add_2_19 pflJ2_48 hT rfl rfl rfl ?_
    refine V_vret g eJ2_add_2_22 ?_
    exact hk1 hlt
  refine V_iload_3 g eJ2_add_2_0 ?_
  refine V_aload_2 g eJ2_add_2_1 ?_
  refine V_alen g eJ2_add_2_2 hE (by decide) ?_
  refine V_icmp_ne g eJ2_add_2_3 (fun c_3 => ?_) (fun c_3 => ?_)
  · have hlt : n < cap := by have : n ≠ cap := fun q => c_3 (by rw [q]); omega
    exact noGrow hlt
  · obtain rfl : n = cap := nI_eq' (by omega) (by omega) c_3
    refine V_aload_0 g eJ2_add_2_6 ?_
    refine V_cv0 g (ctJ2_grow _) eJ2_add_2_7 pkJ2_129 hT rfl (by decide) (by decide) (Nat.le_of_ble_eq_true rfl) ?_
    refine ⟨l, e, n, rfl, hT, hI, hR, hE, h0, hcap, hel, huc, hus, fun h99 => ?_⟩
    have hk := hk2 rfl h99
    refine V_astore_2 g eJ2_add_2_10 (by decide) rfl ?_
    refine V_aload_2 g eJ2_add_2_11 ?_
    refine V_iload_3 g eJ2_add_2_12 ?_
    refine V_aload_1 g eJ2_add_2_13 ?_
    refine V_aastN g eJ2_add_2_14 (va_up_self _ _ _) (by unfold gcap; omega) (by omega) (by rw [va_up_ne _ _ (ne_of99 h99 (by omega))]; exact hy) ?_
    refine V_aload_0 g eJ2_add_2_15 ?_
    refine V_iload_3 g eJ2_add_2_16 ?_
    refine V_iconst (v := 1) g eJ2_add_2_17 (by decide) ?_
    refine V_iaddN (b := 1) g eJ2_add_2_18 ?_
    refine V_putI g eJ2_add_2_19 pflJ2_48 (by rw [va_up_ne _ _ (ne_of99 h99 (by rw [hT]; decide))]; exact hT) rfl rfl rfl ?_
    refine V_vret g eJ2_add_2_22 ?_
    exact hk
abbrev spJ2_add : Sp := fun av T I L R uc us k => ∃ (l e cap n y : Nat) (f : Nat → Nat), av = [.ref l, .ref y] ∧ LSt T I R l e cap n f ∧ (T y).1 < 17 ∧ uc + 1 ≤ 600000 ∧ us + gcap cap ≤ 7293034 ∧ (n < cap → k (.inl (some (.int 1))) T (u2 (u2 I l 0 (I l 0 + 1)) l 2 (nI (n + 1))) L (u2 R e n (some y)) uc us) ∧ (n = cap → (T uc).1 = 99 → k (.inl (some (.int 1))) (va_up T uc (104, gcap cap)) (u2 (va_up (u2 I l 0 (I l 0 + 1)) uc fun _ => 0) l 2 (nI (n + 1))) (va_up L uc fun _ => 0) (u2 (u2 (va_up R uc (va_cpy (R e) (fun _ => none) 0 0 cap)) l 1 (some uc)) uc n (some y)) (uc + 1) (us + gcap cap))
theorem eJ2_add_23 : dc cJ2_add 23 (.iconst 1) 1 24 := ⟨by decide +kernel, rfl⟩
theorem eJ2_add_24 : dc cJ2_add 24 (.ireturn) 1 25 := ⟨by decide +kernel, rfl⟩
theorem eJ2_add_0 : dc cJ2_add 0 (.aload_n 0) 1 1 := ⟨by decide +kernel, rfl⟩
theorem eJ2_add_1 : dc cJ2_add 1 (.dup) 1 2 := ⟨by decide +kernel, rfl⟩
theorem eJ2_add_2 : dc cJ2_add 2 (.getfield 63) 3 5 := ⟨by decide +kernel, rfl⟩
theorem flJ2_63 : FL RJ2 63 14 0 := ⟨_, _, _, _, rfl, by decide, by decide, Or.inl (lk q124), Or.inr (lk q125)⟩
theorem eJ2_add_5 : dc cJ2_add 5 (.iconst 1) 1 6 := ⟨by decide +kernel, rfl⟩
theorem eJ2_add_6 : dc cJ2_add 6 (.iadd) 1 7 := ⟨by decide +kernel, rfl⟩
theorem eJ2_add_7 : dc cJ2_add 7 (.putfield 63) 3 10 := ⟨by decide +kernel, rfl⟩
theorem pflJ2_63 {nm : String} : (FL RJ2 63 14 0 ∧ FN 14 0) ∨ (FF RJ2 63 14 0 ∧ nm = "<init>") := Or.inl ⟨flJ2_63, fun C Tb N h => by cases h; rfl⟩
theorem eJ2_add_10 : dc cJ2_add 10 (.aload_n 0) 1 11 := ⟨by decide +kernel, rfl⟩
theorem eJ2_add_11 : dc cJ2_add 11 (.aload_n 1) 1 12 := ⟨by decide +kernel, rfl⟩
theorem eJ2_add_12 : dc cJ2_add 12 (.aload_n 0) 1 13 := ⟨by decide +kernel, rfl⟩
theorem eJ2_add_13 : dc cJ2_add 13 (.getfield 9) 3 16 := ⟨by decide +kernel, rfl⟩
theorem eJ2_add_16 : dc cJ2_add 16 (.aload_n 0) 1 17 := ⟨by decide +kernel, rfl⟩
theorem eJ2_add_17 : dc cJ2_add 17 (.getfield 48) 3 20 := ⟨by decide +kernel, rfl⟩
theorem eJ2_add_20 : dc cJ2_add 20 (.invokevirtual 131) 3 23 := ⟨by decide +kernel, rfl⟩
theorem pkJ2_131 : PkV RJ2 131 yJ2_add_2 (.code yJ2_add_2 cJ2_add_2 4 none) 4 "java/util/ArrayList" 3 := ⟨cwd_c, (lk q364), Or.inl (lk q361), (lk q363), (lk qs2), ⟨⟨by decide, by decide⟩, by decide +kernel⟩, (lk q64), by decide⟩
set_option maxHeartbeats 8000000 in
theorem ctJ2_add (l : Launch) : Ct l yJ2_add (.code yJ2_add cJ2_add 2 (some .boolean)) 7 spJ2_add := by
  refine Ct.of (own := RJ2) (nm := "add") (by decide) rfl rfl ?_
  rintro X av T I L R uc us rfl g hN hu hz ⟨l, e, cap, n, y, f, rfl, hLS, hy, huc, hus, hk1, hk2⟩
  refine VE.go (ls := [some (.ref l), some (.ref y)]) g hu hz (fun _ => rfl) (fun _ => Nat.le_of_ble_eq_true rfl) ?_
  have hT := hLS.1
  have hLS' : LSt T (u2 I l 0 (I l 0 + 1)) R l e cap n f := ⟨hT, by rw [u2_n _ _ (by omega)]; exact hLS.2.1, hLS.2.2⟩
  have t1 : ∀ (T' : Tt) (I' : It) (L' : Lt) (R' : Rt) (uc' us' : Nat), x_k X (.inl (some (.int 1))) T' I' L' R' uc' us' → V X T' I' L' R' uc' us' 23 [some (.ref l), some (.ref y)] [] := by
    intro T' I' L' R' uc' us' hk
    refine V_iconst (v := 1) g eJ2_add_23 (by decide) ?_
    refine V_zret g eJ2_add_24 rfl ?_
    exact hk
  refine V_aload_0 g eJ2_add_0 ?_
  refine V_dup g eJ2_add_1 rfl ?_
  refine V_getI g eJ2_add_2 flJ2_63 hT rfl ?_
  refine V_iconst (v := 1) g eJ2_add_5 (by decide) ?_
  refine V_iadd g eJ2_add_6 ?_
  refine V_putI g eJ2_add_7 pflJ2_63 hT rfl rfl rfl ?_
  refine V_aload_0 g eJ2_add_10 ?_
  refine V_aload_1 g eJ2_add_11 ?_
  refine V_aload_0 g eJ2_add_12 ?_
  refine V_getR g eJ2_add_13 flJ2_9 hT rfl hLS.2.2.1 ?_
  refine V_aload_0 g eJ2_add_16 ?_
  refine V_getI g eJ2_add_17 flJ2_48 hT rfl ?_
  refine V_top (y := nI n) hLS'.2.1 ?_
  refine V_cv3 g (ctJ2_add_2 _) eJ2_add_20 pkJ2_131 hT rfl (by decide) (by decide) (Nat.le_of_ble_eq_true rfl) ?_
  refine ⟨l, e, cap, n, y, f, rfl, hLS', hy, huc, hus, fun hlt => ?_, fun heq h99 => ?_⟩
  · exact t1 _ _ _ _ _ _ (hk1 hlt)
  exact t1 _ _ _ _ _ _ (hk2 heq h99)

