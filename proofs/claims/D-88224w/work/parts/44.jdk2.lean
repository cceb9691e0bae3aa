/-! JDK: String constants, StringBuilder, Throwable (printed out of tmpl/t_jdk2.txt) -/
set_option maxRecDepth 100000
abbrev spJ12_coder : Sp := fun av T I L R uc us k => ∃ i : Nat, av = [.ref (sK i)] ∧ i < 5 ∧ k (.inl (some (.int 0))) T I L R uc us
theorem eJ12_coder_0 : dc cJ12_coder 0 (.getstatic 38) 3 3 := ⟨by decide +kernel, rfl⟩
theorem eJ12_coder_3 : dj cJ12_coder 3 (.ifCond .eq 10) 10 13 6 := ⟨by decide +kernel, by decide, rfl⟩
theorem eJ12_coder_6 : dc cJ12_coder 6 (.aload_n 0) 1 7 := ⟨by decide +kernel, rfl⟩
theorem eJ12_coder_7 : dc cJ12_coder 7 (.getfield 15) 3 10 := ⟨by decide +kernel, rfl⟩
theorem eJ12_coder_10 : dj cJ12_coder 10 (.goto 4) 4 14 13 := ⟨by decide +kernel, by decide, rfl⟩
theorem eJ12_coder_14 : dc cJ12_coder 14 (.ireturn) 1 15 := ⟨by decide +kernel, rfl⟩
set_option maxHeartbeats 8000000 in
theorem ctJ12_coder (l : Launch) : Ct l yJ12_coder (.code yJ12_coder cJ12_coder 1 (some .byte)) 1 spJ12_coder := by
  refine Ct.of (own := RJ12) (nm := "coder") (by decide) rfl rfl ?_
  rintro X av T I L R uc us rfl g hN hu hz ⟨i, rfl, hi, hk⟩
  refine VE.go (ls := [some (.ref (sK i))]) g hu hz (fun _ => rfl) (fun _ => Nat.le_of_ble_eq_true rfl) ?_
  refine V_getsI g eJ12_coder_0 (fun _ _ _ h => h.2.2.1) (lk q671) ?_
  refine V_if_eq g eJ12_coder_3 (fun c_3 => absurd c_3 (by decide)) (fun _ => ?_)
  refine V_aload_0 g eJ12_coder_6 ?_
  refine V_strC g eJ12_coder_7 hi (lk q1708) ?_
  refine V_goto g eJ12_coder_10 ?_
  refine V_zret g eJ12_coder_14 rfl ?_
  exact hk
abbrev spJ12_isLatin1 : Sp := fun av T I L R uc us k => ∃ i : Nat, av = [.ref (sK i)] ∧ i < 5 ∧ k (.inl (some (.int 1))) T I L R uc us
theorem eJ12_isLatin1_0 : dc cJ12_isLatin1 0 (.getstatic 38) 3 3 := ⟨by decide +kernel, rfl⟩
theorem eJ12_isLatin1_3 : dj cJ12_isLatin1 3 (.ifCond .eq 14) 14 17 6 := ⟨by decide +kernel, by decide, rfl⟩
theorem eJ12_isLatin1_6 : dc cJ12_isLatin1 6 (.aload_n 0) 1 7 := ⟨by decide +kernel, rfl⟩
theorem eJ12_isLatin1_7 : dc cJ12_isLatin1 7 (.getfield 15) 3 10 := ⟨by decide +kernel, rfl⟩
theorem eJ12_isLatin1_10 : dj cJ12_isLatin1 10 (.ifCond .ne 7) 7 17 13 := ⟨by decide +kernel, by decide, rfl⟩
theorem eJ12_isLatin1_13 : dc cJ12_isLatin1 13 (.iconst 1) 1 14 := ⟨by decide +kernel, rfl⟩
theorem eJ12_isLatin1_14 : dj cJ12_isLatin1 14 (.goto 4) 4 18 17 := ⟨by decide +kernel, by decide, rfl⟩
theorem eJ12_isLatin1_18 : dc cJ12_isLatin1 18 (.ireturn) 1 19 := ⟨by decide +kernel, rfl⟩
set_option maxHeartbeats 8000000 in
theorem ctJ12_isLatin1 (l : Launch) : Ct l yJ12_isLatin1 (.code yJ12_isLatin1 cJ12_isLatin1 1 (some .boolean)) 1 spJ12_isLatin1 := by
  refine Ct.of (own := RJ12) (nm := "isLatin1") (by decide) rfl rfl ?_
  rintro X av T I L R uc us rfl g hN hu hz ⟨i, rfl, hi, hk⟩
  refine VE.go (ls := [some (.ref (sK i))]) g hu hz (fun _ => rfl) (fun _ => Nat.le_of_ble_eq_true rfl) ?_
  refine V_getsI g eJ12_isLatin1_0 (fun _ _ _ h => h.2.2.1) (lk q671) ?_
  refine V_if_eq g eJ12_isLatin1_3 (fun c_3 => absurd c_3 (by decide)) (fun _ => ?_)
  refine V_aload_0 g eJ12_isLatin1_6 ?_
  refine V_strC g eJ12_isLatin1_7 hi (lk q1708) ?_
  refine V_if_ne g eJ12_isLatin1_10 (fun c_10 => absurd c_10 (by decide)) (fun _ => ?_)
  refine V_iconst (v := 1) g eJ12_isLatin1_13 (by decide) ?_
  refine V_goto g eJ12_isLatin1_14 ?_
  refine V_zret g eJ12_isLatin1_18 rfl ?_
  exact hk
theorem shr0 (x : Int32) : x >>> ((0 : Int32) &&& 31) = x := sb_shr0 x
theorem shl0 (x : Int32) : x <<< ((0 : Int32) &&& 31) = x := sb_shl0 x
abbrev spJ12_length : Sp := fun av T I L R uc us k => ∃ i : Nat, av = [.ref (sK i)] ∧ i < 5 ∧ k (.inl (some (.int (nI (strL.getD i 0))))) T I L R uc us
theorem eJ12_length_0 : dc cJ12_length 0 (.aload_n 0) 1 1 := ⟨by decide +kernel, rfl⟩
theorem eJ12_length_1 : dc cJ12_length 1 (.getfield 9) 3 4 := ⟨by decide +kernel, rfl⟩
theorem eJ12_length_4 : dc cJ12_length 4 (.arraylength) 1 5 := ⟨by decide +kernel, rfl⟩
theorem eJ12_length_5 : dc cJ12_length 5 (.aload_n 0) 1 6 := ⟨by decide +kernel, rfl⟩
theorem eJ12_length_6 : dc cJ12_length 6 (.invokevirtual 335) 3 9 := ⟨by decide +kernel, rfl⟩
theorem ptJ12_335 : PkT RJ12 335 yJ12_coder (.code yJ12_coder cJ12_coder 1 (some .byte)) 1 0 := ⟨cwd_c, (lk q680), (lk q677), (lk q678), (lk q679), ⟨⟨by decide, by decide⟩, by decide +kernel⟩, (lk q85), by decide⟩
theorem eJ12_length_9 : dc cJ12_length 9 (.ishr) 1 10 := ⟨by decide +kernel, rfl⟩
theorem eJ12_length_10 : dc cJ12_length 10 (.ireturn) 1 11 := ⟨by decide +kernel, rfl⟩
set_option maxHeartbeats 8000000 in
theorem ctJ12_length (l : Launch) : Ct l yJ12_length (.code yJ12_length cJ12_length 1 (some .int)) 2 spJ12_length := by
  refine Ct.of (own := RJ12) (nm := "length") (by decide) rfl rfl ?_
  rintro X av T I L R uc us rfl g hN hu hz ⟨i, rfl, hi, hk⟩
  refine VE.go (ls := [some (.ref (sK i))]) g hu hz (fun _ => rfl) (fun _ => Nat.le_of_ble_eq_true rfl) ?_
  refine V_aload_0 g eJ12_length_0 ?_
  refine V_strV g eJ12_length_1 hi (lk q1709) ?_
  refine V_strL g eJ12_length_4 hi ?_
  refine V_aload_0 g eJ12_length_5 ?_
  refine V_ct0 g (ctJ12_coder _) eJ12_length_6 ptJ12_335 hi (by decide) (Nat.le_of_ble_eq_true rfl) ?_
  refine ⟨i, rfl, hi, ?_⟩
  refine V_ishr g eJ12_length_9 ?_
  refine V_iret g eJ12_length_10 ?_
  exact kI hk (shr0 _).symm
abbrev spJ12_checkIndex : Sp := fun av T I L R uc us k => ∃ (i n : Nat), av = [.int (nI i), .int (nI n)] ∧ i < n ∧ n < 2 ^ 31 ∧ k (.inl none) T I L R uc us
theorem eJ12_checkIndex_0 : dc cJ12_checkIndex 0 (.iload_n 0) 1 1 := ⟨by decide +kernel, rfl⟩
theorem eJ12_checkIndex_1 : dc cJ12_checkIndex 1 (.iload_n 1) 1 2 := ⟨by decide +kernel, rfl⟩
theorem eJ12_checkIndex_2 : dc cJ12_checkIndex 2 (.getstatic 1053) 3 5 := ⟨by decide +kernel, rfl⟩
theorem eJ12_checkIndex_5 : dc cJ12_checkIndex 5 (.invokestatic 1059) 3 8 := ⟨by decide +kernel, rfl⟩
theorem pkJ12_1059 : PkS RJ12 1059 yJ7_checkIndex (.code yJ7_checkIndex cJ7_checkIndex 3 (some .int)) 3 3 := ⟨cwd_c, (lk q448), (lk q764), (lk q447), (lk q76), nmd_c, ⟨⟨by decide, by decide⟩, by decide +kernel⟩, by decide⟩
theorem eJ12_checkIndex_8 : dc cJ12_checkIndex 8 (.pop) 1 9 := ⟨by decide +kernel, rfl⟩
theorem eJ12_checkIndex_9 : dc cJ12_checkIndex 9 (.return_) 1 10 := ⟨by decide +kernel, rfl⟩
set_option maxHeartbeats 8000000 in
theorem ctJ12_checkIndex (l : Launch) : Ct l yJ12_checkIndex (.code yJ12_checkIndex cJ12_checkIndex 2 none) 2 spJ12_checkIndex := by
  refine Ct.of (own := RJ12) (nm := "checkIndex") (by decide) rfl rfl ?_
  rintro X av T I L R uc us rfl g hN hu hz ⟨i, n, rfl, hi, hn, hk⟩
  refine VE.go (ls := [some (.int (nI i)), some (.int (nI n))]) g hu hz (fun _ => rfl) (fun _ => Nat.le_of_ble_eq_true rfl) ?_
  refine V_iload_0 g eJ12_checkIndex_0 ?_
  refine V_iload_1 g eJ12_checkIndex_1 ?_
  refine V_getsR g eJ12_checkIndex_2 (fun _ _ _ h => h.2.2.2.1) (lk q710) (fun r_2 => ?_)
  refine V_cs3 g (ctJ7_checkIndex _) eJ12_checkIndex_5 pkJ12_1059 (by decide) (Nat.le_of_ble_eq_true rfl) ?_
  refine ⟨i, n, r_2, rfl, hi, hn, ?_⟩
  refine V_pop g eJ12_checkIndex_8 rfl ?_
  refine V_vret g eJ12_checkIndex_9 ?_
  exact hk
theorem str_b : ∀ i, i < 5 → ∀ j, j < strL.getD i 0 → ∃ q : Nat, q < 128 ∧ (strB.getD i []).getD j 0 = nI q := by
  have h : ∀ i, i < 5 → ∀ j, j < 40 → (j < strL.getD i 0 → ((strB.getD i []).getD j 0).toNatClampNeg < 128 ∧ (strB.getD i []).getD j 0 = nI ((strB.getD i []).getD j 0).toNatClampNeg) := by decide
  intro i hi j hj
  have : strL.getD i 0 ≤ 40 := by
    have h2 : ∀ i, i < 5 → strL.getD i 0 ≤ 40 := by decide
    exact h2 i hi
  obtain ⟨h1, h2⟩ := h i hi j (by omega) hj
  exact ⟨_, h1, h2⟩
theorem strL_lt : ∀ i, i < 5 → strL.getD i 0 < 64 := by decide
theorem and255 {q : Nat} (h : q < 128) : nI q &&& 255 = nI q := by
  have := pk_andN (n := q) (by omega) (m := 255) 8 (by decide)
  rw [this, Nat.mod_eq_of_lt (by omega)]
theorem i2cN {q : Nat} (h : q < 65536) : ((nI q).toUInt32 % 65536).toInt32 = nI q := by
  rw [pk_char, pk_tn (by omega), Nat.mod_eq_of_lt h]
theorem i2bN {q : Nat} (h : q < 128) : (nI q).toInt8.toInt32 = nI q := by
  have : ∀ q, q < 128 → (nI q).toInt8.toInt32 = nI q := by decide
  exact this q h
abbrev spJ13_charAt : Sp := fun av T I L R uc us k => ∃ (i j : Nat), av = [.ref (sV i), .int (nI j)] ∧ i < 5 ∧ j < strL.getD i 0 ∧ k (.inl (some (.int ((strB.getD i []).getD j 0)))) T I L R uc us
theorem eJ13_charAt_0 : dc cJ13_charAt 0 (.iload_n 1) 1 1 := ⟨by decide +kernel, rfl⟩
theorem eJ13_charAt_1 : dc cJ13_charAt 1 (.aload_n 0) 1 2 := ⟨by decide +kernel, rfl⟩
theorem eJ13_charAt_2 : dc cJ13_charAt 2 (.arraylength) 1 3 := ⟨by decide +kernel, rfl⟩
theorem eJ13_charAt_3 : dc cJ13_charAt 3 (.invokestatic 9) 3 6 := ⟨by decide +kernel, rfl⟩
theorem pkJ13_9 : PkS RJ13 9 yJ12_checkIndex (.code yJ12_checkIndex cJ12_checkIndex 2 none) 2 2 := ⟨cwd_c, (lk q763), (lk q761), (lk q762), (lk q85), nmd_c, ⟨⟨by decide, by decide⟩, by decide +kernel⟩, by decide⟩
theorem eJ13_charAt_6 : dc cJ13_charAt 6 (.aload_n 0) 1 7 := ⟨by decide +kernel, rfl⟩
theorem eJ13_charAt_7 : dc cJ13_charAt 7 (.iload_n 1) 1 8 := ⟨by decide +kernel, rfl⟩
theorem eJ13_charAt_8 : dc cJ13_charAt 8 (.baload) 1 9 := ⟨by decide +kernel, rfl⟩
theorem eJ13_charAt_9 : dc cJ13_charAt 9 (.sipush 255) 3 12 := ⟨by decide +kernel, rfl⟩
theorem eJ13_charAt_12 : dc cJ13_charAt 12 (.iand) 1 13 := ⟨by decide +kernel, rfl⟩
theorem eJ13_charAt_13 : dc cJ13_charAt 13 (.i2c) 1 14 := ⟨by decide +kernel, rfl⟩
theorem eJ13_charAt_14 : dc cJ13_charAt 14 (.ireturn) 1 15 := ⟨by decide +kernel, rfl⟩
set_option maxHeartbeats 8000000 in
theorem ctJ13_charAt (l : Launch) : Ct l yJ13_charAt (.code yJ13_charAt cJ13_charAt 2 (some .char)) 3 spJ13_charAt := by
  refine Ct.of (own := RJ13) (nm := "charAt") (by decide) rfl rfl ?_
  rintro X av T I L R uc us rfl g hN hu hz ⟨i, j, rfl, hi, hj, hk⟩
  refine VE.go (ls := [some (.ref (sV i)), some (.int (nI j))]) g hu hz (fun _ => rfl) (fun _ => Nat.le_of_ble_eq_true rfl) ?_
  have hl := strL_lt i hi
  obtain ⟨q, hq, eq⟩ := str_b i hi j hj
  refine V_iload_1 g eJ13_charAt_0 ?_
  refine V_aload_0 g eJ13_charAt_1 ?_
  refine V_strL g eJ13_charAt_2 hi ?_
  refine V_cs2 g (ctJ12_checkIndex _) eJ13_charAt_3 pkJ13_9 (by decide) (Nat.le_of_ble_eq_true rfl) ?_
  refine ⟨j, _, rfl, hj, by omega, ?_⟩
  refine V_aload_0 g eJ13_charAt_6 ?_
  refine V_iload_1 g eJ13_charAt_7 ?_
  refine V_strB g eJ13_charAt_8 hi hj (by omega) ?_
  refine V_sipush (v := 255) g eJ13_charAt_9 (by decide) ?_
  refine V_iand g eJ13_charAt_12 ?_
  rw [eq, and255 hq]
  refine V_i2c g eJ13_charAt_13 ?_
  rw [i2cN (by omega)]
  refine V_zret g eJ13_charAt_14 (pk_charN (by omega)).1 ?_
  rw [eq] at hk
  exact hk
abbrev spJ12_charAt : Sp := fun av T I L R uc us k => ∃ (i j : Nat), av = [.ref (sK i), .int (nI j)] ∧ i < 5 ∧ j < strL.getD i 0 ∧ k (.inl (some (.int ((strB.getD i []).getD j 0)))) T I L R uc us
theorem eJ12_charAt_0 : dc cJ12_charAt 0 (.aload_n 0) 1 1 := ⟨by decide +kernel, rfl⟩
theorem eJ12_charAt_1 : dc cJ12_charAt 1 (.invokevirtual 492) 3 4 := ⟨by decide +kernel, rfl⟩
theorem ptJ12_492 : PkT RJ12 492 yJ12_isLatin1 (.code yJ12_isLatin1 cJ12_isLatin1 1 (some .boolean)) 1 0 := ⟨cwd_c, (lk q670), (lk q667), (lk q668), (lk q669), ⟨⟨by decide, by decide⟩, by decide +kernel⟩, (lk q85), by decide⟩
theorem eJ12_charAt_4 : dj cJ12_charAt 4 (.ifCond .eq 12) 12 16 7 := ⟨by decide +kernel, by decide, rfl⟩
theorem eJ12_charAt_7 : dc cJ12_charAt 7 (.aload_n 0) 1 8 := ⟨by decide +kernel, rfl⟩
theorem eJ12_charAt_8 : dc cJ12_charAt 8 (.getfield 9) 3 11 := ⟨by decide +kernel, rfl⟩
theorem eJ12_charAt_11 : dc cJ12_charAt 11 (.iload_n 1) 1 12 := ⟨by decide +kernel, rfl⟩
theorem eJ12_charAt_12 : dc cJ12_charAt 12 (.invokestatic 495) 3 15 := ⟨by decide +kernel, rfl⟩
theorem pkJ12_495 : PkS RJ12 495 yJ13_charAt (.code yJ13_charAt cJ13_charAt 2 (some .char)) 2 2 := ⟨cwd_c, (lk q760), (lk q758), (lk q759), (lk q86), nmd_c, ⟨⟨by decide, by decide⟩, by decide +kernel⟩, by decide⟩
theorem eJ12_charAt_15 : dc cJ12_charAt 15 (.ireturn) 1 16 := ⟨by decide +kernel, rfl⟩
set_option maxHeartbeats 8000000 in
theorem ctJ12_charAt (l : Launch) : Ct l yJ12_charAt (.code yJ12_charAt cJ12_charAt 2 (some .char)) 4 spJ12_charAt := by
  refine Ct.of (own := RJ12) (nm := "charAt") (by decide) rfl rfl ?_
  rintro X av T I L R uc us rfl g hN hu hz ⟨i, j, rfl, hi, hj, hk⟩
  refine VE.go (ls := [some (.ref (sK i)), some (.int (nI j))]) g hu hz (fun _ => rfl) (fun _ => Nat.le_of_ble_eq_true rfl) ?_
  obtain ⟨q, hq, eq⟩ := str_b i hi j hj
  refine V_aload_0 g eJ12_charAt_0 ?_
  refine V_ct0 g (ctJ12_isLatin1 _) eJ12_charAt_1 ptJ12_492 hi (by decide) (Nat.le_of_ble_eq_true rfl) ?_
  refine ⟨i, rfl, hi, ?_⟩
  refine V_if_eq g eJ12_charAt_4 (fun c_4 => absurd c_4 (by decide)) (fun _ => ?_)
  refine V_aload_0 g eJ12_charAt_7 ?_
  refine V_strV g eJ12_charAt_8 hi (lk q1709) ?_
  refine V_iload_1 g eJ12_charAt_11 ?_
  refine V_cs2 g (ctJ13_charAt _) eJ12_charAt_12 pkJ12_495 (by decide) (Nat.le_of_ble_eq_true rfl) ?_
  refine ⟨i, j, rfl, hi, hj, ?_⟩
  refine V_zret g eJ12_charAt_15 (by rw [eq]; exact (pk_charN (by omega)).1) ?_
  exact hk
abbrev spJ13_canEncode : Sp := fun av T I L R uc us k => ∃ q : Nat, av = [.int (nI q)] ∧ q < 256 ∧ k (.inl (some (.int 1))) T I L R uc us
theorem eJ13_canEncode_0 : dc cJ13_canEncode 0 (.iload_n 0) 1 1 := ⟨by decide +kernel, rfl⟩
theorem eJ13_canEncode_1 : dj cJ13_canEncode 1 (.ifCond .lt 14) 14 15 4 := ⟨by decide +kernel, by decide, rfl⟩
theorem eJ13_canEncode_4 : dc cJ13_canEncode 4 (.iload_n 0) 1 5 := ⟨by decide +kernel, rfl⟩
theorem eJ13_canEncode_5 : dc cJ13_canEncode 5 (.sipush 255) 3 8 := ⟨by decide +kernel, rfl⟩
theorem eJ13_canEncode_8 : dj cJ13_canEncode 8 (.if_icmp .gt 7) 7 15 11 := ⟨by decide +kernel, by decide, rfl⟩
theorem eJ13_canEncode_11 : dc cJ13_canEncode 11 (.iconst 1) 1 12 := ⟨by decide +kernel, rfl⟩
theorem eJ13_canEncode_12 : dj cJ13_canEncode 12 (.goto 4) 4 16 15 := ⟨by decide +kernel, by decide, rfl⟩
theorem eJ13_canEncode_16 : dc cJ13_canEncode 16 (.ireturn) 1 17 := ⟨by decide +kernel, rfl⟩
set_option maxHeartbeats 8000000 in
theorem ctJ13_canEncode (l : Launch) : Ct l yJ13_canEncode (.code yJ13_canEncode cJ13_canEncode 1 (some .boolean)) 1 spJ13_canEncode := by
  refine Ct.of (own := RJ13) (nm := "canEncode") (by decide) rfl rfl ?_
  rintro X av T I L R uc us rfl g hN hu hz ⟨q, rfl, hq, hk⟩
  refine VE.go (ls := [some (.int (nI q))]) g hu hz (fun _ => rfl) (fun _ => Nat.le_of_ble_eq_true rfl) ?_
  refine V_iload_0 g eJ13_canEncode_0 ?_
  refine V_if_lt g eJ13_canEncode_1 (fun c_1 => absurd c_1 (nI_pos (by omega))) (fun _ => ?_)
  refine V_iload_0 g eJ13_canEncode_4 ?_
  refine V_sipush (v := 255) g eJ13_canEncode_5 (by decide) ?_
  refine V_icmp_gt g eJ13_canEncode_8 (fun c_8 => absurd c_8 (show ¬ nI 255 < nI q from nI_nlt (by omega) (by decide))) (fun _ => ?_)
  refine V_iconst (v := 1) g eJ13_canEncode_11 (by decide) ?_
  refine V_goto g eJ13_canEncode_12 ?_
  refine V_zret g eJ13_canEncode_16 rfl ?_
  exact hk
abbrev spJ13_canEncode_2 : Sp := fun av T I L R uc us k => ∃ q : Nat, av = [.int (nI q)] ∧ q < 256 ∧ k (.inl (some (.int 1))) T I L R uc us
theorem eJ13_canEncode_2_0 : dc cJ13_canEncode_2 0 (.iload_n 0) 1 1 := ⟨by decide +kernel, rfl⟩
theorem eJ13_canEncode_2_1 : dc cJ13_canEncode_2 1 (.sipush 255) 3 4 := ⟨by decide +kernel, rfl⟩
theorem eJ13_canEncode_2_4 : dj cJ13_canEncode_2 4 (.if_icmp .gt 7) 7 11 7 := ⟨by decide +kernel, by decide, rfl⟩
theorem eJ13_canEncode_2_7 : dc cJ13_canEncode_2 7 (.iconst 1) 1 8 := ⟨by decide +kernel, rfl⟩
theorem eJ13_canEncode_2_8 : dj cJ13_canEncode_2 8 (.goto 4) 4 12 11 := ⟨by decide +kernel, by decide, rfl⟩
theorem eJ13_canEncode_2_12 : dc cJ13_canEncode_2 12 (.ireturn) 1 13 := ⟨by decide +kernel, rfl⟩
set_option maxHeartbeats 8000000 in
theorem ctJ13_canEncode_2 (l : Launch) : Ct l yJ13_canEncode_2 (.code yJ13_canEncode_2 cJ13_canEncode_2 1 (some .boolean)) 1 spJ13_canEncode_2 := by
  refine Ct.of (own := RJ13) (nm := "canEncode") (by decide) rfl rfl ?_
  rintro X av T I L R uc us rfl g hN hu hz ⟨q, rfl, hq, hk⟩
  refine VE.go (ls := [some (.int (nI q))]) g hu hz (fun _ => rfl) (fun _ => Nat.le_of_ble_eq_true rfl) ?_
  refine V_iload_0 g eJ13_canEncode_2_0 ?_
  refine V_sipush (v := 255) g eJ13_canEncode_2_1 (by decide) ?_
  refine V_icmp_gt g eJ13_canEncode_2_4 (fun c_4 => absurd c_4 (show ¬ nI 255 < nI q from nI_nlt (by omega) (by decide))) (fun _ => ?_)
  refine V_iconst (v := 1) g eJ13_canEncode_2_7 (by decide) ?_
  refine V_goto g eJ13_canEncode_2_8 ?_
  refine V_zret g eJ13_canEncode_2_12 rfl ?_
  exact hk
/-- the first place of c among f j .. (m of them); -1 -/
def ixN (f : Nat → Int32) (c : Int32) : Nat → Nat → Int32
  | 0, _ => -1
  | m + 1, j => if f j = c then nI j else ixN f c m (j + 1)
def ixS (i : Nat) (c : Int32) (from_ : Nat) : Int32 := ixN (fun j => (strB.getD i []).getD j 0) c (strL.getD i 0 - from_) from_
abbrev spJ13_indexOfChar : Sp := fun av T I L R uc us k => ∃ (i q a : Nat), av = [.ref (sV i), .int (nI q), .int (nI a), .int (nI (strL.getD i 0))] ∧ i < 5 ∧ q < 128 ∧ a ≤ strL.getD i 0 ∧ k (.inl (some (.int (ixS i (nI q) a)))) T I L R uc us
theorem eJ13_indexOfChar_7 : dc cJ13_indexOfChar 7 (.iload 5) 2 9 := ⟨by decide +kernel, rfl⟩
theorem eJ13_indexOfChar_9 : dc cJ13_indexOfChar 9 (.iload_n 3) 1 10 := ⟨by decide +kernel, rfl⟩
theorem eJ13_indexOfChar_10 : dj cJ13_indexOfChar 10 (.if_icmp .ge 21) 21 31 13 := ⟨by decide +kernel, by decide, rfl⟩
theorem eJ13_indexOfChar_31 : dc cJ13_indexOfChar 31 (.iconst (-1)) 1 32 := ⟨by decide +kernel, rfl⟩
theorem eJ13_indexOfChar_32 : dc cJ13_indexOfChar 32 (.ireturn) 1 33 := ⟨by decide +kernel, rfl⟩
theorem eJ13_indexOfChar_13 : dc cJ13_indexOfChar 13 (.aload_n 0) 1 14 := ⟨by decide +kernel, rfl⟩
theorem eJ13_indexOfChar_14 : dc cJ13_indexOfChar 14 (.iload 5) 2 16 := ⟨by decide +kernel, rfl⟩
theorem eJ13_indexOfChar_16 : dc cJ13_indexOfChar 16 (.baload) 1 17 := ⟨by decide +kernel, rfl⟩
theorem eJ13_indexOfChar_17 : dc cJ13_indexOfChar 17 (.iload 4) 2 19 := ⟨by decide +kernel, rfl⟩
theorem eJ13_indexOfChar_19 : dj cJ13_indexOfChar 19 (.if_icmp .ne 6) 6 25 22 := ⟨by decide +kernel, by decide, rfl⟩
theorem eJ13_indexOfChar_25 : dc cJ13_indexOfChar 25 (.iinc 5 1) 3 28 := ⟨by decide +kernel, rfl⟩
theorem eJ13_indexOfChar_28 : dj cJ13_indexOfChar 28 (.goto (-21)) (-21) 7 31 := ⟨by decide +kernel, by decide, rfl⟩
theorem eJ13_indexOfChar_22 : dc cJ13_indexOfChar 22 (.iload 5) 2 24 := ⟨by decide +kernel, rfl⟩
theorem eJ13_indexOfChar_24 : dc cJ13_indexOfChar 24 (.ireturn) 1 25 := ⟨by decide +kernel, rfl⟩
theorem eJ13_indexOfChar_0 : dc cJ13_indexOfChar 0 (.iload_n 1) 1 1 := ⟨by decide +kernel, rfl⟩
theorem eJ13_indexOfChar_1 : dc cJ13_indexOfChar 1 (.i2b) 1 2 := ⟨by decide +kernel, rfl⟩
theorem eJ13_indexOfChar_2 : dc cJ13_indexOfChar 2 (.istore 4) 2 4 := ⟨by decide +kernel, rfl⟩
theorem eJ13_indexOfChar_4 : dc cJ13_indexOfChar 4 (.iload_n 2) 1 5 := ⟨by decide +kernel, rfl⟩
theorem eJ13_indexOfChar_5 : dc cJ13_indexOfChar 5 (.istore 5) 2 7 := ⟨by decide +kernel, rfl⟩
set_option maxHeartbeats 8000000 in
theorem ctJ13_indexOfChar (l : Launch) : Ct l yJ13_indexOfChar (.code yJ13_indexOfChar cJ13_indexOfChar 6 (some .int)) 1 spJ13_indexOfChar := by
  refine Ct.of (own := RJ13) (nm := "indexOfChar") (by decide) rfl rfl ?_
  rintro X av T I L R uc us rfl g hN hu hz ⟨i, q, a, rfl, hi, hq, ha, hk⟩
  refine VE.go (ls := [some (.ref (sV i)), some (.int (nI q)), some (.int (nI a)), some (.int (nI (strL.getD i 0))), none, none]) g hu hz (fun _ => rfl) (fun _ => Nat.le_of_ble_eq_true rfl) ?_
  have hl := strL_lt i hi
  have loop : ∀ (m j : Nat), j + m = strL.getD i 0 → ixN (fun j => (strB.getD i []).getD j 0) (nI q) m j = ixS i (nI q) a → V X T I L R uc us 7 [some (.ref (sV i)), some (.int (nI q)), some (.int (nI a)), some (.int (nI (strL.getD i 0))), some (.int (nI q)), some (.int (nI j))] [] := by
    intro m
    induction m with
    | zero =>
      intro j h1 h2
      obtain rfl : j = strL.getD i 0 := by omega
      refine V_iload_5 g eJ13_indexOfChar_7 ?_
      refine V_iload_3 g eJ13_indexOfChar_9 ?_
      refine V_icmp_ge g eJ13_indexOfChar_10 (fun _ => ?_) (fun c_10 => absurd c_10 (fun z => z (Int32.le_refl _)))
      refine V_iconst (v := (-1)) g eJ13_indexOfChar_31 (by decide) ?_
      refine V_iret g eJ13_indexOfChar_32 ?_
      exact kI hk h2.symm
    | succ m ih =>
      intro j h1 h2
      refine V_iload_5 g eJ13_indexOfChar_7 ?_
      refine V_iload_3 g eJ13_indexOfChar_9 ?_
      refine V_icmp_ge g eJ13_indexOfChar_10 (fun c_10 => absurd c_10 (nI_ge (by omega) (by omega))) (fun _ => ?_)
      refine V_aload_0 g eJ13_indexOfChar_13 ?_
      refine V_iload_5 g eJ13_indexOfChar_14 ?_
      refine V_strB g eJ13_indexOfChar_16 hi (by omega) (by omega) ?_
      refine V_iload_4 g eJ13_indexOfChar_17 ?_
      refine V_icmp_ne g eJ13_indexOfChar_19 (fun c_19 => ?_) (fun c_19 => ?_)
      · refine V_iinc_5 (v := 1) g eJ13_indexOfChar_25 (by decide) (by decide) rfl ?_
        refine V_goto g eJ13_indexOfChar_28 ?_
        rw [nI_1]
        exact ih (j + 1) (by omega) (by rw [ixN, if_neg c_19] at h2; exact h2)
      · refine V_iload_5 g eJ13_indexOfChar_22 ?_
        refine V_iret g eJ13_indexOfChar_24 ?_
        rw [ixN, if_pos c_19] at h2
        exact kI hk h2.symm
  refine V_iload_1 g eJ13_indexOfChar_0 ?_
  refine V_i2b g eJ13_indexOfChar_1 ?_
  rw [i2bN hq]
  refine V_istore_4 g eJ13_indexOfChar_2 (by decide) rfl ?_
  refine V_iload_2 g eJ13_indexOfChar_4 ?_
  refine V_istore_5 g eJ13_indexOfChar_5 (by decide) rfl ?_
  exact loop (strL.getD i 0 - a) a (by omega) rfl
abbrev spJ13_indexOf : Sp := fun av T I L R uc us k => ∃ (i q a : Nat), av = [.ref (sV i), .int (nI q), .int (nI a), .int (nI (strL.getD i 0))] ∧ i < 5 ∧ q < 128 ∧ a ≤ strL.getD i 0 ∧ k (.inl (some (.int (ixS i (nI q) a)))) T I L R uc us
theorem eJ13_indexOf_0 : dc cJ13_indexOf 0 (.iload_n 1) 1 1 := ⟨by decide +kernel, rfl⟩
theorem eJ13_indexOf_1 : dc cJ13_indexOf 1 (.invokestatic 88) 3 4 := ⟨by decide +kernel, rfl⟩
theorem pkJ13_88 : PkS RJ13 88 yJ13_canEncode (.code yJ13_canEncode cJ13_canEncode 1 (some .boolean)) 1 1 := ⟨cwd_c, (lk q686), (lk q684), (lk q685), (lk q86), nmd_c, ⟨⟨by decide, by decide⟩, by decide +kernel⟩, by decide⟩
theorem eJ13_indexOf_4 : dj cJ13_indexOf 4 (.ifCond .ne 5) 5 9 7 := ⟨by decide +kernel, by decide, rfl⟩
theorem eJ13_indexOf_9 : dc cJ13_indexOf 9 (.iload_n 2) 1 10 := ⟨by decide +kernel, rfl⟩
theorem eJ13_indexOf_10 : dc cJ13_indexOf 10 (.iconst 0) 1 11 := ⟨by decide +kernel, rfl⟩
theorem eJ13_indexOf_11 : dc cJ13_indexOf 11 (.invokestatic 92) 3 14 := ⟨by decide +kernel, rfl⟩
theorem eJ13_indexOf_14 : dc cJ13_indexOf 14 (.istore_n 2) 1 15 := ⟨by decide +kernel, rfl⟩
theorem eJ13_indexOf_15 : dc cJ13_indexOf 15 (.iload_n 3) 1 16 := ⟨by decide +kernel, rfl⟩
theorem eJ13_indexOf_16 : dc cJ13_indexOf 16 (.aload_n 0) 1 17 := ⟨by decide +kernel, rfl⟩
theorem eJ13_indexOf_17 : dc cJ13_indexOf 17 (.arraylength) 1 18 := ⟨by decide +kernel, rfl⟩
theorem eJ13_indexOf_18 : dc cJ13_indexOf 18 (.invokestatic 38) 3 21 := ⟨by decide +kernel, rfl⟩
theorem eJ13_indexOf_21 : dc cJ13_indexOf 21 (.istore_n 3) 1 22 := ⟨by decide +kernel, rfl⟩
theorem eJ13_indexOf_22 : dc cJ13_indexOf 22 (.iload_n 2) 1 23 := ⟨by decide +kernel, rfl⟩
theorem eJ13_indexOf_23 : dc cJ13_indexOf 23 (.iload_n 3) 1 24 := ⟨by decide +kernel, rfl⟩
theorem eJ13_indexOf_24 : dj cJ13_indexOf 24 (.if_icmp .lt 5) 5 29 27 := ⟨by decide +kernel, by decide, rfl⟩
theorem eJ13_indexOf_29 : dc cJ13_indexOf 29 (.aload_n 0) 1 30 := ⟨by decide +kernel, rfl⟩
theorem eJ13_indexOf_30 : dc cJ13_indexOf 30 (.iload_n 1) 1 31 := ⟨by decide +kernel, rfl⟩
theorem eJ13_indexOf_31 : dc cJ13_indexOf 31 (.iload_n 2) 1 32 := ⟨by decide +kernel, rfl⟩
theorem eJ13_indexOf_32 : dc cJ13_indexOf 32 (.iload_n 3) 1 33 := ⟨by decide +kernel, rfl⟩
theorem eJ13_indexOf_33 : dc cJ13_indexOf 33 (.invokestatic 95) 3 36 := ⟨by decide +kernel, rfl⟩
theorem pkJ13_95 : PkS RJ13 95 yJ13_indexOfChar (.code yJ13_indexOfChar cJ13_indexOfChar 6 (some .int)) 6 4 := ⟨cwd_c, (lk q691), (lk q689), (lk q690), (lk q86), nmd_c, ⟨⟨by decide, by decide⟩, by decide +kernel⟩, by decide⟩
theorem eJ13_indexOf_36 : dc cJ13_indexOf 36 (.ireturn) 1 37 := ⟨by decide +kernel, rfl⟩
theorem eJ13_indexOf_27 : dc cJ13_indexOf 27 (.iconst (-1)) 1 28 := ⟨by decide +kernel, rfl⟩
theorem eJ13_indexOf_28 : dc cJ13_indexOf 28 (.ireturn) 1 29 := ⟨by decide +kernel, rfl⟩
set_option maxHeartbeats 8000000 in
theorem ctJ13_indexOf (l : Launch) : Ct l yJ13_indexOf (.code yJ13_indexOf cJ13_indexOf 4 (some .int)) 2 spJ13_indexOf := by
  refine Ct.of (own := RJ13) (nm := "indexOf") (by decide) rfl rfl ?_
  rintro X av T I L R uc us rfl g hN hu hz ⟨i, q, a, rfl, hi, hq, ha, hk⟩
  refine VE.go (ls := [some (.ref (sV i)), some (.int (nI q)), some (.int (nI a)), some (.int (nI (strL.getD i 0)))]) g hu hz (fun _ => rfl) (fun _ => Nat.le_of_ble_eq_true rfl) ?_
  have hl := strL_lt i hi
  refine V_iload_1 g eJ13_indexOf_0 ?_
  refine V_cs1 g (ctJ13_canEncode _) eJ13_indexOf_1 pkJ13_88 (by decide) (Nat.le_of_ble_eq_true rfl) ?_
  refine ⟨q, rfl, by omega, ?_⟩
  refine V_if_ne g eJ13_indexOf_4 (fun _ => ?_) (fun c_4 => absurd c_4 (by decide))
  refine V_iload_2 g eJ13_indexOf_9 ?_
  refine V_iconst (v := 0) g eJ13_indexOf_10 (by decide) ?_
  refine V_mmax g eJ13_indexOf_11 (lk q687) (by decide) (Nat.le_of_ble_eq_true rfl) ?_
  refine V_top (y := nI a) ((mxN (a := a) (b := 0) (by omega) (by decide)).trans (by rw [Nat.max_eq_left (by omega)])) ?_
  refine V_istore_2 g eJ13_indexOf_14 (by decide) rfl ?_
  refine V_iload_3 g eJ13_indexOf_15 ?_
  refine V_aload_0 g eJ13_indexOf_16 ?_
  refine V_strL g eJ13_indexOf_17 hi ?_
  refine V_mmin g eJ13_indexOf_18 (lk q688) (by decide) (Nat.le_of_ble_eq_true rfl) ?_
  rw [miN (by omega) (by omega), Nat.min_self]
  refine V_istore_3 g eJ13_indexOf_21 (by decide) rfl ?_
  refine V_iload_2 g eJ13_indexOf_22 ?_
  refine V_iload_3 g eJ13_indexOf_23 ?_
  refine V_icmp_lt g eJ13_indexOf_24 (fun c_24 => ?_) (fun c_24 => ?_)
  · refine V_aload_0 g eJ13_indexOf_29 ?_
    refine V_iload_1 g eJ13_indexOf_30 ?_
    refine V_iload_2 g eJ13_indexOf_31 ?_
    refine V_iload_3 g eJ13_indexOf_32 ?_
    refine V_cs4 g (ctJ13_indexOfChar _) eJ13_indexOf_33 pkJ13_95 (by decide) (Nat.le_of_ble_eq_true rfl) ?_
    refine ⟨i, q, a, rfl, hi, hq, ha, ?_⟩
    refine V_iret g eJ13_indexOf_36 ?_
    exact hk
  · refine V_iconst (v := (-1)) g eJ13_indexOf_27 (by decide) ?_
    refine V_iret g eJ13_indexOf_28 ?_
    have := nI_nlt' (a := a) (b := strL.getD i 0) (by omega) (by omega) c_24
    refine kI hk ?_
    unfold ixS
    rw [show strL.getD i 0 - a = 0 by omega]
    rfl
abbrev spJ12_indexOf_2 : Sp := fun av T I L R uc us k => ∃ (i q a : Nat), av = [.ref (sK i), .int (nI q), .int (nI a)] ∧ i < 5 ∧ q < 128 ∧ a ≤ strL.getD i 0 ∧ k (.inl (some (.int (ixS i (nI q) a)))) T I L R uc us
theorem eJ12_indexOf_2_0 : dc cJ12_indexOf_2 0 (.aload_n 0) 1 1 := ⟨by decide +kernel, rfl⟩
theorem eJ12_indexOf_2_1 : dc cJ12_indexOf_2 1 (.invokevirtual 492) 3 4 := ⟨by decide +kernel, rfl⟩
theorem eJ12_indexOf_2_4 : dj cJ12_indexOf_2 4 (.ifCond .eq 19) 19 23 7 := ⟨by decide +kernel, by decide, rfl⟩
theorem eJ12_indexOf_2_7 : dc cJ12_indexOf_2 7 (.aload_n 0) 1 8 := ⟨by decide +kernel, rfl⟩
theorem eJ12_indexOf_2_8 : dc cJ12_indexOf_2 8 (.getfield 9) 3 11 := ⟨by decide +kernel, rfl⟩
theorem eJ12_indexOf_2_11 : dc cJ12_indexOf_2 11 (.iload_n 1) 1 12 := ⟨by decide +kernel, rfl⟩
theorem eJ12_indexOf_2_12 : dc cJ12_indexOf_2 12 (.iload_n 2) 1 13 := ⟨by decide +kernel, rfl⟩
theorem eJ12_indexOf_2_13 : dc cJ12_indexOf_2 13 (.aload_n 0) 1 14 := ⟨by decide +kernel, rfl⟩
theorem eJ12_indexOf_2_14 : dc cJ12_indexOf_2 14 (.invokevirtual 505) 3 17 := ⟨by decide +kernel, rfl⟩
theorem ptJ12_505 : PkT RJ12 505 yJ12_length (.code yJ12_length cJ12_length 1 (some .int)) 1 0 := ⟨cwd_c, (lk q676), (lk q673), (lk q674), (lk q675), ⟨⟨by decide, by decide⟩, by decide +kernel⟩, (lk q85), by decide⟩
theorem eJ12_indexOf_2_17 : dc cJ12_indexOf_2 17 (.invokestatic 637) 3 20 := ⟨by decide +kernel, rfl⟩
theorem pkJ12_637 : PkS RJ12 637 yJ13_indexOf (.code yJ13_indexOf cJ13_indexOf 4 (some .int)) 4 4 := ⟨cwd_c, (lk q683), (lk q681), (lk q682), (lk q86), nmd_c, ⟨⟨by decide, by decide⟩, by decide +kernel⟩, by decide⟩
theorem eJ12_indexOf_2_20 : dj cJ12_indexOf_2 20 (.goto 16) 16 36 23 := ⟨by decide +kernel, by decide, rfl⟩
theorem eJ12_indexOf_2_36 : dc cJ12_indexOf_2 36 (.ireturn) 1 37 := ⟨by decide +kernel, rfl⟩
set_option maxHeartbeats 8000000 in
theorem ctJ12_indexOf_2 (l : Launch) : Ct l yJ12_indexOf_2 (.code yJ12_indexOf_2 cJ12_indexOf_2 3 (some .int)) 3 spJ12_indexOf_2 := by
  refine Ct.of (own := RJ12) (nm := "indexOf") (by decide) rfl rfl ?_
  rintro X av T I L R uc us rfl g hN hu hz ⟨i, q, a, rfl, hi, hq, ha, hk⟩
  refine VE.go (ls := [some (.ref (sK i)), some (.int (nI q)), some (.int (nI a))]) g hu hz (fun _ => rfl) (fun _ => Nat.le_of_ble_eq_true rfl) ?_
  refine V_aload_0 g eJ12_indexOf_2_0 ?_
  refine V_ct0 g (ctJ12_isLatin1 _) eJ12_indexOf_2_1 ptJ12_492 hi (by decide) (Nat.le_of_ble_eq_true rfl) ?_
  refine ⟨i, rfl, hi, ?_⟩
  refine V_if_eq g eJ12_indexOf_2_4 (fun c_4 => absurd c_4 (by decide)) (fun _ => ?_)
  refine V_aload_0 g eJ12_indexOf_2_7 ?_
  refine V_strV g eJ12_indexOf_2_8 hi (lk q1709) ?_
  refine V_iload_1 g eJ12_indexOf_2_11 ?_
  refine V_iload_2 g eJ12_indexOf_2_12 ?_
  refine V_aload_0 g eJ12_indexOf_2_13 ?_
  refine V_ct0 g (ctJ12_length _) eJ12_indexOf_2_14 ptJ12_505 hi (by decide) (Nat.le_of_ble_eq_true rfl) ?_
  refine ⟨i, rfl, hi, ?_⟩
  refine V_cs4 g (ctJ13_indexOf _) eJ12_indexOf_2_17 pkJ12_637 (by decide) (Nat.le_of_ble_eq_true rfl) ?_
  refine ⟨i, q, a, rfl, hi, hq, ha, ?_⟩
  refine V_goto g eJ12_indexOf_2_20 ?_
  refine V_iret g eJ12_indexOf_2_36 ?_
  exact hk
abbrev spJ12_indexOf : Sp := fun av T I L R uc us k => ∃ (i q : Nat), av = [.ref (sK i), .int (nI q)] ∧ i < 5 ∧ q < 128 ∧ k (.inl (some (.int (ixS i (nI q) 0)))) T I L R uc us
theorem eJ12_indexOf_0 : dc cJ12_indexOf 0 (.aload_n 0) 1 1 := ⟨by decide +kernel, rfl⟩
theorem eJ12_indexOf_1 : dc cJ12_indexOf 1 (.iload_n 1) 1 2 := ⟨by decide +kernel, rfl⟩
theorem eJ12_indexOf_2 : dc cJ12_indexOf 2 (.iconst 0) 1 3 := ⟨by decide +kernel, rfl⟩
theorem eJ12_indexOf_3 : dc cJ12_indexOf 3 (.invokevirtual 633) 3 6 := ⟨by decide +kernel, rfl⟩
theorem ptJ12_633 : PkT RJ12 633 yJ12_indexOf_2 (.code yJ12_indexOf_2 cJ12_indexOf_2 3 (some .int)) 3 2 := ⟨cwd_c, (lk q666), (lk q663), (lk q664), (lk q665), ⟨⟨by decide, by decide⟩, by decide +kernel⟩, (lk q85), by decide⟩
theorem eJ12_indexOf_6 : dc cJ12_indexOf 6 (.ireturn) 1 7 := ⟨by decide +kernel, rfl⟩
set_option maxHeartbeats 8000000 in
theorem ctJ12_indexOf (l : Launch) : Ct l yJ12_indexOf (.code yJ12_indexOf cJ12_indexOf 2 (some .int)) 4 spJ12_indexOf := by
  refine Ct.of (own := RJ12) (nm := "indexOf") (by decide) rfl rfl ?_
  rintro X av T I L R uc us rfl g hN hu hz ⟨i, q, rfl, hi, hq, hk⟩
  refine VE.go (ls := [some (.ref (sK i)), some (.int (nI q))]) g hu hz (fun _ => rfl) (fun _ => Nat.le_of_ble_eq_true rfl) ?_
  refine V_aload_0 g eJ12_indexOf_0 ?_
  refine V_iload_1 g eJ12_indexOf_1 ?_
  refine V_iconst (v := 0) g eJ12_indexOf_2 (by decide) ?_
  refine V_ct2 g (ctJ12_indexOf_2 _) eJ12_indexOf_3 ptJ12_633 hi (by decide) (Nat.le_of_ble_eq_true rfl) ?_
  refine ⟨i, q, 0, rfl, hi, hq, by omega, ?_⟩
  refine V_iret g eJ12_indexOf_6 ?_
  exact hk
abbrev spJ16_init : Sp := fun av T I L R uc us k => ∃ (a N : Nat), av = [.ref a, .int (nI N)] ∧ (T a).1 = 15 ∧ N < 1000 ∧ uc + 1 ≤ 600000 ∧ us + N ≤ 7293034 ∧ ((T uc).1 = 99 → k (.inl none) (va_up T uc (101, N)) (u2 (va_up I uc fun _ => 0) a 1 0) (va_up L uc fun _ => 0) (u2 (va_up R uc fun _ => none) a 0 (some uc)) (uc + 1) (us + N))
theorem eJ16_init_0 : dc cJ16_init 0 (.aload_n 0) 1 1 := ⟨by decide +kernel, rfl⟩
theorem eJ16_init_1 : dc cJ16_init 1 (.invokespecial 3) 3 4 := ⟨by decide +kernel, rfl⟩
theorem eJ16_init_4 : dc cJ16_init 4 (.getstatic 18) 3 7 := ⟨by decide +kernel, rfl⟩
theorem eJ16_init_7 : dj cJ16_init 7 (.ifCond .eq 18) 18 25 10 := ⟨by decide +kernel, by decide, rfl⟩
theorem eJ16_init_10 : dc cJ16_init 10 (.aload_n 0) 1 11 := ⟨by decide +kernel, rfl⟩
theorem eJ16_init_11 : dc cJ16_init 11 (.iload_n 1) 1 12 := ⟨by decide +kernel, rfl⟩
theorem eJ16_init_12 : dc cJ16_init 12 (.newarray .byte) 2 14 := ⟨by decide +kernel, rfl⟩
theorem eJ16_init_14 : dc cJ16_init 14 (.putfield 15) 3 17 := ⟨by decide +kernel, rfl⟩
theorem flJ16_15_15 : FL RJ16 15 15 0 := ⟨_, _, _, _, rfl, by decide, by decide, Or.inl (lk q924), Or.inl rfl⟩
theorem pflJ16_15_15 {nm : String} : (FL RJ16 15 15 0 ∧ FN 15 0) ∨ (FF RJ16 15 15 0 ∧ nm = "<init>") := Or.inl ⟨flJ16_15_15, fun C Tb N h => by cases h; rfl⟩
theorem eJ16_init_17 : dc cJ16_init 17 (.aload_n 0) 1 18 := ⟨by decide +kernel, rfl⟩
theorem eJ16_init_18 : dc cJ16_init 18 (.iconst 0) 1 19 := ⟨by decide +kernel, rfl⟩
theorem eJ16_init_19 : dc cJ16_init 19 (.putfield 22) 3 22 := ⟨by decide +kernel, rfl⟩
theorem flJ16_22_15 : FL RJ16 22 15 1 := ⟨_, _, _, _, rfl, by decide, by decide, Or.inl (lk q925), Or.inl rfl⟩
theorem pflJ16_22_15 {nm : String} : (FL RJ16 22 15 1 ∧ FN 15 1) ∨ (FF RJ16 22 15 1 ∧ nm = "<init>") := Or.inl ⟨flJ16_22_15, fun C Tb N h => by cases h; rfl⟩
theorem eJ16_init_22 : dj cJ16_init 22 (.goto 16) 16 38 25 := ⟨by decide +kernel, by decide, rfl⟩
theorem eJ16_init_38 : dc cJ16_init 38 (.return_) 1 39 := ⟨by decide +kernel, rfl⟩
set_option maxHeartbeats 8000000 in
theorem ctJ16_init (l : Launch) : Ct l yJ16_init (.code yJ16_init cJ16_init 2 none) 2 spJ16_init := by
  refine Ct.of (own := RJ16) (nm := "<init>") (by decide) rfl rfl ?_
  rintro X av T I L R uc us rfl g hN hu hz ⟨a, N, rfl, hT, hN, huc, hus, hk⟩
  refine VE.go (ls := [some (.ref a), some (.int (nI N))]) g hu hz (fun _ => rfl) (fun _ => Nat.le_of_ble_eq_true rfl) ?_
  refine V_aload_0 g eJ16_init_0 ?_
  refine V_objInit g eJ16_init_1 (lk q915) (lk q103) (lk q104) (by decide) (Nat.le_of_ble_eq_true rfl) ?_
  refine V_getsI g eJ16_init_4 (fun _ _ _ h => h.2.2.1) (lk q916) ?_
  refine V_if_eq g eJ16_init_7 (fun c_7 => absurd c_7 (by decide)) (fun _ => ?_)
  refine V_aload_0 g eJ16_init_10 ?_
  refine V_iload_1 g eJ16_init_11 ?_
  refine V_newa (tg := 101) (N := N) g eJ16_init_12 (by decide) rfl (lk q162) (by omega) (by omega) (by omega) (fun hd_12 => ?_)
  refine V_putR (r := some _) g eJ16_init_14 pflJ16_15_15 (by rw [va_up_ne _ _ (ne_of99 hd_12 (by rw [hT]; decide))]; exact hT) rfl rfl ?_
  refine V_aload_0 g eJ16_init_17 ?_
  refine V_iconst (v := 0) g eJ16_init_18 (by decide) ?_
  refine V_putI g eJ16_init_19 pflJ16_22_15 (by rw [va_up_ne _ _ (ne_of99 hd_12 (by rw [hT]; decide))]; exact hT) rfl rfl rfl ?_
  refine V_goto g eJ16_init_22 ?_
  refine V_vret g eJ16_init_38 ?_
  exact hk hd_12
abbrev spJ17_init : Sp := fun av T I L R uc us k => ∃ (a N : Nat), av = [.ref a, .int (nI N)] ∧ (T a).1 = 15 ∧ N < 1000 ∧ uc + 1 ≤ 600000 ∧ us + N ≤ 7293034 ∧ ((T uc).1 = 99 → k (.inl none) (va_up T uc (101, N)) (u2 (va_up I uc fun _ => 0) a 1 0) (va_up L uc fun _ => 0) (u2 (va_up R uc fun _ => none) a 0 (some uc)) (uc + 1) (us + N))
theorem eJ17_init_0 : dc cJ17_init 0 (.aload_n 0) 1 1 := ⟨by decide +kernel, rfl⟩
theorem eJ17_init_1 : dc cJ17_init 1 (.iload_n 1) 1 2 := ⟨by decide +kernel, rfl⟩
theorem eJ17_init_2 : dc cJ17_init 2 (.invokespecial 1) 3 5 := ⟨by decide +kernel, rfl⟩
theorem pkJ17_1 : PkI RJ17 1 yJ16_init cJ16_init 2 1 := ⟨(lk q914), Or.inl (lk q912), (lk q913), rfl, ⟨⟨by decide, by decide⟩, by decide +kernel⟩, (lk q94), by decide⟩
theorem eJ17_init_5 : dc cJ17_init 5 (.return_) 1 6 := ⟨by decide +kernel, rfl⟩
set_option maxHeartbeats 8000000 in
theorem ctJ17_init (l : Launch) : Ct l yJ17_init (.code yJ17_init cJ17_init 2 none) 3 spJ17_init := by
  refine Ct.of (own := RJ17) (nm := "<init>") (by decide) rfl rfl ?_
  rintro X av T I L R uc us rfl g hN hu hz ⟨a, N, rfl, hT, hN, huc, hus, hk⟩
  refine VE.go (ls := [some (.ref a), some (.int (nI N))]) g hu hz (fun _ => rfl) (fun _ => Nat.le_of_ble_eq_true rfl) ?_
  refine V_aload_0 g eJ17_init_0 ?_
  refine V_iload_1 g eJ17_init_1 ?_
  refine V_ci1 g (ctJ16_init _) eJ17_init_2 pkJ17_1 (by decide) (Nat.le_of_ble_eq_true rfl) ?_
  refine ⟨a, N, rfl, hT, hN, huc, hus, fun h99 => ?_⟩
  have hk := hk h99
  refine V_vret g eJ17_init_5 ?_
  exact hk
/-- a StringBuilder of n letters -/
def SBt (T : Tt) (I : It) (R : Rt) (b v cap n : Nat) (f : Nat → Nat) : Prop := (T b).1 = 15 ∧ R b 0 = some v ∧ T v = (101, cap) ∧ I b 1 = 0 ∧ I b 3 = nI n ∧ n ≤ cap ∧ cap < 40000 ∧ (∀ j, j < n → I v j = nI (f j) ∧ f j < 128) ∧ ∀ j, n ≤ j → I v j = 0
theorem SBt.fit {T : Tt} {I : It} {R : Rt} {b v cap n : Nat} {f : Nat → Nat} (h : SBt T I R b v cap n f) (j : Nat) : fits .byte (.int (I v j)) = true := by
  have h1 : ∀ q, q < 128 → fits .byte (.int (nI q)) = true := by
    have : ∀ q, q < 128 → fits .byte (.int (nI q)) = true := by decide
    exact this
  rcases Nat.lt_or_ge j n with q | q
  · have := h.2.2.2.2.2.2.2.1 j q
    rw [this.1]
    exact h1 _ this.2
  · rw [h.2.2.2.2.2.2.2.2 j q]
    exact h1 0 (by decide)

