/-! BedBookModel: close, roots, looks, counts (printed out of tmpl/t_model7.txt) -/
set_option maxRecDepth 100000
/-- the checks of the first n plants of b closed -/
def clI (J : It) (b : Int32) : Nat → It
  | 0 => J
  | n + 1 => if clI J b n 32 n = b then ckI (clI J b n) n else clI J b n
def clR (J : It) (b : Int32) : Nat → Int32
  | 0 => 0
  | n + 1 => if clI J b n 32 n = b then clR J b n + bI (¬ ckR (clI J b n) n = 0) else clR J b n
theorem ckI_0 (I : It) (P j : Nat) : ckI I P 0 j = I 0 j := by unfold ckI; split <;> simp [u2]
theorem ckI_32 (I : It) (P j : Nat) : ckI I P 32 j = I 32 j := by unfold ckI; split <;> simp [u2]
theorem clI_0 (J : It) (b : Int32) (j : Nat) : ∀ n, clI J b n 0 j = J 0 j := by
  intro n
  induction n with
  | zero => rfl
  | succ n ih => unfold clI; split; rw [ckI_0, ih]; exact ih
abbrev spX4_close : Sp := fun av T I L R uc us k => ∃ b : Int32, ∃ N : Nat, av = [.ref 0, .int b] ∧ T = TM ∧ R = RM ∧ (fun J => J 0 25 = nI N ∧ N ≤ 40 ∧ if ¬ isBd J b then k (.inl (some (.int (-1)))) T J L R uc us else k (.inl (some (.int (clR J b N)))) T (clI J b N) L R uc us) (u2 I 0 0 0)
theorem eX4_close_19 : dc cX4_close 19 (.iload_n 3) 1 20 := ⟨by decide +kernel, rfl⟩
theorem eX4_close_20 : dc cX4_close 20 (.aload_n 0) 1 21 := ⟨by decide +kernel, rfl⟩
theorem eX4_close_21 : dc cX4_close 21 (.getfield 258) 3 24 := ⟨by decide +kernel, rfl⟩
theorem eX4_close_24 : dj cX4_close 24 (.if_icmp .ge 35) 35 59 27 := ⟨by decide +kernel, by decide, rfl⟩
theorem eX4_close_59 : dc cX4_close 59 (.iload_n 2) 1 60 := ⟨by decide +kernel, rfl⟩
theorem eX4_close_60 : dc cX4_close 60 (.ireturn) 1 61 := ⟨by decide +kernel, rfl⟩
theorem eX4_close_27 : dc cX4_close 27 (.aload_n 0) 1 28 := ⟨by decide +kernel, rfl⟩
theorem eX4_close_28 : dc cX4_close 28 (.getfield 108) 3 31 := ⟨by decide +kernel, rfl⟩
theorem eX4_close_31 : dc cX4_close 31 (.iload_n 3) 1 32 := ⟨by decide +kernel, rfl⟩
theorem eX4_close_32 : dc cX4_close 32 (.iaload) 1 33 := ⟨by decide +kernel, rfl⟩
theorem eX4_close_33 : dc cX4_close 33 (.iload_n 1) 1 34 := ⟨by decide +kernel, rfl⟩
theorem eX4_close_34 : dj cX4_close 34 (.if_icmp .ne 19) 19 53 37 := ⟨by decide +kernel, by decide, rfl⟩
theorem eX4_close_53 : dc cX4_close 53 (.iinc 3 1) 3 56 := ⟨by decide +kernel, rfl⟩
theorem eX4_close_56 : dj cX4_close 56 (.goto (-37)) (-37) 19 59 := ⟨by decide +kernel, by decide, rfl⟩
theorem eX4_close_37 : dc cX4_close 37 (.iload_n 2) 1 38 := ⟨by decide +kernel, rfl⟩
theorem eX4_close_38 : dc cX4_close 38 (.aload_n 0) 1 39 := ⟨by decide +kernel, rfl⟩
theorem eX4_close_39 : dc cX4_close 39 (.iload_n 3) 1 40 := ⟨by decide +kernel, rfl⟩
theorem eX4_close_40 : dc cX4_close 40 (.invokevirtual 345) 3 43 := ⟨by decide +kernel, rfl⟩
theorem pkX4_345 : PkV RX4 345 yX4_checks (.code yX4_checks cX4_checks 3 (some .boolean)) 3 "BedBookModel" 1 := ⟨cwd_c, (lk q1658), Or.inl (lk q1655), (lk q1657), (lk qs59), ⟨⟨by decide, by decide⟩, by decide +kernel⟩, (lk q67), by decide⟩
theorem eX4_close_43 : dj cX4_close 43 (.ifCond .eq 7) 7 50 46 := ⟨by decide +kernel, by decide, rfl⟩
theorem eX4_close_50 : dc cX4_close 50 (.iconst 0) 1 51 := ⟨by decide +kernel, rfl⟩
theorem eX4_close_51 : dc cX4_close 51 (.iadd) 1 52 := ⟨by decide +kernel, rfl⟩
theorem eX4_close_52 : dc cX4_close 52 (.istore_n 2) 1 53 := ⟨by decide +kernel, rfl⟩
theorem eX4_close_46 : dc cX4_close 46 (.iconst 1) 1 47 := ⟨by decide +kernel, rfl⟩
theorem eX4_close_47 : dj cX4_close 47 (.goto 4) 4 51 50 := ⟨by decide +kernel, by decide, rfl⟩
theorem eX4_close_0 : dc cX4_close 0 (.aload_n 0) 1 1 := ⟨by decide +kernel, rfl⟩
theorem eX4_close_1 : dc cX4_close 1 (.iconst 0) 1 2 := ⟨by decide +kernel, rfl⟩
theorem eX4_close_2 : dc cX4_close 2 (.putfield 1) 3 5 := ⟨by decide +kernel, rfl⟩
theorem eX4_close_5 : dc cX4_close 5 (.aload_n 0) 1 6 := ⟨by decide +kernel, rfl⟩
theorem eX4_close_6 : dc cX4_close 6 (.iload_n 1) 1 7 := ⟨by decide +kernel, rfl⟩
theorem eX4_close_7 : dc cX4_close 7 (.invokevirtual 311) 3 10 := ⟨by decide +kernel, rfl⟩
theorem eX4_close_10 : dj cX4_close 10 (.ifCond .ne 5) 5 15 13 := ⟨by decide +kernel, by decide, rfl⟩
theorem eX4_close_15 : dc cX4_close 15 (.iconst 0) 1 16 := ⟨by decide +kernel, rfl⟩
theorem eX4_close_16 : dc cX4_close 16 (.istore_n 2) 1 17 := ⟨by decide +kernel, rfl⟩
theorem eX4_close_17 : dc cX4_close 17 (.iconst 0) 1 18 := ⟨by decide +kernel, rfl⟩
theorem eX4_close_18 : dc cX4_close 18 (.istore_n 3) 1 19 := ⟨by decide +kernel, rfl⟩
theorem eX4_close_13 : dc cX4_close 13 (.iconst (-1)) 1 14 := ⟨by decide +kernel, rfl⟩
theorem eX4_close_14 : dc cX4_close 14 (.ireturn) 1 15 := ⟨by decide +kernel, rfl⟩
set_option maxHeartbeats 8000000 in
theorem ctX4_close (l : Launch) : Ct l yX4_close (.code yX4_close cX4_close 4 (some .int)) 2 spX4_close := by
  refine Ct.of (own := RX4) (nm := "close") (by decide) rfl rfl ?_
  rintro X av T I L R uc us rfl g hN hu hz ⟨b, N, rfl, rfl, rfl, hk⟩
  refine VE.go (ls := [some (.ref 0), some (.int b), none, none]) g hu hz (fun _ => rfl) (fun _ => Nat.le_of_ble_eq_true rfl) ?_
  have loop : ∀ (J : It), J 0 25 = nI N → N ≤ 40 → x_k X (.inl (some (.int (clR J b N)))) TM (clI J b N) L RM uc us → ∀ (n w : Nat) (c : Int32), w ≤ N → N + 1 ≤ w + n → c = clR J b w → V X TM (clI J b w) L RM uc us 19 [some (.ref 0), some (.int b), some (.int c), some (.int (nI w))] [] := by
    intro J hN hN4 hk n
    induction n with
    | zero => intro w c h1 h2; exact absurd h2 (by omega)
    | succ n ih =>
      intro w c h1 h2 hc
      refine V_iload_3 g eX4_close_19 ?_
      refine V_aload_0 g eX4_close_20 ?_
      refine V_getI g eX4_close_21 flX4_258 rfl rfl ?_
      refine V_top (y := nI N) (by rw [clI_0]; exact hN) ?_
      refine V_icmp_ge g eX4_close_24 (fun c_24 => ?_) (fun c_24 => ?_)
      · refine V_iload_2 g eX4_close_59 ?_
        refine V_iret g eX4_close_60 ?_
        have q_24 := nI_le' (a := N) (b := w) (by omega) (by omega) c_24
        obtain rfl : w = N := by omega
        exact kI hk hc.symm
      · have q_24 := nI_nle' (a := N) (b := w) (by omega) (by omega) c_24
        refine V_aload_0 g eX4_close_27 ?_
        refine V_getR g eX4_close_28 flX4_108 rfl rfl rfl ?_
        refine V_iload_3 g eX4_close_31 ?_
        refine V_ialdN g eX4_close_32 rfl (by omega) (by decide) ?_
        refine V_iload_1 g eX4_close_33 ?_
        refine V_icmp_ne g eX4_close_34 (fun c_34 => ?_) (fun c_34 => ?_)
        · refine V_iinc_3 (v := 1) g eX4_close_53 (by decide) (by decide) rfl ?_
          refine V_goto g eX4_close_56 ?_
          rw [nI_1]
          refine V_I (I' := clI J b (w + 1)) (by rw [clI, if_neg c_34]) ?_
          exact ih (w + 1) _ (by omega) (by omega) (by rw [clR, if_neg c_34]; exact hc)
        · refine V_iload_2 g eX4_close_37 ?_
          refine V_aload_0 g eX4_close_38 ?_
          refine V_iload_3 g eX4_close_39 ?_
          refine V_cv1 g (ctX4_checks _) eX4_close_40 pkX4_345 rfl rfl (by decide) (by decide) (Nat.le_of_ble_eq_true rfl) ?_
          refine ⟨w, rfl, rfl, rfl, by omega, ?_⟩
          refine V_if_eq g eX4_close_43 (fun c_43 => ?_) (fun c_43 => ?_)
          · refine V_iconst (v := 0) g eX4_close_50 (by decide) ?_
            refine V_iadd g eX4_close_51 ?_
            refine V_istore_2 g eX4_close_52 (by decide) rfl ?_
            refine V_iinc_3 (v := 1) g eX4_close_53 (by decide) (by decide) rfl ?_
            refine V_goto g eX4_close_56 ?_
            rw [nI_1]
            refine V_I (I' := clI J b (w + 1)) (by rw [clI, if_pos c_34]) ?_
            exact ih (w + 1) _ (by omega) (by omega) (by rw [clR, if_pos c_34, bI_f (fun q => q c_43), ← hc])
          · refine V_iconst (v := 1) g eX4_close_46 (by decide) ?_
            refine V_goto g eX4_close_47 ?_
            refine V_iadd g eX4_close_51 ?_
            refine V_istore_2 g eX4_close_52 (by decide) rfl ?_
            refine V_iinc_3 (v := 1) g eX4_close_53 (by decide) (by decide) rfl ?_
            refine V_goto g eX4_close_56 ?_
            rw [nI_1]
            refine V_I (I' := clI J b (w + 1)) (by rw [clI, if_pos c_34]) ?_
            exact ih (w + 1) _ (by omega) (by omega) (by rw [clR, if_pos c_34, bI_t c_43, ← hc])
  refine V_aload_0 g eX4_close_0 ?_
  refine V_iconst (v := 0) g eX4_close_1 (by decide) ?_
  refine V_putI g eX4_close_2 pflX4_1 rfl rfl rfl rfl ?_
  generalize u2 I 0 0 0 = J at hk ⊢
  obtain ⟨hP, hN4, hk⟩ := hk
  refine V_aload_0 g eX4_close_5 ?_
  refine V_iload_1 g eX4_close_6 ?_
  refine V_cv1 g (ctX4_isBed _) eX4_close_7 pkX4_311 rfl rfl (by decide) (by decide) (Nat.le_of_ble_eq_true rfl) ?_
  refine ⟨_, rfl, rfl, rfl, ?_⟩
  refine V_if_neB g eX4_close_10 (fun c_10 => ?_) (fun c_10 => ?_)
  · refine V_iconst (v := 0) g eX4_close_15 (by decide) ?_
    refine V_istore_2 g eX4_close_16 (by decide) rfl ?_
    refine V_iconst (v := 0) g eX4_close_17 (by decide) ?_
    refine V_istore_3 g eX4_close_18 (by decide) rfl ?_
    exact loop J hP hN4 (by rw [if_neg (fun q => q c_10)] at hk; exact hk) (N + 1) 0 0 (by omega) (by omega) rfl
  · refine V_iconst (v := (-1)) g eX4_close_13 (by decide) ?_
    refine V_iret g eX4_close_14 ?_
    rw [if_pos c_10] at hk
    exact hk
/-- every plant that is of another one is of an earlier one -/
def ofLt (I : It) (N : Nat) : Prop := ∀ A, A < N → ¬ I 26 A = 0 → ∃ F : Nat, F < A ∧ I 27 A = nI F
def rtF (I : It) : Nat → Nat → Nat
  | 0, p => p
  | n + 1, p => if I 26 p = 0 then p else rtF I n (I 27 p).toNatClampNeg
abbrev spX4_rootOf : Sp := fun av T I L R uc us k => ∃ P : Nat, ∃ N : Nat, av = [.ref 0, .int (nI P)] ∧ T = TM ∧ R = RM ∧ P < N ∧ N ≤ 40 ∧ ofLt I N ∧ k (.inl (some (.int (nI (rtF I 40 P))))) T I L R uc us
theorem eX4_rootOf_2 : dc cX4_rootOf 2 (.aload_n 0) 1 3 := ⟨by decide +kernel, rfl⟩
theorem eX4_rootOf_3 : dc cX4_rootOf 3 (.getfield 90) 3 6 := ⟨by decide +kernel, rfl⟩
theorem eX4_rootOf_6 : dc cX4_rootOf 6 (.iload_n 2) 1 7 := ⟨by decide +kernel, rfl⟩
theorem eX4_rootOf_7 : dc cX4_rootOf 7 (.iaload) 1 8 := ⟨by decide +kernel, rfl⟩
theorem eX4_rootOf_8 : dj cX4_rootOf 8 (.ifCond .eq 13) 13 21 11 := ⟨by decide +kernel, by decide, rfl⟩
theorem eX4_rootOf_21 : dc cX4_rootOf 21 (.iload_n 2) 1 22 := ⟨by decide +kernel, rfl⟩
theorem eX4_rootOf_22 : dc cX4_rootOf 22 (.ireturn) 1 23 := ⟨by decide +kernel, rfl⟩
theorem eX4_rootOf_11 : dc cX4_rootOf 11 (.aload_n 0) 1 12 := ⟨by decide +kernel, rfl⟩
theorem eX4_rootOf_12 : dc cX4_rootOf 12 (.getfield 93) 3 15 := ⟨by decide +kernel, rfl⟩
theorem eX4_rootOf_15 : dc cX4_rootOf 15 (.iload_n 2) 1 16 := ⟨by decide +kernel, rfl⟩
theorem eX4_rootOf_16 : dc cX4_rootOf 16 (.iaload) 1 17 := ⟨by decide +kernel, rfl⟩
theorem eX4_rootOf_17 : dc cX4_rootOf 17 (.istore_n 2) 1 18 := ⟨by decide +kernel, rfl⟩
theorem eX4_rootOf_18 : dj cX4_rootOf 18 (.goto (-16)) (-16) 2 21 := ⟨by decide +kernel, by decide, rfl⟩
theorem eX4_rootOf_0 : dc cX4_rootOf 0 (.iload_n 1) 1 1 := ⟨by decide +kernel, rfl⟩
theorem eX4_rootOf_1 : dc cX4_rootOf 1 (.istore_n 2) 1 2 := ⟨by decide +kernel, rfl⟩
set_option maxHeartbeats 8000000 in
theorem ctX4_rootOf (l : Launch) : Ct l yX4_rootOf (.code yX4_rootOf cX4_rootOf 3 (some .int)) 1 spX4_rootOf := by
  refine Ct.of (own := RX4) (nm := "rootOf") (by decide) rfl rfl ?_
  rintro X av T I L R uc us rfl g hN hu hz ⟨P, N, rfl, rfl, rfl, hP, hN4, hof, hk⟩
  refine VE.go (ls := [some (.ref 0), some (.int (nI P)), none]) g hu hz (fun _ => rfl) (fun _ => Nat.le_of_ble_eq_true rfl) ?_
  have loop : ∀ (n q : Nat), q < n → q < N → x_k X (.inl (some (.int (nI (rtF I n q))))) TM I L RM uc us → V X TM I L RM uc us 2 [some (.ref 0), some (.int (nI P)), some (.int (nI q))] [] := by
    intro n
    induction n with
    | zero => intro q h1; exact absurd h1 (by omega)
    | succ n ih =>
      intro q h1 h2 hk
      refine V_aload_0 g eX4_rootOf_2 ?_
      refine V_getR g eX4_rootOf_3 flX4_90 rfl rfl rfl ?_
      refine V_iload_2 g eX4_rootOf_6 ?_
      refine V_ialdN g eX4_rootOf_7 rfl (by omega) (by decide) ?_
      refine V_if_eq g eX4_rootOf_8 (fun c_8 => ?_) (fun c_8 => ?_)
      · refine V_iload_2 g eX4_rootOf_21 ?_
        refine V_iret g eX4_rootOf_22 ?_
        rw [rtF, if_pos c_8] at hk
        exact hk
      · obtain ⟨F, hF, eF⟩ := hof q h2 c_8
        refine V_aload_0 g eX4_rootOf_11 ?_
        refine V_getR g eX4_rootOf_12 flX4_93 rfl rfl rfl ?_
        refine V_iload_2 g eX4_rootOf_15 ?_
        refine V_ialdN g eX4_rootOf_16 rfl (by omega) (by decide) ?_
        refine V_top (y := nI F) eF ?_
        refine V_istore_2 g eX4_rootOf_17 (by decide) rfl ?_
        refine V_goto g eX4_rootOf_18 ?_
        exact ih F (by omega) (by omega) (by rw [rtF, if_neg c_8, eF, nI_clamp (by omega)] at hk; exact hk)
  refine V_iload_1 g eX4_rootOf_0 ?_
  refine V_istore_2 g eX4_rootOf_1 (by decide) rfl ?_
  exact loop 40 P (by omega) hP hk
def cuF (I : It) : Nat → Nat → Nat
  | 0, p => p
  | n + 1, p => if I 26 p = 3 then cuF I n (I 27 p).toNatClampNeg else p
theorem cuF_lt {I : It} {N : Nat} (hof : ofLt I N) : ∀ n q, q < N → N < 2 ^ 31 → cuF I n q < N := by
  intro n
  induction n with
  | zero => intro q h _; exact h
  | succ n ih =>
    intro q h h2
    unfold cuF
    split
    · rename_i c
      obtain ⟨F, hF, eF⟩ := hof q h (by rw [c]; decide)
      rw [eF, nI_clamp (by omega)]
      exact ih F (by omega) h2
    · exact h
theorem rtF_lt {I : It} {N : Nat} (hof : ofLt I N) : ∀ n q, q < N → N < 2 ^ 31 → rtF I n q < N := by
  intro n
  induction n with
  | zero => intro q h _; exact h
  | succ n ih =>
    intro q h h2
    unfold rtF
    split
    · exact h
    · rename_i c
      obtain ⟨F, hF, eF⟩ := hof q h c
      rw [eF, nI_clamp (by omega)]
      exact ih F (by omega) h2
abbrev spX4_isCut : Sp := fun av T I L R uc us k => ∃ P : Nat, ∃ N : Nat, av = [.ref 0, .int (nI P)] ∧ T = TM ∧ R = RM ∧ P < N ∧ N ≤ 40 ∧ ofLt I N ∧ k (.inl (some (.int (bI (I 26 (cuF I 40 P) = 2))))) T I L R uc us
theorem eX4_isCut_2 : dc cX4_isCut 2 (.aload_n 0) 1 3 := ⟨by decide +kernel, rfl⟩
theorem eX4_isCut_3 : dc cX4_isCut 3 (.getfield 90) 3 6 := ⟨by decide +kernel, rfl⟩
theorem eX4_isCut_6 : dc cX4_isCut 6 (.iload_n 2) 1 7 := ⟨by decide +kernel, rfl⟩
theorem eX4_isCut_7 : dc cX4_isCut 7 (.iaload) 1 8 := ⟨by decide +kernel, rfl⟩
theorem eX4_isCut_8 : dc cX4_isCut 8 (.iconst 3) 1 9 := ⟨by decide +kernel, rfl⟩
theorem eX4_isCut_9 : dj cX4_isCut 9 (.if_icmp .ne 13) 13 22 12 := ⟨by decide +kernel, by decide, rfl⟩
theorem eX4_isCut_22 : dc cX4_isCut 22 (.aload_n 0) 1 23 := ⟨by decide +kernel, rfl⟩
theorem eX4_isCut_23 : dc cX4_isCut 23 (.getfield 90) 3 26 := ⟨by decide +kernel, rfl⟩
theorem eX4_isCut_26 : dc cX4_isCut 26 (.iload_n 2) 1 27 := ⟨by decide +kernel, rfl⟩
theorem eX4_isCut_27 : dc cX4_isCut 27 (.iaload) 1 28 := ⟨by decide +kernel, rfl⟩
theorem eX4_isCut_28 : dc cX4_isCut 28 (.iconst 2) 1 29 := ⟨by decide +kernel, rfl⟩
theorem eX4_isCut_29 : dj cX4_isCut 29 (.if_icmp .ne 7) 7 36 32 := ⟨by decide +kernel, by decide, rfl⟩
theorem eX4_isCut_36 : dc cX4_isCut 36 (.iconst 0) 1 37 := ⟨by decide +kernel, rfl⟩
theorem eX4_isCut_37 : dc cX4_isCut 37 (.ireturn) 1 38 := ⟨by decide +kernel, rfl⟩
theorem eX4_isCut_32 : dc cX4_isCut 32 (.iconst 1) 1 33 := ⟨by decide +kernel, rfl⟩
theorem eX4_isCut_33 : dj cX4_isCut 33 (.goto 4) 4 37 36 := ⟨by decide +kernel, by decide, rfl⟩
theorem eX4_isCut_12 : dc cX4_isCut 12 (.aload_n 0) 1 13 := ⟨by decide +kernel, rfl⟩
theorem eX4_isCut_13 : dc cX4_isCut 13 (.getfield 93) 3 16 := ⟨by decide +kernel, rfl⟩
theorem eX4_isCut_16 : dc cX4_isCut 16 (.iload_n 2) 1 17 := ⟨by decide +kernel, rfl⟩
theorem eX4_isCut_17 : dc cX4_isCut 17 (.iaload) 1 18 := ⟨by decide +kernel, rfl⟩
theorem eX4_isCut_18 : dc cX4_isCut 18 (.istore_n 2) 1 19 := ⟨by decide +kernel, rfl⟩
theorem eX4_isCut_19 : dj cX4_isCut 19 (.goto (-17)) (-17) 2 22 := ⟨by decide +kernel, by decide, rfl⟩
theorem eX4_isCut_0 : dc cX4_isCut 0 (.iload_n 1) 1 1 := ⟨by decide +kernel, rfl⟩
theorem eX4_isCut_1 : dc cX4_isCut 1 (.istore_n 2) 1 2 := ⟨by decide +kernel, rfl⟩
set_option maxHeartbeats 8000000 in
theorem ctX4_isCut (l : Launch) : Ct l yX4_isCut (.code yX4_isCut cX4_isCut 3 (some .boolean)) 1 spX4_isCut := by
  refine Ct.of (own := RX4) (nm := "isCut") (by decide) rfl rfl ?_
  rintro X av T I L R uc us rfl g hN hu hz ⟨P, N, rfl, rfl, rfl, hP, hN4, hof, hk⟩
  refine VE.go (ls := [some (.ref 0), some (.int (nI P)), none]) g hu hz (fun _ => rfl) (fun _ => Nat.le_of_ble_eq_true rfl) ?_
  have loop : ∀ (n q : Nat), q < n → q < N → x_k X (.inl (some (.int (bI (I 26 (cuF I n q) = 2))))) TM I L RM uc us → V X TM I L RM uc us 2 [some (.ref 0), some (.int (nI P)), some (.int (nI q))] [] := by
    intro n
    induction n with
    | zero => intro q h1; exact absurd h1 (by omega)
    | succ n ih =>
      intro q h1 h2 hk
      refine V_aload_0 g eX4_isCut_2 ?_
      refine V_getR g eX4_isCut_3 flX4_90 rfl rfl rfl ?_
      refine V_iload_2 g eX4_isCut_6 ?_
      refine V_ialdN g eX4_isCut_7 rfl (by omega) (by decide) ?_
      refine V_iconst (v := 3) g eX4_isCut_8 (by decide) ?_
      refine V_icmp_ne g eX4_isCut_9 (fun c_9 => ?_) (fun c_9 => ?_)
      · rw [cuF, if_neg c_9] at hk
        refine V_aload_0 g eX4_isCut_22 ?_
        refine V_getR g eX4_isCut_23 flX4_90 rfl rfl rfl ?_
        refine V_iload_2 g eX4_isCut_26 ?_
        refine V_ialdN g eX4_isCut_27 rfl (by omega) (by decide) ?_
        refine V_iconst (v := 2) g eX4_isCut_28 (by decide) ?_
        refine V_icmp_ne g eX4_isCut_29 (fun c_29 => ?_) (fun c_29 => ?_)
        · refine V_iconst (v := 0) g eX4_isCut_36 (by decide) ?_
          refine V_zret g eX4_isCut_37 rfl ?_
          exact kI hk (bI_f c_29)
        · refine V_iconst (v := 1) g eX4_isCut_32 (by decide) ?_
          refine V_goto g eX4_isCut_33 ?_
          refine V_zret g eX4_isCut_37 rfl ?_
          exact kI hk (bI_t c_29)
      · obtain ⟨F, hF, eF⟩ := hof q h2 (by rw [c_9]; decide)
        refine V_aload_0 g eX4_isCut_12 ?_
        refine V_getR g eX4_isCut_13 flX4_93 rfl rfl rfl ?_
        refine V_iload_2 g eX4_isCut_16 ?_
        refine V_ialdN g eX4_isCut_17 rfl (by omega) (by decide) ?_
        refine V_top (y := nI F) eF ?_
        refine V_istore_2 g eX4_isCut_18 (by decide) rfl ?_
        refine V_goto g eX4_isCut_19 ?_
        exact ih F (by omega) (by omega) (by rw [cuF, if_pos c_9, eF, nI_clamp (by omega)] at hk; exact hk)
  refine V_iload_1 g eX4_isCut_0 ?_
  refine V_istore_2 g eX4_isCut_1 (by decide) rfl ?_
  exact loop 40 P (by omega) hP hk
abbrev lkOK (I : It) (p what : Int32) : Prop := isP I p ∧ ¬ what < 0 ∧ ¬ 17 < what
/-- what look answers of the plant P -/
def lkF (I : It) (P : Nat) (w : Int32) : Int32 :=
  if w = 0 then I 26 P else if w = 1 then I 27 P else if w = 2 then I 28 P else if w = 3 then I 29 P else if w = 4 then I 36 (rtF I 40 P) else if w = 5 then nI (rtF I 40 P)
  else if w = 6 then bI (I 26 (cuF I 40 P) = 2) else if w = 7 then I 32 P else if w = 8 then I 34 P else if w = 9 then bI (¬ I 35 P = 0) else I 30 (8 * P + (w - 10).toNatClampNeg)
abbrev spX4_look : Sp := fun av T I L R uc us k => ∃ p : Int32, ∃ what : Int32, ∃ N : Nat, av = [.ref 0, .int p, .int what] ∧ T = TM ∧ R = RM ∧ I 0 25 = nI N ∧ N ≤ 40 ∧ ofLt I N ∧ (¬ lkOK I p what → k (.inl (some (.int 0))) T (u2 I 0 0 1) L R uc us) ∧ (lkOK I p what → k (.inl (some (.int (lkF (u2 I 0 0 0) p.toNatClampNeg what)))) T (u2 I 0 0 0) L R uc us)
theorem w17_nI {r : Int32} (h0 : ¬ r < 0) (h1 : ¬ 17 < r) (h2 : r.toInt < 0 ∨ 9 < r.toInt) : ∃ W : Nat, W < 8 ∧ r = nI (10 + W) := by
  obtain ⟨j, hj, rfl⟩ := nI_of h0
  rw [nI_toInt hj] at h2
  refine ⟨j - 10, ?_, ?_⟩
  · rcases Nat.lt_or_ge j 18 with q | q
    · omega
    · exact absurd (show (17 : Int32) < nI j from nI_lt (a := 17) (by omega) hj) h1
  · congr 1
    omega
theorem eX4_look_23 : dc cX4_look 23 (.iconst 1) 1 24 := ⟨by decide +kernel, rfl⟩
theorem eX4_look_24 : dc cX4_look 24 (.putfield 1) 3 27 := ⟨by decide +kernel, rfl⟩
theorem eX4_look_27 : dc cX4_look 27 (.aload_n 0) 1 28 := ⟨by decide +kernel, rfl⟩
theorem eX4_look_28 : dc cX4_look 28 (.getfield 1) 3 31 := ⟨by decide +kernel, rfl⟩
theorem eX4_look_31 : dj cX4_look 31 (.ifCond .le 5) 5 36 34 := ⟨by decide +kernel, by decide, rfl⟩
theorem eX4_look_34 : dc cX4_look 34 (.iconst 0) 1 35 := ⟨by decide +kernel, rfl⟩
theorem eX4_look_35 : dc cX4_look 35 (.ireturn) 1 36 := ⟨by decide +kernel, rfl⟩
theorem eX4_look_0 : dc cX4_look 0 (.aload_n 0) 1 1 := ⟨by decide +kernel, rfl⟩
theorem eX4_look_1 : dc cX4_look 1 (.aload_n 0) 1 2 := ⟨by decide +kernel, rfl⟩
theorem eX4_look_2 : dc cX4_look 2 (.iload_n 1) 1 3 := ⟨by decide +kernel, rfl⟩
theorem eX4_look_3 : dc cX4_look 3 (.invokevirtual 268) 3 6 := ⟨by decide +kernel, rfl⟩
theorem eX4_look_6 : dj cX4_look 6 (.ifCond .eq 17) 17 23 9 := ⟨by decide +kernel, by decide, rfl⟩
theorem eX4_look_9 : dc cX4_look 9 (.iload_n 2) 1 10 := ⟨by decide +kernel, rfl⟩
theorem eX4_look_10 : dj cX4_look 10 (.ifCond .lt 13) 13 23 13 := ⟨by decide +kernel, by decide, rfl⟩
theorem eX4_look_13 : dc cX4_look 13 (.iload_n 2) 1 14 := ⟨by decide +kernel, rfl⟩
theorem eX4_look_14 : dc cX4_look 14 (.bipush 17) 2 16 := ⟨by decide +kernel, rfl⟩
theorem eX4_look_16 : dj cX4_look 16 (.if_icmp .gt 7) 7 23 19 := ⟨by decide +kernel, by decide, rfl⟩
theorem eX4_look_19 : dc cX4_look 19 (.iconst 0) 1 20 := ⟨by decide +kernel, rfl⟩
theorem eX4_look_20 : dj cX4_look 20 (.goto 4) 4 24 23 := ⟨by decide +kernel, by decide, rfl⟩
theorem eX4_look_36 : dc cX4_look 36 (.iload_n 2) 1 37 := ⟨by decide +kernel, rfl⟩
theorem eX4_look_37 : dc cX4_look 37 (.tableswitch 143 0 9 #[55, 62, 69, 76, 83, 94, 100, 114, 121, 128]) 55 92 := ⟨by decide +kernel, rfl⟩
theorem eX4_look_92 : dc cX4_look 92 (.aload_n 0) 1 93 := ⟨by decide +kernel, rfl⟩
theorem eX4_look_93 : dc cX4_look 93 (.getfield 90) 3 96 := ⟨by decide +kernel, rfl⟩
theorem eX4_look_96 : dc cX4_look 96 (.iload_n 1) 1 97 := ⟨by decide +kernel, rfl⟩
theorem eX4_look_97 : dc cX4_look 97 (.iaload) 1 98 := ⟨by decide +kernel, rfl⟩
theorem eX4_look_98 : dc cX4_look 98 (.ireturn) 1 99 := ⟨by decide +kernel, rfl⟩
theorem eX4_look_99 : dc cX4_look 99 (.aload_n 0) 1 100 := ⟨by decide +kernel, rfl⟩
theorem eX4_look_100 : dc cX4_look 100 (.getfield 93) 3 103 := ⟨by decide +kernel, rfl⟩
theorem eX4_look_103 : dc cX4_look 103 (.iload_n 1) 1 104 := ⟨by decide +kernel, rfl⟩
theorem eX4_look_104 : dc cX4_look 104 (.iaload) 1 105 := ⟨by decide +kernel, rfl⟩
theorem eX4_look_105 : dc cX4_look 105 (.ireturn) 1 106 := ⟨by decide +kernel, rfl⟩
theorem eX4_look_106 : dc cX4_look 106 (.aload_n 0) 1 107 := ⟨by decide +kernel, rfl⟩
theorem eX4_look_107 : dc cX4_look 107 (.getfield 96) 3 110 := ⟨by decide +kernel, rfl⟩
theorem eX4_look_110 : dc cX4_look 110 (.iload_n 1) 1 111 := ⟨by decide +kernel, rfl⟩
theorem eX4_look_111 : dc cX4_look 111 (.iaload) 1 112 := ⟨by decide +kernel, rfl⟩
theorem eX4_look_112 : dc cX4_look 112 (.ireturn) 1 113 := ⟨by decide +kernel, rfl⟩
theorem eX4_look_113 : dc cX4_look 113 (.aload_n 0) 1 114 := ⟨by decide +kernel, rfl⟩
theorem eX4_look_114 : dc cX4_look 114 (.getfield 99) 3 117 := ⟨by decide +kernel, rfl⟩
theorem eX4_look_117 : dc cX4_look 117 (.iload_n 1) 1 118 := ⟨by decide +kernel, rfl⟩
theorem eX4_look_118 : dc cX4_look 118 (.iaload) 1 119 := ⟨by decide +kernel, rfl⟩
theorem eX4_look_119 : dc cX4_look 119 (.ireturn) 1 120 := ⟨by decide +kernel, rfl⟩
theorem eX4_look_120 : dc cX4_look 120 (.aload_n 0) 1 121 := ⟨by decide +kernel, rfl⟩
theorem eX4_look_121 : dc cX4_look 121 (.getfield 120) 3 124 := ⟨by decide +kernel, rfl⟩
theorem eX4_look_124 : dc cX4_look 124 (.aload_n 0) 1 125 := ⟨by decide +kernel, rfl⟩
theorem eX4_look_125 : dc cX4_look 125 (.iload_n 1) 1 126 := ⟨by decide +kernel, rfl⟩
theorem eX4_look_126 : dc cX4_look 126 (.invokevirtual 327) 3 129 := ⟨by decide +kernel, rfl⟩
theorem pkX4_327 : PkV RX4 327 yX4_rootOf (.code yX4_rootOf cX4_rootOf 3 (some .int)) 3 "BedBookModel" 1 := ⟨cwd_c, (lk q1630), Or.inl (lk q1627), (lk q1629), (lk qs56), ⟨⟨by decide, by decide⟩, by decide +kernel⟩, (lk q67), by decide⟩
theorem eX4_look_129 : dc cX4_look 129 (.iaload) 1 130 := ⟨by decide +kernel, rfl⟩
theorem eX4_look_130 : dc cX4_look 130 (.ireturn) 1 131 := ⟨by decide +kernel, rfl⟩
theorem eX4_look_131 : dc cX4_look 131 (.aload_n 0) 1 132 := ⟨by decide +kernel, rfl⟩
theorem eX4_look_132 : dc cX4_look 132 (.iload_n 1) 1 133 := ⟨by decide +kernel, rfl⟩
theorem eX4_look_133 : dc cX4_look 133 (.invokevirtual 327) 3 136 := ⟨by decide +kernel, rfl⟩
theorem eX4_look_136 : dc cX4_look 136 (.ireturn) 1 137 := ⟨by decide +kernel, rfl⟩
theorem eX4_look_137 : dc cX4_look 137 (.aload_n 0) 1 138 := ⟨by decide +kernel, rfl⟩
theorem eX4_look_138 : dc cX4_look 138 (.iload_n 1) 1 139 := ⟨by decide +kernel, rfl⟩
theorem eX4_look_139 : dc cX4_look 139 (.invokevirtual 330) 3 142 := ⟨by decide +kernel, rfl⟩
theorem pkX4_330 : PkV RX4 330 yX4_isCut (.code yX4_isCut cX4_isCut 3 (some .boolean)) 3 "BedBookModel" 1 := ⟨cwd_c, (lk q1634), Or.inl (lk q1631), (lk q1633), (lk qs57), ⟨⟨by decide, by decide⟩, by decide +kernel⟩, (lk q67), by decide⟩
theorem eX4_look_142 : dj cX4_look 142 (.ifCond .eq 7) 7 149 145 := ⟨by decide +kernel, by decide, rfl⟩
theorem eX4_look_149 : dc cX4_look 149 (.iconst 0) 1 150 := ⟨by decide +kernel, rfl⟩
theorem eX4_look_150 : dc cX4_look 150 (.ireturn) 1 151 := ⟨by decide +kernel, rfl⟩
theorem eX4_look_145 : dc cX4_look 145 (.iconst 1) 1 146 := ⟨by decide +kernel, rfl⟩
theorem eX4_look_146 : dj cX4_look 146 (.goto 4) 4 150 149 := ⟨by decide +kernel, by decide, rfl⟩
theorem eX4_look_151 : dc cX4_look 151 (.aload_n 0) 1 152 := ⟨by decide +kernel, rfl⟩
theorem eX4_look_152 : dc cX4_look 152 (.getfield 108) 3 155 := ⟨by decide +kernel, rfl⟩
theorem eX4_look_155 : dc cX4_look 155 (.iload_n 1) 1 156 := ⟨by decide +kernel, rfl⟩
theorem eX4_look_156 : dc cX4_look 156 (.iaload) 1 157 := ⟨by decide +kernel, rfl⟩
theorem eX4_look_157 : dc cX4_look 157 (.ireturn) 1 158 := ⟨by decide +kernel, rfl⟩
theorem eX4_look_158 : dc cX4_look 158 (.aload_n 0) 1 159 := ⟨by decide +kernel, rfl⟩
theorem eX4_look_159 : dc cX4_look 159 (.getfield 114) 3 162 := ⟨by decide +kernel, rfl⟩
theorem eX4_look_162 : dc cX4_look 162 (.iload_n 1) 1 163 := ⟨by decide +kernel, rfl⟩
theorem eX4_look_163 : dc cX4_look 163 (.iaload) 1 164 := ⟨by decide +kernel, rfl⟩
theorem eX4_look_164 : dc cX4_look 164 (.ireturn) 1 165 := ⟨by decide +kernel, rfl⟩
theorem eX4_look_165 : dc cX4_look 165 (.aload_n 0) 1 166 := ⟨by decide +kernel, rfl⟩
theorem eX4_look_166 : dc cX4_look 166 (.getfield 117) 3 169 := ⟨by decide +kernel, rfl⟩
theorem eX4_look_169 : dc cX4_look 169 (.iload_n 1) 1 170 := ⟨by decide +kernel, rfl⟩
theorem eX4_look_170 : dc cX4_look 170 (.baload) 1 171 := ⟨by decide +kernel, rfl⟩
theorem eX4_look_171 : dj cX4_look 171 (.ifCond .eq 7) 7 178 174 := ⟨by decide +kernel, by decide, rfl⟩
theorem eX4_look_178 : dc cX4_look 178 (.iconst 0) 1 179 := ⟨by decide +kernel, rfl⟩
theorem eX4_look_179 : dc cX4_look 179 (.ireturn) 1 180 := ⟨by decide +kernel, rfl⟩
theorem eX4_look_174 : dc cX4_look 174 (.iconst 1) 1 175 := ⟨by decide +kernel, rfl⟩
theorem eX4_look_175 : dj cX4_look 175 (.goto 4) 4 179 178 := ⟨by decide +kernel, by decide, rfl⟩
theorem eX4_look_180 : dc cX4_look 180 (.aload_n 0) 1 181 := ⟨by decide +kernel, rfl⟩
theorem eX4_look_181 : dc cX4_look 181 (.iload_n 1) 1 182 := ⟨by decide +kernel, rfl⟩
theorem eX4_look_182 : dc cX4_look 182 (.iload_n 2) 1 183 := ⟨by decide +kernel, rfl⟩
theorem eX4_look_183 : dc cX4_look 183 (.bipush 10) 2 185 := ⟨by decide +kernel, rfl⟩
theorem eX4_look_185 : dc cX4_look 185 (.isub) 1 186 := ⟨by decide +kernel, rfl⟩
theorem eX4_look_186 : dc cX4_look 186 (.iconst 2) 1 187 := ⟨by decide +kernel, rfl⟩
theorem eX4_look_187 : dc cX4_look 187 (.idiv) 1 188 := ⟨by decide +kernel, rfl⟩
theorem eX4_look_188 : dc cX4_look 188 (.iload_n 2) 1 189 := ⟨by decide +kernel, rfl⟩
theorem eX4_look_189 : dc cX4_look 189 (.iconst 2) 1 190 := ⟨by decide +kernel, rfl⟩
theorem eX4_look_190 : dc cX4_look 190 (.irem) 1 191 := ⟨by decide +kernel, rfl⟩
theorem eX4_look_191 : dc cX4_look 191 (.invokevirtual 271) 3 194 := ⟨by decide +kernel, rfl⟩
theorem eX4_look_194 : dc cX4_look 194 (.ireturn) 1 195 := ⟨by decide +kernel, rfl⟩
set_option maxHeartbeats 8000000 in
theorem ctX4_look (l : Launch) : Ct l yX4_look (.code yX4_look cX4_look 3 (some .int)) 2 spX4_look := by
  refine Ct.of (own := RX4) (nm := "look") (by decide) rfl rfl ?_
  rintro X av T I L R uc us rfl g hN hu hz ⟨p, what, N, rfl, rfl, rfl, hP, hN4, hof, hk0, hk1⟩
  refine VE.go (ls := [some (.ref 0), some (.int p), some (.int what)]) g hu hz (fun _ => rfl) (fun _ => Nat.le_of_ble_eq_true rfl) ?_
  have bad : ¬ lkOK I p what → V X TM I L RM uc us 23 [some (.ref 0), some (.int p), some (.int what)] [.ref 0] := by
    intro hb
    refine V_iconst (v := 1) g eX4_look_23 (by decide) ?_
    refine V_putI g eX4_look_24 pflX4_1 rfl rfl rfl rfl ?_
    refine V_aload_0 g eX4_look_27 ?_
    refine V_getI g eX4_look_28 flX4_1 rfl rfl ?_
    refine V_top (y := 1) (by rw [u2_s]) ?_
    refine V_if_le g eX4_look_31 (fun c_31 => absurd c_31 (by decide)) (fun _ => ?_)
    refine V_iconst (v := 0) g eX4_look_34 (by decide) ?_
    refine V_iret g eX4_look_35 ?_
    exact hk0 hb
  refine V_aload_0 g eX4_look_0 ?_
  refine V_aload_0 g eX4_look_1 ?_
  refine V_iload_1 g eX4_look_2 ?_
  refine V_cv1 g (ctX4_isPlant _) eX4_look_3 pkX4_268 rfl rfl (by decide) (by decide) (Nat.le_of_ble_eq_true rfl) ?_
  refine ⟨_, rfl, rfl, rfl, ?_⟩
  refine V_if_eqB g eX4_look_6 (fun c_6 => ?_) (fun c_6 => ?_)
  · exact bad fun q => c_6 q.1
  · refine V_iload_2 g eX4_look_9 ?_
    refine V_if_lt g eX4_look_10 (fun c_10 => ?_) (fun c_10 => ?_)
    · exact bad fun q => q.2.1 c_10
    · refine V_iload_2 g eX4_look_13 ?_
      refine V_bipush (v := 17) g eX4_look_14 (by decide) ?_
      refine V_icmp_gt g eX4_look_16 (fun c_16 => ?_) (fun c_16 => ?_)
      · exact bad fun q => q.2.2 c_16
      · refine V_iconst (v := 0) g eX4_look_19 (by decide) ?_
        refine V_goto g eX4_look_20 ?_
        refine V_putI g eX4_look_24 pflX4_1 rfl rfl rfl rfl ?_
        refine V_aload_0 g eX4_look_27 ?_
        refine V_getI g eX4_look_28 flX4_1 rfl rfl ?_
        refine V_top (y := 0) (by rw [u2_s]) ?_
        refine V_if_le g eX4_look_31 (fun _ => ?_) (fun c_31 => absurd c_31 (by decide))
        have hk := hk1 ⟨c_6, c_10, c_16⟩
        obtain ⟨P, hPN, rfl⟩ := isP_nI hP (by omega) c_6
        rw [nI_clamp (by omega)] at hk
        have hof : ofLt (u2 I 0 0 0) N := fun A hA => by have := hof A hA; simpa [u2] using this
        clear hk0 hk1 bad
        generalize u2 I 0 0 0 = J at hk hof ⊢
        refine V_iload_2 g eX4_look_36 ?_
        rcases sw_0_9 what with rfl | rfl | rfl | rfl | rfl | rfl | rfl | rfl | rfl | rfl | c_37
        · refine V_tIn (off := 55) (tgt := 92) g eX4_look_37 (by decide) (by decide) rfl (by decide) ?_
          refine V_aload_0 g eX4_look_92 ?_
          refine V_getR g eX4_look_93 flX4_90 rfl rfl rfl ?_
          refine V_iload_1 g eX4_look_96 ?_
          refine V_ialdN g eX4_look_97 rfl (by omega) (by decide) ?_
          refine V_iret g eX4_look_98 ?_
          exact hk
        · refine V_tIn (off := 62) (tgt := 99) g eX4_look_37 (by decide) (by decide) rfl (by decide) ?_
          refine V_aload_0 g eX4_look_99 ?_
          refine V_getR g eX4_look_100 flX4_93 rfl rfl rfl ?_
          refine V_iload_1 g eX4_look_103 ?_
          refine V_ialdN g eX4_look_104 rfl (by omega) (by decide) ?_
          refine V_iret g eX4_look_105 ?_
          exact hk
        · refine V_tIn (off := 69) (tgt := 106) g eX4_look_37 (by decide) (by decide) rfl (by decide) ?_
          refine V_aload_0 g eX4_look_106 ?_
          refine V_getR g eX4_look_107 flX4_96 rfl rfl rfl ?_
          refine V_iload_1 g eX4_look_110 ?_
          refine V_ialdN g eX4_look_111 rfl (by omega) (by decide) ?_
          refine V_iret g eX4_look_112 ?_
          exact hk
        · refine V_tIn (off := 76) (tgt := 113) g eX4_look_37 (by decide) (by decide) rfl (by decide) ?_
          refine V_aload_0 g eX4_look_113 ?_
          refine V_getR g eX4_look_114 flX4_99 rfl rfl rfl ?_
          refine V_iload_1 g eX4_look_117 ?_
          refine V_ialdN g eX4_look_118 rfl (by omega) (by decide) ?_
          refine V_iret g eX4_look_119 ?_
          exact hk
        · refine V_tIn (off := 83) (tgt := 120) g eX4_look_37 (by decide) (by decide) rfl (by decide) ?_
          refine V_aload_0 g eX4_look_120 ?_
          refine V_getR g eX4_look_121 flX4_120 rfl rfl rfl ?_
          refine V_aload_0 g eX4_look_124 ?_
          refine V_iload_1 g eX4_look_125 ?_
          refine V_cv1 g (ctX4_rootOf _) eX4_look_126 pkX4_327 rfl rfl (by decide) (by decide) (Nat.le_of_ble_eq_true rfl) ?_
          refine ⟨P, N, rfl, rfl, rfl, hPN, hN4, hof, ?_⟩
          refine V_ialdN g eX4_look_129 rfl (by have := rtF_lt hof 40 P hPN (by omega); omega) (by decide) ?_
          refine V_iret g eX4_look_130 ?_
          exact hk
        · refine V_tIn (off := 94) (tgt := 131) g eX4_look_37 (by decide) (by decide) rfl (by decide) ?_
          refine V_aload_0 g eX4_look_131 ?_
          refine V_iload_1 g eX4_look_132 ?_
          refine V_cv1 g (ctX4_rootOf _) eX4_look_133 pkX4_327 rfl rfl (by decide) (by decide) (Nat.le_of_ble_eq_true rfl) ?_
          refine ⟨P, N, rfl, rfl, rfl, hPN, hN4, hof, ?_⟩
          refine V_iret g eX4_look_136 ?_
          exact hk
        · refine V_tIn (off := 100) (tgt := 137) g eX4_look_37 (by decide) (by decide) rfl (by decide) ?_
          refine V_aload_0 g eX4_look_137 ?_
          refine V_iload_1 g eX4_look_138 ?_
          refine V_cv1 g (ctX4_isCut _) eX4_look_139 pkX4_330 rfl rfl (by decide) (by decide) (Nat.le_of_ble_eq_true rfl) ?_
          refine ⟨P, N, rfl, rfl, rfl, hPN, hN4, hof, ?_⟩
          refine V_if_eqB g eX4_look_142 (fun c_142 => ?_) (fun c_142 => ?_)
          · refine V_iconst (v := 0) g eX4_look_149 (by decide) ?_
            refine V_iret g eX4_look_150 ?_
            exact kI hk (bI_f c_142)
          · refine V_iconst (v := 1) g eX4_look_145 (by decide) ?_
            refine V_goto g eX4_look_146 ?_
            refine V_iret g eX4_look_150 ?_
            exact kI hk (bI_t c_142)
        · refine V_tIn (off := 114) (tgt := 151) g eX4_look_37 (by decide) (by decide) rfl (by decide) ?_
          refine V_aload_0 g eX4_look_151 ?_
          refine V_getR g eX4_look_152 flX4_108 rfl rfl rfl ?_
          refine V_iload_1 g eX4_look_155 ?_
          refine V_ialdN g eX4_look_156 rfl (by omega) (by decide) ?_
          refine V_iret g eX4_look_157 ?_
          exact hk
        · refine V_tIn (off := 121) (tgt := 158) g eX4_look_37 (by decide) (by decide) rfl (by decide) ?_
          refine V_aload_0 g eX4_look_158 ?_
          refine V_getR g eX4_look_159 flX4_114 rfl rfl rfl ?_
          refine V_iload_1 g eX4_look_162 ?_
          refine V_ialdN g eX4_look_163 rfl (by omega) (by decide) ?_
          refine V_iret g eX4_look_164 ?_
          exact hk
        · refine V_tIn (off := 128) (tgt := 165) g eX4_look_37 (by decide) (by decide) rfl (by decide) ?_
          refine V_aload_0 g eX4_look_165 ?_
          refine V_getR g eX4_look_166 flX4_117 rfl rfl rfl ?_
          refine V_iload_1 g eX4_look_169 ?_
          refine V_zaldN g eX4_look_170 rfl (by omega) (by decide) ?_
          refine V_if_eq g eX4_look_171 (fun c_171 => ?_) (fun c_171 => ?_)
          · refine V_iconst (v := 0) g eX4_look_178 (by decide) ?_
            refine V_iret g eX4_look_179 ?_
            exact kI hk (bI_f (fun q => q c_171))
          · refine V_iconst (v := 1) g eX4_look_174 (by decide) ?_
            refine V_goto g eX4_look_175 ?_
            refine V_iret g eX4_look_179 ?_
            exact kI hk (bI_t c_171)
        · refine V_tOut (tgt := 180) g eX4_look_37 c_37 (by decide) ?_
          obtain ⟨W, hW, rfl⟩ := w17_nI c_10 c_16 c_37
          refine V_aload_0 g eX4_look_180 ?_
          refine V_iload_1 g eX4_look_181 ?_
          refine V_iload_2 g eX4_look_182 ?_
          refine V_bipush (v := 10) g eX4_look_183 (by decide) ?_
          refine V_isubN (b := 10) g eX4_look_185 (by omega) ?_
          refine V_iconst (v := 2) g eX4_look_186 (by decide) ?_
          refine V_idiv g eX4_look_187 (by decide) ?_
          refine V_top (y := nI ((10 + W - 10) / 2)) (pk_div (d := 2) (by omega) (by decide) (by decide)) ?_
          refine V_iload_2 g eX4_look_188 ?_
          refine V_iconst (v := 2) g eX4_look_189 (by decide) ?_
          refine V_irem g eX4_look_190 (by decide) ?_
          refine V_top (y := nI ((10 + W) % 2)) (nI_rem (by omega) (by decide) (by decide) rfl) ?_
          refine V_cv3 g (ctX4_markOf _) eX4_look_191 pkX4_271 rfl rfl (by decide) (by decide) (Nat.le_of_ble_eq_true rfl) ?_
          refine ⟨P, (10 + W - 10) / 2, (10 + W) % 2, rfl, rfl, rfl, by omega, by omega, by omega, ?_⟩
          refine V_iret g eX4_look_194 ?_
          refine kI hk ?_
          unfold lkF
          have e : ∀ n : Nat, n < 10 → ¬ nI (10 + W) = nI n := fun n hn q => by have := nI_eq' (by omega) (by omega) q; omega
          rw [if_neg (show ¬ nI (10 + W) = 0 from e 0 (by decide)), if_neg (show ¬ nI (10 + W) = 1 from e 1 (by decide)), if_neg (show ¬ nI (10 + W) = 2 from e 2 (by decide)), if_neg (show ¬ nI (10 + W) = 3 from e 3 (by decide)), if_neg (show ¬ nI (10 + W) = 4 from e 4 (by decide)), if_neg (show ¬ nI (10 + W) = 5 from e 5 (by decide)), if_neg (show ¬ nI (10 + W) = 6 from e 6 (by decide)), if_neg (show ¬ nI (10 + W) = 7 from e 7 (by decide)), if_neg (show ¬ nI (10 + W) = 8 from e 8 (by decide)), if_neg (show ¬ nI (10 + W) = 9 from e 9 (by decide))]
          rw [show nI (10 + W) - 10 = nI W from (pk_sub (a := 10 + W) (b := 10) (by omega)).trans (by congr 1; omega), nI_clamp (by omega)]
          congr 1
          omega
def cntD (J : It) : Nat → Int32
  | 0 => 0
  | n + 1 => cntD J n + (if J 35 n = 0 then 0 else 1)
def cntL (J : It) : Nat → Int32
  | 0 => 0
  | n + 1 => cntL J n + (if J 32 n < 0 then 0 else 1)
def cntF (J : It) (N h : Nat) (w : Int32) : Int32 :=
  if w = 0 then J 0 25 else if w = 1 then J 0 24 else if w = 2 then J 0 45 else if w = 3 then J 0 37 else if w = 4 then J 0 41 else if w = 5 then J 0 54
  else if w = 6 then cntD J N else if w = 7 then J 10 h else if w = 8 then J 0 2 else if w = 9 then cntL J N else -1
abbrev spX4_count : Sp := fun av T I L R uc us k => ∃ what : Int32, ∃ N : Nat, ∃ h : Nat, av = [.ref 0, .int what] ∧ T = TM ∧ R = RM ∧ (fun J => J 0 25 = nI N ∧ N ≤ 40 ∧ J 0 15 = nI h ∧ h < 2 ∧ k (.inl (some (.int (cntF J N h what)))) T J L R uc us) (u2 I 0 0 0)
theorem eX4_count_12 : dc cX4_count 12 (.iload 4) 2 14 := ⟨by decide +kernel, rfl⟩
theorem eX4_count_14 : dc cX4_count 14 (.aload_n 0) 1 15 := ⟨by decide +kernel, rfl⟩
theorem eX4_count_15 : dc cX4_count 15 (.getfield 258) 3 18 := ⟨by decide +kernel, rfl⟩
theorem eX4_count_18 : dj cX4_count 18 (.if_icmp .ge 45) 45 63 21 := ⟨by decide +kernel, by decide, rfl⟩
theorem eX4_count_63 : dc cX4_count 63 (.iload_n 1) 1 64 := ⟨by decide +kernel, rfl⟩
theorem eX4_count_64 : dc cX4_count 64 (.tableswitch 105 0 9 #[56, 61, 66, 71, 76, 81, 86, 88, 98, 103]) 56 120 := ⟨by decide +kernel, rfl⟩
theorem eX4_count_120 : dc cX4_count 120 (.aload_n 0) 1 121 := ⟨by decide +kernel, rfl⟩
theorem eX4_count_121 : dc cX4_count 121 (.getfield 258) 3 124 := ⟨by decide +kernel, rfl⟩
theorem eX4_count_124 : dc cX4_count 124 (.ireturn) 1 125 := ⟨by decide +kernel, rfl⟩
theorem eX4_count_125 : dc cX4_count 125 (.aload_n 0) 1 126 := ⟨by decide +kernel, rfl⟩
theorem eX4_count_126 : dc cX4_count 126 (.getfield 255) 3 129 := ⟨by decide +kernel, rfl⟩
theorem eX4_count_129 : dc cX4_count 129 (.ireturn) 1 130 := ⟨by decide +kernel, rfl⟩
theorem eX4_count_130 : dc cX4_count 130 (.aload_n 0) 1 131 := ⟨by decide +kernel, rfl⟩
theorem eX4_count_131 : dc cX4_count 131 (.getfield 308) 3 134 := ⟨by decide +kernel, rfl⟩
theorem eX4_count_134 : dc cX4_count 134 (.ireturn) 1 135 := ⟨by decide +kernel, rfl⟩
theorem eX4_count_135 : dc cX4_count 135 (.aload_n 0) 1 136 := ⟨by decide +kernel, rfl⟩
theorem eX4_count_136 : dc cX4_count 136 (.getfield 286) 3 139 := ⟨by decide +kernel, rfl⟩
theorem eX4_count_139 : dc cX4_count 139 (.ireturn) 1 140 := ⟨by decide +kernel, rfl⟩
theorem eX4_count_140 : dc cX4_count 140 (.aload_n 0) 1 141 := ⟨by decide +kernel, rfl⟩
theorem eX4_count_141 : dc cX4_count 141 (.getfield 293) 3 144 := ⟨by decide +kernel, rfl⟩
theorem eX4_count_144 : dc cX4_count 144 (.ireturn) 1 145 := ⟨by decide +kernel, rfl⟩
theorem eX4_count_145 : dc cX4_count 145 (.aload_n 0) 1 146 := ⟨by decide +kernel, rfl⟩
theorem eX4_count_146 : dc cX4_count 146 (.getfield 342) 3 149 := ⟨by decide +kernel, rfl⟩
theorem eX4_count_149 : dc cX4_count 149 (.ireturn) 1 150 := ⟨by decide +kernel, rfl⟩
theorem eX4_count_150 : dc cX4_count 150 (.iload_n 2) 1 151 := ⟨by decide +kernel, rfl⟩
theorem eX4_count_151 : dc cX4_count 151 (.ireturn) 1 152 := ⟨by decide +kernel, rfl⟩
theorem eX4_count_152 : dc cX4_count 152 (.aload_n 0) 1 153 := ⟨by decide +kernel, rfl⟩
theorem eX4_count_153 : dc cX4_count 153 (.getfield 59) 3 156 := ⟨by decide +kernel, rfl⟩
theorem flX4_59 : FL RX4 59 3 10 := ⟨_, _, _, _, rfl, by decide, by decide, Or.inl (lk q1249), Or.inl rfl⟩
theorem eX4_count_156 : dc cX4_count 156 (.aload_n 0) 1 157 := ⟨by decide +kernel, rfl⟩
theorem eX4_count_157 : dc cX4_count 157 (.getfield 219) 3 160 := ⟨by decide +kernel, rfl⟩
theorem flX4_219 : FL RX4 219 3 15 := ⟨_, _, _, _, rfl, by decide, by decide, Or.inl (lk q1254), Or.inl rfl⟩
theorem eX4_count_160 : dc cX4_count 160 (.iaload) 1 161 := ⟨by decide +kernel, rfl⟩
theorem eX4_count_161 : dc cX4_count 161 (.ireturn) 1 162 := ⟨by decide +kernel, rfl⟩
theorem eX4_count_162 : dc cX4_count 162 (.aload_n 0) 1 163 := ⟨by decide +kernel, rfl⟩
theorem eX4_count_163 : dc cX4_count 163 (.getfield 11) 3 166 := ⟨by decide +kernel, rfl⟩
theorem flX4_11 : FL RX4 11 3 2 := ⟨_, _, _, _, rfl, by decide, by decide, Or.inl (lk q1241), Or.inl rfl⟩
theorem eX4_count_166 : dc cX4_count 166 (.ireturn) 1 167 := ⟨by decide +kernel, rfl⟩
theorem eX4_count_167 : dc cX4_count 167 (.iload_n 3) 1 168 := ⟨by decide +kernel, rfl⟩
theorem eX4_count_168 : dc cX4_count 168 (.ireturn) 1 169 := ⟨by decide +kernel, rfl⟩
theorem eX4_count_169 : dc cX4_count 169 (.iconst (-1)) 1 170 := ⟨by decide +kernel, rfl⟩
theorem eX4_count_170 : dc cX4_count 170 (.ireturn) 1 171 := ⟨by decide +kernel, rfl⟩
theorem eX4_count_21 : dc cX4_count 21 (.iload_n 2) 1 22 := ⟨by decide +kernel, rfl⟩
theorem eX4_count_22 : dc cX4_count 22 (.aload_n 0) 1 23 := ⟨by decide +kernel, rfl⟩
theorem eX4_count_23 : dc cX4_count 23 (.getfield 117) 3 26 := ⟨by decide +kernel, rfl⟩
theorem eX4_count_26 : dc cX4_count 26 (.iload 4) 2 28 := ⟨by decide +kernel, rfl⟩
theorem eX4_count_28 : dc cX4_count 28 (.baload) 1 29 := ⟨by decide +kernel, rfl⟩
theorem eX4_count_29 : dj cX4_count 29 (.ifCond .eq 7) 7 36 32 := ⟨by decide +kernel, by decide, rfl⟩
theorem eX4_count_36 : dc cX4_count 36 (.iconst 0) 1 37 := ⟨by decide +kernel, rfl⟩
theorem eX4_count_37 : dc cX4_count 37 (.iadd) 1 38 := ⟨by decide +kernel, rfl⟩
theorem eX4_count_38 : dc cX4_count 38 (.istore_n 2) 1 39 := ⟨by decide +kernel, rfl⟩
theorem eX4_count_39 : dc cX4_count 39 (.iload_n 3) 1 40 := ⟨by decide +kernel, rfl⟩
theorem eX4_count_40 : dc cX4_count 40 (.aload_n 0) 1 41 := ⟨by decide +kernel, rfl⟩
theorem eX4_count_41 : dc cX4_count 41 (.getfield 108) 3 44 := ⟨by decide +kernel, rfl⟩
theorem eX4_count_44 : dc cX4_count 44 (.iload 4) 2 46 := ⟨by decide +kernel, rfl⟩
theorem eX4_count_46 : dc cX4_count 46 (.iaload) 1 47 := ⟨by decide +kernel, rfl⟩
theorem eX4_count_47 : dj cX4_count 47 (.ifCond .lt 7) 7 54 50 := ⟨by decide +kernel, by decide, rfl⟩
theorem eX4_count_54 : dc cX4_count 54 (.iconst 0) 1 55 := ⟨by decide +kernel, rfl⟩
theorem eX4_count_55 : dc cX4_count 55 (.iadd) 1 56 := ⟨by decide +kernel, rfl⟩
theorem eX4_count_56 : dc cX4_count 56 (.istore_n 3) 1 57 := ⟨by decide +kernel, rfl⟩
theorem eX4_count_57 : dc cX4_count 57 (.iinc 4 1) 3 60 := ⟨by decide +kernel, rfl⟩
theorem eX4_count_60 : dj cX4_count 60 (.goto (-48)) (-48) 12 63 := ⟨by decide +kernel, by decide, rfl⟩
theorem eX4_count_50 : dc cX4_count 50 (.iconst 1) 1 51 := ⟨by decide +kernel, rfl⟩
theorem eX4_count_51 : dj cX4_count 51 (.goto 4) 4 55 54 := ⟨by decide +kernel, by decide, rfl⟩
theorem eX4_count_32 : dc cX4_count 32 (.iconst 1) 1 33 := ⟨by decide +kernel, rfl⟩
theorem eX4_count_33 : dj cX4_count 33 (.goto 4) 4 37 36 := ⟨by decide +kernel, by decide, rfl⟩
theorem eX4_count_0 : dc cX4_count 0 (.aload_n 0) 1 1 := ⟨by decide +kernel, rfl⟩
theorem eX4_count_1 : dc cX4_count 1 (.iconst 0) 1 2 := ⟨by decide +kernel, rfl⟩
theorem eX4_count_2 : dc cX4_count 2 (.putfield 1) 3 5 := ⟨by decide +kernel, rfl⟩
theorem eX4_count_5 : dc cX4_count 5 (.iconst 0) 1 6 := ⟨by decide +kernel, rfl⟩
theorem eX4_count_6 : dc cX4_count 6 (.istore_n 2) 1 7 := ⟨by decide +kernel, rfl⟩
theorem eX4_count_7 : dc cX4_count 7 (.iconst 0) 1 8 := ⟨by decide +kernel, rfl⟩
theorem eX4_count_8 : dc cX4_count 8 (.istore_n 3) 1 9 := ⟨by decide +kernel, rfl⟩
theorem eX4_count_9 : dc cX4_count 9 (.iconst 0) 1 10 := ⟨by decide +kernel, rfl⟩
theorem eX4_count_10 : dc cX4_count 10 (.istore 4) 2 12 := ⟨by decide +kernel, rfl⟩
set_option maxHeartbeats 8000000 in
theorem ctX4_count (l : Launch) : Ct l yX4_count (.code yX4_count cX4_count 5 (some .int)) 1 spX4_count := by
  refine Ct.of (own := RX4) (nm := "count") (by decide) rfl rfl ?_
  rintro X av T I L R uc us rfl g hN hu hz ⟨what, N, h, rfl, rfl, rfl, hk⟩
  refine VE.go (ls := [some (.ref 0), some (.int what), none, none, none]) g hu hz (fun _ => rfl) (fun _ => Nat.le_of_ble_eq_true rfl) ?_
  have loop : ∀ (J : It), J 0 25 = nI N → N ≤ 40 → J 0 15 = nI h → h < 2 → x_k X (.inl (some (.int (cntF J N h what)))) TM J L RM uc us → ∀ (n w : Nat) (c d : Int32), w ≤ N → N + 1 ≤ w + n → c = cntD J w → d = cntL J w → V X TM J L RM uc us 12 [some (.ref 0), some (.int what), some (.int c), some (.int d), some (.int (nI w))] [] := by
    intro J hN hN4 hh hh2 hk n
    induction n with
    | zero => intro w c d h1 h2; exact absurd h2 (by omega)
    | succ n ih =>
      intro w c d h1 h2 hc hd
      refine V_iload_4 g eX4_count_12 ?_
      refine V_aload_0 g eX4_count_14 ?_
      refine V_getI g eX4_count_15 flX4_258 rfl rfl ?_
      refine V_top (y := nI N) hN ?_
      refine V_icmp_ge g eX4_count_18 (fun c_18 => ?_) (fun c_18 => ?_)
      · have q_18 := nI_le' (a := N) (b := w) (by omega) (by omega) c_18
        obtain rfl : w = N := by omega
        subst hc hd
        refine V_iload_1 g eX4_count_63 ?_
        rcases sw_0_9 what with rfl | rfl | rfl | rfl | rfl | rfl | rfl | rfl | rfl | rfl | c_64
        · refine V_tIn (off := 56) (tgt := 120) g eX4_count_64 (by decide) (by decide) rfl (by decide) ?_
          refine V_aload_0 g eX4_count_120 ?_
          refine V_getI g eX4_count_121 flX4_258 rfl rfl ?_
          refine V_iret g eX4_count_124 ?_
          exact kI hk rfl
        · refine V_tIn (off := 61) (tgt := 125) g eX4_count_64 (by decide) (by decide) rfl (by decide) ?_
          refine V_aload_0 g eX4_count_125 ?_
          refine V_getI g eX4_count_126 flX4_255 rfl rfl ?_
          refine V_iret g eX4_count_129 ?_
          exact hk
        · refine V_tIn (off := 66) (tgt := 130) g eX4_count_64 (by decide) (by decide) rfl (by decide) ?_
          refine V_aload_0 g eX4_count_130 ?_
          refine V_getI g eX4_count_131 flX4_308 rfl rfl ?_
          refine V_iret g eX4_count_134 ?_
          exact hk
        · refine V_tIn (off := 71) (tgt := 135) g eX4_count_64 (by decide) (by decide) rfl (by decide) ?_
          refine V_aload_0 g eX4_count_135 ?_
          refine V_getI g eX4_count_136 flX4_286 rfl rfl ?_
          refine V_iret g eX4_count_139 ?_
          exact hk
        · refine V_tIn (off := 76) (tgt := 140) g eX4_count_64 (by decide) (by decide) rfl (by decide) ?_
          refine V_aload_0 g eX4_count_140 ?_
          refine V_getI g eX4_count_141 flX4_293 rfl rfl ?_
          refine V_iret g eX4_count_144 ?_
          exact hk
        · refine V_tIn (off := 81) (tgt := 145) g eX4_count_64 (by decide) (by decide) rfl (by decide) ?_
          refine V_aload_0 g eX4_count_145 ?_
          refine V_getI g eX4_count_146 flX4_342 rfl rfl ?_
          refine V_iret g eX4_count_149 ?_
          exact hk
        · refine V_tIn (off := 86) (tgt := 150) g eX4_count_64 (by decide) (by decide) rfl (by decide) ?_
          refine V_iload_2 g eX4_count_150 ?_
          refine V_iret g eX4_count_151 ?_
          exact hk
        · refine V_tIn (off := 88) (tgt := 152) g eX4_count_64 (by decide) (by decide) rfl (by decide) ?_
          refine V_aload_0 g eX4_count_152 ?_
          refine V_getR g eX4_count_153 flX4_59 rfl rfl rfl ?_
          refine V_aload_0 g eX4_count_156 ?_
          refine V_getI g eX4_count_157 flX4_219 rfl rfl ?_
          refine V_top (y := nI h) hh ?_
          refine V_ialdN g eX4_count_160 rfl (by omega) (by decide) ?_
          refine V_iret g eX4_count_161 ?_
          exact hk
        · refine V_tIn (off := 98) (tgt := 162) g eX4_count_64 (by decide) (by decide) rfl (by decide) ?_
          refine V_aload_0 g eX4_count_162 ?_
          refine V_getI g eX4_count_163 flX4_11 rfl rfl ?_
          refine V_iret g eX4_count_166 ?_
          exact hk
        · refine V_tIn (off := 103) (tgt := 167) g eX4_count_64 (by decide) (by decide) rfl (by decide) ?_
          refine V_iload_3 g eX4_count_167 ?_
          refine V_iret g eX4_count_168 ?_
          exact hk
        · refine V_tOut (tgt := 169) g eX4_count_64 c_64 (by decide) ?_
          refine V_iconst (v := (-1)) g eX4_count_169 (by decide) ?_
          refine V_iret g eX4_count_170 ?_
          refine kI hk ?_
          unfold cntF
          have e : ∀ n : Nat, n < 10 → ¬ what = nI n := fun n hn q => by subst q; rw [nI_toInt (by omega)] at c_64; omega
          rw [if_neg (show ¬ what = 0 from e 0 (by decide)), if_neg (show ¬ what = 1 from e 1 (by decide)), if_neg (show ¬ what = 2 from e 2 (by decide)), if_neg (show ¬ what = 3 from e 3 (by decide)), if_neg (show ¬ what = 4 from e 4 (by decide)), if_neg (show ¬ what = 5 from e 5 (by decide)), if_neg (show ¬ what = 6 from e 6 (by decide)), if_neg (show ¬ what = 7 from e 7 (by decide)), if_neg (show ¬ what = 8 from e 8 (by decide)), if_neg (show ¬ what = 9 from e 9 (by decide))]
      · have q_18 := nI_nle' (a := N) (b := w) (by omega) (by omega) c_18
        refine V_iload_2 g eX4_count_21 ?_
        refine V_aload_0 g eX4_count_22 ?_
        refine V_getR g eX4_count_23 flX4_117 rfl rfl rfl ?_
        refine V_iload_4 g eX4_count_26 ?_
        refine V_zaldN g eX4_count_28 rfl (by omega) (by decide) ?_
        refine V_if_eq g eX4_count_29 (fun c_29 => ?_) (fun c_29 => ?_)
        · refine V_iconst (v := 0) g eX4_count_36 (by decide) ?_
          refine V_iadd g eX4_count_37 ?_
          refine V_istore_2 g eX4_count_38 (by decide) rfl ?_
          refine V_iload_3 g eX4_count_39 ?_
          refine V_aload_0 g eX4_count_40 ?_
          refine V_getR g eX4_count_41 flX4_108 rfl rfl rfl ?_
          refine V_iload_4 g eX4_count_44 ?_
          refine V_ialdN g eX4_count_46 rfl (by omega) (by decide) ?_
          refine V_if_lt g eX4_count_47 (fun c_47 => ?_) (fun c_47 => ?_)
          · refine V_iconst (v := 0) g eX4_count_54 (by decide) ?_
            refine V_iadd g eX4_count_55 ?_
            refine V_istore_3 g eX4_count_56 (by decide) rfl ?_
            refine V_iinc_4 (v := 1) g eX4_count_57 (by decide) (by decide) rfl ?_
            refine V_goto g eX4_count_60 ?_
            rw [nI_1]
            exact ih (w + 1) _ _ (by omega) (by omega) (by rw [cntD, ← hc]; simp only [c_18, c_29, c_47, or_false, false_or, true_or, or_true, and_true, true_and, and_false, false_and, if_true, if_false, not_true_eq_false, not_false_eq_true, and_self, or_self]) (by rw [cntL, ← hd]; simp only [c_18, c_29, c_47, or_false, false_or, true_or, or_true, and_true, true_and, and_false, false_and, if_true, if_false, not_true_eq_false, not_false_eq_true, and_self, or_self])
          · refine V_iconst (v := 1) g eX4_count_50 (by decide) ?_
            refine V_goto g eX4_count_51 ?_
            refine V_iadd g eX4_count_55 ?_
            refine V_istore_3 g eX4_count_56 (by decide) rfl ?_
            refine V_iinc_4 (v := 1) g eX4_count_57 (by decide) (by decide) rfl ?_
            refine V_goto g eX4_count_60 ?_
            rw [nI_1]
            exact ih (w + 1) _ _ (by omega) (by omega) (by rw [cntD, ← hc]; simp only [c_18, c_29, c_47, or_false, false_or, true_or, or_true, and_true, true_and, and_false, false_and, if_true, if_false, not_true_eq_false, not_false_eq_true, and_self, or_self]) (by rw [cntL, ← hd]; simp only [c_18, c_29, c_47, or_false, false_or, true_or, or_true, and_true, true_and, and_false, false_and, if_true, if_false, not_true_eq_false, not_false_eq_true, and_self, or_self])
        · refine V_iconst (v := 1) g eX4_count_32 (by decide) ?_
          refine V_goto g eX4_count_33 ?_
          refine V_iadd g eX4_count_37 ?_
          refine V_istore_2 g eX4_count_38 (by decide) rfl ?_
          refine V_iload_3 g eX4_count_39 ?_
          refine V_aload_0 g eX4_count_40 ?_
          refine V_getR g eX4_count_41 flX4_108 rfl rfl rfl ?_
          refine V_iload_4 g eX4_count_44 ?_
          refine V_ialdN g eX4_count_46 rfl (by omega) (by decide) ?_
          refine V_if_lt g eX4_count_47 (fun c_47 => ?_) (fun c_47 => ?_)
          · refine V_iconst (v := 0) g eX4_count_54 (by decide) ?_
            refine V_iadd g eX4_count_55 ?_
            refine V_istore_3 g eX4_count_56 (by decide) rfl ?_
            refine V_iinc_4 (v := 1) g eX4_count_57 (by decide) (by decide) rfl ?_
            refine V_goto g eX4_count_60 ?_
            rw [nI_1]
            exact ih (w + 1) _ _ (by omega) (by omega) (by rw [cntD, ← hc]; simp only [c_18, c_29, c_47, or_false, false_or, true_or, or_true, and_true, true_and, and_false, false_and, if_true, if_false, not_true_eq_false, not_false_eq_true, and_self, or_self]) (by rw [cntL, ← hd]; simp only [c_18, c_29, c_47, or_false, false_or, true_or, or_true, and_true, true_and, and_false, false_and, if_true, if_false, not_true_eq_false, not_false_eq_true, and_self, or_self])
          · refine V_iconst (v := 1) g eX4_count_50 (by decide) ?_
            refine V_goto g eX4_count_51 ?_
            refine V_iadd g eX4_count_55 ?_
            refine V_istore_3 g eX4_count_56 (by decide) rfl ?_
            refine V_iinc_4 (v := 1) g eX4_count_57 (by decide) (by decide) rfl ?_
            refine V_goto g eX4_count_60 ?_
            rw [nI_1]
            exact ih (w + 1) _ _ (by omega) (by omega) (by rw [cntD, ← hc]; simp only [c_18, c_29, c_47, or_false, false_or, true_or, or_true, and_true, true_and, and_false, false_and, if_true, if_false, not_true_eq_false, not_false_eq_true, and_self, or_self]) (by rw [cntL, ← hd]; simp only [c_18, c_29, c_47, or_false, false_or, true_or, or_true, and_true, true_and, and_false, false_and, if_true, if_false, not_true_eq_false, not_false_eq_true, and_self, or_self])
  refine V_aload_0 g eX4_count_0 ?_
  refine V_iconst (v := 0) g eX4_count_1 (by decide) ?_
  refine V_putI g eX4_count_2 pflX4_1 rfl rfl rfl rfl ?_
  generalize u2 I 0 0 0 = J at hk ⊢
  obtain ⟨hP, hN4, hh, hh2, hk⟩ := hk
  refine V_iconst (v := 0) g eX4_count_5 (by decide) ?_
  refine V_istore_2 g eX4_count_6 (by decide) rfl ?_
  refine V_iconst (v := 0) g eX4_count_7 (by decide) ?_
  refine V_istore_3 g eX4_count_8 (by decide) rfl ?_
  refine V_iconst (v := 0) g eX4_count_9 (by decide) ?_
  refine V_istore_4 g eX4_count_10 (by decide) rfl ?_
  exact loop J hP hN4 hh hh2 hk (N + 1) 0 0 0 (by omega) (by omega) rfl rfl

