/-! plants, beds: small methods (printed out of tmpl/t_pl2.txt) -/
set_option maxRecDepth 100000
abbrev spX2_init : Sp := fun av T I L R uc us k => ∃ a : Nat, av = [.ref a] ∧ k (.inl none) T I L R uc us
theorem eX2_init_0 : dc cX2_init 0 (.aload_n 0) 1 1 := ⟨by decide +kernel, rfl⟩
theorem eX2_init_1 : dc cX2_init 1 (.invokespecial 3) 3 4 := ⟨by decide +kernel, rfl⟩
theorem eX2_init_4 : dc cX2_init 4 (.return_) 1 5 := ⟨by decide +kernel, rfl⟩
set_option maxHeartbeats 8000000 in
theorem ctX2_init (l : Launch) : Ct l yX2_init (.code yX2_init cX2_init 1 none) 1 spX2_init := by
  refine Ct.of (own := RX2) (nm := "<init>") (by decide) rfl rfl ?_
  rintro X av T I L R uc us rfl g hN hu hz ⟨a, rfl, hk⟩
  refine VE.go (ls := [some (.ref a)]) g hu hz (fun _ => rfl) (fun _ => Nat.le_of_ble_eq_true rfl) ?_
  refine V_aload_0 g eX2_init_0 ?_
  refine V_objInit g eX2_init_1 (lk q138) (lk q103) (lk q104) (by decide) (Nat.le_of_ble_eq_true rfl) ?_
  refine V_vret g eX2_init_4 ?_
  exact hk
abbrev spX3_init : Sp := fun av T I L R uc us k => ∃ a : Nat, av = [.ref a] ∧ k (.inl none) T I L R uc us
theorem eX3_init_0 : dc cX3_init 0 (.aload_n 0) 1 1 := ⟨by decide +kernel, rfl⟩
theorem eX3_init_1 : dc cX3_init 1 (.invokespecial 1) 3 4 := ⟨by decide +kernel, rfl⟩
theorem eX3_init_4 : dc cX3_init 4 (.return_) 1 5 := ⟨by decide +kernel, rfl⟩
set_option maxHeartbeats 8000000 in
theorem ctX3_init (l : Launch) : Ct l yX3_init (.code yX3_init cX3_init 1 none) 1 spX3_init := by
  refine Ct.of (own := RX3) (nm := "<init>") (by decide) rfl rfl ?_
  rintro X av T I L R uc us rfl g hN hu hz ⟨a, rfl, hk⟩
  refine VE.go (ls := [some (.ref a)]) g hu hz (fun _ => rfl) (fun _ => Nat.le_of_ble_eq_true rfl) ?_
  refine V_aload_0 g eX3_init_0 ?_
  refine V_objInit g eX3_init_1 (lk q168) (lk q103) (lk q104) (by decide) (Nat.le_of_ble_eq_true rfl) ?_
  refine V_vret g eX3_init_4 ?_
  exact hk
abbrev spX11_init : Sp := fun av T I L R uc us k => ∃ (a : Nat) (p q r s : Int32), av = [.ref a, .int p, .int q, .int r, .int s] ∧ (T a).1 = 8 ∧ k (.inl none) T (u2 (u2 (u2 (u2 I a 2 p) a 0 q) a 1 r) a 3 s) L R uc us
theorem eX11_init_0 : dc cX11_init 0 (.aload_n 0) 1 1 := ⟨by decide +kernel, rfl⟩
theorem eX11_init_1 : dc cX11_init 1 (.invokespecial 1) 3 4 := ⟨by decide +kernel, rfl⟩
theorem eX11_init_4 : dc cX11_init 4 (.aload_n 0) 1 5 := ⟨by decide +kernel, rfl⟩
theorem eX11_init_5 : dc cX11_init 5 (.iload_n 1) 1 6 := ⟨by decide +kernel, rfl⟩
theorem eX11_init_6 : dc cX11_init 6 (.putfield 7) 3 9 := ⟨by decide +kernel, rfl⟩
theorem flX11_7 : FL RX11 7 8 2 := ⟨_, _, _, _, rfl, by decide, by decide, Or.inl (lk q578), Or.inl rfl⟩
theorem pflX11_7 : (FL RX11 7 8 2 ∧ FN 8 2) ∨ (FF RX11 7 8 2 ∧ "<init>" = "<init>") := Or.inr ⟨⟨_, _, _, rfl, by decide, by decide, (lk q578), rfl, rfl⟩, rfl⟩
theorem eX11_init_9 : dc cX11_init 9 (.aload_n 0) 1 10 := ⟨by decide +kernel, rfl⟩
theorem eX11_init_10 : dc cX11_init 10 (.iload_n 2) 1 11 := ⟨by decide +kernel, rfl⟩
theorem eX11_init_11 : dc cX11_init 11 (.putfield 13) 3 14 := ⟨by decide +kernel, rfl⟩
theorem flX11_13 : FL RX11 13 8 0 := ⟨_, _, _, _, rfl, by decide, by decide, Or.inl (lk q572), Or.inl rfl⟩
theorem pflX11_13 {nm : String} : (FL RX11 13 8 0 ∧ FN 8 0) ∨ (FF RX11 13 8 0 ∧ nm = "<init>") := Or.inl ⟨flX11_13, fun C Tb N h => by cases h; rfl⟩
theorem eX11_init_14 : dc cX11_init 14 (.aload_n 0) 1 15 := ⟨by decide +kernel, rfl⟩
theorem eX11_init_15 : dc cX11_init 15 (.iload_n 3) 1 16 := ⟨by decide +kernel, rfl⟩
theorem eX11_init_16 : dc cX11_init 16 (.putfield 16) 3 19 := ⟨by decide +kernel, rfl⟩
theorem flX11_16 : FL RX11 16 8 1 := ⟨_, _, _, _, rfl, by decide, by decide, Or.inl (lk q575), Or.inl rfl⟩
theorem pflX11_16 {nm : String} : (FL RX11 16 8 1 ∧ FN 8 1) ∨ (FF RX11 16 8 1 ∧ nm = "<init>") := Or.inl ⟨flX11_16, fun C Tb N h => by cases h; rfl⟩
theorem eX11_init_19 : dc cX11_init 19 (.aload_n 0) 1 20 := ⟨by decide +kernel, rfl⟩
theorem eX11_init_20 : dc cX11_init 20 (.iload 4) 2 22 := ⟨by decide +kernel, rfl⟩
theorem eX11_init_22 : dc cX11_init 22 (.putfield 19) 3 25 := ⟨by decide +kernel, rfl⟩
theorem flX11_19 : FL RX11 19 8 3 := ⟨_, _, _, _, rfl, by decide, by decide, Or.inl (lk q580), Or.inl rfl⟩
theorem pflX11_19 : (FL RX11 19 8 3 ∧ FN 8 3) ∨ (FF RX11 19 8 3 ∧ "<init>" = "<init>") := Or.inr ⟨⟨_, _, _, rfl, by decide, by decide, (lk q580), rfl, rfl⟩, rfl⟩
theorem eX11_init_25 : dc cX11_init 25 (.return_) 1 26 := ⟨by decide +kernel, rfl⟩
set_option maxHeartbeats 8000000 in
theorem ctX11_init (l : Launch) : Ct l yX11_init (.code yX11_init cX11_init 5 none) 1 spX11_init := by
  refine Ct.of (own := RX11) (nm := "<init>") (by decide) rfl rfl ?_
  rintro X av T I L R uc us rfl g hN hu hz ⟨a, p, q, r, s, rfl, hT, hk⟩
  refine VE.go (ls := [some (.ref a), some (.int p), some (.int q), some (.int r), some (.int s)]) g hu hz (fun _ => rfl) (fun _ => Nat.le_of_ble_eq_true rfl) ?_
  refine V_aload_0 g eX11_init_0 ?_
  refine V_objInit g eX11_init_1 (lk q571) (lk q103) (lk q104) (by decide) (Nat.le_of_ble_eq_true rfl) ?_
  refine V_aload_0 g eX11_init_4 ?_
  refine V_iload_1 g eX11_init_5 ?_
  refine V_putI g eX11_init_6 pflX11_7 hT rfl rfl rfl ?_
  refine V_aload_0 g eX11_init_9 ?_
  refine V_iload_2 g eX11_init_10 ?_
  refine V_putI g eX11_init_11 pflX11_13 hT rfl rfl rfl ?_
  refine V_aload_0 g eX11_init_14 ?_
  refine V_iload_3 g eX11_init_15 ?_
  refine V_putI g eX11_init_16 pflX11_16 hT rfl rfl rfl ?_
  refine V_aload_0 g eX11_init_19 ?_
  refine V_iload_4 g eX11_init_20 ?_
  refine V_putI g eX11_init_22 pflX11_19 hT rfl rfl rfl ?_
  refine V_vret g eX11_init_25 ?_
  exact hk
/-- the plant a suits the bed b -/
abbrev Sui (T : Tt) (I : It) (a b : Nat) : Prop := ¬ I b 0 < I a (pf T a 7) ∧ ¬ I a (pf T a 8) < I b 0 ∧ ¬ I b 1 < I a (pf T a 9) ∧ ¬ I a (pf T a 10) < I b 1
abbrev spX5_suits : Sp := fun av T I L R uc us k => ∃ (a b : Nat), av = [.ref a, .ref b] ∧ IsPl T a ∧ (T b).1 = 8 ∧ k (.inl (some (.int (bI (Sui T I a b))))) T I L R uc us
theorem eX5_suits_0 : dc cX5_suits 0 (.aload_n 1) 1 1 := ⟨by decide +kernel, rfl⟩
theorem eX5_suits_1 : dc cX5_suits 1 (.getfield 42) 3 4 := ⟨by decide +kernel, rfl⟩
theorem flX5_42 : FL RX5 42 8 0 := ⟨_, _, _, _, rfl, by decide, by decide, Or.inr ⟨_, (lt_k q573 rfl)⟩, Or.inl rfl⟩
theorem eX5_suits_4 : dc cX5_suits 4 (.aload_n 0) 1 5 := ⟨by decide +kernel, rfl⟩
theorem eX5_suits_5 : dc cX5_suits 5 (.getfield 47) 3 8 := ⟨by decide +kernel, rfl⟩
theorem flX5_47_4 : FL RX5 47 4 7 := ⟨_, _, _, _, rfl, by decide, by decide, Or.inl (lk q317), Or.inl rfl⟩
theorem flX5_47_5 : FL RX5 47 5 7 := ⟨_, _, _, _, rfl, by decide, by decide, Or.inl (lk q317), Or.inl rfl⟩
theorem flX5_47_6 : FL RX5 47 6 8 := ⟨_, _, _, _, rfl, by decide, by decide, Or.inl (lk q317), Or.inl rfl⟩
theorem flX5_47_7 : FL RX5 47 7 8 := ⟨_, _, _, _, rfl, by decide, by decide, Or.inl (lk q317), Or.inl rfl⟩
theorem pfX5_47 : PF RX5 47 7 := ⟨flX5_47_4, flX5_47_5, flX5_47_6, flX5_47_7⟩
theorem eX5_suits_8 : dj cX5_suits 8 (.if_icmp .lt 40) 40 48 11 := ⟨by decide +kernel, by decide, rfl⟩
theorem eX5_suits_48 : dc cX5_suits 48 (.iconst 0) 1 49 := ⟨by decide +kernel, rfl⟩
theorem eX5_suits_49 : dc cX5_suits 49 (.ireturn) 1 50 := ⟨by decide +kernel, rfl⟩
theorem eX5_suits_11 : dc cX5_suits 11 (.aload_n 1) 1 12 := ⟨by decide +kernel, rfl⟩
theorem eX5_suits_12 : dc cX5_suits 12 (.getfield 42) 3 15 := ⟨by decide +kernel, rfl⟩
theorem eX5_suits_15 : dc cX5_suits 15 (.aload_n 0) 1 16 := ⟨by decide +kernel, rfl⟩
theorem eX5_suits_16 : dc cX5_suits 16 (.getfield 15) 3 19 := ⟨by decide +kernel, rfl⟩
theorem flX5_15_4 : FL RX5 15 4 8 := ⟨_, _, _, _, rfl, by decide, by decide, Or.inl (lk q319), Or.inl rfl⟩
theorem flX5_15_5 : FL RX5 15 5 8 := ⟨_, _, _, _, rfl, by decide, by decide, Or.inl (lk q319), Or.inl rfl⟩
theorem flX5_15_6 : FL RX5 15 6 9 := ⟨_, _, _, _, rfl, by decide, by decide, Or.inl (lk q319), Or.inl rfl⟩
theorem flX5_15_7 : FL RX5 15 7 9 := ⟨_, _, _, _, rfl, by decide, by decide, Or.inl (lk q319), Or.inl rfl⟩
theorem pfX5_15 : PF RX5 15 8 := ⟨flX5_15_4, flX5_15_5, flX5_15_6, flX5_15_7⟩
theorem eX5_suits_19 : dj cX5_suits 19 (.if_icmp .gt 29) 29 48 22 := ⟨by decide +kernel, by decide, rfl⟩
theorem eX5_suits_22 : dc cX5_suits 22 (.aload_n 1) 1 23 := ⟨by decide +kernel, rfl⟩
theorem eX5_suits_23 : dc cX5_suits 23 (.getfield 50) 3 26 := ⟨by decide +kernel, rfl⟩
theorem flX5_50 : FL RX5 50 8 1 := ⟨_, _, _, _, rfl, by decide, by decide, Or.inr ⟨_, (lt_k q576 rfl)⟩, Or.inl rfl⟩
theorem eX5_suits_26 : dc cX5_suits 26 (.aload_n 0) 1 27 := ⟨by decide +kernel, rfl⟩
theorem eX5_suits_27 : dc cX5_suits 27 (.getfield 53) 3 30 := ⟨by decide +kernel, rfl⟩
theorem flX5_53_4 : FL RX5 53 4 9 := ⟨_, _, _, _, rfl, by decide, by decide, Or.inl (lk q321), Or.inl rfl⟩
theorem flX5_53_5 : FL RX5 53 5 9 := ⟨_, _, _, _, rfl, by decide, by decide, Or.inl (lk q321), Or.inl rfl⟩
theorem flX5_53_6 : FL RX5 53 6 10 := ⟨_, _, _, _, rfl, by decide, by decide, Or.inl (lk q321), Or.inl rfl⟩
theorem flX5_53_7 : FL RX5 53 7 10 := ⟨_, _, _, _, rfl, by decide, by decide, Or.inl (lk q321), Or.inl rfl⟩
theorem pfX5_53 : PF RX5 53 9 := ⟨flX5_53_4, flX5_53_5, flX5_53_6, flX5_53_7⟩
theorem eX5_suits_30 : dj cX5_suits 30 (.if_icmp .lt 18) 18 48 33 := ⟨by decide +kernel, by decide, rfl⟩
theorem eX5_suits_33 : dc cX5_suits 33 (.aload_n 1) 1 34 := ⟨by decide +kernel, rfl⟩
theorem eX5_suits_34 : dc cX5_suits 34 (.getfield 50) 3 37 := ⟨by decide +kernel, rfl⟩
theorem eX5_suits_37 : dc cX5_suits 37 (.aload_n 0) 1 38 := ⟨by decide +kernel, rfl⟩
theorem eX5_suits_38 : dc cX5_suits 38 (.getfield 19) 3 41 := ⟨by decide +kernel, rfl⟩
theorem flX5_19_4 : FL RX5 19 4 10 := ⟨_, _, _, _, rfl, by decide, by decide, Or.inl (lk q323), Or.inl rfl⟩
theorem flX5_19_5 : FL RX5 19 5 10 := ⟨_, _, _, _, rfl, by decide, by decide, Or.inl (lk q323), Or.inl rfl⟩
theorem flX5_19_6 : FL RX5 19 6 11 := ⟨_, _, _, _, rfl, by decide, by decide, Or.inl (lk q323), Or.inl rfl⟩
theorem flX5_19_7 : FL RX5 19 7 11 := ⟨_, _, _, _, rfl, by decide, by decide, Or.inl (lk q323), Or.inl rfl⟩
theorem pfX5_19 : PF RX5 19 10 := ⟨flX5_19_4, flX5_19_5, flX5_19_6, flX5_19_7⟩
theorem eX5_suits_41 : dj cX5_suits 41 (.if_icmp .gt 7) 7 48 44 := ⟨by decide +kernel, by decide, rfl⟩
theorem eX5_suits_44 : dc cX5_suits 44 (.iconst 1) 1 45 := ⟨by decide +kernel, rfl⟩
theorem eX5_suits_45 : dj cX5_suits 45 (.goto 4) 4 49 48 := ⟨by decide +kernel, by decide, rfl⟩
set_option maxHeartbeats 8000000 in
theorem ctX5_suits (l : Launch) : Ct l yX5_suits (.code yX5_suits cX5_suits 2 (some .boolean)) 1 spX5_suits := by
  refine Ct.of (own := RX5) (nm := "suits") (by decide) rfl rfl ?_
  rintro X av T I L R uc us rfl g hN hu hz ⟨a, b, rfl, hp, hT, hk⟩
  refine VE.go (ls := [some (.ref a), some (.ref b)]) g hu hz (fun _ => rfl) (fun _ => Nat.le_of_ble_eq_true rfl) ?_
  refine V_aload_1 g eX5_suits_0 ?_
  refine V_getI g eX5_suits_1 flX5_42 hT rfl ?_
  refine V_aload_0 g eX5_suits_4 ?_
  refine V_pgI g eX5_suits_5 pfX5_47 hp ⟨rfl, rfl, rfl, rfl⟩ ?_
  refine V_icmp_lt g eX5_suits_8 (fun c_8 => ?_) (fun c_8 => ?_)
  · refine V_iconst (v := 0) g eX5_suits_48 (by decide) ?_
    refine V_zret g eX5_suits_49 rfl ?_
    first | contradiction | exact kI hk (by simp only [bI, Sui, c_8, not_true_eq_false, not_false_eq_true, and_true, true_and, and_false, false_and, if_true, if_false])
  · refine V_aload_1 g eX5_suits_11 ?_
    refine V_getI g eX5_suits_12 flX5_42 hT rfl ?_
    refine V_aload_0 g eX5_suits_15 ?_
    refine V_pgI g eX5_suits_16 pfX5_15 hp ⟨rfl, rfl, rfl, rfl⟩ ?_
    refine V_icmp_gt g eX5_suits_19 (fun c_19 => ?_) (fun c_19 => ?_)
    · refine V_iconst (v := 0) g eX5_suits_48 (by decide) ?_
      refine V_zret g eX5_suits_49 rfl ?_
      first | contradiction | exact kI hk (by simp only [bI, Sui, c_8, c_19, not_true_eq_false, not_false_eq_true, and_true, true_and, and_false, false_and, if_true, if_false])
    · refine V_aload_1 g eX5_suits_22 ?_
      refine V_getI g eX5_suits_23 flX5_50 hT rfl ?_
      refine V_aload_0 g eX5_suits_26 ?_
      refine V_pgI g eX5_suits_27 pfX5_53 hp ⟨rfl, rfl, rfl, rfl⟩ ?_
      refine V_icmp_lt g eX5_suits_30 (fun c_30 => ?_) (fun c_30 => ?_)
      · refine V_iconst (v := 0) g eX5_suits_48 (by decide) ?_
        refine V_zret g eX5_suits_49 rfl ?_
        first | contradiction | exact kI hk (by simp only [bI, Sui, c_8, c_19, c_30, not_true_eq_false, not_false_eq_true, and_true, true_and, and_false, false_and, if_true, if_false])
      · refine V_aload_1 g eX5_suits_33 ?_
        refine V_getI g eX5_suits_34 flX5_50 hT rfl ?_
        refine V_aload_0 g eX5_suits_37 ?_
        refine V_pgI g eX5_suits_38 pfX5_19 hp ⟨rfl, rfl, rfl, rfl⟩ ?_
        refine V_icmp_gt g eX5_suits_41 (fun c_41 => ?_) (fun c_41 => ?_)
        · refine V_iconst (v := 0) g eX5_suits_48 (by decide) ?_
          refine V_zret g eX5_suits_49 rfl ?_
          first | contradiction | exact kI hk (by simp only [bI, Sui, c_8, c_19, c_30, c_41, not_true_eq_false, not_false_eq_true, and_true, true_and, and_false, false_and, if_true, if_false])
        · refine V_iconst (v := 1) g eX5_suits_44 (by decide) ?_
          refine V_goto g eX5_suits_45 ?_
          refine V_zret g eX5_suits_49 rfl ?_
          first | contradiction | exact kI hk (by simp only [bI, Sui, c_8, c_19, c_30, c_41, not_true_eq_false, not_false_eq_true, and_true, true_and, and_false, false_and, if_true, if_false])
abbrev spX6_place : Sp := fun av T I L R uc us k => ∃ a : Nat, av = [.ref a] ∧ (T a).1 = 4 ∧ k (.inl (some (.int (I a 12)))) T I L R uc us
theorem eX6_place_0 : dc cX6_place 0 (.aload_n 0) 1 1 := ⟨by decide +kernel, rfl⟩
theorem eX6_place_1 : dc cX6_place 1 (.getfield 7) 3 4 := ⟨by decide +kernel, rfl⟩
theorem flX6_7 : FL RX6 7 4 12 := ⟨_, _, _, _, rfl, by decide, by decide, Or.inl (lk q305), Or.inl rfl⟩
theorem eX6_place_4 : dc cX6_place 4 (.ireturn) 1 5 := ⟨by decide +kernel, rfl⟩
set_option maxHeartbeats 8000000 in
theorem ctX6_place (l : Launch) : Ct l yX6_place (.code yX6_place cX6_place 1 (some .int)) 1 spX6_place := by
  refine Ct.of (own := RX6) (nm := "place") (by decide) rfl rfl ?_
  rintro X av T I L R uc us rfl g hN hu hz ⟨a, rfl, hT, hk⟩
  refine VE.go (ls := [some (.ref a)]) g hu hz (fun _ => rfl) (fun _ => Nat.le_of_ble_eq_true rfl) ?_
  refine V_aload_0 g eX6_place_0 ?_
  refine V_getI g eX6_place_1 flX6_7 hT rfl ?_
  refine V_iret g eX6_place_4 ?_
  exact hk
abbrev spX6_root : Sp := fun av T I L R uc us k => ∃ a : Nat, av = [.ref a] ∧ k (.inl (some (.ref a))) T I L R uc us
theorem eX6_root_0 : dc cX6_root 0 (.aload_n 0) 1 1 := ⟨by decide +kernel, rfl⟩
theorem eX6_root_1 : dc cX6_root 1 (.areturn) 1 2 := ⟨by decide +kernel, rfl⟩
set_option maxHeartbeats 8000000 in
theorem ctX6_root (l : Launch) : Ct l yX6_root (.code yX6_root cX6_root 1 (some (.object "BedBook$Plant"))) 1 spX6_root := by
  refine Ct.of (own := RX6) (nm := "root") (by decide) rfl rfl ?_
  rintro X av T I L R uc us rfl g hN hu hz ⟨a, rfl, hk⟩
  refine VE.go (ls := [some (.ref a)]) g hu hz (fun _ => rfl) (fun _ => Nat.le_of_ble_eq_true rfl) ?_
  refine V_aload_0 g eX6_root_0 ?_
  refine V_aret g eX6_root_1 (Or.inl ⟨_, rfl⟩) (Or.inr ⟨_, rfl⟩) ?_
  exact hk
abbrev spX7_of : Sp := fun av T I L R uc us k => ∃ (a m : Nat), av = [.ref a] ∧ (T a).1 = 5 ∧ R a 12 = some m ∧ k (.inl (some (.ref m))) T I L R uc us
theorem eX7_of_0 : dc cX7_of 0 (.aload_n 0) 1 1 := ⟨by decide +kernel, rfl⟩
theorem eX7_of_1 : dc cX7_of 1 (.getfield 9) 3 4 := ⟨by decide +kernel, rfl⟩
theorem flX7_9 : FL RX7 9 5 12 := ⟨_, _, _, _, rfl, by decide, by decide, Or.inl (lk q458), Or.inl rfl⟩
theorem eX7_of_4 : dc cX7_of 4 (.areturn) 1 5 := ⟨by decide +kernel, rfl⟩
set_option maxHeartbeats 8000000 in
theorem ctX7_of (l : Launch) : Ct l yX7_of (.code yX7_of cX7_of 1 (some (.object "BedBook$Plant"))) 1 spX7_of := by
  refine Ct.of (own := RX7) (nm := "of") (by decide) rfl rfl ?_
  rintro X av T I L R uc us rfl g hN hu hz ⟨a, m, rfl, hT, hr, hk⟩
  refine VE.go (ls := [some (.ref a)]) g hu hz (fun _ => rfl) (fun _ => Nat.le_of_ble_eq_true rfl) ?_
  refine V_aload_0 g eX7_of_0 ?_
  refine V_getR g eX7_of_1 flX7_9 hT rfl hr ?_
  refine V_aret g eX7_of_4 (Or.inl ⟨_, rfl⟩) (Or.inr ⟨_, rfl⟩) ?_
  exact hk

