/-! BedBook's Reader: a test (printed out of tmpl/t_rd6.txt) -/
set_option maxRecDepth 100000
theorem stp_2 (S : Nat → Nat) (v : Nat → Int64) (i su an : Nat) (r : List Wt) (cs : List Cd) (b : Bool) (ls : List (Bool × List Cd)) : stp S v (2, i, (su, 0, an) :: r, cs, b, ls) = if tS S v i 60 then (0, i + 1, (su, 5, an) :: r, cs, b, ls) else if tS S v i 61 then (0, i + 1, (su, 6, an) :: r, cs, b, ls) else (3, i, (su, 0, an) :: r, cs, b, ls) := by
  rw [stp]
  rw [if_neg (fun z => z rfl)]
theorem pkX2_128 : PkV RX2 128 yX2_sum (.code yX2_sum cX2_sum 4 (some (.object "BedBook$Exp"))) 4 "BedBook$Reader" 0 := ⟨cwd_c, (lk q862), Or.inl (lk q859), (lk q861), (lk qs19), ⟨⟨by decide, by decide⟩, by decide +kernel⟩, (lk q65), by decide⟩
theorem eX2_test_25 : dc cX2_test 25 (.aload_n 0) 1 26 := ⟨by decide +kernel, rfl⟩
theorem eX2_test_26 : dc cX2_test 26 (.getfield 9) 3 29 := ⟨by decide +kernel, rfl⟩
theorem eX2_test_29 : dc cX2_test 29 (.aload_n 0) 1 30 := ⟨by decide +kernel, rfl⟩
theorem eX2_test_30 : dc cX2_test 30 (.getfield 28) 3 33 := ⟨by decide +kernel, rfl⟩
theorem eX2_test_33 : dc cX2_test 33 (.baload) 1 34 := ⟨by decide +kernel, rfl⟩
theorem eX2_test_34 : dc cX2_test 34 (.i2c) 1 35 := ⟨by decide +kernel, rfl⟩
theorem eX2_test_35 : dc cX2_test 35 (.istore_n 2) 1 36 := ⟨by decide +kernel, rfl⟩
theorem eX2_test_36 : dc cX2_test 36 (.aload_n 0) 1 37 := ⟨by decide +kernel, rfl⟩
theorem eX2_test_37 : dc cX2_test 37 (.invokevirtual 25) 3 40 := ⟨by decide +kernel, rfl⟩
theorem eX2_test_40 : dc cX2_test 40 (.new 119) 3 43 := ⟨by decide +kernel, rfl⟩
theorem eX2_test_43 : dc cX2_test 43 (.dup) 1 44 := ⟨by decide +kernel, rfl⟩
theorem eX2_test_44 : dc cX2_test 44 (.aload_n 1) 1 45 := ⟨by decide +kernel, rfl⟩
theorem eX2_test_45 : dc cX2_test 45 (.invokespecial 121) 3 48 := ⟨by decide +kernel, rfl⟩
theorem eX2_test_48 : dc cX2_test 48 (.iload_n 2) 1 49 := ⟨by decide +kernel, rfl⟩
theorem eX2_test_49 : dc cX2_test 49 (.aload_n 0) 1 50 := ⟨by decide +kernel, rfl⟩
theorem eX2_test_50 : dc cX2_test 50 (.invokevirtual 128) 3 53 := ⟨by decide +kernel, rfl⟩
theorem eX2_test_53 : dc cX2_test 53 (.invokevirtual 124) 3 56 := ⟨by decide +kernel, rfl⟩
theorem eX2_test_56 : dc cX2_test 56 (.areturn) 1 57 := ⟨by decide +kernel, rfl⟩
theorem eX2_test_5 : dc cX2_test 5 (.aload_n 0) 1 6 := ⟨by decide +kernel, rfl⟩
theorem eX2_test_6 : dc cX2_test 6 (.bipush 60) 2 8 := ⟨by decide +kernel, rfl⟩
theorem eX2_test_8 : dc cX2_test 8 (.invokevirtual 79) 3 11 := ⟨by decide +kernel, rfl⟩
theorem eX2_test_11 : dj cX2_test 11 (.ifCond .ne 14) 14 25 14 := ⟨by decide +kernel, by decide, rfl⟩
theorem eX2_test_14 : dc cX2_test 14 (.aload_n 0) 1 15 := ⟨by decide +kernel, rfl⟩
theorem eX2_test_15 : dc cX2_test 15 (.bipush 61) 2 17 := ⟨by decide +kernel, rfl⟩
theorem eX2_test_17 : dc cX2_test 17 (.invokevirtual 79) 3 20 := ⟨by decide +kernel, rfl⟩
theorem eX2_test_20 : dj cX2_test 20 (.ifCond .ne 5) 5 25 23 := ⟨by decide +kernel, by decide, rfl⟩
theorem eX2_test_23 : dc cX2_test 23 (.aload_n 1) 1 24 := ⟨by decide +kernel, rfl⟩
theorem eX2_test_24 : dc cX2_test 24 (.areturn) 1 25 := ⟨by decide +kernel, rfl⟩
theorem eX2_test_0 : dc cX2_test 0 (.aload_n 0) 1 1 := ⟨by decide +kernel, rfl⟩
theorem eX2_test_1 : dc cX2_test 1 (.invokevirtual 128) 3 4 := ⟨by decide +kernel, rfl⟩
theorem eX2_test_4 : dc cX2_test 4 (.astore_n 1) 1 5 := ⟨by decide +kernel, rfl⟩
set_option maxHeartbeats 8000000 in
theorem ctX2_testA (l : Launch) (w : Nat) (hP : CS l w) : CT l w := by
  refine Ct.of (own := RX2) (nm := "test") (by decide) rfl rfl ?_
  rintro X av T I L R uc us hl g hN hu hz ⟨rd, tp, n, i, t, ⟨su0, sg0, an⟩, r, cs, b, ls, rfl, hS, hsu0, hr, hw, brd, btp, huc, hus, hk, hf⟩
  subst hl
  obtain ⟨hsu0, hsg0⟩ : su0 = 0 ∧ sg0 = 0 := hsu0
  subst hsu0 hsg0
  refine VE.go (ls := [some (.ref rd), none, none]) g hu hz (fun _ => rfl) (fun _ => Nat.le_of_ble_eq_true rfl) ?_
  have hlev : 8 ≤ lP w := by unfold lP; omega
  have t5 : ∀ (T1 : Tt) (I1 : It) (L1 : Lt) (R1 : Rt) (uc1 us1 i1 x1 : Nat) (c : List Cd), Rc (srt t n) (vl t n) (0, i, (0, 0, an) :: r, cs, b, ls) (2, i1, (0, 0, an) :: r, cs ++ c, b, ls) → i < i1 → RdS T1 I1 R1 rd tp n i1 w t → Kp uc (fun z => z = rd) T T1 I I1 L L1 R R1 → uc ≤ uc1 → us ≤ us1 → RE T1 I1 R1 (Nw uc uc1) (dP w + 1) x1 c → uc1 ≤ uc + 7 * (i1 - i) → us1 ≤ us + 42 * (i1 - i) → V X T1 I1 L1 R1 uc1 us1 5 [some (.ref rd), some (.ref x1), none] [] := by
    intro T1 I1 L1 R1 uc1 us1 i1 x1 c h1 h3 h4 h5 h6 h7 hE e1 e2
    have hT := h4.1.1
    have hi1 := h4.le
    have t25 : ∀ (q : Nat), (q = 60 ∨ q = 61) → tS (srt t n) (vl t n) i1 (nI q) → Rc (srt t n) (vl t n) (0, i, (0, 0, an) :: r, cs, b, ls) (0, i1 + 1, (0, sgo q, an) :: r, cs ++ c, b, ls) → V X T1 I1 L1 R1 uc1 us1 25 [some (.ref rd), some (.ref x1), none] [] := by
      intro q hq hs hR
      have hq1 : q < 128 := by omega
      have hs' := (sg_iff (t := t) (n := n) (i := i1) (nI q)).mpr hs
      have hpn := (tk_3 hs.1).1
      have hn6 := h4.1.2.2.2.2
      have ht := h4.2.1
      refine V_aload_0 g eX2_test_25 ?_
      refine V_getR g eX2_test_26 flX2_9 hT rfl h4.1.2.1 ?_
      refine V_aload_0 g eX2_test_29 ?_
      refine V_getI g eX2_test_30 flX2_28 hT rfl ?_
      rw [h4.2.2.2.2.2.1]
      refine V_baldN g eX2_test_33 h4.1.2.2.1 (by omega) (by decide) ?_
      rw [ht, hs'.2]
      refine V_i2c g eX2_test_34 ?_
      rw [i2cN (by omega)]
      refine V_istore_2 g eX2_test_35 (by decide) rfl ?_
      refine V_aload_0 g eX2_test_36 ?_
      refine V_cv0 g (ctX2_next _) eX2_test_37 pkX2_25 hT rfl (by decide) (by omega) (Nat.le_of_ble_eq_true rfl) ?_
      refine spNext_of h4 (by rw [hs.1]; decide) (fun I2 s1 s2 => ?_)
      refine V_new (tg := 12) g eX2_test_40 rfl (by decide) (lk q899) (by omega) (by omega) (fun hd_40 => ?_)
      refine V_dup g eX2_test_43 rfl ?_
      refine V_aload_1 g eX2_test_44 ?_
      refine V_ci1 g (ctX16_init _) eX2_test_45 pkX2_121 (by omega) (Nat.le_of_ble_eq_true rfl) ?_
      refine ⟨uc1, x1, rfl, by rw [va_up_self], by rw [va_up_ne _ _ (by have := hE.q.2; omega)]; rcases hE.tag with z | z | z <;> rw [z] <;> decide, by omega, by have := hE.q.2; omega, by omega, by omega, fun T3 I3 L3 R3 p1 p2 p3 p4 p5 p6 p7 => ?_⟩
      have hE2 : RE T1 I2 R1 (Nw uc uc1) (dP w + 1) x1 c := hE.kp (s2.kp uc1 T1 L1 R1) (fun z hz => by rw [hz]; exact brd) (Nat.le_refl _)
      have kp3 : Kp uc1 (fun _ => False) T1 T3 I2 I3 L1 L3 R1 R3 := ⟨fun z hz => ⟨by rw [(p1 z (by omega) (by omega)).1, va_up_ne _ _ (by omega)], by rw [(p1 z (by omega) (by omega)).2.2.1, va_up_ne _ _ (by omega)]⟩, fun z hz _ => ⟨by rw [(p1 z (by omega) (by omega)).2.1, va_up_ne _ _ (by omega)], by rw [(p1 z (by omega) (by omega)).2.2.2, va_up_ne _ _ (by omega)]⟩⟩
      have hROW := ROW.mk (L := L1) (L1 := va_up L1 uc1 fun _ => 0) hE2 h6 (fun z hz => ⟨va_up_ne _ _ (by omega), va_up_ne _ _ (by omega), va_up_ne _ _ (by omega)⟩) (by rw [va_up_self]) p1 p2 p4 p5 p6 p7
      have g2 : RdS T3 I3 R3 rd tp n (i1 + 1) w t := s1.kp kp3 (by omega) (by omega) id id
      have g3 : Kp uc (fun z => z = rd) T T3 I I3 L L3 R R3 := Kp.tr (Kp.tr h5 (s2.kp uc1 T1 L1 R1) h6) kp3.no h6
      refine V_iload_2 g eX2_test_48 ?_
      refine V_aload_0 g eX2_test_49 ?_
      refine V_cv0 g hP eX2_test_50 pkX2_128 g2.1.1 rfl (by decide) (Nat.le_refl _) (Nat.le_of_ble_eq_true rfl) ?_
      refine ⟨rd, tp, n, i1 + 1, t, (0, sgo q, an), r, cs ++ c, b, ls, rfl, g2, rfl, hr, hw, by omega, by omega, by omega, by omega, fun T' I' L' R' uc' us' i' x c2 q1 q2 q3 q4 q5 q6 q7 q8 q9 => ?_, fun T' I' L' R' uc' us' F x q1 q2 q3 q4 q5 q6 q7 => ?_⟩
      rotate_left
      · exact VT_out g hN (hf _ _ _ _ _ _ F x (hR.trans q1) (Kp.tr g3 q2 (by omega)) q3 (by omega) (by omega) (by omega) (by omega))
      have hi7 := q3.le
      have g6' := hROW.kp q4 (fun z hz => by rw [hz]; exact brd) (Nat.le_refl _)
      refine V_cv2 g (ctX16_and _) eX2_test_53 pkX2_124 g6'.tag rfl (by decide) (by omega) (Nat.le_of_ble_eq_true rfl) ?_
      refine spAnd_of ⟨uc, _, dP w + 1, uc1, 0, 3, 2, x, q, c, c2, rfl, g6', q6, q5, hq1, by omega, by omega, by omega, fun T4 I4 L4 R4 uc4 us4 cap4 cp4 r1 r2 r3 r4 r5 r6 => ?_⟩
      refine V_aret g eX2_test_56 (Or.inl ⟨_, rfl⟩) (Or.inr ⟨_, rfl⟩) ?_
      have rb := r1.b
      refine hk _ _ _ _ _ _ i' uc1 (c ++ (c2 ++ [(sgo q, 0)])) (hR.trans (q1.trans (Rc.one ?_))) (by omega) (q3.kp r2 brd btp id id) (Kp.tr (Kp.tr g3 q4 (by omega)) r2.no (Nat.le_refl _)) r1.re (by omega) (by omega) (by omega) (by omega)
      have := sgo_b q
      show (if ¬ sgo q = 0 then (3, i', (0, 0, an) :: r, ((cs ++ c) ++ c2) ++ [(sgo q, 0)], b, ls) else _) = _
      rw [if_pos (by omega), List.append_assoc, List.append_assoc]
    refine V_aload_0 g eX2_test_5 ?_
    refine V_bipush (v := nI 60) g eX2_test_6 (by decide) ?_
    refine V_cv1 g (ctX2_isSign _) eX2_test_8 pkX2_79 hT rfl (by decide) (by omega) (Nat.le_of_ble_eq_true rfl) ?_
    refine spSign_of h4 60 ?_
    refine V_if_neB g eX2_test_11 (fun c_11 => ?_) (fun c_11 => ?_)
    · exact t25 60 (Or.inl rfl) c_11 (h1.trans (Rc.one (by rw [stp_2, if_pos (show tS (srt t n) (vl t n) i1 60 from c_11)]; rfl)))
    · refine V_aload_0 g eX2_test_14 ?_
      refine V_bipush (v := nI 61) g eX2_test_15 (by decide) ?_
      refine V_cv1 g (ctX2_isSign _) eX2_test_17 pkX2_79 hT rfl (by decide) (by omega) (Nat.le_of_ble_eq_true rfl) ?_
      refine spSign_of h4 61 ?_
      refine V_if_neB g eX2_test_20 (fun c_20 => ?_) (fun c_20 => ?_)
      · exact t25 61 (Or.inr rfl) c_20 (h1.trans (Rc.one (by rw [stp_2, if_neg (show ¬ tS (srt t n) (vl t n) i1 60 from c_11), if_pos (show tS (srt t n) (vl t n) i1 61 from c_20)]; rfl)))
      · refine V_aload_1 g eX2_test_23 ?_
        refine V_aret g eX2_test_24 (Or.inl ⟨_, rfl⟩) (Or.inr ⟨_, rfl⟩) ?_
        exact hk _ _ _ _ _ _ i1 x1 c (h1.trans (Rc.one (by rw [stp_2, if_neg (show ¬ tS (srt t n) (vl t n) i1 60 from c_11), if_neg (show ¬ tS (srt t n) (vl t n) i1 61 from c_20)]))) h3 h4 h5 hE.up h6 e1 h7 e2
  have hT := hS.1.1
  refine V_aload_0 g eX2_test_0 ?_
  refine V_cv0 g hP eX2_test_1 pkX2_128 hT rfl (by decide) (Nat.le_refl _) (Nat.le_of_ble_eq_true rfl) ?_
  refine ⟨rd, tp, n, i, t, (0, 0, an), r, cs, b, ls, rfl, hS, rfl, hr, hw, brd, btp, huc, hus, fun T' I' L' R' uc' us' i' x c q1 q2 q3 q4 q5 q6 q7 q8 q9 => ?_, fun T' I' L' R' uc' us' F x q1 q2 q3 q4 q5 q6 q7 => VT_out g hN (hf _ _ _ _ _ _ F x q1 q2 q3 q4 q5 q6 q7)⟩
  refine V_astore_1 g eX2_test_4 (by decide) rfl ?_
  exact t5 T' I' L' R' uc' us' i' x c q1 q2 q3 q4 q6 q8 q5 q7 q9

