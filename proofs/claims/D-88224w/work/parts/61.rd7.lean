/-! BedBook's Reader: an expression; all four by within (printed out of tmpl/t_rd7.txt) -/
set_option maxRecDepth 100000
theorem pkX2_114 : PkV RX2 114 yX2_test (.code yX2_test cX2_test 3 (some (.object "BedBook$Exp"))) 3 "BedBook$Reader" 0 := ⟨cwd_c, (lk q858), Or.inl (lk q855), (lk q857), (lk qs18), ⟨⟨by decide, by decide⟩, by decide +kernel⟩, (lk q65), by decide⟩
theorem eX2_e_49 : dc cX2_e 49 (.aload_n 2) 1 50 := ⟨by decide +kernel, rfl⟩
theorem eX2_e_50 : dj cX2_e 50 (.ifnonnull 7) 7 57 53 := ⟨by decide +kernel, by decide, rfl⟩
theorem eX2_e_53 : dc cX2_e 53 (.aload_n 1) 1 54 := ⟨by decide +kernel, rfl⟩
theorem eX2_e_54 : dj cX2_e 54 (.goto 4) 4 58 57 := ⟨by decide +kernel, by decide, rfl⟩
theorem eX2_e_58 : dc cX2_e 58 (.areturn) 1 59 := ⟨by decide +kernel, rfl⟩
theorem eX2_e_57 : dc cX2_e 57 (.aload_n 2) 1 58 := ⟨by decide +kernel, rfl⟩
theorem eX2_e_36 : dc cX2_e 36 (.bipush 97) 2 38 := ⟨by decide +kernel, rfl⟩
theorem eX2_e_38 : dc cX2_e 38 (.aload_n 0) 1 39 := ⟨by decide +kernel, rfl⟩
theorem eX2_e_39 : dc cX2_e 39 (.invokevirtual 114) 3 42 := ⟨by decide +kernel, rfl⟩
theorem eX2_e_42 : dc cX2_e 42 (.invokevirtual 124) 3 45 := ⟨by decide +kernel, rfl⟩
theorem eX2_e_45 : dc cX2_e 45 (.astore_n 2) 1 46 := ⟨by decide +kernel, rfl⟩
theorem eX2_e_46 : dj cX2_e 46 (.goto (-39)) (-39) 7 49 := ⟨by decide +kernel, by decide, rfl⟩
theorem eX2_e_16 : dc cX2_e 16 (.aload_n 0) 1 17 := ⟨by decide +kernel, rfl⟩
theorem eX2_e_17 : dc cX2_e 17 (.invokevirtual 25) 3 20 := ⟨by decide +kernel, rfl⟩
theorem eX2_e_20 : dc cX2_e 20 (.aload_n 2) 1 21 := ⟨by decide +kernel, rfl⟩
theorem eX2_e_21 : dj cX2_e 21 (.ifnonnull 14) 14 35 24 := ⟨by decide +kernel, by decide, rfl⟩
theorem eX2_e_24 : dc cX2_e 24 (.new 119) 3 27 := ⟨by decide +kernel, rfl⟩
theorem eX2_e_27 : dc cX2_e 27 (.dup) 1 28 := ⟨by decide +kernel, rfl⟩
theorem eX2_e_28 : dc cX2_e 28 (.aload_n 1) 1 29 := ⟨by decide +kernel, rfl⟩
theorem eX2_e_29 : dc cX2_e 29 (.invokespecial 121) 3 32 := ⟨by decide +kernel, rfl⟩
theorem eX2_e_32 : dj cX2_e 32 (.goto 4) 4 36 35 := ⟨by decide +kernel, by decide, rfl⟩
theorem eX2_e_35 : dc cX2_e 35 (.aload_n 2) 1 36 := ⟨by decide +kernel, rfl⟩
theorem eX2_e_7 : dc cX2_e 7 (.aload_n 0) 1 8 := ⟨by decide +kernel, rfl⟩
theorem eX2_e_8 : dc cX2_e 8 (.ldc 117) 2 10 := ⟨by decide +kernel, rfl⟩
theorem eX2_e_10 : dc cX2_e 10 (.invokevirtual 71) 3 13 := ⟨by decide +kernel, rfl⟩
theorem eX2_e_13 : dj cX2_e 13 (.ifCond .lt 36) 36 49 16 := ⟨by decide +kernel, by decide, rfl⟩
theorem eX2_e_0 : dc cX2_e 0 (.aload_n 0) 1 1 := ⟨by decide +kernel, rfl⟩
theorem eX2_e_1 : dc cX2_e 1 (.invokevirtual 114) 3 4 := ⟨by decide +kernel, rfl⟩
theorem eX2_e_4 : dc cX2_e 4 (.astore_n 1) 1 5 := ⟨by decide +kernel, rfl⟩
theorem eX2_e_5 : dc cX2_e 5 (.aconst_null) 1 6 := ⟨by decide +kernel, rfl⟩
theorem eX2_e_6 : dc cX2_e 6 (.astore_n 2) 1 7 := ⟨by decide +kernel, rfl⟩
set_option maxHeartbeats 8000000 in
theorem ctX2_eA (l : Launch) (w : Nat) (hP : CT l w) : CE l w := by
  refine Ct.of (own := RX2) (nm := "e") (by decide) rfl rfl ?_
  rintro X av T I L R uc us hl g hN hu hz ⟨rd, tp, n, i, t, W, r, cs, b, ls, rfl, hS, hW, hr, hw, brd, btp, huc, hus, hk, hf⟩
  subst hl
  have hW : W = (0, 0, 0) := hW
  subst hW
  refine VE.go (ls := [some (.ref rd), none, none]) g hu hz (fun _ => rfl) (fun _ => Nat.le_of_ble_eq_true rfl) ?_
  have hlev : 8 ≤ lP w := by unfold lP; omega
  have t49 : ∀ (T1 : Tt) (I1 : It) (L1 : Lt) (R1 : Rt) (uc1 us1 i1 an x1 : Nat) (l2 : Option Nat) (c' c : List Cd), Rc (srt t n) (vl t n) (0, i, (0, 0, 0) :: r, cs, b, ls) (3, i1, (0, 0, an) :: r, cs ++ c', b, ls) → c' ++ pn an = c → i < i1 → RdS T1 I1 R1 rd tp n i1 w t → Kp uc (fun z => z = rd) T T1 I I1 L L1 R R1 → uc ≤ uc1 → us ≤ us1 → Cur T1 I1 R1 uc us uc1 us1 (dP w + 2) i i1 x1 l2 c → ¬ tW (srt t n) (vl t n) i1 3 → V X T1 I1 L1 R1 uc1 us1 49 [some (.ref rd), some (.ref x1), some (rv l2)] [] := by
    intro T1 I1 L1 R1 uc1 us1 i1 an x1 l2 c' c h1 h2 h3 h4 h5 h6 h7 h8 n1
    have hb := h8.b
    have hR : Rc (srt t n) (vl t n) (0, i, (0, 0, 0) :: r, cs, b, ls) (4, i1, (0, 0, 0) :: r, cs ++ c, b, ls) := by
      refine h1.trans (Rc.one ?_)
      show (if _ then _ else (4, i1, (0, 0, 0) :: r, (cs ++ c') ++ pn an, b, ls)) = _
      rw [if_neg n1, List.append_assoc, h2]
    rcases h8 with ⟨rfl, hE, _, _⟩ | ⟨a, nn, cap, cp, rfl, hE, _, _, _, _⟩
    ·
      refine V_aloadN_2 g eX2_e_49 ?_
      refine V_ifnonnullN g eX2_e_50 ?_
      refine V_aload_1 g eX2_e_53 ?_
      refine V_goto g eX2_e_54 ?_
      refine V_aret g eX2_e_58 (Or.inl ⟨_, rfl⟩) (Or.inr ⟨_, rfl⟩) ?_
      exact hk _ _ _ _ _ _ i1 x1 c hR h3 h4 h5 hE.up h6 hb.1 h7 hb.2
    ·
      refine V_aload_2 g eX2_e_49 ?_
      refine V_ifnonnull g eX2_e_50 ?_
      refine V_aload_2 g eX2_e_57 ?_
      refine V_aret g eX2_e_58 (Or.inl ⟨_, rfl⟩) (Or.inr ⟨_, rfl⟩) ?_
      exact hk _ _ _ _ _ _ i1 a c hR h3 h4 h5 hE.re h6 hb.1 h7 hb.2
  have loop : ∀ (fu : Nat) (T1 : Tt) (I1 : It) (L1 : Lt) (R1 : Rt) (uc1 us1 i1 an x1 : Nat) (l2 : Option Nat) (c' c : List Cd), 601 ≤ i1 + fu → Rc (srt t n) (vl t n) (0, i, (0, 0, 0) :: r, cs, b, ls) (3, i1, (0, 0, an) :: r, cs ++ c', b, ls) → c' ++ pn an = c → i < i1 → RdS T1 I1 R1 rd tp n i1 w t → Kp uc (fun z => z = rd) T T1 I I1 L L1 R R1 → uc ≤ uc1 → us ≤ us1 → Cur T1 I1 R1 uc us uc1 us1 (dP w + 2) i i1 x1 l2 c → V X T1 I1 L1 R1 uc1 us1 7 [some (.ref rd), some (.ref x1), some (rv l2)] [] := by
    intro fu
    induction fu with
    | zero => intro T1 I1 L1 R1 uc1 us1 i1 an x1 l2 c' c h0 h1 h2 h3 h4; have := h4.le; omega
    | succ fu ih =>
      intro T1 I1 L1 R1 uc1 us1 i1 an x1 l2 c' c h0 h1 h2 h3 h4 h5 h6 h7 h8
      have hb := h8.b
      have hT := h4.1.1
      have hi1 := h4.le
      have t36 : ∀ (T2 : Tt) (I2 : It) (L2 : Lt) (R2 : Rt) (uc2 us2 a nn cap cp : Nat) (l2 : Option Value), Rc (srt t n) (vl t n) (0, i, (0, 0, 0) :: r, cs, b, ls) (0, i1 + 1, (0, 0, 7) :: r, cs ++ c, b, ls) → RdS T2 I2 R2 rd tp n (i1 + 1) w t → Kp uc (fun z => z = rd) T T2 I I2 L L2 R R2 → uc ≤ uc2 → us ≤ us2 → ROW T2 I2 R2 uc uc2 (dP w + 2) a nn cap cp c → nn ≤ i1 - i → uc2 ≤ uc + 7 * (i1 - i - nn) + 5 + 2 * nn → us2 + 2 ≤ us + 42 * (i1 - i - nn) + 4 * cap + 2 * cp → V X T2 I2 L2 R2 uc2 us2 36 [some (.ref rd), some (.ref x1), l2] [.ref a] := by
        intro T2 I2 L2 R2 uc2 us2 a nn cap cp l2 g1 g2 g3 g4 g5 g6 g7 g8 g9
        have hT2 := g2.1.1
        have gb := g6.b
        refine V_bipush (v := nI 97) g eX2_e_36 (by decide) ?_
        refine V_aload_0 g eX2_e_38 ?_
        refine V_cv0 g hP eX2_e_39 pkX2_114 hT2 rfl (by decide) (Nat.le_refl _) (Nat.le_of_ble_eq_true rfl) ?_
        refine ⟨rd, tp, n, i1 + 1, t, (0, 0, 7), r, cs ++ c, b, ls, rfl, g2, ⟨rfl, rfl⟩, hr, hw, by omega, by omega, by omega, by omega, fun T' I' L' R' uc' us' i' x c2 q1 q2 q3 q4 q5 q6 q7 q8 q9 => ?_, fun T' I' L' R' uc' us' F x q1 q2 q3 q4 q5 q6 q7 => ?_⟩
        rotate_left
        · exact VT_out g hN (hf _ _ _ _ _ _ F x (g1.trans q1) (Kp.tr g3 q2 g4) q3 (by omega) (by omega) (by omega) (by omega))
        have hi7 := q3.le
        have g6' : ROW T' I' R' uc uc2 (dP w + 2) a nn cap cp c := g6.kp q4 (fun z hz => by rw [hz]; exact brd) (Nat.le_refl _)
        refine V_cv2 g (ctX16_and _) eX2_e_42 pkX2_124 g6'.tag rfl (by decide) (by omega) (Nat.le_of_ble_eq_true rfl) ?_
        refine spAnd_of ⟨uc, uc2, dP w + 2, a, nn, cap, cp, x, 97, c, c2, rfl, g6', q6, q5, by decide, by omega, by omega, by omega, fun T3 I3 L3 R3 uc3 us3 cap3 cp3 p1 p2 p3 p4 p5 p6 => ?_⟩
        refine V_astore_2 g eX2_e_45 (by decide) rfl ?_
        refine V_goto g eX2_e_46 ?_
        refine ih T3 I3 L3 R3 uc3 us3 i' 7 x1 (some a) (c ++ c2) (c ++ (c2 ++ [(sgo 97, 0)])) (by omega) (g1.trans (by rw [← List.append_assoc]; exact q1)) (by rw [List.append_assoc]; rfl) (by omega) (q3.kp p2 brd btp id id) (Kp.tr (Kp.tr g3 q4 g4) p2.no (Nat.le_refl _)) (by omega) (by omega) (Or.inr ⟨a, nn + 1, cap3, cp3, rfl, p1, by omega, by omega, by omega, by omega⟩)
      have t16 : tW (srt t n) (vl t n) i1 3 → V X T1 I1 L1 R1 uc1 us1 16 [some (.ref rd), some (.ref x1), some (rv l2)] [] := by
        intro hs
        have hR : Rc (srt t n) (vl t n) (0, i, (0, 0, 0) :: r, cs, b, ls) (0, i1 + 1, (0, 0, 7) :: r, cs ++ c, b, ls) := by
          refine h1.trans (Rc.one ?_)
          show (if _ then (0, i1 + 1, (0, 0, 7) :: r, (cs ++ c') ++ pn an, b, ls) else _) = _
          rw [if_pos hs, List.append_assoc, h2]
        rcases h8 with ⟨rfl, hE, e1, e2⟩ | ⟨a, nn, cap, cp, rfl, hE, e1, e2, e3, e4⟩
        ·
          refine V_aload_0 g eX2_e_16 ?_
          refine V_cv0 g (ctX2_next _) eX2_e_17 pkX2_25 hT rfl (by decide) (by omega) (Nat.le_of_ble_eq_true rfl) ?_
          refine spNext_of h4 (by rw [hs.1]; decide) (fun I2 s1 s2 => ?_)
          refine V_aloadN_2 g eX2_e_20 ?_
          refine V_ifnonnullN g eX2_e_21 ?_
          refine V_new (tg := 12) g eX2_e_24 rfl (by decide) (lk q899) (by omega) (by omega) (fun hd_24 => ?_)
          refine V_dup g eX2_e_27 rfl ?_
          refine V_aload_1 g eX2_e_28 ?_
          refine V_ci1 g (ctX16_init _) eX2_e_29 pkX2_121 (by omega) (Nat.le_of_ble_eq_true rfl) ?_
          refine ⟨uc1, x1, rfl, by rw [va_up_self], by rw [va_up_ne _ _ (by have := hE.q.2; omega)]; rcases hE.tag with z | z | z <;> rw [z] <;> decide, by omega, by have := hE.q.2; omega, by omega, by omega, fun T3 I3 L3 R3 p1 p2 p3 p4 p5 p6 p7 => ?_⟩
          refine V_goto g eX2_e_32 ?_
          have hE2 : RE T1 I2 R1 (Nw uc uc1) (dP w + 2) x1 c := hE.kp (s2.kp uc1 T1 L1 R1) (fun z hz => by rw [hz]; exact brd) (Nat.le_refl _)
          have kp3 : Kp uc1 (fun _ => False) T1 T3 I2 I3 L1 L3 R1 R3 := ⟨fun z hz => ⟨by rw [(p1 z (by omega) (by omega)).1, va_up_ne _ _ (by omega)], by rw [(p1 z (by omega) (by omega)).2.2.1, va_up_ne _ _ (by omega)]⟩, fun z hz _ => ⟨by rw [(p1 z (by omega) (by omega)).2.1, va_up_ne _ _ (by omega)], by rw [(p1 z (by omega) (by omega)).2.2.2, va_up_ne _ _ (by omega)]⟩⟩
          exact t36 T3 I3 L3 R3 _ _ uc1 0 3 2 _ hR (s1.kp kp3 (by omega) (by omega) id id) (Kp.tr (Kp.tr h5 (s2.kp uc1 T1 L1 R1) h6) kp3.no h6) (by omega) (by omega) (ROW.mk (L := L1) (L1 := va_up L1 uc1 fun _ => 0) hE2 h6 (fun z hz => ⟨va_up_ne _ _ (by omega), va_up_ne _ _ (by omega), va_up_ne _ _ (by omega)⟩) (by rw [va_up_self]) p1 p2 p4 p5 p6 p7) (by omega) (by omega) (by omega)
        ·
          refine V_aload_0 g eX2_e_16 ?_
          refine V_cv0 g (ctX2_next _) eX2_e_17 pkX2_25 hT rfl (by decide) (by omega) (Nat.le_of_ble_eq_true rfl) ?_
          refine spNext_of h4 (by rw [hs.1]; decide) (fun I2 s1 s2 => ?_)
          refine V_aload_2 g eX2_e_20 ?_
          refine V_ifnonnull g eX2_e_21 ?_
          refine V_aload_2 g eX2_e_35 ?_
          exact t36 T1 I2 L1 R1 uc1 us1 a nn cap cp _ hR s1 (Kp.tr h5 (s2.kp uc1 T1 L1 R1) h6) h6 h7 (hE.kp (s2.kp uc1 T1 L1 R1) (fun z hz => by rw [hz]; exact brd) (Nat.le_refl _)) e2 e3 e4
      refine V_aload_0 g eX2_e_7 ?_
      refine V_ldcS (i := 4) g eX2_e_8 (by decide) rfl ?_
      refine V_cv1 g (ctX2_which _) eX2_e_10 pkX2_71 hT rfl (by decide) (by omega) (Nat.le_of_ble_eq_true rfl) ?_
      refine spWhich_of h4 4 (by decide) (by decide) ?_
      refine V_if_lt g eX2_e_13 (fun c_13 => ?_) (fun c_13 => ?_)
      · exact t49 T1 I1 L1 R1 uc1 us1 i1 an x1 l2 c' c h1 h2 h3 h4 h5 h6 h7 h8 ((whS_4 _ _ _).mp c_13)
      · exact t16 (Classical.not_not.mp fun z => c_13 ((whS_4 _ _ _).mpr z))
  have hT := hS.1.1
  refine V_aload_0 g eX2_e_0 ?_
  refine V_cv0 g hP eX2_e_1 pkX2_114 hT rfl (by decide) (Nat.le_refl _) (Nat.le_of_ble_eq_true rfl) ?_
  refine ⟨rd, tp, n, i, t, (0, 0, 0), r, cs, b, ls, rfl, hS, ⟨rfl, rfl⟩, hr, hw, brd, btp, huc, hus, fun T' I' L' R' uc' us' i' x c q1 q2 q3 q4 q5 q6 q7 q8 q9 => ?_, fun T' I' L' R' uc' us' F x q1 q2 q3 q4 q5 q6 q7 => VT_out g hN (hf _ _ _ _ _ _ F x q1 q2 q3 q4 q5 q6 q7)⟩
  refine V_astore_1 g eX2_e_4 (by decide) rfl ?_
  refine V_null g eX2_e_5 ?_
  refine V_astoreN_2 g eX2_e_6 (by decide) rfl ?_
  exact loop 601 T' I' L' R' uc' us' i' 0 x none c c (by omega) q1 (List.append_nil _) q2 q3 q4 q6 q8 (Or.inl ⟨rfl, q5, q7, q9⟩)
theorem ctX2_e (l : Launch) : ∀ q w, w + q = 5 → CE l w := by
  intro q
  induction q with
  | zero =>
    intro w h
    exact ctX2_eA l w (ctX2_testA l w (ctX2_sumA l w (ctX2_partA l w fun z => absurd z (by omega))))
  | succ q ih =>
    intro w h
    exact ctX2_eA l w (ctX2_testA l w (ctX2_sumA l w (ctX2_partA l w fun _ => ih (w + 1) (by omega))))

