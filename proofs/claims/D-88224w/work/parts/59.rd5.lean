/-! BedBook's Reader: a sum (printed out of tmpl/t_rd5.txt) -/
set_option maxRecDepth 100000
theorem pn_sg (q : Nat) : pn (sgo q) = [(sgo q, 0)] := by
  have := sgo_b q
  unfold pn
  rw [if_neg (by omega)]
/-- what is at hand in a loop: an expression alone, or a row of nn signs -/
def Cur (T : Tt) (I : It) (R : Rt) (u0 s0 uc us d i i1 x : Nat) (l2 : Option Nat) (c : List Cd) : Prop := (l2 = none ∧ RE T I R (Nw u0 uc) d x c ∧ uc ≤ u0 + 7 * (i1 - i) ∧ us ≤ s0 + 42 * (i1 - i)) ∨ ∃ (a nn cap cp : Nat), l2 = some a ∧ ROW T I R u0 uc d a nn cap cp c ∧ 1 ≤ nn ∧ nn ≤ i1 - i ∧ uc ≤ u0 + 7 * (i1 - i - nn) + 5 + 2 * nn ∧ us + 2 ≤ s0 + 42 * (i1 - i - nn) + 4 * cap + 2 * cp
theorem Cur.b {T : Tt} {I : It} {R : Rt} {u0 s0 uc us d i i1 x : Nat} {l2 : Option Nat} {c : List Cd} (h : Cur T I R u0 s0 uc us d i i1 x l2 c) : uc ≤ u0 + 7 * (i1 - i) ∧ us ≤ s0 + 42 * (i1 - i) := by
  rcases h with ⟨_, _, h1, h2⟩ | ⟨a, nn, cap, cp, _, hR, h1, h2, h3, h4⟩
  · exact ⟨h1, h2⟩
  · have := hR.b
    omega
theorem pkX2_131 : PkV RX2 131 yX2_part (.code yX2_part cX2_part 3 (some (.object "BedBook$Exp"))) 3 "BedBook$Reader" 0 := ⟨cwd_c, (lk q866), Or.inl (lk q863), (lk q865), (lk qs20), ⟨⟨by decide, by decide⟩, by decide +kernel⟩, (lk q65), by decide⟩
theorem eX2_sum_68 : dc cX2_sum 68 (.aload_n 2) 1 69 := ⟨by decide +kernel, rfl⟩
theorem eX2_sum_69 : dj cX2_sum 69 (.ifnonnull 7) 7 76 72 := ⟨by decide +kernel, by decide, rfl⟩
theorem eX2_sum_72 : dc cX2_sum 72 (.aload_n 1) 1 73 := ⟨by decide +kernel, rfl⟩
theorem eX2_sum_73 : dj cX2_sum 73 (.goto 4) 4 77 76 := ⟨by decide +kernel, by decide, rfl⟩
theorem eX2_sum_77 : dc cX2_sum 77 (.areturn) 1 78 := ⟨by decide +kernel, rfl⟩
theorem eX2_sum_76 : dc cX2_sum 76 (.aload_n 2) 1 77 := ⟨by decide +kernel, rfl⟩
theorem eX2_sum_56 : dc cX2_sum 56 (.iload_n 3) 1 57 := ⟨by decide +kernel, rfl⟩
theorem eX2_sum_57 : dc cX2_sum 57 (.aload_n 0) 1 58 := ⟨by decide +kernel, rfl⟩
theorem eX2_sum_58 : dc cX2_sum 58 (.invokevirtual 131) 3 61 := ⟨by decide +kernel, rfl⟩
theorem eX2_sum_61 : dc cX2_sum 61 (.invokevirtual 124) 3 64 := ⟨by decide +kernel, rfl⟩
theorem pkX2_124 : PkV RX2 124 yX16_and (.code yX16_and cX16_and 3 (some (.object "BedBook$Row"))) 3 "BedBook$Row" 2 := ⟨cwd_c, (lk q947), Or.inl (lk q944), (lk q945), (lk q946), ⟨⟨by decide, by decide⟩, by decide +kernel⟩, (lk q93), by decide⟩
theorem eX2_sum_64 : dc cX2_sum 64 (.astore_n 2) 1 65 := ⟨by decide +kernel, rfl⟩
theorem eX2_sum_65 : dj cX2_sum 65 (.goto (-58)) (-58) 7 68 := ⟨by decide +kernel, by decide, rfl⟩
theorem eX2_sum_25 : dc cX2_sum 25 (.aload_n 0) 1 26 := ⟨by decide +kernel, rfl⟩
theorem eX2_sum_26 : dc cX2_sum 26 (.getfield 9) 3 29 := ⟨by decide +kernel, rfl⟩
theorem eX2_sum_29 : dc cX2_sum 29 (.aload_n 0) 1 30 := ⟨by decide +kernel, rfl⟩
theorem eX2_sum_30 : dc cX2_sum 30 (.getfield 28) 3 33 := ⟨by decide +kernel, rfl⟩
theorem eX2_sum_33 : dc cX2_sum 33 (.baload) 1 34 := ⟨by decide +kernel, rfl⟩
theorem eX2_sum_34 : dc cX2_sum 34 (.i2c) 1 35 := ⟨by decide +kernel, rfl⟩
theorem eX2_sum_35 : dc cX2_sum 35 (.istore_n 3) 1 36 := ⟨by decide +kernel, rfl⟩
theorem eX2_sum_36 : dc cX2_sum 36 (.aload_n 0) 1 37 := ⟨by decide +kernel, rfl⟩
theorem eX2_sum_37 : dc cX2_sum 37 (.invokevirtual 25) 3 40 := ⟨by decide +kernel, rfl⟩
theorem eX2_sum_40 : dc cX2_sum 40 (.aload_n 2) 1 41 := ⟨by decide +kernel, rfl⟩
theorem eX2_sum_41 : dj cX2_sum 41 (.ifnonnull 14) 14 55 44 := ⟨by decide +kernel, by decide, rfl⟩
theorem eX2_sum_44 : dc cX2_sum 44 (.new 119) 3 47 := ⟨by decide +kernel, rfl⟩
theorem eX2_sum_47 : dc cX2_sum 47 (.dup) 1 48 := ⟨by decide +kernel, rfl⟩
theorem eX2_sum_48 : dc cX2_sum 48 (.aload_n 1) 1 49 := ⟨by decide +kernel, rfl⟩
theorem eX2_sum_49 : dc cX2_sum 49 (.invokespecial 121) 3 52 := ⟨by decide +kernel, rfl⟩
theorem pkX2_121 : PkI RX2 121 yX16_init cX16_init 2 1 := ⟨(lk q903), Or.inl (lk q901), (lk q902), rfl, ⟨⟨by decide, by decide⟩, by decide +kernel⟩, (lk q93), by decide⟩
theorem eX2_sum_52 : dj cX2_sum 52 (.goto 4) 4 56 55 := ⟨by decide +kernel, by decide, rfl⟩
theorem eX2_sum_55 : dc cX2_sum 55 (.aload_n 2) 1 56 := ⟨by decide +kernel, rfl⟩
theorem eX2_sum_7 : dc cX2_sum 7 (.aload_n 0) 1 8 := ⟨by decide +kernel, rfl⟩
theorem eX2_sum_8 : dc cX2_sum 8 (.bipush 43) 2 10 := ⟨by decide +kernel, rfl⟩
theorem eX2_sum_10 : dc cX2_sum 10 (.invokevirtual 79) 3 13 := ⟨by decide +kernel, rfl⟩
theorem eX2_sum_13 : dj cX2_sum 13 (.ifCond .ne 12) 12 25 16 := ⟨by decide +kernel, by decide, rfl⟩
theorem eX2_sum_16 : dc cX2_sum 16 (.aload_n 0) 1 17 := ⟨by decide +kernel, rfl⟩
theorem eX2_sum_17 : dc cX2_sum 17 (.bipush 45) 2 19 := ⟨by decide +kernel, rfl⟩
theorem eX2_sum_19 : dc cX2_sum 19 (.invokevirtual 79) 3 22 := ⟨by decide +kernel, rfl⟩
theorem eX2_sum_22 : dj cX2_sum 22 (.ifCond .eq 46) 46 68 25 := ⟨by decide +kernel, by decide, rfl⟩
theorem eX2_sum_0 : dc cX2_sum 0 (.aload_n 0) 1 1 := ⟨by decide +kernel, rfl⟩
theorem eX2_sum_1 : dc cX2_sum 1 (.invokevirtual 131) 3 4 := ⟨by decide +kernel, rfl⟩
theorem eX2_sum_4 : dc cX2_sum 4 (.astore_n 1) 1 5 := ⟨by decide +kernel, rfl⟩
theorem eX2_sum_5 : dc cX2_sum 5 (.aconst_null) 1 6 := ⟨by decide +kernel, rfl⟩
theorem eX2_sum_6 : dc cX2_sum 6 (.astore_n 2) 1 7 := ⟨by decide +kernel, rfl⟩
set_option maxHeartbeats 8000000 in
theorem ctX2_sumA (l : Launch) (w : Nat) (hP : CP l w) : CS l w := by
  refine Ct.of (own := RX2) (nm := "sum") (by decide) rfl rfl ?_
  rintro X av T I L R uc us hl g hN hu hz ⟨rd, tp, n, i, t, ⟨su0, sg, an⟩, r, cs, b, ls, rfl, hS, hsu0, hr, hw, brd, btp, huc, hus, hk, hf⟩
  subst hl
  have hsu0 : su0 = 0 := hsu0
  subst hsu0
  refine VE.go (ls := [some (.ref rd), none, none, none]) g hu hz (fun _ => rfl) (fun _ => Nat.le_of_ble_eq_true rfl) ?_
  have hlev : 8 ≤ lP w := by unfold lP; omega
  have t68 : ∀ (T1 : Tt) (I1 : It) (L1 : Lt) (R1 : Rt) (uc1 us1 i1 su x1 : Nat) (l2 : Option Nat) (c' c : List Cd) (l3 : Option Value), Rc (srt t n) (vl t n) (0, i, (0, sg, an) :: r, cs, b, ls) (1, i1, (su, sg, an) :: r, cs ++ c', b, ls) → c' ++ pn su = c → i < i1 → RdS T1 I1 R1 rd tp n i1 w t → Kp uc (fun z => z = rd) T T1 I I1 L L1 R R1 → uc ≤ uc1 → us ≤ us1 → Cur T1 I1 R1 uc us uc1 us1 (dP w) i i1 x1 l2 c → ¬ tS (srt t n) (vl t n) i1 43 → ¬ tS (srt t n) (vl t n) i1 45 → V X T1 I1 L1 R1 uc1 us1 68 [some (.ref rd), some (.ref x1), some (rv l2), l3] [] := by
    intro T1 I1 L1 R1 uc1 us1 i1 su x1 l2 c' c l3 h1 h2 h3 h4 h5 h6 h7 h8 n1 n2
    have hb := h8.b
    have hR : Rc (srt t n) (vl t n) (0, i, (0, sg, an) :: r, cs, b, ls) (2, i1, (0, sg, an) :: r, cs ++ c, b, ls) := by
      refine h1.trans (Rc.one ?_)
      show (if _ then _ else if _ then _ else (2, i1, (0, sg, an) :: r, (cs ++ c') ++ pn su, b, ls)) = _
      rw [if_neg n1, if_neg n2, List.append_assoc, h2]
    rcases h8 with ⟨rfl, hE, _, _⟩ | ⟨a, nn, cap, cp, rfl, hE, _, _, _, _⟩
    ·
      refine V_aloadN_2 g eX2_sum_68 ?_
      refine V_ifnonnullN g eX2_sum_69 ?_
      refine V_aload_1 g eX2_sum_72 ?_
      refine V_goto g eX2_sum_73 ?_
      refine V_aret g eX2_sum_77 (Or.inl ⟨_, rfl⟩) (Or.inr ⟨_, rfl⟩) ?_
      exact hk _ _ _ _ _ _ i1 x1 c hR h3 h4 h5 hE.up h6 hb.1 h7 hb.2
    ·
      refine V_aload_2 g eX2_sum_68 ?_
      refine V_ifnonnull g eX2_sum_69 ?_
      refine V_aload_2 g eX2_sum_76 ?_
      refine V_aret g eX2_sum_77 (Or.inl ⟨_, rfl⟩) (Or.inr ⟨_, rfl⟩) ?_
      exact hk _ _ _ _ _ _ i1 a c hR h3 h4 h5 hE.re h6 hb.1 h7 hb.2
  have loop : ∀ (fu : Nat) (T1 : Tt) (I1 : It) (L1 : Lt) (R1 : Rt) (uc1 us1 i1 su x1 : Nat) (l2 : Option Nat) (c' c : List Cd), 601 ≤ i1 + fu → Rc (srt t n) (vl t n) (0, i, (0, sg, an) :: r, cs, b, ls) (1, i1, (su, sg, an) :: r, cs ++ c', b, ls) → c' ++ pn su = c → i < i1 → RdS T1 I1 R1 rd tp n i1 w t → Kp uc (fun z => z = rd) T T1 I I1 L L1 R R1 → uc ≤ uc1 → us ≤ us1 → Cur T1 I1 R1 uc us uc1 us1 (dP w) i i1 x1 l2 c → V X T1 I1 L1 R1 uc1 us1 7 [some (.ref rd), some (.ref x1), some (rv l2), none] [] := by
    intro fu
    induction fu with
    | zero => intro T1 I1 L1 R1 uc1 us1 i1 su x1 l2 c' c h0 h1 h2 h3 h4; have := h4.le; omega
    | succ fu ih =>
      intro T1 I1 L1 R1 uc1 us1 i1 su x1 l2 c' c h0 h1 h2 h3 h4 h5 h6 h7 h8
      have hb := h8.b
      have hT := h4.1.1
      have hi1 := h4.le
      have t56 : ∀ (q : Nat) (T2 : Tt) (I2 : It) (L2 : Lt) (R2 : Rt) (uc2 us2 a nn cap cp : Nat) (l2 : Option Value), q < 128 → Rc (srt t n) (vl t n) (0, i, (0, sg, an) :: r, cs, b, ls) (0, i1 + 1, (sgo q, sg, an) :: r, cs ++ c, b, ls) → RdS T2 I2 R2 rd tp n (i1 + 1) w t → Kp uc (fun z => z = rd) T T2 I I2 L L2 R R2 → uc ≤ uc2 → us ≤ us2 → ROW T2 I2 R2 uc uc2 (dP w) a nn cap cp c → nn ≤ i1 - i → uc2 ≤ uc + 7 * (i1 - i - nn) + 5 + 2 * nn → us2 + 2 ≤ us + 42 * (i1 - i - nn) + 4 * cap + 2 * cp → V X T2 I2 L2 R2 uc2 us2 56 [some (.ref rd), some (.ref x1), l2, some (.int (nI q))] [.ref a] := by
        intro q T2 I2 L2 R2 uc2 us2 a nn cap cp l2 hq g1 g2 g3 g4 g5 g6 g7 g8 g9
        have hT2 := g2.1.1
        have gb := g6.b
        refine V_iload_3 g eX2_sum_56 ?_
        refine V_aload_0 g eX2_sum_57 ?_
        refine V_cv0 g hP eX2_sum_58 pkX2_131 hT2 rfl (by decide) (Nat.le_refl _) (Nat.le_of_ble_eq_true rfl) ?_
        refine ⟨rd, tp, n, i1 + 1, t, (sgo q, sg, an), r, cs ++ c, b, ls, rfl, g2, trivial, hr, hw, by omega, by omega, by omega, by omega, fun T' I' L' R' uc' us' i' x c2 q1 q2 q3 q4 q5 q6 q7 q8 q9 => ?_, fun T' I' L' R' uc' us' F x q1 q2 q3 q4 q5 q6 q7 => ?_⟩
        rotate_left
        · exact VT_out g hN (hf _ _ _ _ _ _ F x (g1.trans q1) (Kp.tr g3 q2 g4) q3 (by omega) (by omega) (by omega) (by omega))
        have hi7 := q3.le
        have g6' : ROW T' I' R' uc uc2 (dP w) a nn cap cp c := g6.kp q4 (fun z hz => by rw [hz]; exact brd) (Nat.le_refl _)
        refine V_cv2 g (ctX16_and _) eX2_sum_61 pkX2_124 g6'.tag rfl (by decide) (by omega) (Nat.le_of_ble_eq_true rfl) ?_
        refine spAnd_of ⟨uc, uc2, dP w, a, nn, cap, cp, x, q, c, c2, rfl, g6', q6, q5, hq, by omega, by omega, by omega, fun T3 I3 L3 R3 uc3 us3 cap3 cp3 p1 p2 p3 p4 p5 p6 => ?_⟩
        refine V_astore_2 g eX2_sum_64 (by decide) rfl ?_
        refine V_goto g eX2_sum_65 ?_
        refine V_kill_3 ?_
        refine ih T3 I3 L3 R3 uc3 us3 i' (sgo q) x1 (some a) (c ++ c2) (c ++ (c2 ++ [(sgo q, 0)])) (by omega) (g1.trans (by rw [← List.append_assoc]; exact q1)) (by rw [pn_sg, List.append_assoc]) (by omega) (q3.kp p2 brd btp id id) (Kp.tr (Kp.tr g3 q4 g4) p2.no (Nat.le_refl _)) (by omega) (by omega) (Or.inr ⟨a, nn + 1, cap3, cp3, rfl, p1, by omega, by omega, by omega, by omega⟩)
      have t25 : ∀ (q : Nat), (q = 43 ∨ q = 45) → tS (srt t n) (vl t n) i1 (nI q) → Rc (srt t n) (vl t n) (0, i, (0, sg, an) :: r, cs, b, ls) (0, i1 + 1, (sgo q, sg, an) :: r, cs ++ c, b, ls) → V X T1 I1 L1 R1 uc1 us1 25 [some (.ref rd), some (.ref x1), some (rv l2), none] [] := by
        intro q hq hs hR
        have hq1 : q < 128 := by omega
        have hs' := (sg_iff (t := t) (n := n) (i := i1) (nI q)).mpr hs
        have hpn := (tk_3 hs.1).1
        have hn6 := h4.1.2.2.2.2
        have ht := h4.2.1
        rcases h8 with ⟨rfl, hE, e1, e2⟩ | ⟨a, nn, cap, cp, rfl, hE, e1, e2, e3, e4⟩
        ·
          refine V_aload_0 g eX2_sum_25 ?_
          refine V_getR g eX2_sum_26 flX2_9 hT rfl h4.1.2.1 ?_
          refine V_aload_0 g eX2_sum_29 ?_
          refine V_getI g eX2_sum_30 flX2_28 hT rfl ?_
          rw [h4.2.2.2.2.2.1]
          refine V_baldN g eX2_sum_33 h4.1.2.2.1 (by omega) (by decide) ?_
          rw [ht, hs'.2]
          refine V_i2c g eX2_sum_34 ?_
          rw [i2cN (by omega)]
          refine V_istore_3 g eX2_sum_35 (by decide) rfl ?_
          refine V_aload_0 g eX2_sum_36 ?_
          refine V_cv0 g (ctX2_next _) eX2_sum_37 pkX2_25 hT rfl (by decide) (by omega) (Nat.le_of_ble_eq_true rfl) ?_
          refine spNext_of h4 (by rw [hs.1]; decide) (fun I2 s1 s2 => ?_)
          refine V_aloadN_2 g eX2_sum_40 ?_
          refine V_ifnonnullN g eX2_sum_41 ?_
          refine V_new (tg := 12) g eX2_sum_44 rfl (by decide) (lk q899) (by omega) (by omega) (fun hd_44 => ?_)
          refine V_dup g eX2_sum_47 rfl ?_
          refine V_aload_1 g eX2_sum_48 ?_
          refine V_ci1 g (ctX16_init _) eX2_sum_49 pkX2_121 (by omega) (Nat.le_of_ble_eq_true rfl) ?_
          refine ⟨uc1, x1, rfl, by rw [va_up_self], by rw [va_up_ne _ _ (by have := hE.q.2; omega)]; rcases hE.tag with z | z | z <;> rw [z] <;> decide, by omega, by have := hE.q.2; omega, by omega, by omega, fun T3 I3 L3 R3 p1 p2 p3 p4 p5 p6 p7 => ?_⟩
          refine V_goto g eX2_sum_52 ?_
          have hE2 : RE T1 I2 R1 (Nw uc uc1) (dP w) x1 c := hE.kp (s2.kp uc1 T1 L1 R1) (fun z hz => by rw [hz]; exact brd) (Nat.le_refl _)
          have kp3 : Kp uc1 (fun _ => False) T1 T3 I2 I3 L1 L3 R1 R3 := ⟨fun z hz => ⟨by rw [(p1 z (by omega) (by omega)).1, va_up_ne _ _ (by omega)], by rw [(p1 z (by omega) (by omega)).2.2.1, va_up_ne _ _ (by omega)]⟩, fun z hz _ => ⟨by rw [(p1 z (by omega) (by omega)).2.1, va_up_ne _ _ (by omega)], by rw [(p1 z (by omega) (by omega)).2.2.2, va_up_ne _ _ (by omega)]⟩⟩
          exact t56 q T3 I3 L3 R3 _ _ uc1 0 3 2 _ hq1 hR (s1.kp kp3 (by omega) (by omega) id id) (Kp.tr (Kp.tr h5 (s2.kp uc1 T1 L1 R1) h6) kp3.no h6) (by omega) (by omega) (ROW.mk (L := L1) (L1 := va_up L1 uc1 fun _ => 0) hE2 h6 (fun z hz => ⟨va_up_ne _ _ (by omega), va_up_ne _ _ (by omega), va_up_ne _ _ (by omega)⟩) (by rw [va_up_self]) p1 p2 p4 p5 p6 p7) (by omega) (by omega) (by omega)
        ·
          refine V_aload_0 g eX2_sum_25 ?_
          refine V_getR g eX2_sum_26 flX2_9 hT rfl h4.1.2.1 ?_
          refine V_aload_0 g eX2_sum_29 ?_
          refine V_getI g eX2_sum_30 flX2_28 hT rfl ?_
          rw [h4.2.2.2.2.2.1]
          refine V_baldN g eX2_sum_33 h4.1.2.2.1 (by omega) (by decide) ?_
          rw [ht, hs'.2]
          refine V_i2c g eX2_sum_34 ?_
          rw [i2cN (by omega)]
          refine V_istore_3 g eX2_sum_35 (by decide) rfl ?_
          refine V_aload_0 g eX2_sum_36 ?_
          refine V_cv0 g (ctX2_next _) eX2_sum_37 pkX2_25 hT rfl (by decide) (by omega) (Nat.le_of_ble_eq_true rfl) ?_
          refine spNext_of h4 (by rw [hs.1]; decide) (fun I2 s1 s2 => ?_)
          refine V_aload_2 g eX2_sum_40 ?_
          refine V_ifnonnull g eX2_sum_41 ?_
          refine V_aload_2 g eX2_sum_55 ?_
          exact t56 q T1 I2 L1 R1 uc1 us1 a nn cap cp _ hq1 hR s1 (Kp.tr h5 (s2.kp uc1 T1 L1 R1) h6) h6 h7 (hE.kp (s2.kp uc1 T1 L1 R1) (fun z hz => by rw [hz]; exact brd) (Nat.le_refl _)) e2 e3 e4
      refine V_aload_0 g eX2_sum_7 ?_
      refine V_bipush (v := nI 43) g eX2_sum_8 (by decide) ?_
      refine V_cv1 g (ctX2_isSign _) eX2_sum_10 pkX2_79 hT rfl (by decide) (by omega) (Nat.le_of_ble_eq_true rfl) ?_
      refine spSign_of h4 43 ?_
      refine V_if_neB g eX2_sum_13 (fun c_13 => ?_) (fun c_13 => ?_)
      · exact t25 43 (Or.inl rfl) c_13 (h1.trans (Rc.one (by show (if _ then (0, i1 + 1, (3, sg, an) :: r, (cs ++ c') ++ pn su, b, ls) else _) = _; rw [if_pos (show tS (srt t n) (vl t n) i1 43 from c_13), List.append_assoc, h2]; rfl)))
      · refine V_aload_0 g eX2_sum_16 ?_
        refine V_bipush (v := nI 45) g eX2_sum_17 (by decide) ?_
        refine V_cv1 g (ctX2_isSign _) eX2_sum_19 pkX2_79 hT rfl (by decide) (by omega) (Nat.le_of_ble_eq_true rfl) ?_
        refine spSign_of h4 45 ?_
        refine V_if_eqB g eX2_sum_22 (fun c_22 => ?_) (fun c_22 => ?_)
        · exact t68 T1 I1 L1 R1 uc1 us1 i1 su x1 l2 c' c _ h1 h2 h3 h4 h5 h6 h7 h8 c_13 c_22
        · exact t25 45 (Or.inr rfl) c_22 (h1.trans (Rc.one (by show (if _ then _ else if _ then (0, i1 + 1, (4, sg, an) :: r, (cs ++ c') ++ pn su, b, ls) else _) = _; rw [if_neg (show ¬ tS (srt t n) (vl t n) i1 43 from c_13), if_pos (show tS (srt t n) (vl t n) i1 45 from c_22), List.append_assoc, h2]; rfl)))
  have hT := hS.1.1
  refine V_aload_0 g eX2_sum_0 ?_
  refine V_cv0 g hP eX2_sum_1 pkX2_131 hT rfl (by decide) (Nat.le_refl _) (Nat.le_of_ble_eq_true rfl) ?_
  refine ⟨rd, tp, n, i, t, (0, sg, an), r, cs, b, ls, rfl, hS, trivial, hr, hw, brd, btp, huc, hus, fun T' I' L' R' uc' us' i' x c q1 q2 q3 q4 q5 q6 q7 q8 q9 => ?_, fun T' I' L' R' uc' us' F x q1 q2 q3 q4 q5 q6 q7 => VT_out g hN (hf _ _ _ _ _ _ F x q1 q2 q3 q4 q5 q6 q7)⟩
  refine V_astore_1 g eX2_sum_4 (by decide) rfl ?_
  refine V_null g eX2_sum_5 ?_
  refine V_astoreN_2 g eX2_sum_6 (by decide) rfl ?_
  exact loop 601 T' I' L' R' uc' us' i' 0 x none c c (by omega) q1 (List.append_nil _) q2 q3 q4 q6 q8 (Or.inl ⟨rfl, q5, q7, q9⟩)

