/-! BedBook's Reader: a whole text, the walk (printed out of tmpl/t_rd9.txt) -/
set_option maxRecDepth 100000
theorem wh1_0 {S : Nat → Nat} {v : Nat → Int64} {i : Nat} (h : whS S v i 1 = 0) : ¬ tW S v i 1 := by
  have h : (if tW S v i 0 then (0 : Int32) else if tW S v i 1 then 1 else -1) = 0 := h
  by_cases c : tW S v i 0
  · intro z
    exact absurd (c.2.symm.trans z.2) (by decide)
  · rw [if_neg c] at h
    intro z
    rw [if_pos z] at h
    exact absurd h (by decide)
theorem wh1_n {S : Nat → Nat} {v : Nat → Int64} {i : Nat} (h : ¬ whS S v i 1 = 0) (h2 : ¬ whS S v i 1 < 0) : tW S v i 1 := by
  have e : whS S v i 1 = (if tW S v i 0 then (0 : Int32) else if tW S v i 1 then 1 else -1) := rfl
  rw [e] at h h2
  by_cases c : tW S v i 0
  · rw [if_pos c] at h; exact absurd rfl h
  · rw [if_neg c] at h h2
    by_cases d : tW S v i 1
    · exact d
    · rw [if_neg d] at h2; exact absurd (by decide) h2
abbrev spX2_whole : Sp := fun av T I L R uc us k => ∃ (rd tp n : Nat) (t : Nat → Int32), av = [.ref rd] ∧ RdS T I R rd tp n 0 0 t ∧ rd < uc ∧ tp < uc ∧ uc + 6000 ≤ 600000 ∧ us + 40000 ≤ 7293034 ∧
  (∀ T' I' L' R' uc' us' F x, Rc (srt t n) (vl t n) (5, 0, [], [], false, []) F → F.1 = 8 → Kp uc (fun z => z = rd) T T' I I' L L' R R' → TX T' I' R' (Nw uc uc') x F.2.2.2.2.2 → uc ≤ uc' → uc' ≤ uc + 6000 → us ≤ us' → us' ≤ us + 40000 → k (.inl (some (.ref x))) T' I' L' R' uc' us') ∧
  (∀ T' I' L' R' uc' us' F x, Rc (srt t n) (vl t n) (5, 0, [], [], false, []) F → Kp uc (fun z => z = rd) T T' I I' L L' R R' → Flt T' I' t n F.1 F.2.1 x → uc ≤ uc' → uc' ≤ uc + 6000 → us ≤ us' → us' ≤ us + 40000 → k (.inr x) T' I' L' R' uc' us')
theorem eX2_whole_90 : dc cX2_whole 90 (.pop) 1 91 := ⟨by decide +kernel, rfl⟩
theorem eX2_whole_91 : dj cX2_whole 91 (.goto (-82)) (-82) 9 94 := ⟨by decide +kernel, by decide, rfl⟩
theorem eX2_whole_83 : dc cX2_whole 83 (.aload_n 3) 1 84 := ⟨by decide +kernel, rfl⟩
theorem eX2_whole_84 : dc cX2_whole 84 (.invokespecial 107) 3 87 := ⟨by decide +kernel, rfl⟩
theorem pkX2_107 : PkI RX2 107 yX17_init cX17_init 3 2 := ⟨(lk q1013), Or.inl (lk q1011), (lk q1012), rfl, ⟨⟨by decide, by decide⟩, by decide +kernel⟩, (lk q96), by decide⟩
theorem eX2_whole_87 : dc cX2_whole 87 (.invokevirtual 110) 3 90 := ⟨by decide +kernel, rfl⟩
theorem pkX2_110 : PkV RX2 110 yJ2_add (.code yJ2_add cJ2_add 2 (some .boolean)) 2 "java/util/ArrayList" 1 := ⟨cwd_c, (lk q360), Or.inl (lk q1024), (lk q358), (lk q359), ⟨⟨by decide, by decide⟩, by decide +kernel⟩, (lk q64), by decide⟩
theorem eX2_whole_48 : dc cX2_whole 48 (.aload_n 0) 1 49 := ⟨by decide +kernel, rfl⟩
theorem eX2_whole_49 : dc cX2_whole 49 (.invokevirtual 25) 3 52 := ⟨by decide +kernel, rfl⟩
theorem eX2_whole_52 : dc cX2_whole 52 (.aload_n 0) 1 53 := ⟨by decide +kernel, rfl⟩
theorem eX2_whole_53 : dc cX2_whole 53 (.ldc 92) 2 55 := ⟨by decide +kernel, rfl⟩
theorem eX2_whole_55 : dc cX2_whole 55 (.invokevirtual 94) 3 58 := ⟨by decide +kernel, rfl⟩
theorem pkX2_94 : PkV RX2 94 yX2_need (.code yX2_need cX2_need 2 none) 2 "BedBook$Reader" 1 := ⟨cwd_c, (lk q850), Or.inl (lk q847), (lk q849), (lk qs16), ⟨⟨by decide, by decide⟩, by decide +kernel⟩, (lk q65), by decide⟩
theorem eX2_whole_58 : dc cX2_whole 58 (.aload_n 0) 1 59 := ⟨by decide +kernel, rfl⟩
theorem eX2_whole_59 : dc cX2_whole 59 (.invokevirtual 98) 3 62 := ⟨by decide +kernel, rfl⟩
theorem eX2_whole_62 : dc cX2_whole 62 (.astore_n 3) 1 63 := ⟨by decide +kernel, rfl⟩
theorem eX2_whole_63 : dc cX2_whole 63 (.aload_n 0) 1 64 := ⟨by decide +kernel, rfl⟩
theorem eX2_whole_64 : dc cX2_whole 64 (.bipush 59) 2 66 := ⟨by decide +kernel, rfl⟩
theorem eX2_whole_66 : dc cX2_whole 66 (.invokevirtual 102) 3 69 := ⟨by decide +kernel, rfl⟩
theorem eX2_whole_69 : dc cX2_whole 69 (.aload_n 1) 1 70 := ⟨by decide +kernel, rfl⟩
theorem eX2_whole_70 : dc cX2_whole 70 (.new 105) 3 73 := ⟨by decide +kernel, rfl⟩
theorem eX2_whole_73 : dc cX2_whole 73 (.dup) 1 74 := ⟨by decide +kernel, rfl⟩
theorem eX2_whole_74 : dc cX2_whole 74 (.iload_n 2) 1 75 := ⟨by decide +kernel, rfl⟩
theorem eX2_whole_75 : dj cX2_whole 75 (.ifCond .ne 7) 7 82 78 := ⟨by decide +kernel, by decide, rfl⟩
theorem eX2_whole_82 : dc cX2_whole 82 (.iconst 0) 1 83 := ⟨by decide +kernel, rfl⟩
theorem eX2_whole_78 : dc cX2_whole 78 (.iconst 1) 1 79 := ⟨by decide +kernel, rfl⟩
theorem eX2_whole_79 : dj cX2_whole 79 (.goto 4) 4 83 82 := ⟨by decide +kernel, by decide, rfl⟩
theorem eX2_whole_9 : dc cX2_whole 9 (.aload_n 0) 1 10 := ⟨by decide +kernel, rfl⟩
theorem eX2_whole_10 : dc cX2_whole 10 (.getfield 31) 3 13 := ⟨by decide +kernel, rfl⟩
theorem eX2_whole_13 : dj cX2_whole 13 (.ifCond .eq 81) 81 94 16 := ⟨by decide +kernel, by decide, rfl⟩
theorem eX2_whole_94 : dc cX2_whole 94 (.aload_n 1) 1 95 := ⟨by decide +kernel, rfl⟩
theorem eX2_whole_95 : dc cX2_whole 95 (.areturn) 1 96 := ⟨by decide +kernel, rfl⟩
theorem eX2_whole_16 : dc cX2_whole 16 (.aload_n 0) 1 17 := ⟨by decide +kernel, rfl⟩
theorem eX2_whole_17 : dc cX2_whole 17 (.ldc 88) 2 19 := ⟨by decide +kernel, rfl⟩
theorem eX2_whole_19 : dc cX2_whole 19 (.invokevirtual 71) 3 22 := ⟨by decide +kernel, rfl⟩
theorem eX2_whole_22 : dc cX2_whole 22 (.istore_n 2) 1 23 := ⟨by decide +kernel, rfl⟩
theorem eX2_whole_23 : dc cX2_whole 23 (.iload_n 2) 1 24 := ⟨by decide +kernel, rfl⟩
theorem eX2_whole_24 : dj cX2_whole 24 (.ifCond .ge 9) 9 33 27 := ⟨by decide +kernel, by decide, rfl⟩
theorem eX2_whole_33 : dc cX2_whole 33 (.aload_n 1) 1 34 := ⟨by decide +kernel, rfl⟩
theorem eX2_whole_34 : dc cX2_whole 34 (.invokevirtual 90) 3 37 := ⟨by decide +kernel, rfl⟩
theorem pkX2_90 : PkV RX2 90 yJ2_size (.code yJ2_size cJ2_size 1 (some .int)) 1 "java/util/ArrayList" 0 := ⟨cwd_c, (lk q295), Or.inl (lk q845), (lk q293), (lk q294), ⟨⟨by decide, by decide⟩, by decide +kernel⟩, (lk q64), by decide⟩
theorem eX2_whole_37 : dc cX2_whole 37 (.bipush 16) 2 39 := ⟨by decide +kernel, rfl⟩
theorem eX2_whole_39 : dj cX2_whole 39 (.if_icmp .ne 9) 9 48 42 := ⟨by decide +kernel, by decide, rfl⟩
theorem eX2_whole_42 : dc cX2_whole 42 (.aload_n 0) 1 43 := ⟨by decide +kernel, rfl⟩
theorem eX2_whole_43 : dc cX2_whole 43 (.iconst 5) 1 44 := ⟨by decide +kernel, rfl⟩
theorem eX2_whole_44 : dc cX2_whole 44 (.invokevirtual 75) 3 47 := ⟨by decide +kernel, rfl⟩
theorem eX2_whole_47 : dc cX2_whole 47 (.athrow) 1 48 := ⟨by decide +kernel, rfl⟩
theorem eX2_whole_27 : dc cX2_whole 27 (.aload_n 0) 1 28 := ⟨by decide +kernel, rfl⟩
theorem eX2_whole_28 : dc cX2_whole 28 (.iconst 1) 1 29 := ⟨by decide +kernel, rfl⟩
theorem eX2_whole_29 : dc cX2_whole 29 (.invokevirtual 75) 3 32 := ⟨by decide +kernel, rfl⟩
theorem eX2_whole_32 : dc cX2_whole 32 (.athrow) 1 33 := ⟨by decide +kernel, rfl⟩
theorem eX2_whole_0 : dc cX2_whole 0 (.new 83) 3 3 := ⟨by decide +kernel, rfl⟩
theorem eX2_whole_3 : dc cX2_whole 3 (.dup) 1 4 := ⟨by decide +kernel, rfl⟩
theorem eX2_whole_4 : dc cX2_whole 4 (.iconst 4) 1 5 := ⟨by decide +kernel, rfl⟩
theorem eX2_whole_5 : dc cX2_whole 5 (.invokespecial 85) 3 8 := ⟨by decide +kernel, rfl⟩
theorem pkX2_85 : PkI RX2 85 yJ2_init cJ2_init 2 1 := ⟨(lk q109), Or.inl (lk q746), (lk q108), rfl, ⟨⟨by decide, by decide⟩, by decide +kernel⟩, (lk q64), by decide⟩
theorem eX2_whole_8 : dc cX2_whole 8 (.astore_n 1) 1 9 := ⟨by decide +kernel, rfl⟩
set_option maxHeartbeats 8000000 in
theorem ctX2_whole (l : Launch) : Ct l yX2_whole (.code yX2_whole cX2_whole 4 (some (.object "java/util/ArrayList"))) 32 spX2_whole := by
  refine Ct.of (own := RX2) (nm := "whole") (by decide) rfl rfl ?_
  rintro X av T I L R uc us rfl g hN hu hz ⟨rd, tp, n, t, rfl, hS, brd, btp, huc, hus, hk, hf⟩
  refine VE.go (ls := [some (.ref rd), none, none, none]) g hu hz (fun _ => rfl) (fun _ => Nat.le_of_ble_eq_true rfl) ?_
  have hE : CE (x_l X) 0 := ctX2_e _ 5 0 rfl
  have loop : ∀ (fu : Nat) (T1 : Tt) (I1 : It) (L1 : Lt) (R1 : Rt) (uc1 us1 i1 e cap N : Nat) (h : Nat → Nat) (bb : Bool) (ls : List (Bool × List Cd)), 601 ≤ i1 + fu → Rc (srt t n) (vl t n) (5, 0, [], [], false, []) (5, i1, [], [], bb, ls) → RdS T1 I1 R1 rd tp n i1 0 t → Kp uc (fun z => z = rd) T T1 I I1 L L1 R R1 → uc ≤ uc1 → us ≤ us1 → uc1 ≤ uc + 2 + 7 * i1 → us1 ≤ us + 7 + 42 * i1 → TXo T1 I1 R1 uc uc1 uc e cap N h ls → V X T1 I1 L1 R1 uc1 us1 9 [some (.ref rd), some (.ref uc), none, none] [] := by
    intro fu
    induction fu with
    | zero => intro T1 I1 L1 R1 uc1 us1 i1 e cap N h bb ls h0 h1 h4; have := h4.le; omega
    | succ fu ih =>
      intro T1 I1 L1 R1 uc1 us1 i1 e cap N h bb ls h0 h1 h4 h5 h6 h7 h8 h9 hX
      have hT := h4.1.1
      have hi1 := h4.le
      have hsk : I1 rd 3 = nI (srt t n i1) := h4.2.2.2.2.1
      have hpl : I1 rd 4 = nI (plc t n i1) := h4.2.2.2.2.2.1
      have hlN : ls.length = N := hX.2.2.2.2.1
      have hN16 : N ≤ 16 := hX.2.2.2.2.2.1
      have t83 : ∀ (T' : Tt) (I4 : It) (L' : Lt) (R' : Rt) (uc' us' i' x bit : Nat) (b : Bool) (c : List Cd) (l2 : Option Value), Rc (srt t n) (vl t n) (5, 0, [], [], false, []) (5, i' + 1, [], [], b, ls ++ [(b, c)]) → RdS T' I4 R' rd tp n (i' + 1) 0 t → Kp uc (fun z => z = rd) T T' I I4 L L' R R' → TXo T' I4 R' uc uc1 uc e cap N h ls → RE T' I4 R' (Nw uc1 uc') 18 x c → uc1 ≤ uc' → us1 ≤ us' → i1 + 2 ≤ i' → i' ≤ 600 → uc' ≤ uc + 2 + 7 * i1 + 7 * (i' - (i1 + 2)) → us' ≤ us + 7 + 42 * i1 + 42 * (i' - (i1 + 2)) → N < 16 → bit < 2 → nI bit = (if b = true then 0 else 1) → V X (va_up T' uc' (13, 0)) (va_up I4 uc' fun _ => 0) (va_up L' uc' fun _ => 0) (va_up R' uc' fun _ => none) (uc' + 1) (us' + 2) 83 [some (.ref rd), some (.ref uc), l2, some (.ref x)] [.int (nI bit), .ref uc', .ref uc', .ref uc] := by
        intro T' I4 L' R' uc' us' i' x bit b c l2 a1 a2 a3 a4 a5 a6 a7 a8 a9 a10 a11 a12 a13 a14
        have be := a4.2.2.2.1
        have be1 := be.1
        have be2 := be.2
        have bl := a4.2.2.1.2
        have t90 : ∀ (T5 : Tt) (I5 : It) (L5 : Lt) (R5 : Rt) (uc5 us5 e5 cap5 : Nat), LSt T5 I5 R5 uc e5 cap5 (N + 1) (upf h N uc') → cap5 ≤ 24 → uc' + 1 ≤ uc5 → uc5 ≤ uc' + 2 → us' ≤ us5 → us5 ≤ us' + 26 → e5 < uc5 → (e5 = e ∨ uc' + 1 ≤ e5) → (∀ z, z < uc' → z ≠ uc → z ≠ e → T5 z = T' z ∧ I5 z = I4 z ∧ R5 z = R' z) → (∀ z, z < uc' → T5 z = T' z ∧ L5 z = L' z) → (T5 uc').1 = 13 → I5 uc' 0 = nI bit → R5 uc' 1 = some x → V X T5 I5 L5 R5 uc5 us5 90 [some (.ref rd), some (.ref uc), l2, some (.ref x)] [.int 1] := by
          intro T5 I5 L5 R5 uc5 us5 e5 cap5 b1 b2 b3 b4 b5 b6 b7 b8 b9 b10 b11 b12 b13
          have kp5 : Kp uc (fun _ => False) T' T5 I4 I5 L' L5 R' R5 := ⟨fun z hz => b10 z (by omega), fun z hz _ => ⟨(b9 z (by omega) (by omega) (by omega)).2.1, (b9 z (by omega) (by omega) (by omega)).2.2⟩⟩
          have hLN : LN T5 I5 R5 (Nz uc uc5 uc e5) uc' b c := by
            refine ⟨⟨⟨by omega, by omega⟩, by omega, by omega⟩, b11, by rw [b12]; exact a14, x, b13, RE.keep (fun z hz => ?_) a5⟩
            have z1 := hz.1
            have z2 := hz.2
            exact ⟨⟨⟨by omega, by omega⟩, by omega, by omega⟩, b9 z (by omega) (by omega) (by omega)⟩
          refine V_pop g eX2_whole_90 rfl ?_
          refine V_goto g eX2_whole_91 ?_
          refine V_kill_2 (V_kill_3 ?_)
          exact ih T5 I5 L5 R5 uc5 us5 (i' + 1) e5 cap5 (N + 1) (upf h N uc') b (ls ++ [(b, c)]) (by omega) a1 (a2.kp kp5 brd btp id id) (Kp.tr a3 kp5.no (Nat.le_refl _)) (by omega) (by omega) (by omega) (by omega) (a4.add (by omega) b1 b2 b7 (by omega) a12 (fun z hz z1 z2 => b9 z (by omega) z1 z2) hLN)
        have n1 : uc ≠ uc' := by omega
        have n2 : e ≠ uc' := by omega
        have hjne : ∀ j, j < N → h j ≠ uc' := by
          intro j hj
          have hj' : j < ls.length := by omega
          have := (a4.2.2.2.2.2.2 j _ _ (List.getElem?_eq_getElem hj')).1.1.2
          omega
        have hL : LSt (va_up T' uc' (13, 0)) (u2 (va_up I4 uc' fun _ => 0) uc' 0 (nI bit)) (u2 (va_up R' uc' fun _ => none) uc' 1 (some x)) uc e cap N h := a4.1.keep (va_up_ne _ _ n1) (by rw [u2_o _ _ n1, va_up_ne _ _ n1]) (by rw [u2_o _ _ n1, va_up_ne _ _ n1]) (va_up_ne _ _ n2) (by rw [u2_o _ _ n2, va_up_ne _ _ n2]) (fun j hj => va_up_ne _ _ (hjne j hj))
        have hy1 : (va_up T' uc' (13, 0) uc').1 < 17 := by rw [va_up_self]; decide
        have hgc : gcap N ≤ 24 := by unfold gcap; omega
        have hgc2 : gcap cap ≤ 40 := by have := a4.2.1; unfold gcap; omega
        have nee : uc ≠ e := tg_ne (T := T') (by rw [a4.1.1, a4.1.2.2.2.1]; show 14 ≠ 104; decide)
        refine V_aload_3 g eX2_whole_83 ?_
        refine V_ci2 g (ctX17_init _) eX2_whole_84 pkX2_107 (by decide) (Nat.le_of_ble_eq_true rfl) ?_
        refine ⟨uc', x, bit, rfl, a13, by rw [va_up_self], ?_⟩
        refine V_cv1 g (ctJ2_add _) eX2_whole_87 pkX2_110 hL.1 rfl (by decide) (by decide) (Nat.le_of_ble_eq_true rfl) ?_
        refine ⟨uc, e, cap, N, uc', h, rfl, hL, hy1, by omega, by omega, fun hlt => ?_, fun heq h99 => ?_⟩
        · exact t90 _ _ _ _ _ _ e cap (hL.put hy1 hlt _) a4.2.1 (Nat.le_refl _) (by omega) (by omega) (by omega) (by omega) (Or.inl rfl) (fun z hz z1 z2 => ⟨va_up_ne _ _ (by omega), by rw [u2_o _ _ z1, u2_o _ _ z1, u2_o _ _ (by omega), va_up_ne _ _ (by omega)], by rw [u2_o _ _ z2, u2_o _ _ (by omega), va_up_ne _ _ (by omega)]⟩) (fun z hz => ⟨va_up_ne _ _ (by omega), va_up_ne _ _ (by omega)⟩) (by rw [va_up_self]) (by rw [u2_o _ _ n1.symm, u2_o _ _ n1.symm, u2_s]) (by rw [u2_o _ _ n2.symm, u2_s])
        subst heq
        exact t90 _ _ _ _ _ _ (uc' + 1) (gcap N) (hL.gro hy1 h99 (by omega) _) hgc (by omega) (Nat.le_refl _) (by omega) (by omega) (by omega) (Or.inr (Nat.le_refl _)) (fun z hz z1 z2 => ⟨by rw [va_up_ne _ _ (by omega), va_up_ne _ _ (by omega)], by rw [u2_o _ _ z1, va_up_ne _ _ (by omega), u2_o _ _ z1, u2_o _ _ (by omega), va_up_ne _ _ (by omega)], by rw [u2_o _ _ (by omega), u2_o _ _ z1, va_up_ne _ _ (by omega), u2_o _ _ (by omega), va_up_ne _ _ (by omega)]⟩) (fun z hz => ⟨by rw [va_up_ne _ _ (by omega), va_up_ne _ _ (by omega)], by rw [va_up_ne _ _ (by omega), va_up_ne _ _ (by omega)]⟩) (by rw [va_up_ne _ _ (by omega), va_up_self]) (by rw [u2_o _ _ n1.symm, va_up_ne _ _ (by omega), u2_o _ _ n1.symm, u2_s]) (by rw [u2_o _ _ (by omega), u2_o _ _ n1.symm, va_up_ne _ _ (by omega), u2_s])
      have t48 : ¬ srt t n i1 = 0 → ¬ whS (srt t n) (vl t n) i1 1 < 0 → N < 16 → V X T1 I1 L1 R1 uc1 us1 48 [some (.ref rd), some (.ref uc), some (.int (whS (srt t n) (vl t n) i1 1)), none] [] := by
        intro h0' hw hN'
        have st5 : stp (srt t n) (vl t n) (5, i1, [], [], bb, ls) = (6, i1 + 1, [], [], decide (tW (srt t n) (vl t n) i1 1), ls) := by
          show (if _ then _ else if _ then _ else if ls.length = 16 then _ else _) = _
          rw [if_neg h0', if_neg (fun z => hw ((whS_1 _ _ _).mpr z)), if_neg (by omega)]
        refine V_aload_0 g eX2_whole_48 ?_
        refine V_cv0 g (ctX2_next _) eX2_whole_49 pkX2_25 hT rfl (by decide) (by decide) (Nat.le_of_ble_eq_true rfl) ?_
        refine spNext_of h4 h0' (fun I2 s1 s2 => ?_)
        refine V_aload_0 g eX2_whole_52 ?_
        refine V_ldcS (i := 2) g eX2_whole_53 (by decide) rfl ?_
        refine V_cv1 g (ctX2_need _) eX2_whole_55 pkX2_94 hT rfl (by decide) (by decide) (Nat.le_of_ble_eq_true rfl) ?_
        refine ⟨rd, tp, n, i1 + 1, 0, t, rfl, s1, by omega, by omega, fun hs I3 u1 u2 => ?_, fun hs T3 I3 L3 R3 u1 u2 => ?_⟩
        rotate_left
        · exact VT_out g hN (hf _ _ _ _ _ _ (11, i1 + 1, [], [], decide (tW (srt t n) (vl t n) i1 1), ls) _ (h1.trans (Rc.step st5 (Rc.one (if_neg hs)))) (Kp.tr (Kp.tr h5 (s2.kp uc1 T1 L1 R1) h6) u1.no h6) u2 (by omega) (by omega) (by omega) (by omega))
        have hi2 := u1.le
        refine V_aload_0 g eX2_whole_58 ?_
        refine V_cv0 g hE eX2_whole_59 pkX2_98 hT rfl (by decide) (Nat.le_of_ble_eq_true rfl) (Nat.le_of_ble_eq_true rfl) ?_
        refine ⟨rd, tp, n, i1 + 1 + 1, t, (0, 0, 0), [], [], decide (tW (srt t n) (vl t n) i1 1), ls, rfl, u1, rfl, rfl, by omega, by omega, by omega, by omega, by omega, fun T' I' L' R' uc' us' i' x c q1 q2 q3 q4 q5 q6 q7 q8 q9 => ?_, fun T' I' L' R' uc' us' F x q1 q2 q3 q4 q5 q6 q7 => ?_⟩
        rotate_left
        · exact VT_out g hN (hf _ _ _ _ _ _ F x (h1.trans (Rc.step st5 (Rc.step (if_pos hs) q1))) (Kp.tr (Kp.tr (Kp.tr h5 (s2.kp uc1 T1 L1 R1) h6) (u2.kp uc1 T1 L1 R1) h6) q2 h6) q3 (by omega) (by omega) (by omega) (by omega))
        have hi7 := q3.le
        have hT' := q3.1.1
        have hR4 := h1.trans (Rc.step st5 (Rc.step (if_pos hs) q1))
        have k4 := Kp.tr (Kp.tr (Kp.tr h5 (s2.kp uc1 T1 L1 R1) h6) (u2.kp uc1 T1 L1 R1) h6) q4 h6
        refine V_astore_3 g eX2_whole_62 (by decide) rfl ?_
        refine V_aload_0 g eX2_whole_63 ?_
        refine V_bipush (v := nI 59) g eX2_whole_64 (by decide) ?_
        refine V_cv1 g (ctX2_need_2 _) eX2_whole_66 pkX2_102 hT' rfl (by decide) (by decide) (Nat.le_of_ble_eq_true rfl) ?_
        refine ⟨rd, tp, n, i', 0, 59, t, rfl, q3, by omega, by omega, fun hs2 I4 v1 v2 => ?_, fun hs2 T4 I4 L4 R4 v1 v2 => ?_⟩
        rotate_left
        · exact VT_out g hN (hf _ _ _ _ _ _ (11, i', [(0, 0, 0)], [] ++ c, decide (tW (srt t n) (vl t n) i1 1), ls) _ (hR4.trans (Rc.one (if_neg hs2))) (Kp.tr k4 v1.no (by omega)) v2 (by omega) (by omega) (by omega) (by omega))
        have hR5 : Rc (srt t n) (vl t n) (5, 0, [], [], false, []) (5, i' + 1, [], [], decide (tW (srt t n) (vl t n) i1 1), ls ++ [(decide (tW (srt t n) (vl t n) i1 1), c)]) := hR4.trans (Rc.one (if_pos hs2))
        have k5 : Kp uc (fun z => z = rd) T T' I I4 L L' R R' := Kp.tr k4 (v2.kp uc T' L' R') (Nat.le_refl _)
        have hX2 : TXo T' I4 R' uc uc1 uc e cap N h ls := hX.kp (Kp.tr (Kp.tr (Kp.tr (s2.kp uc1 T1 L1 R1) (u2.kp uc1 T1 L1 R1) (Nat.le_refl _)) q4 (Nat.le_refl _)) (v2.kp uc1 T' L' R') (Nat.le_refl _)) (fun z hz => by rw [hz]; exact brd) (Nat.le_refl _)
        have hE2 : RE T' I4 R' (Nw uc1 uc') 18 x c := q5.kp (v2.kp uc' T' L' R') (fun z hz => by rw [hz]; omega) (Nat.le_refl _)
        refine V_aload_1 g eX2_whole_69 ?_
        refine V_new (tg := 13) g eX2_whole_70 rfl (by decide) (lk q1009) (by omega) (by omega) (fun hd_70 => ?_)
        refine V_dup g eX2_whole_73 rfl ?_
        refine V_iload_2 g eX2_whole_74 ?_
        refine V_if_ne g eX2_whole_75 (fun c_75 => ?_) (fun c_75 => ?_)
        · refine V_iconst (v := nI 0) g eX2_whole_82 (by decide) ?_
          have hb : decide (tW (srt t n) (vl t n) i1 1) = true := decide_eq_true (wh1_n c_75 hw)
          exact t83 T' I4 L' R' uc' us' i' x 0 _ c _ hR5 v1 k5 hX2 hE2 q6 q8 (by omega) hi7 (by omega) (by omega) hN' (by decide) (by rw [if_pos hb]; rfl)
        · refine V_iconst (v := nI 1) g eX2_whole_78 (by decide) ?_
          refine V_goto g eX2_whole_79 ?_
          have hb : ¬ decide (tW (srt t n) (vl t n) i1 1) = true := fun z => wh1_0 c_75 (of_decide_eq_true z)
          exact t83 T' I4 L' R' uc' us' i' x 1 _ c _ hR5 v1 k5 hX2 hE2 q6 q8 (by omega) hi7 (by omega) (by omega) hN' (by decide) (by rw [if_neg hb]; rfl)
      refine V_aload_0 g eX2_whole_9 ?_
      refine V_getI g eX2_whole_10 flX2_31 hT rfl ?_
      rw [hsk]
      refine V_if_eq g eX2_whole_13 (fun c_13 => ?_) (fun c_13 => ?_)
      · refine V_aload_1 g eX2_whole_94 ?_
        refine V_aret g eX2_whole_95 (Or.inl ⟨_, rfl⟩) (Or.inr ⟨_, rfl⟩) ?_
        have h00 : srt t n i1 = 0 := (nI_k (x := 0) srt_lt (c := 0) (by decide) rfl).mp c_13
        exact hk _ _ _ _ _ _ (8, i1, [], [], bb, ls) uc (h1.trans (Rc.one (if_pos h00))) rfl h5 hX.tx h6 (by omega) h7 (by omega)
      · refine V_aload_0 g eX2_whole_16 ?_
        refine V_ldcS (i := 1) g eX2_whole_17 (by decide) rfl ?_
        refine V_cv1 g (ctX2_which _) eX2_whole_19 pkX2_71 hT rfl (by decide) (by decide) (Nat.le_of_ble_eq_true rfl) ?_
        refine spWhich_of h4 1 (by decide) (by decide) ?_
        refine V_istore_2 g eX2_whole_22 (by decide) rfl ?_
        refine V_iload_2 g eX2_whole_23 ?_
        refine V_if_ge g eX2_whole_24 (fun c_24 => ?_) (fun c_24 => ?_)
        · refine V_aload_1 g eX2_whole_33 ?_
          refine V_cv0 g (ctJ2_size _) eX2_whole_34 pkX2_90 hX.1.1 rfl (by decide) (by decide) (Nat.le_of_ble_eq_true rfl) ?_
          refine ⟨uc, rfl, hX.1.1, ?_⟩
          rw [hX.1.2.1]
          refine V_bipush (v := 16) g eX2_whole_37 (by decide) ?_
          refine V_icmp_ne g eX2_whole_39 (fun c_39 => ?_) (fun c_39 => ?_)
          · exact t48 (fun z => c_13 (by rw [z]; rfl)) (Int32.not_lt.mpr c_24) (by have : N ≠ 16 := fun z => c_39 (by rw [z]; rfl); omega)
          · refine V_aload_0 g eX2_whole_42 ?_
            refine V_iconst (v := nI 5) g eX2_whole_43 (by decide) ?_
            refine V_cv1 g (ctX2_wrong _) eX2_whole_44 pkX2_75 hT rfl (by decide) (by decide) (Nat.le_of_ble_eq_true rfl) ?_
            refine ⟨rd, 5, _, rfl, hT, hpl, by omega, by omega, fun T' I' L' R' r1 r2 r3 => ?_⟩
            refine V_athrow g hN eX2_whole_47 ?_
            obtain rfl : N = 16 := nI_eq' (by omega) (by decide) c_39
            refine hf _ _ _ _ _ _ (15, i1, [], [], bb, ls) uc1 (h1.trans (Rc.one ?_)) (Kp.tr h5 (Kp.one r1 _) h6) ⟨Or.inr rfl, r2, r3⟩ (by omega) (by omega) (by omega) (by omega)
            show (if _ then _ else if _ then _ else if ls.length = 16 then _ else _) = _
            rw [if_neg (fun z => c_13 (by rw [z]; rfl)), if_neg (fun z => absurd ((whS_1 _ _ _).mpr z) (Int32.not_lt.mpr c_24)), if_pos hlN]
        · refine V_aload_0 g eX2_whole_27 ?_
          refine V_iconst (v := nI 1) g eX2_whole_28 (by decide) ?_
          refine V_cv1 g (ctX2_wrong _) eX2_whole_29 pkX2_75 hT rfl (by decide) (by decide) (Nat.le_of_ble_eq_true rfl) ?_
          refine ⟨rd, 1, _, rfl, hT, hpl, by omega, by omega, fun T' I' L' R' r1 r2 r3 => ?_⟩
          refine V_athrow g hN eX2_whole_32 ?_
          refine hf _ _ _ _ _ _ (11, i1, [], [], bb, ls) uc1 (h1.trans (Rc.one ?_)) (Kp.tr h5 (Kp.one r1 _) h6) ⟨Or.inl rfl, r2, r3⟩ (by omega) (by omega) (by omega) (by omega)
          show (if _ then _ else if _ then _ else _) = _
          rw [if_neg (fun z => c_13 (by rw [z]; rfl)), if_pos ((whS_1 _ _ _).mp (Int32.not_le.mp c_24))]
  refine V_new (tg := 14) g eX2_whole_0 rfl (by decide) (lk q745) (by omega) (by omega) (fun hd_0 => ?_)
  refine V_dup g eX2_whole_3 rfl ?_
  refine V_iconst (v := nI 4) g eX2_whole_4 (by decide) ?_
  refine V_ci1 g (ctJ2_init _) eX2_whole_5 pkX2_85 (by decide) (Nat.le_of_ble_eq_true rfl) ?_
  refine ⟨uc, 4, rfl, by rw [va_up_self], by decide, by decide, by omega, by omega, fun h99 => ?_⟩
  refine V_astore_1 g eX2_whole_8 (by decide) rfl ?_
  have kp0 : Kp uc (fun _ => False) T (va_up (va_up T uc (14, 0)) (uc + 1) (104, 4)) I (va_up (u2 (va_up I uc fun _ => 0) uc 0 0) (uc + 1) fun _ => 0) L (va_up (va_up L uc fun _ => 0) (uc + 1) fun _ => 0) R (u2 (va_up (va_up R uc fun _ => none) (uc + 1) fun _ => none) uc 1 (some (uc + 1))) := ⟨fun x hx => ⟨by rw [va_up_ne _ _ (by omega), va_up_ne _ _ (by omega)], by rw [va_up_ne _ _ (by omega), va_up_ne _ _ (by omega)]⟩, fun x hx _ => ⟨by rw [va_up_ne _ _ (by omega), u2_o _ _ (by omega), va_up_ne _ _ (by omega)], by rw [u2_o _ _ (by omega), va_up_ne _ _ (by omega), va_up_ne _ _ (by omega)]⟩⟩
  refine loop 601 _ _ _ _ _ _ 0 (uc + 1) 4 0 (fun _ => 0) false [] (by omega) (Rc.refl _) (hS.kp kp0 brd btp id id) kp0.no (by omega) (by omega) (by omega) (by omega) ⟨⟨by simp [va_up], by simp [u2, va_up]; rfl, by simp [u2, va_up], by simp [va_up], by decide, by decide, by decide, fun j hj => absurd hj (by omega), fun j hj => by simp [u2, va_up]⟩, by decide, ⟨Nat.le_refl _, by omega⟩, ⟨by omega, by omega⟩, rfl, by decide, fun j b c q => by simp at q⟩

