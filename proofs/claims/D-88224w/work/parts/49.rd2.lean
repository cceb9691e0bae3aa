/-! BedBook's Reader: which word it is (printed out of tmpl/t_rd2.txt) -/
set_option maxRecDepth 100000
def wcn (i : Nat) : Nat := [0, 2, 1, 7, 1].getD i 0
def wof (i k : Nat) : Nat := ([[], [0, 4, 8], [0, 5], [0, 6, 11, 17, 21, 25, 32, 36], [0, 4]].getD i []).getD k 0
def wln (i k : Nat) : Nat := ([[], [3, 3], [4], [5, 4, 5, 3, 3, 6, 3], [3]].getD i []).getD k 0
theorem w_facts : ∀ i, i < 5 → 1 ≤ i → wof i 0 = 0 ∧ wof i (wcn i) = strL.getD i 0 ∧ ∀ k, k < wcn i → wof i (k + 1) = wof i k + wln i k + 1 ∧ wof i k + wln i k < strL.getD i 0 ∧ ixS i (nI 32) (wof i k) = nI (wof i k + wln i k) ∧ wln i k ≤ 8 ∧ 1 ≤ wln i k := by decide
/-- the token of m letters from f on is the k-th word of string i -/
abbrev mt (t : Nat → Int32) (f m i k : Nat) : Prop := m = wln i k ∧ ∀ j, j < m → t (f + j) = (strB.getD i []).getD (wof i k + j) 0
def whF (t : Nat → Int32) (f m i : Nat) : Nat → Nat → Int32
  | 0, _ => -1
  | q + 1, k => if mt t f m i k then nI k else whF t f m i q (k + 1)
abbrev spX2_which : Sp := fun av T I L R uc us k => ∃ (rd tp n f m i : Nat), av = [.ref rd, .ref (sK i)] ∧ RdA T I R rd tp n ∧ I rd 4 = nI f ∧ I rd 2 = nI (f + m) ∧ f + m ≤ n ∧ 1 ≤ i ∧ i < 5 ∧ k (.inl (some (.int (if I rd 3 = 1 then whF (I tp) f m i (wcn i) 0 else -1)))) T I L R uc us
theorem eX2_which_4 : dc cX2_which 4 (.iload_n 3) 1 5 := ⟨by decide +kernel, rfl⟩
theorem eX2_which_5 : dc cX2_which 5 (.aload_n 1) 1 6 := ⟨by decide +kernel, rfl⟩
theorem eX2_which_6 : dc cX2_which 6 (.invokevirtual 60) 3 9 := ⟨by decide +kernel, rfl⟩
theorem ptX2_60 : PkT RX2 60 yJ12_length (.code yJ12_length cJ12_length 1 (some .int)) 1 0 := ⟨cwd_c, (lk q676), (lk q752), (lk q674), (lk q675), ⟨⟨by decide, by decide⟩, by decide +kernel⟩, (lk q85), by decide⟩
theorem eX2_which_9 : dj cX2_which 9 (.if_icmp .ge 114) 114 123 12 := ⟨by decide +kernel, by decide, rfl⟩
theorem eX2_which_123 : dc cX2_which 123 (.iconst (-1)) 1 124 := ⟨by decide +kernel, rfl⟩
theorem eX2_which_124 : dc cX2_which 124 (.ireturn) 1 125 := ⟨by decide +kernel, rfl⟩
theorem eX2_which_110 : dc cX2_which 110 (.iload_n 3) 1 111 := ⟨by decide +kernel, rfl⟩
theorem eX2_which_111 : dc cX2_which 111 (.iload 4) 2 113 := ⟨by decide +kernel, rfl⟩
theorem eX2_which_113 : dc cX2_which 113 (.iconst 1) 1 114 := ⟨by decide +kernel, rfl⟩
theorem eX2_which_114 : dc cX2_which 114 (.iadd) 1 115 := ⟨by decide +kernel, rfl⟩
theorem eX2_which_115 : dc cX2_which 115 (.iadd) 1 116 := ⟨by decide +kernel, rfl⟩
theorem eX2_which_116 : dc cX2_which 116 (.istore_n 3) 1 117 := ⟨by decide +kernel, rfl⟩
theorem eX2_which_117 : dc cX2_which 117 (.iinc 2 1) 3 120 := ⟨by decide +kernel, rfl⟩
theorem eX2_which_120 : dj cX2_which 120 (.goto (-116)) (-116) 4 123 := ⟨by decide +kernel, by decide, rfl⟩
theorem eX2_which_55 : dc cX2_which 55 (.iload 5) 2 57 := ⟨by decide +kernel, rfl⟩
theorem eX2_which_57 : dj cX2_which 57 (.ifCond .eq 46) 46 103 60 := ⟨by decide +kernel, by decide, rfl⟩
theorem eX2_which_103 : dc cX2_which 103 (.iload 5) 2 105 := ⟨by decide +kernel, rfl⟩
theorem eX2_which_105 : dj cX2_which 105 (.ifCond .eq 5) 5 110 108 := ⟨by decide +kernel, by decide, rfl⟩
theorem eX2_which_60 : dc cX2_which 60 (.iload 6) 2 62 := ⟨by decide +kernel, rfl⟩
theorem eX2_which_62 : dc cX2_which 62 (.iload 4) 2 64 := ⟨by decide +kernel, rfl⟩
theorem eX2_which_64 : dj cX2_which 64 (.if_icmp .ge 39) 39 103 67 := ⟨by decide +kernel, by decide, rfl⟩
theorem eX2_which_108 : dc cX2_which 108 (.iload_n 2) 1 109 := ⟨by decide +kernel, rfl⟩
theorem eX2_which_109 : dc cX2_which 109 (.ireturn) 1 110 := ⟨by decide +kernel, rfl⟩
theorem eX2_which_67 : dc cX2_which 67 (.aload_n 0) 1 68 := ⟨by decide +kernel, rfl⟩
theorem eX2_which_68 : dc cX2_which 68 (.getfield 9) 3 71 := ⟨by decide +kernel, rfl⟩
theorem eX2_which_71 : dc cX2_which 71 (.aload_n 0) 1 72 := ⟨by decide +kernel, rfl⟩
theorem eX2_which_72 : dc cX2_which 72 (.getfield 28) 3 75 := ⟨by decide +kernel, rfl⟩
theorem eX2_which_75 : dc cX2_which 75 (.iload 6) 2 77 := ⟨by decide +kernel, rfl⟩
theorem eX2_which_77 : dc cX2_which 77 (.iadd) 1 78 := ⟨by decide +kernel, rfl⟩
theorem eX2_which_78 : dc cX2_which 78 (.baload) 1 79 := ⟨by decide +kernel, rfl⟩
theorem eX2_which_79 : dc cX2_which 79 (.aload_n 1) 1 80 := ⟨by decide +kernel, rfl⟩
theorem eX2_which_80 : dc cX2_which 80 (.iload_n 3) 1 81 := ⟨by decide +kernel, rfl⟩
theorem eX2_which_81 : dc cX2_which 81 (.iload 6) 2 83 := ⟨by decide +kernel, rfl⟩
theorem eX2_which_83 : dc cX2_which 83 (.iadd) 1 84 := ⟨by decide +kernel, rfl⟩
theorem eX2_which_84 : dc cX2_which 84 (.invokevirtual 67) 3 87 := ⟨by decide +kernel, rfl⟩
theorem ptX2_67 : PkT RX2 67 yJ12_charAt (.code yJ12_charAt cJ12_charAt 2 (some .char)) 2 1 := ⟨cwd_c, (lk q757), (lk q754), (lk q755), (lk q756), ⟨⟨by decide, by decide⟩, by decide +kernel⟩, (lk q85), by decide⟩
theorem eX2_which_87 : dj cX2_which 87 (.if_icmp .ne 7) 7 94 90 := ⟨by decide +kernel, by decide, rfl⟩
theorem eX2_which_94 : dc cX2_which 94 (.iconst 0) 1 95 := ⟨by decide +kernel, rfl⟩
theorem eX2_which_95 : dc cX2_which 95 (.istore 5) 2 97 := ⟨by decide +kernel, rfl⟩
theorem eX2_which_97 : dc cX2_which 97 (.iinc 6 1) 3 100 := ⟨by decide +kernel, rfl⟩
theorem eX2_which_100 : dj cX2_which 100 (.goto (-45)) (-45) 55 103 := ⟨by decide +kernel, by decide, rfl⟩
theorem eX2_which_90 : dc cX2_which 90 (.iconst 1) 1 91 := ⟨by decide +kernel, rfl⟩
theorem eX2_which_91 : dj cX2_which 91 (.goto 4) 4 95 94 := ⟨by decide +kernel, by decide, rfl⟩
theorem eX2_which_12 : dc cX2_which 12 (.aload_n 0) 1 13 := ⟨by decide +kernel, rfl⟩
theorem eX2_which_13 : dc cX2_which 13 (.getfield 31) 3 16 := ⟨by decide +kernel, rfl⟩
theorem eX2_which_16 : dc cX2_which 16 (.iconst 1) 1 17 := ⟨by decide +kernel, rfl⟩
theorem eX2_which_17 : dj cX2_which 17 (.if_icmp .ne 106) 106 123 20 := ⟨by decide +kernel, by decide, rfl⟩
theorem eX2_which_20 : dc cX2_which 20 (.aload_n 1) 1 21 := ⟨by decide +kernel, rfl⟩
theorem eX2_which_21 : dc cX2_which 21 (.bipush 32) 2 23 := ⟨by decide +kernel, rfl⟩
theorem eX2_which_23 : dc cX2_which 23 (.iload_n 3) 1 24 := ⟨by decide +kernel, rfl⟩
theorem eX2_which_24 : dc cX2_which 24 (.invokevirtual 64) 3 27 := ⟨by decide +kernel, rfl⟩
theorem ptX2_64 : PkT RX2 64 yJ12_indexOf_2 (.code yJ12_indexOf_2 cJ12_indexOf_2 3 (some .int)) 3 2 := ⟨cwd_c, (lk q666), (lk q753), (lk q664), (lk q665), ⟨⟨by decide, by decide⟩, by decide +kernel⟩, (lk q85), by decide⟩
theorem eX2_which_27 : dc cX2_which 27 (.iload_n 3) 1 28 := ⟨by decide +kernel, rfl⟩
theorem eX2_which_28 : dc cX2_which 28 (.isub) 1 29 := ⟨by decide +kernel, rfl⟩
theorem eX2_which_29 : dc cX2_which 29 (.istore 4) 2 31 := ⟨by decide +kernel, rfl⟩
theorem eX2_which_31 : dc cX2_which 31 (.aload_n 0) 1 32 := ⟨by decide +kernel, rfl⟩
theorem eX2_which_32 : dc cX2_which 32 (.getfield 19) 3 35 := ⟨by decide +kernel, rfl⟩
theorem eX2_which_35 : dc cX2_which 35 (.aload_n 0) 1 36 := ⟨by decide +kernel, rfl⟩
theorem eX2_which_36 : dc cX2_which 36 (.getfield 28) 3 39 := ⟨by decide +kernel, rfl⟩
theorem eX2_which_39 : dc cX2_which 39 (.isub) 1 40 := ⟨by decide +kernel, rfl⟩
theorem eX2_which_40 : dc cX2_which 40 (.iload 4) 2 42 := ⟨by decide +kernel, rfl⟩
theorem eX2_which_42 : dj cX2_which 42 (.if_icmp .ne 7) 7 49 45 := ⟨by decide +kernel, by decide, rfl⟩
theorem eX2_which_49 : dc cX2_which 49 (.iconst 0) 1 50 := ⟨by decide +kernel, rfl⟩
theorem eX2_which_50 : dc cX2_which 50 (.istore 5) 2 52 := ⟨by decide +kernel, rfl⟩
theorem eX2_which_52 : dc cX2_which 52 (.iconst 0) 1 53 := ⟨by decide +kernel, rfl⟩
theorem eX2_which_53 : dc cX2_which 53 (.istore 6) 2 55 := ⟨by decide +kernel, rfl⟩
theorem eX2_which_45 : dc cX2_which 45 (.iconst 1) 1 46 := ⟨by decide +kernel, rfl⟩
theorem eX2_which_46 : dj cX2_which 46 (.goto 4) 4 50 49 := ⟨by decide +kernel, by decide, rfl⟩
theorem eX2_which_0 : dc cX2_which 0 (.iconst 0) 1 1 := ⟨by decide +kernel, rfl⟩
theorem eX2_which_1 : dc cX2_which 1 (.istore_n 2) 1 2 := ⟨by decide +kernel, rfl⟩
theorem eX2_which_2 : dc cX2_which 2 (.iconst 0) 1 3 := ⟨by decide +kernel, rfl⟩
theorem eX2_which_3 : dc cX2_which 3 (.istore_n 3) 1 4 := ⟨by decide +kernel, rfl⟩
set_option maxHeartbeats 8000000 in
theorem ctX2_which (l : Launch) : Ct l yX2_which (.code yX2_which cX2_which 7 (some .int)) 6 spX2_which := by
  refine Ct.of (own := RX2) (nm := "which") (by decide) rfl rfl ?_
  rintro X av T I L R uc us rfl g hN hu hz ⟨rd, tp, n, f, m, i, rfl, hA, hf, hto, hfm, hi1, hi, hk⟩
  refine VE.go (ls := [some (.ref rd), some (.ref (sK i)), none, none, none, none, none]) g hu hz (fun _ => rfl) (fun _ => Nat.le_of_ble_eq_true rfl) ?_
  obtain ⟨hT, hR, hTp, hI1, hn⟩ := id hA
  obtain ⟨w1, w2, w3⟩ := w_facts i hi hi1
  have hl := strL_lt i hi
  have loop : ∀ (q k : Nat), k + q = wcn i → (I rd 3 = 1 → whF (I tp) f m i q k = whF (I tp) f m i (wcn i) 0) → V X T I L R uc us 4 [some (.ref rd), some (.ref (sK i)), some (.int (nI k)), some (.int (nI (wof i k))), none, none, none] [] := by
    intro q
    induction q with
    | zero =>
      intro k h1 h2
      obtain rfl : k = wcn i := by omega
      refine V_iload_3 g eX2_which_4 ?_
      refine V_aload_1 g eX2_which_5 ?_
      refine V_ct0 g (ctJ12_length _) eX2_which_6 ptX2_60 hi (by decide) (Nat.le_of_ble_eq_true rfl) ?_
      refine ⟨i, rfl, hi, ?_⟩
      rw [← w2]
      refine V_icmp_ge g eX2_which_9 (fun _ => ?_) (fun c_9 => absurd c_9 (fun z => z (Int32.le_refl _)))
      refine V_iconst (v := (-1)) g eX2_which_123 (by decide) ?_
      refine V_iret g eX2_which_124 ?_
      refine kI hk ?_
      by_cases c : I rd 3 = 1
      · rw [if_pos c, ← h2 c]; rfl
      · rw [if_neg c]
    | succ q iq =>
      intro k h1 h2
      obtain ⟨a1, a2, a3, a4, a5⟩ := w3 k (by omega)
      have nxt : ∀ (l5 l6 : Option Value), ¬ mt (I tp) f m i k → I rd 3 = 1 → V X T I L R uc us 110 [some (.ref rd), some (.ref (sK i)), some (.int (nI k)), some (.int (nI (wof i k))), some (.int (nI (wln i k))), l5, l6] [] := by
        intro l5 l6 hm h3
        refine V_iload_3 g eX2_which_110 ?_
        refine V_iload_4 g eX2_which_111 ?_
        refine V_iconst (v := 1) g eX2_which_113 (by decide) ?_
        refine V_iadd g eX2_which_114 ?_
        rw [nI_1]
        refine V_iadd g eX2_which_115 ?_
        refine V_top (y := nI (wof i (k + 1))) (by rw [nI_add, a1, Nat.add_assoc]) ?_
        refine V_istore_3 g eX2_which_116 (by decide) rfl ?_
        refine V_iinc_2 (v := 1) g eX2_which_117 (by decide) (by decide) rfl ?_
        refine V_goto g eX2_which_120 ?_
        rw [nI_1]
        refine V_kill_4 (V_kill_5 (V_kill_6 ?_))
        exact iq (k + 1) (by omega) (fun c => by rw [← h2 c, whF, if_neg hm])
      have out : ∀ (l6 : Int32), ¬ mt (I tp) f m i k → I rd 3 = 1 → V X T I L R uc us 55 [some (.ref rd), some (.ref (sK i)), some (.int (nI k)), some (.int (nI (wof i k))), some (.int (nI (wln i k))), some (.int 0), some (.int l6)] [] := by
        intro l6 hm h3
        refine V_iload_5 g eX2_which_55 ?_
        refine V_if_eq g eX2_which_57 (fun _ => ?_) (fun c_57 => absurd c_57 (fun z => z rfl))
        refine V_iload_5 g eX2_which_103 ?_
        refine V_if_eq g eX2_which_105 (fun _ => ?_) (fun c_105 => absurd c_105 (fun z => z rfl))
        exact nxt _ _ hm h3
      have inn : I rd 3 = 1 → m = wln i k → ∀ (z j : Nat), j + z = m → (∀ x, x < j → I tp (f + x) = (strB.getD i []).getD (wof i k + x) 0) → V X T I L R uc us 55 [some (.ref rd), some (.ref (sK i)), some (.int (nI k)), some (.int (nI (wof i k))), some (.int (nI (wln i k))), some (.int 1), some (.int (nI j))] [] := by
        intro h3 hm z
        induction z with
        | zero =>
          intro j g1 g2
          obtain rfl : j = m := by omega
          subst hm
          refine V_iload_5 g eX2_which_55 ?_
          refine V_if_eq g eX2_which_57 (fun c_57 => absurd c_57 (by decide)) (fun _ => ?_)
          refine V_iload_6 g eX2_which_60 ?_
          refine V_iload_4 g eX2_which_62 ?_
          refine V_icmp_ge g eX2_which_64 (fun _ => ?_) (fun c_64 => absurd c_64 (fun z => z (Int32.le_refl _)))
          refine V_iload_5 g eX2_which_103 ?_
          refine V_if_eq g eX2_which_105 (fun c_105 => absurd c_105 (by decide)) (fun _ => ?_)
          refine V_iload_2 g eX2_which_108 ?_
          refine V_iret g eX2_which_109 ?_
          refine kI hk ?_
          rw [if_pos h3, ← h2 h3, whF, if_pos ⟨rfl, g2⟩]
        | succ z iz =>
          intro j g1 g2
          obtain ⟨q1, hq1, eq1⟩ := str_b i hi (wof i k + j) (by omega)
          refine V_iload_5 g eX2_which_55 ?_
          refine V_if_eq g eX2_which_57 (fun c_57 => absurd c_57 (by decide)) (fun _ => ?_)
          refine V_iload_6 g eX2_which_60 ?_
          refine V_iload_4 g eX2_which_62 ?_
          refine V_icmp_ge g eX2_which_64 (fun c_64 => absurd c_64 (by rw [← hm]; exact nI_ge (by omega) (by omega))) (fun _ => ?_)
          refine V_aload_0 g eX2_which_67 ?_
          refine V_getR g eX2_which_68 flX2_9 hT rfl hR ?_
          refine V_aload_0 g eX2_which_71 ?_
          refine V_getI g eX2_which_72 flX2_28 hT rfl ?_
          rw [hf]
          refine V_iload_6 g eX2_which_75 ?_
          refine V_iaddN g eX2_which_77 ?_
          refine V_baldN g eX2_which_78 hTp (by omega) (by decide) ?_
          refine V_aload_1 g eX2_which_79 ?_
          refine V_iload_3 g eX2_which_80 ?_
          refine V_iload_6 g eX2_which_81 ?_
          refine V_iadd g eX2_which_83 ?_
          refine V_top (y := nI (wof i k + j)) (nI_add _ _) ?_
          refine V_ct1 g (ctJ12_charAt _) eX2_which_84 ptX2_67 hi (by decide) (Nat.le_of_ble_eq_true rfl) ?_
          refine ⟨i, wof i k + j, rfl, hi, by omega, ?_⟩
          refine V_icmp_ne g eX2_which_87 (fun c_87 => ?_) (fun c_87 => ?_)
          · refine V_iconst (v := 0) g eX2_which_94 (by decide) ?_
            refine V_istore_5 g eX2_which_95 (by decide) rfl ?_
            refine V_iinc_6 (v := 1) g eX2_which_97 (by decide) (by decide) rfl ?_
            refine V_goto g eX2_which_100 ?_
            exact out _ (fun z => c_87 (z.2 j (by omega))) h3
          · refine V_iconst (v := 1) g eX2_which_90 (by decide) ?_
            refine V_goto g eX2_which_91 ?_
            refine V_istore_5 g eX2_which_95 (by decide) rfl ?_
            refine V_iinc_6 (v := 1) g eX2_which_97 (by decide) (by decide) rfl ?_
            refine V_goto g eX2_which_100 ?_
            rw [nI_1]
            refine iz (j + 1) (by omega) (fun x hx => ?_)
            by_cases e : x = j
            · rw [e]; exact c_87
            · exact g2 x (by omega)
      refine V_iload_3 g eX2_which_4 ?_
      refine V_aload_1 g eX2_which_5 ?_
      refine V_ct0 g (ctJ12_length _) eX2_which_6 ptX2_60 hi (by decide) (Nat.le_of_ble_eq_true rfl) ?_
      refine ⟨i, rfl, hi, ?_⟩
      refine V_icmp_ge g eX2_which_9 (fun c_9 => absurd c_9 (nI_ge (by omega) (by omega))) (fun _ => ?_)
      refine V_aload_0 g eX2_which_12 ?_
      refine V_getI g eX2_which_13 flX2_31 hT rfl ?_
      refine V_iconst (v := 1) g eX2_which_16 (by decide) ?_
      refine V_icmp_ne g eX2_which_17 (fun c_17 => ?_) (fun c_17 => ?_)
      · refine V_iconst (v := (-1)) g eX2_which_123 (by decide) ?_
        refine V_iret g eX2_which_124 ?_
        refine kI hk ?_
        rw [if_neg c_17]
      · refine V_aload_1 g eX2_which_20 ?_
        refine V_bipush (v := 32) g eX2_which_21 (by decide) ?_
        refine V_iload_3 g eX2_which_23 ?_
        refine V_ct2 g (ctJ12_indexOf_2 _) eX2_which_24 ptX2_64 hi (by decide) (Nat.le_of_ble_eq_true rfl) ?_
        refine ⟨i, 32, wof i k, rfl, hi, by decide, by omega, ?_⟩
        rw [a3]
        refine V_iload_3 g eX2_which_27 ?_
        refine V_isub g eX2_which_28 ?_
        refine V_top (y := nI (wln i k)) ((pk_sub (by omega)).trans (by rw [Nat.add_sub_cancel_left])) ?_
        refine V_istore_4 g eX2_which_29 (by decide) rfl ?_
        refine V_aload_0 g eX2_which_31 ?_
        refine V_getI g eX2_which_32 flX2_19 hT rfl ?_
        rw [hto]
        refine V_aload_0 g eX2_which_35 ?_
        refine V_getI g eX2_which_36 flX2_28 hT rfl ?_
        rw [hf]
        refine V_isub g eX2_which_39 ?_
        refine V_top (y := nI m) ((pk_sub (by omega)).trans (by rw [Nat.add_sub_cancel_left])) ?_
        refine V_iload_4 g eX2_which_40 ?_
        refine V_icmp_ne g eX2_which_42 (fun c_42 => ?_) (fun c_42 => ?_)
        · refine V_iconst (v := 0) g eX2_which_49 (by decide) ?_
          refine V_istore_5 g eX2_which_50 (by decide) rfl ?_
          refine V_iconst (v := 0) g eX2_which_52 (by decide) ?_
          refine V_istore_6 g eX2_which_53 (by decide) rfl ?_
          exact out _ (fun z => c_42 (by rw [z.1])) c_17
        · refine V_iconst (v := 1) g eX2_which_45 (by decide) ?_
          refine V_goto g eX2_which_46 ?_
          refine V_istore_5 g eX2_which_50 (by decide) rfl ?_
          refine V_iconst (v := 0) g eX2_which_52 (by decide) ?_
          refine V_istore_6 g eX2_which_53 (by decide) rfl ?_
          exact inn c_17 (nI_eq' (by omega) (by omega) c_42) m 0 (by omega) (fun x hx => absurd hx (by omega))
  refine V_iconst (v := 0) g eX2_which_0 (by decide) ?_
  refine V_istore_2 g eX2_which_1 (by decide) rfl ?_
  refine V_iconst (v := 0) g eX2_which_2 (by decide) ?_
  refine V_istore_3 g eX2_which_3 (by decide) rfl ?_
  have := loop (wcn i) 0 (by omega) (fun _ => rfl)
  rw [w1] at this
  exact this

