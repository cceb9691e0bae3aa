/-! BedBookModel: a part of an expression (printed out of tmpl/t_model10.txt) -/
set_option maxRecDepth 100000
theorem nI_flt {e p : Nat} : nI e + 16 * nI p = nI (e + 16 * p) := by rw [show (16 : Int32) = nI 16 from rfl, pk_mul, nI_add]
theorem aw_S {S : Nat → Nat} {v : Nat → Int64} {i : Nat} (h : aw S v i < 7) : S i = 1 := by
  by_cases q : S i = 1
  · exact q
  · exfalso
    have : aw S v i = 7 := by
      unfold aw
      rw [if_neg (fun z => q z.1), if_neg (fun z => q z.1), if_neg (fun z => q z.1), if_neg (fun z => q z.1), if_neg (fun z => q z.1), if_neg (fun z => q z.1), if_neg (fun z => q z.1)]
    omega
abbrev spX4_part : Sp := fun av T I L R uc us k => ∃ S : Nat → Nat, ∃ P : Nat → Nat, ∃ v : Nat → Int64, ∃ nt : Nat, ∃ H : Nat, ∃ I0 : It, ∃ i : Nat, ∃ w : List Wt, ∃ cs : List Cd, ∃ b : Bool, ∃ ls : List (Bool × List Cd), av = [.ref 0] ∧ T = TM ∧ R = RM ∧ TK S P v nt H I0 L ∧ rdF H I0 I ∧ PS nt H (0, i, w, cs, b, ls) I ∧ (∀ I', ((stp S v (0, i, w, cs, b, ls)).1 = 11 ∨ (stp S v (0, i, w, cs, b, ls)).1 = 15) → FS nt H (flt P (stp S v (0, i, w, cs, b, ls))) I' → rdF H I0 I' → k (.inl (some (.int 0))) T I' L R uc us) ∧ (∀ I', (stp S v (0, i, w, cs, b, ls)).1 = 0 → PS nt H (stp S v (0, i, w, cs, b, ls)) I' → rdF H I0 I' → k (.inl (some (.int 1))) T I' L R uc us) ∧ (∀ I', (stp S v (0, i, w, cs, b, ls)).1 = 1 → PS nt H (stp S v (0, i, w, cs, b, ls)) I' → rdF H I0 I' → k (.inl (some (.int 0))) T I' L R uc us)
theorem eX4_part_59 : dc cX4_part 59 (.aload_n 0) 1 60 := ⟨by decide +kernel, rfl⟩
theorem eX4_part_60 : dc cX4_part 60 (.getfield 194) 3 63 := ⟨by decide +kernel, rfl⟩
theorem eX4_part_63 : dj cX4_part 63 (.ifCond .le 5) 5 68 66 := ⟨by decide +kernel, by decide, rfl⟩
theorem eX4_part_66 : dc cX4_part 66 (.iconst 0) 1 67 := ⟨by decide +kernel, rfl⟩
theorem eX4_part_67 : dc cX4_part 67 (.ireturn) 1 68 := ⟨by decide +kernel, rfl⟩
theorem eX4_part_74 : dj cX4_part 74 (.ifCond .eq 19) 19 93 77 := ⟨by decide +kernel, by decide, rfl⟩
theorem eX4_part_77 : dc cX4_part 77 (.aload_n 0) 1 78 := ⟨by decide +kernel, rfl⟩
theorem eX4_part_78 : dc cX4_part 78 (.dup) 1 79 := ⟨by decide +kernel, rfl⟩
theorem eX4_part_79 : dc cX4_part 79 (.getfield 228) 3 82 := ⟨by decide +kernel, rfl⟩
theorem eX4_part_82 : dc cX4_part 82 (.iconst 1) 1 83 := ⟨by decide +kernel, rfl⟩
theorem eX4_part_83 : dc cX4_part 83 (.iadd) 1 84 := ⟨by decide +kernel, rfl⟩
theorem eX4_part_84 : dc cX4_part 84 (.putfield 228) 3 87 := ⟨by decide +kernel, rfl⟩
theorem pflX4_228 {nm : String} : (FL RX4 228 3 18 ∧ FN 3 18) ∨ (FF RX4 228 3 18 ∧ nm = "<init>") := Or.inl ⟨flX4_228, fun C Tb N h => by cases h; rfl⟩
theorem eX4_part_87 : dc cX4_part 87 (.aload_n 0) 1 88 := ⟨by decide +kernel, rfl⟩
theorem eX4_part_88 : dc cX4_part 88 (.invokevirtual 231) 3 91 := ⟨by decide +kernel, rfl⟩
theorem pkX4_231 : PkV RX4 231 yX4_opens (.code yX4_opens cX4_opens 1 none) 1 "BedBookModel" 0 := ⟨cwd_c, (lk q1456), Or.inl (lk q1453), (lk q1455), (lk qs32), ⟨⟨by decide, by decide⟩, by decide +kernel⟩, (lk q67), by decide⟩
theorem eX4_part_91 : dc cX4_part 91 (.iconst 1) 1 92 := ⟨by decide +kernel, rfl⟩
theorem eX4_part_92 : dc cX4_part 92 (.ireturn) 1 93 := ⟨by decide +kernel, rfl⟩
theorem eX4_part_46 : dc cX4_part 46 (.aload_n 0) 1 47 := ⟨by decide +kernel, rfl⟩
theorem eX4_part_47 : dc cX4_part 47 (.getfield 228) 3 50 := ⟨by decide +kernel, rfl⟩
theorem eX4_part_50 : dc cX4_part 50 (.iconst 5) 1 51 := ⟨by decide +kernel, rfl⟩
theorem eX4_part_51 : dj cX4_part 51 (.if_icmp .ne 8) 8 59 54 := ⟨by decide +kernel, by decide, rfl⟩
theorem eX4_part_68 : dc cX4_part 68 (.aload_n 0) 1 69 := ⟨by decide +kernel, rfl⟩
theorem eX4_part_69 : dc cX4_part 69 (.bipush 40) 2 71 := ⟨by decide +kernel, rfl⟩
theorem eX4_part_71 : dc cX4_part 71 (.invokevirtual 252) 3 74 := ⟨by decide +kernel, rfl⟩
theorem pkX4_252 : PkV RX4 252 yX4_hasSign (.code yX4_hasSign cX4_hasSign 3 (some .boolean)) 3 "BedBookModel" 1 := ⟨cwd_c, (lk q1472), Or.inl (lk q1469), (lk q1471), (lk qs36), ⟨⟨by decide, by decide⟩, by decide +kernel⟩, (lk q67), by decide⟩
theorem eX4_part_93 : dc cX4_part 93 (.aload_n 0) 1 94 := ⟨by decide +kernel, rfl⟩
theorem eX4_part_94 : dc cX4_part 94 (.iload_n 1) 1 95 := ⟨by decide +kernel, rfl⟩
theorem eX4_part_95 : dj cX4_part 95 (.ifCond .ge 7) 7 102 98 := ⟨by decide +kernel, by decide, rfl⟩
theorem eX4_part_102 : dc cX4_part 102 (.iconst 2) 1 103 := ⟨by decide +kernel, rfl⟩
theorem eX4_part_103 : dc cX4_part 103 (.iload_n 1) 1 104 := ⟨by decide +kernel, rfl⟩
theorem eX4_part_104 : dj cX4_part 104 (.ifCond .ge 16) 16 120 107 := ⟨by decide +kernel, by decide, rfl⟩
theorem eX4_part_120 : dc cX4_part 120 (.iload_n 1) 1 121 := ⟨by decide +kernel, rfl⟩
theorem eX4_part_121 : dc cX4_part 121 (.invokevirtual 241) 3 124 := ⟨by decide +kernel, rfl⟩
theorem pkX4_241 : PkV RX4 241 yX4_emit (.code yX4_emit cX4_emit 3 none) 3 "BedBookModel" 2 := ⟨cwd_c, (lk q1476), Or.inl (lk q1473), (lk q1475), (lk qs37), ⟨⟨by decide, by decide⟩, by decide +kernel⟩, (lk q67), by decide⟩
theorem eX4_part_124 : dc cX4_part 124 (.aload_n 0) 1 125 := ⟨by decide +kernel, rfl⟩
theorem eX4_part_125 : dc cX4_part 125 (.dup) 1 126 := ⟨by decide +kernel, rfl⟩
theorem eX4_part_126 : dc cX4_part 126 (.getfield 191) 3 129 := ⟨by decide +kernel, rfl⟩
theorem eX4_part_129 : dc cX4_part 129 (.iconst 1) 1 130 := ⟨by decide +kernel, rfl⟩
theorem eX4_part_130 : dc cX4_part 130 (.iadd) 1 131 := ⟨by decide +kernel, rfl⟩
theorem eX4_part_131 : dc cX4_part 131 (.putfield 191) 3 134 := ⟨by decide +kernel, rfl⟩
theorem eX4_part_134 : dc cX4_part 134 (.iconst 0) 1 135 := ⟨by decide +kernel, rfl⟩
theorem eX4_part_135 : dc cX4_part 135 (.ireturn) 1 136 := ⟨by decide +kernel, rfl⟩
theorem eX4_part_98 : dc cX4_part 98 (.iconst 1) 1 99 := ⟨by decide +kernel, rfl⟩
theorem eX4_part_99 : dj cX4_part 99 (.goto 4) 4 103 102 := ⟨by decide +kernel, by decide, rfl⟩
theorem eX4_part_107 : dc cX4_part 107 (.aload_n 0) 1 108 := ⟨by decide +kernel, rfl⟩
theorem eX4_part_108 : dc cX4_part 108 (.getfield 30) 3 111 := ⟨by decide +kernel, rfl⟩
theorem eX4_part_111 : dc cX4_part 111 (.aload_n 0) 1 112 := ⟨by decide +kernel, rfl⟩
theorem eX4_part_112 : dc cX4_part 112 (.getfield 191) 3 115 := ⟨by decide +kernel, rfl⟩
theorem eX4_part_115 : dc cX4_part 115 (.laload) 1 116 := ⟨by decide +kernel, rfl⟩
theorem eX4_part_116 : dc cX4_part 116 (.l2i) 1 117 := ⟨by decide +kernel, rfl⟩
theorem eX4_part_117 : dj cX4_part 117 (.goto 4) 4 121 120 := ⟨by decide +kernel, by decide, rfl⟩
theorem eX4_part_54 : dc cX4_part 54 (.aload_n 0) 1 55 := ⟨by decide +kernel, rfl⟩
theorem eX4_part_55 : dc cX4_part 55 (.iconst 5) 1 56 := ⟨by decide +kernel, rfl⟩
theorem eX4_part_56 : dc cX4_part 56 (.invokevirtual 200) 3 59 := ⟨by decide +kernel, rfl⟩
theorem eX4_part_0 : dc cX4_part 0 (.aload_n 0) 1 1 := ⟨by decide +kernel, rfl⟩
theorem eX4_part_1 : dc cX4_part 1 (.invokevirtual 248) 3 4 := ⟨by decide +kernel, rfl⟩
theorem pkX4_248 : PkV RX4 248 yX4_partWord (.code yX4_partWord cX4_partWord 2 (some .int)) 2 "BedBookModel" 0 := ⟨cwd_c, (lk q1464), Or.inl (lk q1461), (lk q1463), (lk qs34), ⟨⟨by decide, by decide⟩, by decide +kernel⟩, (lk q67), by decide⟩
theorem eX4_part_4 : dc cX4_part 4 (.istore_n 1) 1 5 := ⟨by decide +kernel, rfl⟩
theorem eX4_part_5 : dc cX4_part 5 (.aload_n 0) 1 6 := ⟨by decide +kernel, rfl⟩
theorem eX4_part_6 : dc cX4_part 6 (.getfield 194) 3 9 := ⟨by decide +kernel, rfl⟩
theorem eX4_part_9 : dj cX4_part 9 (.ifCond .ne 37) 37 46 12 := ⟨by decide +kernel, by decide, rfl⟩
theorem eX4_part_12 : dc cX4_part 12 (.aload_n 0) 1 13 := ⟨by decide +kernel, rfl⟩
theorem eX4_part_13 : dc cX4_part 13 (.getfield 24) 3 16 := ⟨by decide +kernel, rfl⟩
theorem eX4_part_16 : dc cX4_part 16 (.aload_n 0) 1 17 := ⟨by decide +kernel, rfl⟩
theorem eX4_part_17 : dc cX4_part 17 (.getfield 191) 3 20 := ⟨by decide +kernel, rfl⟩
theorem eX4_part_20 : dc cX4_part 20 (.iaload) 1 21 := ⟨by decide +kernel, rfl⟩
theorem eX4_part_21 : dc cX4_part 21 (.iconst 2) 1 22 := ⟨by decide +kernel, rfl⟩
theorem eX4_part_22 : dj cX4_part 22 (.if_icmp .eq 24) 24 46 25 := ⟨by decide +kernel, by decide, rfl⟩
theorem eX4_part_25 : dc cX4_part 25 (.aload_n 0) 1 26 := ⟨by decide +kernel, rfl⟩
theorem eX4_part_26 : dc cX4_part 26 (.bipush 40) 2 28 := ⟨by decide +kernel, rfl⟩
theorem eX4_part_28 : dc cX4_part 28 (.invokevirtual 197) 3 31 := ⟨by decide +kernel, rfl⟩
theorem eX4_part_31 : dj cX4_part 31 (.ifCond .ne 15) 15 46 34 := ⟨by decide +kernel, by decide, rfl⟩
theorem eX4_part_34 : dc cX4_part 34 (.iload_n 1) 1 35 := ⟨by decide +kernel, rfl⟩
theorem eX4_part_35 : dj cX4_part 35 (.ifCond .ge 11) 11 46 38 := ⟨by decide +kernel, by decide, rfl⟩
theorem eX4_part_38 : dc cX4_part 38 (.aload_n 0) 1 39 := ⟨by decide +kernel, rfl⟩
theorem eX4_part_39 : dc cX4_part 39 (.iconst 1) 1 40 := ⟨by decide +kernel, rfl⟩
theorem eX4_part_40 : dc cX4_part 40 (.invokevirtual 200) 3 43 := ⟨by decide +kernel, rfl⟩
theorem eX4_part_43 : dj cX4_part 43 (.goto 16) 16 59 46 := ⟨by decide +kernel, by decide, rfl⟩
set_option maxHeartbeats 8000000 in
theorem ctX4_part (l : Launch) : Ct l yX4_part (.code yX4_part cX4_part 2 (some .boolean)) 4 spX4_part := by
  refine Ct.of (own := RX4) (nm := "part") (by decide) rfl rfl ?_
  rintro X av T I L R uc us rfl g hN hu hz ⟨S, P, v, nt, H, I0, i, w, cs, b, ls, rfl, rfl, rfl, hTK, hr, hPS, hkF, hk0, hk1⟩
  refine VE.go (ls := [some (.ref 0), none]) g hu hz (fun _ => rfl) (fun _ => Nat.le_of_ble_eq_true rfl) ?_
  have hi : i ≤ nt := hPS.1
  have hn6 : nt ≤ 600 := hTK.2.2.2.2.2.2
  have hat : I 0 7 = nI i := hPS.2.1
  have h8 : I 0 8 = 0 := hPS.2.2.1
  have h17 : I 0 17 = nI ((enc ls).length + cs.length) := hPS.2.2.2.1
  have hbud : (enc ls).length + cs.length + pd w ≤ i := hPS.2.2.2.2.2.2.2.1
  obtain ⟨hwt, h18, hw0, hw6, hl16, -, -⟩ := hPS.2.2.2.2.2.2.2.2 (by show 0 < 5; decide)
  have h18 : I 0 18 = nI (w.length - 1) := h18
  have hw0 : 0 < w.length := hw0
  have hw6 : w.length ≤ 6 := hw6
  have h16 : I 0 16 = nI H := by rw [hr 0 16 (by unfold tch; omega)]; exact hTK.2.2.2.2.1
  have hH : H < 2 := hTK.2.2.2.2.2.1
  have hP6 := (hTK.1 i hi).2.2.2
  have hs4 : I 4 i = nI (S i) := by rw [hr 4 i (by unfold tch; omega)]; exact (hTK.1 i hi).1
  have hS5 := (hTK.1 i hi).2.2.1
  obtain ⟨Wv, hWv⟩ : ∃ Wv, Wv = if aw S v i < 7 then nI (aw S v i) else -1 := ⟨_, rfl⟩
  have hW0 : 0 ≤ Wv ↔ aw S v i < 7 := by
    rw [hWv]
    by_cases q : aw S v i < 7
    · rw [if_pos q]; exact ⟨fun _ => q, fun _ => nI_pos' (by omega)⟩
    · rw [if_neg q]; exact ⟨fun z => absurd z (by decide), fun z => absurd z q⟩
  have fault : ∀ (e : Nat) (I' : It), 0 < e → e < 8 → I' = u2 I 0 8 (nI e + 16 * nI (P i)) → (stp S v (0, i, w, cs, b, ls)) = (10 + e, i, w, cs, b, ls) → (e = 1 ∨ e = 5) → V X TM I' L RM uc us 59 [some (.ref 0), some (.int Wv)] [] := by
    intro e I' he0 he hI' hs he15
    have hfs : FS nt H (flt P (stp S v (0, i, w, cs, b, ls))) I' := by
      rw [hs, hI']
      have : flt P (10 + e, i, w, cs, b, ls) = nI e + 16 * nI (P i) := by
        unfold flt
        rw [if_neg (by show ¬ 10 + e = 8; omega)]
        show nI (10 + e - 10) + _ = _
        rw [show 10 + e - 10 = e by omega]
      rw [this]
      exact PS_fs hPS hn6 (by show 0 < 5; decide) hr
    have hrr : rdF H I0 I' := by rw [hI']; exact hr.u2 (by unfold tch; omega)
    refine V_aload_0 g eX4_part_59 ?_
    refine V_getI g eX4_part_60 flX4_194 rfl rfl ?_
    refine V_top (y := nI (e + 16 * P i)) (by rw [hI', u2_s, nI_flt]) ?_
    refine V_if_le g eX4_part_63 (fun c_63 => absurd c_63 (nI_nle (by omega) (by omega))) (fun _ => ?_)
    refine V_iconst (v := 0) g eX4_part_66 (by decide) ?_
    refine V_zret g eX4_part_67 rfl ?_
    exact hkF I' (by rw [hs]; show 10 + e = 11 ∨ 10 + e = 15; omega) hfs hrr
  have opn : tS S v i 40 → ¬ w.length = 6 → ¬ (¬ S i = 2 ∧ ¬ tS S v i 40 ∧ ¬ aw S v i < 7) → V X TM (onI I i) L RM uc us 74 [some (.ref 0), some (.int Wv)] [.int 1] := by
    intro ho hl hok
    have hlt : i < nt := hTK.lt hi (by rw [ho.1]; decide)
    have hs : stp S v (0, i, w, cs, b, ls) = (0, i + 1, (0, 0, 0) :: w, cs, b, ls) := by
      show (if _ then _ else _) = _
      rw [if_neg hok, if_neg hl, if_pos ho]
    refine V_if_eq g eX4_part_74 (fun c_74 => absurd c_74 (by decide)) (fun _ => ?_)
    refine V_aload_0 g eX4_part_77 ?_
    refine V_dup g eX4_part_78 rfl ?_
    refine V_getI g eX4_part_79 flX4_228 rfl rfl ?_
    refine V_top (y := nI (w.length - 1)) (by simp [onI, u2, h18]) ?_
    refine V_iconst (v := 1) g eX4_part_82 (by decide) ?_
    refine V_iaddN (b := 1) g eX4_part_83 ?_
    refine V_top (y := nI w.length) (by congr 1; omega) ?_
    refine V_putI g eX4_part_84 pflX4_228 rfl rfl rfl rfl ?_
    refine V_aload_0 g eX4_part_87 ?_
    refine V_cv0 g (ctX4_opens _) eX4_part_88 pkX4_231 rfl rfl (by decide) (by decide) (Nat.le_of_ble_eq_true rfl) ?_
    refine ⟨w.length, rfl, rfl, rfl, by rw [u2_s], by omega, ?_⟩
    refine V_iconst (v := 1) g eX4_part_91 (by decide) ?_
    refine V_zret g eX4_part_92 rfl ?_
    refine hk0 _ (by rw [hs]) ?_ ?_
    · rw [hs]; exact PS_push hPS (by decide) hlt (by omega)
    · unfold opI onI; refine ((((hr.u2 ?_).u2 ?_).u2 ?_).u2 ?_).u2 ?_ <;> (unfold tch; omega)
  have opd : i < nt → ∀ (I' : It) (c : Nat) (a : Int32), stp S v (0, i, w, cs, b, ls) = (1, i + 1, w, cs ++ [(c, a)], b, ls) → I' = u2 (emI I H ((enc ls).length + cs.length) (nI c) a) 0 7 (nI (i + 1)) → x_k X (.inl (some (.int 0))) TM I' L RM uc us := by
    intro hlt I' c a hs hI'
    have hC := codM_em hPS.2.2.2.2.1 c a
    obtain ⟨x, r, rfl⟩ : ∃ x r, w = x :: r := by cases w with | nil => simp at hw0 | cons x r => exact ⟨x, r, rfl⟩
    obtain ⟨su, sg, an⟩ := x
    obtain ⟨t1, t2, t3, t4, t5, t6, t7, t8, t9⟩ := PS_top hPS (by decide)
    have hC' : codM H (enc ls ++ (cs ++ [(c, a)])) (emI I H ((enc ls).length + cs.length) (nI c) a) := by
      rw [← List.append_assoc]
      have : codM H (enc ls ++ cs ++ [(c, a)]) (emI I H (enc ls ++ cs).length (nI c) a) := hC
      rw [List.length_append] at this
      exact this
    subst hI'
    refine hk1 _ (by rw [hs]) ?_ ((hr.em (by omega)).u2 (by unfold tch; omega))
    rw [hs]
    refine PS_upd hPS (by decide) (fun j => by simp [emI, u2]) (fun j => by simp [emI, u2]) (fun j => by simp [emI, u2]) (by simp [emI, u2]) (by simp [emI, u2]) (by simp [emI, u2]) hlt ?_ (codM_o hC' (fun j => by simp [u2]) (fun j => by simp [u2])) (fun D _ => by simp [emI, u2]) ?_ ⟨t6, t7, t8⟩ ?_
    · simp [emI, u2]; congr 1
    · simp [emI, u2]; exact ⟨t3, t4, t5⟩
    · simp; omega
  have at46 : ¬ (¬ S i = 2 ∧ ¬ tS S v i 40 ∧ ¬ aw S v i < 7) → V X TM I L RM uc us 46 [some (.ref 0), some (.int Wv)] [] := by
    intro hok
    refine V_aload_0 g eX4_part_46 ?_
    refine V_getI g eX4_part_47 flX4_228 rfl rfl ?_
    refine V_top (y := nI (w.length - 1)) h18 ?_
    refine V_iconst (v := 5) g eX4_part_50 (by decide) ?_
    refine V_icmp_ne g eX4_part_51 (fun c_51 => ?_) (fun c_51 => ?_)
    · have q_51 : ¬ w.length = 6 := fun q => c_51 (by rw [q]; rfl)
      refine V_aload_0 g eX4_part_59 ?_
      refine V_getI g eX4_part_60 flX4_194 rfl rfl ?_
      refine V_top (y := 0) h8 ?_
      refine V_if_le g eX4_part_63 (fun _ => ?_) (fun c_63 => absurd c_63 (fun q => q (by decide)))
      refine V_aload_0 g eX4_part_68 ?_
      refine V_bipush (v := 40) g eX4_part_69 (by decide) ?_
      refine V_cv1 g (ctX4_hasSign _) eX4_part_71 pkX4_252 rfl rfl (by decide) (by decide) (Nat.le_of_ble_eq_true rfl) ?_
      refine ⟨_, i, rfl, rfl, rfl, hat, by omega, fun hs => opn ((hTK.sg hr h8 hi 40).mp hs) q_51 hok, fun hs => ?_⟩
      have hs := fun q => hs ((hTK.sg hr h8 hi 40).mpr q)
      refine V_if_eq g eX4_part_74 (fun _ => ?_) (fun c_74 => absurd c_74 (fun q => q rfl))
      refine V_aload_0 g eX4_part_93 ?_
      refine V_iload_1 g eX4_part_94 ?_
      refine V_if_ge g eX4_part_95 (fun c_95 => ?_) (fun c_95 => ?_)
      · refine V_iconst (v := 2) g eX4_part_102 (by decide) ?_
        refine V_iload_1 g eX4_part_103 ?_
        refine V_if_ge g eX4_part_104 (fun c_104 => ?_) (fun c_104 => ?_)
        · have hna : aw S v i < 7 := hW0.mp c_104
          have hlt : i < nt := hTK.lt hi (by rw [aw_S hna]; decide)
          refine V_iload_1 g eX4_part_120 ?_
          refine V_cv2 g (ctX4_emit _) eX4_part_121 pkX4_241 rfl rfl (by decide) (by decide) (Nat.le_of_ble_eq_true rfl) ?_
          refine ⟨_, _, H, (enc ls).length + cs.length, rfl, rfl, rfl, h16, hH, h17, by omega, ?_⟩
          refine V_aload_0 g eX4_part_124 ?_
          refine V_dup g eX4_part_125 rfl ?_
          refine V_getI g eX4_part_126 flX4_191 rfl rfl ?_
          refine V_top (y := nI i) (by simp [emI, u2, hat]) ?_
          refine V_iconst (v := 1) g eX4_part_129 (by decide) ?_
          refine V_iaddN (b := 1) g eX4_part_130 ?_
          refine V_putI g eX4_part_131 pflX4_191 rfl rfl rfl rfl ?_
          refine V_iconst (v := 0) g eX4_part_134 (by decide) ?_
          refine V_zret g eX4_part_135 rfl ?_
          have hs1 : stp S v (0, i, w, cs, b, ls) = (1, i + 1, w, cs ++ [(2, nI (aw S v i))], b, ls) := by show (if _ then _ else _) = _; rw [if_neg hok, if_neg q_51, if_neg hs, if_pos hna]
          rw [if_pos hna] at hWv
          subst hWv
          exact opd hlt _ 2 _ hs1 rfl
        · exact absurd c_95 c_104
      · refine V_iconst (v := 1) g eX4_part_98 (by decide) ?_
        refine V_goto g eX4_part_99 ?_
        refine V_iload_1 g eX4_part_103 ?_
        refine V_if_ge g eX4_part_104 (fun c_104 => ?_) (fun c_104 => ?_)
        · exact absurd c_104 c_95
        · have hna : ¬ aw S v i < 7 := fun q => c_104 (hW0.mpr q)
          have h2 : S i = 2 := Decidable.byContradiction fun q => hok ⟨q, hs, hna⟩
          have hlt : i < nt := hTK.lt hi (by rw [h2]; decide)
          refine V_aload_0 g eX4_part_107 ?_
          refine V_getR g eX4_part_108 flX4_30 rfl rfl rfl ?_
          refine V_aload_0 g eX4_part_111 ?_
          refine V_getI g eX4_part_112 flX4_191 rfl rfl ?_
          refine V_top (y := nI i) hat ?_
          refine V_laldN g eX4_part_115 rfl (by omega) (by decide) ?_
          refine V_topL (y := v i) (hTK.2.1 i hlt) ?_
          refine V_l2i g eX4_part_116 ?_
          refine V_goto g eX4_part_117 ?_
          refine V_cv2 g (ctX4_emit _) eX4_part_121 pkX4_241 rfl rfl (by decide) (by decide) (Nat.le_of_ble_eq_true rfl) ?_
          refine ⟨_, _, H, (enc ls).length + cs.length, rfl, rfl, rfl, h16, hH, h17, by omega, ?_⟩
          refine V_aload_0 g eX4_part_124 ?_
          refine V_dup g eX4_part_125 rfl ?_
          refine V_getI g eX4_part_126 flX4_191 rfl rfl ?_
          refine V_top (y := nI i) (by simp [emI, u2, hat]) ?_
          refine V_iconst (v := 1) g eX4_part_129 (by decide) ?_
          refine V_iaddN (b := 1) g eX4_part_130 ?_
          refine V_putI g eX4_part_131 pflX4_191 rfl rfl rfl rfl ?_
          refine V_iconst (v := 0) g eX4_part_134 (by decide) ?_
          refine V_zret g eX4_part_135 rfl ?_
          have hs1 : stp S v (0, i, w, cs, b, ls) = (1, i + 1, w, cs ++ [(1, (v i).toInt32)], b, ls) := by show (if _ then _ else _) = _; rw [if_neg hok, if_neg q_51, if_neg hs, if_neg hna]
          exact opd hlt _ 1 _ hs1 rfl
    · refine V_aload_0 g eX4_part_54 ?_
      refine V_iconst (v := 5) g eX4_part_55 (by decide) ?_
      refine V_cv1 g (ctX4_wrong _) eX4_part_56 pkX4_200 rfl rfl (by decide) (by decide) (Nat.le_of_ble_eq_true rfl) ?_
      refine ⟨_, i, rfl, rfl, rfl, hat, by omega, ?_⟩
      rw [hTK.wr hr h8 hi]
      have q_51 := nI_eq' (a := w.length - 1) (b := 5) (by omega) (by decide) c_51
      refine fault 5 _ (by decide) (by decide) rfl ?_ (Or.inr rfl)
      show (if _ then _ else _) = _
      rw [if_neg hok, if_pos (by omega)]
  refine V_aload_0 g eX4_part_0 ?_
  refine V_cv0 g (ctX4_partWord _) eX4_part_1 pkX4_248 rfl rfl (by decide) (by decide) (Nat.le_of_ble_eq_true rfl) ?_
  refine ⟨i, rfl, rfl, rfl, hat, by omega, ?_⟩
  rw [hTK.pw hr h8 hi, ← hWv]
  refine V_istore_1 g eX4_part_4 (by decide) rfl ?_
  refine V_aload_0 g eX4_part_5 ?_
  refine V_getI g eX4_part_6 flX4_194 rfl rfl ?_
  refine V_top (y := 0) h8 ?_
  refine V_if_ne g eX4_part_9 (fun c_9 => absurd c_9 (by decide)) (fun _ => ?_)
  refine V_aload_0 g eX4_part_12 ?_
  refine V_getR g eX4_part_13 flX4_24 rfl rfl rfl ?_
  refine V_aload_0 g eX4_part_16 ?_
  refine V_getI g eX4_part_17 flX4_191 rfl rfl ?_
  refine V_top (y := nI i) hat ?_
  refine V_ialdN g eX4_part_20 rfl (by omega) (by decide) ?_
  refine V_top (y := nI (S i)) hs4 ?_
  refine V_iconst (v := 2) g eX4_part_21 (by decide) ?_
  refine V_icmp_eq g eX4_part_22 (fun c_22 => ?_) (fun c_22 => ?_)
  · exact at46 fun q => q.1 (nI_eq' (b := 2) (by omega) (by decide) c_22)
  · refine V_aload_0 g eX4_part_25 ?_
    refine V_bipush (v := 40) g eX4_part_26 (by decide) ?_
    refine V_cv1 g (ctX4_isSign _) eX4_part_28 pkX4_197 rfl rfl (by decide) (by decide) (Nat.le_of_ble_eq_true rfl) ?_
    refine ⟨_, i, rfl, rfl, rfl, hat, by omega, ?_⟩
    refine V_if_neB g eX4_part_31 (fun c_31 => ?_) (fun c_31 => ?_)
    · exact at46 fun q => q.2.1 ((hTK.sg hr h8 hi 40).mp c_31)
    · refine V_iload_1 g eX4_part_34 ?_
      refine V_if_ge g eX4_part_35 (fun c_35 => ?_) (fun c_35 => ?_)
      · exact at46 fun q => q.2.2 (hW0.mp c_35)
      · refine V_aload_0 g eX4_part_38 ?_
        refine V_iconst (v := 1) g eX4_part_39 (by decide) ?_
        refine V_cv1 g (ctX4_wrong _) eX4_part_40 pkX4_200 rfl rfl (by decide) (by decide) (Nat.le_of_ble_eq_true rfl) ?_
        refine ⟨_, i, rfl, rfl, rfl, hat, by omega, ?_⟩
        rw [hTK.wr hr h8 hi]
        refine V_goto g eX4_part_43 ?_
        refine fault 1 _ (by decide) (by decide) rfl ?_ (Or.inl rfl)
        show (if _ then _ else _) = _
        rw [if_pos ⟨fun q => c_22 (by rw [q]; rfl), fun q => c_31 ((hTK.sg hr h8 hi 40).mpr q), fun q => c_35 (hW0.mpr q)⟩]

