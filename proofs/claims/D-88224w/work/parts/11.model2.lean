/-! BedBookModel: plants (printed out of tmpl/t_model2.txt) -/
set_option maxRecDepth 100000
theorem isP_nI {I : It} {p : Int32} {N : Nat} (hN : I 0 25 = nI N) (h : N < 2 ^ 31) (hp : isP I p) : ∃ P : Nat, P < N ∧ p = nI P := by
  have h2 := hp.2
  rw [hN] at h2
  exact in_nI h hp.1 h2
theorem isB_nI {I : It} {p : Int32} {N : Nat} (hN : I 0 45 = nI N) (h : N < 2 ^ 31) (hp : isBd I p) : ∃ P : Nat, P < N ∧ p = nI P := by
  have h2 := hp.2
  rw [hN] at h2
  exact in_nI h hp.1 h2
theorem d4_nI {r : Int32} (h0 : ¬ r < 0) (h1 : ¬ 3 < r) : ∃ W : Nat, W < 4 ∧ r = nI W := by
  obtain ⟨j, hj, rfl⟩ := nI_of h0
  refine ⟨j, ?_, rfl⟩
  rcases Nat.lt_or_ge j 4 with q | q
  · exact q
  · exact absurd (show (3 : Int32) < nI j from nI_lt (a := 3) (by omega) hj) h1
/-- eight marks copied, w of them so far -/
def gC (I : It) (P F w : Nat) : It := fun a j => if a = 30 ∧ 8 * P ≤ j ∧ j < 8 * P + w then I 30 (8 * F + (j - 8 * P)) else I a j
/-- four needs, w of them so far -/
def gN (I : It) (P w : Nat) : It := fun a j => if a = 31 ∧ 4 * P ≤ j ∧ j < 4 * P + w then (if (j - 4 * P) % 2 = 0 then 0 else 9) else I a j
theorem gC_0 (I : It) (P F : Nat) : gC I P F 0 = I := by
  funext a j
  unfold gC
  rw [if_neg (by omega)]
theorem gN_0 (I : It) (P : Nat) : gN I P 0 = I := by
  funext a j
  unfold gN
  rw [if_neg (by omega)]
theorem gC_s {I : It} {P F w : Nat} (hw : w < 8) (hF : F < P) : u2 (gC I P F w) 30 (8 * P + w) (gC I P F w 30 (8 * F + w)) = gC I P F (w + 1) := by
  funext a j
  unfold u2
  split
  · rename_i h
    obtain ⟨rfl, rfl⟩ := h
    unfold gC
    rw [if_neg (by omega), if_pos (by omega)]
    congr 1
    omega
  · rename_i h
    unfold gC
    by_cases h2 : a = 30 ∧ 8 * P ≤ j ∧ j < 8 * P + w
    · rw [if_pos h2, if_pos (by omega)]
    · rw [if_neg h2, if_neg (by omega)]
theorem gN_s {I : It} {P w : Nat} {x : Int32} (hx : x = if w % 2 = 0 then 0 else 9) : u2 (gN I P w) 31 (4 * P + w) x = gN I P (w + 1) := by
  subst hx
  funext a j
  unfold u2
  split
  · rename_i h
    obtain ⟨rfl, rfl⟩ := h
    unfold gN
    rw [if_pos (show 31 = 31 ∧ 4 * P ≤ 4 * P + w ∧ 4 * P + w < 4 * P + (w + 1) by omega), show 4 * P + w - 4 * P = w by omega]
  · rename_i h
    unfold gN
    by_cases h2 : a = 31 ∧ 4 * P ≤ j ∧ j < 4 * P + w
    · rw [if_pos h2, if_pos (show a = 31 ∧ 4 * P ≤ j ∧ j < 4 * P + (w + 1) by omega)]
    · rw [if_neg h2, if_neg (show ¬ (a = 31 ∧ 4 * P ≤ j ∧ j < 4 * P + (w + 1)) by omega)]
theorem gC_o {I : It} {P F w a j : Nat} (h : a ≠ 30) : gC I P F w a j = I a j := by unfold gC; rw [if_neg (by omega)]
theorem gN_o {I : It} {P w a j : Nat} (h : a ≠ 31) : gN I P w a j = I a j := by unfold gN; rw [if_neg (by omega)]
def gro4 (I : It) (P : Nat) (k f d m : Int32) : It := u2 (u2 (u2 (u2 I 26 P k) 27 P f) 28 P d) 29 P m
def gro (I : It) (P : Nat) (k f d m : Int32) (F : Nat) : It := u2 (gN (if k < 2 then gro4 I P k f d m else gC (gro4 I P k f d m) P F 8) P 4) 0 25 (nI (P + 1))
theorem gro4_0 {I : It} {P : Nat} {k f d m : Int32} {j : Nat} : gro4 I P k f d m 0 j = I 0 j := by simp [gro4, u2]
abbrev spX4_grows : Sp := fun av T I L R uc us k => ∃ kk : Int32, ∃ f : Int32, ∃ dd : Int32, ∃ mm : Int32, ∃ P : Nat, ∃ F : Nat, av = [.ref 0, .int kk, .int f, .int dd, .int mm] ∧ T = TM ∧ R = RM ∧ I 0 25 = nI P ∧ P < 40 ∧ (¬ kk < 2 → f = nI F ∧ F < P) ∧ k (.inl (some (.int (nI P)))) T (gro I P kk f dd mm F) L R uc us
theorem eX4_grows_92 : dc cX4_grows 92 (.iload 5) 2 94 := ⟨by decide +kernel, rfl⟩
theorem eX4_grows_94 : dc cX4_grows 94 (.iconst 4) 1 95 := ⟨by decide +kernel, rfl⟩
theorem eX4_grows_95 : dj cX4_grows 95 (.if_icmp .ge 36) 36 131 98 := ⟨by decide +kernel, by decide, rfl⟩
theorem eX4_grows_131 : dc cX4_grows 131 (.aload_n 0) 1 132 := ⟨by decide +kernel, rfl⟩
theorem eX4_grows_132 : dc cX4_grows 132 (.dup) 1 133 := ⟨by decide +kernel, rfl⟩
theorem eX4_grows_133 : dc cX4_grows 133 (.getfield 258) 3 136 := ⟨by decide +kernel, rfl⟩
theorem eX4_grows_136 : dc cX4_grows 136 (.iconst 1) 1 137 := ⟨by decide +kernel, rfl⟩
theorem eX4_grows_137 : dc cX4_grows 137 (.iadd) 1 138 := ⟨by decide +kernel, rfl⟩
theorem eX4_grows_138 : dc cX4_grows 138 (.putfield 258) 3 141 := ⟨by decide +kernel, rfl⟩
theorem pflX4_258 {nm : String} : (FL RX4 258 3 25 ∧ FN 3 25) ∨ (FF RX4 258 3 25 ∧ nm = "<init>") := Or.inl ⟨flX4_258, fun C Tb N h => by cases h; rfl⟩
theorem eX4_grows_141 : dc cX4_grows 141 (.aload_n 0) 1 142 := ⟨by decide +kernel, rfl⟩
theorem eX4_grows_142 : dc cX4_grows 142 (.getfield 258) 3 145 := ⟨by decide +kernel, rfl⟩
theorem eX4_grows_145 : dc cX4_grows 145 (.iconst 1) 1 146 := ⟨by decide +kernel, rfl⟩
theorem eX4_grows_146 : dc cX4_grows 146 (.isub) 1 147 := ⟨by decide +kernel, rfl⟩
theorem eX4_grows_147 : dc cX4_grows 147 (.ireturn) 1 148 := ⟨by decide +kernel, rfl⟩
theorem eX4_grows_98 : dc cX4_grows 98 (.aload_n 0) 1 99 := ⟨by decide +kernel, rfl⟩
theorem eX4_grows_99 : dc cX4_grows 99 (.getfield 105) 3 102 := ⟨by decide +kernel, rfl⟩
theorem flX4_105 : FL RX4 105 3 31 := ⟨_, _, _, _, rfl, by decide, by decide, Or.inl (lk q1270), Or.inl rfl⟩
theorem eX4_grows_102 : dc cX4_grows 102 (.iconst 4) 1 103 := ⟨by decide +kernel, rfl⟩
theorem eX4_grows_103 : dc cX4_grows 103 (.aload_n 0) 1 104 := ⟨by decide +kernel, rfl⟩
theorem eX4_grows_104 : dc cX4_grows 104 (.getfield 258) 3 107 := ⟨by decide +kernel, rfl⟩
theorem eX4_grows_107 : dc cX4_grows 107 (.imul) 1 108 := ⟨by decide +kernel, rfl⟩
theorem eX4_grows_108 : dc cX4_grows 108 (.iload 5) 2 110 := ⟨by decide +kernel, rfl⟩
theorem eX4_grows_110 : dc cX4_grows 110 (.iadd) 1 111 := ⟨by decide +kernel, rfl⟩
theorem eX4_grows_111 : dc cX4_grows 111 (.iload 5) 2 113 := ⟨by decide +kernel, rfl⟩
theorem eX4_grows_113 : dc cX4_grows 113 (.iconst 2) 1 114 := ⟨by decide +kernel, rfl⟩
theorem eX4_grows_114 : dc cX4_grows 114 (.irem) 1 115 := ⟨by decide +kernel, rfl⟩
theorem eX4_grows_115 : dj cX4_grows 115 (.ifCond .ne 7) 7 122 118 := ⟨by decide +kernel, by decide, rfl⟩
theorem eX4_grows_122 : dc cX4_grows 122 (.bipush 9) 2 124 := ⟨by decide +kernel, rfl⟩
theorem eX4_grows_124 : dc cX4_grows 124 (.iastore) 1 125 := ⟨by decide +kernel, rfl⟩
theorem eX4_grows_125 : dc cX4_grows 125 (.iinc 5 1) 3 128 := ⟨by decide +kernel, rfl⟩
theorem eX4_grows_128 : dj cX4_grows 128 (.goto (-36)) (-36) 92 131 := ⟨by decide +kernel, by decide, rfl⟩
theorem eX4_grows_118 : dc cX4_grows 118 (.iconst 0) 1 119 := ⟨by decide +kernel, rfl⟩
theorem eX4_grows_119 : dj cX4_grows 119 (.goto 5) 5 124 122 := ⟨by decide +kernel, by decide, rfl⟩
theorem eX4_grows_89 : dc cX4_grows 89 (.iconst 0) 1 90 := ⟨by decide +kernel, rfl⟩
theorem eX4_grows_90 : dc cX4_grows 90 (.istore 5) 2 92 := ⟨by decide +kernel, rfl⟩
theorem eX4_grows_44 : dc cX4_grows 44 (.iload 5) 2 46 := ⟨by decide +kernel, rfl⟩
theorem eX4_grows_46 : dc cX4_grows 46 (.bipush 8) 2 48 := ⟨by decide +kernel, rfl⟩
theorem eX4_grows_48 : dj cX4_grows 48 (.if_icmp .ge 41) 41 89 51 := ⟨by decide +kernel, by decide, rfl⟩
theorem eX4_grows_51 : dc cX4_grows 51 (.iload_n 1) 1 52 := ⟨by decide +kernel, rfl⟩
theorem eX4_grows_52 : dc cX4_grows 52 (.iconst 2) 1 53 := ⟨by decide +kernel, rfl⟩
theorem eX4_grows_53 : dj cX4_grows 53 (.if_icmp .lt 36) 36 89 56 := ⟨by decide +kernel, by decide, rfl⟩
theorem eX4_grows_56 : dc cX4_grows 56 (.aload_n 0) 1 57 := ⟨by decide +kernel, rfl⟩
theorem eX4_grows_57 : dc cX4_grows 57 (.getfield 102) 3 60 := ⟨by decide +kernel, rfl⟩
theorem flX4_102 : FL RX4 102 3 30 := ⟨_, _, _, _, rfl, by decide, by decide, Or.inl (lk q1269), Or.inl rfl⟩
theorem eX4_grows_60 : dc cX4_grows 60 (.bipush 8) 2 62 := ⟨by decide +kernel, rfl⟩
theorem eX4_grows_62 : dc cX4_grows 62 (.aload_n 0) 1 63 := ⟨by decide +kernel, rfl⟩
theorem eX4_grows_63 : dc cX4_grows 63 (.getfield 258) 3 66 := ⟨by decide +kernel, rfl⟩
theorem eX4_grows_66 : dc cX4_grows 66 (.imul) 1 67 := ⟨by decide +kernel, rfl⟩
theorem eX4_grows_67 : dc cX4_grows 67 (.iload 5) 2 69 := ⟨by decide +kernel, rfl⟩
theorem eX4_grows_69 : dc cX4_grows 69 (.iadd) 1 70 := ⟨by decide +kernel, rfl⟩
theorem eX4_grows_70 : dc cX4_grows 70 (.aload_n 0) 1 71 := ⟨by decide +kernel, rfl⟩
theorem eX4_grows_71 : dc cX4_grows 71 (.getfield 102) 3 74 := ⟨by decide +kernel, rfl⟩
theorem eX4_grows_74 : dc cX4_grows 74 (.bipush 8) 2 76 := ⟨by decide +kernel, rfl⟩
theorem eX4_grows_76 : dc cX4_grows 76 (.iload_n 2) 1 77 := ⟨by decide +kernel, rfl⟩
theorem eX4_grows_77 : dc cX4_grows 77 (.imul) 1 78 := ⟨by decide +kernel, rfl⟩
theorem eX4_grows_78 : dc cX4_grows 78 (.iload 5) 2 80 := ⟨by decide +kernel, rfl⟩
theorem eX4_grows_80 : dc cX4_grows 80 (.iadd) 1 81 := ⟨by decide +kernel, rfl⟩
theorem eX4_grows_81 : dc cX4_grows 81 (.iaload) 1 82 := ⟨by decide +kernel, rfl⟩
theorem eX4_grows_82 : dc cX4_grows 82 (.iastore) 1 83 := ⟨by decide +kernel, rfl⟩
theorem eX4_grows_83 : dc cX4_grows 83 (.iinc 5 1) 3 86 := ⟨by decide +kernel, rfl⟩
theorem eX4_grows_86 : dj cX4_grows 86 (.goto (-42)) (-42) 44 89 := ⟨by decide +kernel, by decide, rfl⟩
theorem eX4_grows_0 : dc cX4_grows 0 (.aload_n 0) 1 1 := ⟨by decide +kernel, rfl⟩
theorem eX4_grows_1 : dc cX4_grows 1 (.getfield 90) 3 4 := ⟨by decide +kernel, rfl⟩
theorem flX4_90 : FL RX4 90 3 26 := ⟨_, _, _, _, rfl, by decide, by decide, Or.inl (lk q1265), Or.inl rfl⟩
theorem eX4_grows_4 : dc cX4_grows 4 (.aload_n 0) 1 5 := ⟨by decide +kernel, rfl⟩
theorem eX4_grows_5 : dc cX4_grows 5 (.getfield 258) 3 8 := ⟨by decide +kernel, rfl⟩
theorem eX4_grows_8 : dc cX4_grows 8 (.iload_n 1) 1 9 := ⟨by decide +kernel, rfl⟩
theorem eX4_grows_9 : dc cX4_grows 9 (.iastore) 1 10 := ⟨by decide +kernel, rfl⟩
theorem eX4_grows_10 : dc cX4_grows 10 (.aload_n 0) 1 11 := ⟨by decide +kernel, rfl⟩
theorem eX4_grows_11 : dc cX4_grows 11 (.getfield 93) 3 14 := ⟨by decide +kernel, rfl⟩
theorem flX4_93 : FL RX4 93 3 27 := ⟨_, _, _, _, rfl, by decide, by decide, Or.inl (lk q1266), Or.inl rfl⟩
theorem eX4_grows_14 : dc cX4_grows 14 (.aload_n 0) 1 15 := ⟨by decide +kernel, rfl⟩
theorem eX4_grows_15 : dc cX4_grows 15 (.getfield 258) 3 18 := ⟨by decide +kernel, rfl⟩
theorem eX4_grows_18 : dc cX4_grows 18 (.iload_n 2) 1 19 := ⟨by decide +kernel, rfl⟩
theorem eX4_grows_19 : dc cX4_grows 19 (.iastore) 1 20 := ⟨by decide +kernel, rfl⟩
theorem eX4_grows_20 : dc cX4_grows 20 (.aload_n 0) 1 21 := ⟨by decide +kernel, rfl⟩
theorem eX4_grows_21 : dc cX4_grows 21 (.getfield 96) 3 24 := ⟨by decide +kernel, rfl⟩
theorem flX4_96 : FL RX4 96 3 28 := ⟨_, _, _, _, rfl, by decide, by decide, Or.inl (lk q1267), Or.inl rfl⟩
theorem eX4_grows_24 : dc cX4_grows 24 (.aload_n 0) 1 25 := ⟨by decide +kernel, rfl⟩
theorem eX4_grows_25 : dc cX4_grows 25 (.getfield 258) 3 28 := ⟨by decide +kernel, rfl⟩
theorem eX4_grows_28 : dc cX4_grows 28 (.iload_n 3) 1 29 := ⟨by decide +kernel, rfl⟩
theorem eX4_grows_29 : dc cX4_grows 29 (.iastore) 1 30 := ⟨by decide +kernel, rfl⟩
theorem eX4_grows_30 : dc cX4_grows 30 (.aload_n 0) 1 31 := ⟨by decide +kernel, rfl⟩
theorem eX4_grows_31 : dc cX4_grows 31 (.getfield 99) 3 34 := ⟨by decide +kernel, rfl⟩
theorem flX4_99 : FL RX4 99 3 29 := ⟨_, _, _, _, rfl, by decide, by decide, Or.inl (lk q1268), Or.inl rfl⟩
theorem eX4_grows_34 : dc cX4_grows 34 (.aload_n 0) 1 35 := ⟨by decide +kernel, rfl⟩
theorem eX4_grows_35 : dc cX4_grows 35 (.getfield 258) 3 38 := ⟨by decide +kernel, rfl⟩
theorem eX4_grows_38 : dc cX4_grows 38 (.iload 4) 2 40 := ⟨by decide +kernel, rfl⟩
theorem eX4_grows_40 : dc cX4_grows 40 (.iastore) 1 41 := ⟨by decide +kernel, rfl⟩
theorem eX4_grows_41 : dc cX4_grows 41 (.iconst 0) 1 42 := ⟨by decide +kernel, rfl⟩
theorem eX4_grows_42 : dc cX4_grows 42 (.istore 5) 2 44 := ⟨by decide +kernel, rfl⟩
set_option maxHeartbeats 8000000 in
theorem ctX4_grows (l : Launch) : Ct l yX4_grows (.code yX4_grows cX4_grows 6 (some .int)) 1 spX4_grows := by
  refine Ct.of (own := RX4) (nm := "grows") (by decide) rfl rfl ?_
  rintro X av T I L R uc us rfl g hN hu hz ⟨kk, f, dd, mm, P, F, rfl, rfl, rfl, hP, hP40, hF, hk⟩
  refine VE.go (ls := [some (.ref 0), some (.int kk), some (.int f), some (.int dd), some (.int mm), none]) g hu hz (fun _ => rfl) (fun _ => Nat.le_of_ble_eq_true rfl) ?_
  have loop2 : ∀ (I' : It), I' 0 25 = nI P → x_k X (.inl (some (.int (nI P)))) TM (u2 (gN I' P 4) 0 25 (nI (P + 1))) L RM uc us → ∀ (n w : Nat), w ≤ 4 → 5 ≤ w + n → V X TM (gN I' P w) L RM uc us 92 [some (.ref 0), some (.int kk), some (.int f), some (.int dd), some (.int mm), some (.int (nI w))] [] := by
    intro I' hI' hk' n
    induction n with
    | zero => intro w h1 h2; exact absurd h2 (by omega)
    | succ n ih =>
      intro w h1 h2
      refine V_iload_5 g eX4_grows_92 ?_
      refine V_iconst (v := 4) g eX4_grows_94 (by decide) ?_
      refine V_icmp_ge g eX4_grows_95 (fun c_95 => ?_) (fun c_95 => ?_)
      · have q_95 := nI_le' (a := 4) (b := w) (by decide) (by omega) c_95
        obtain rfl : w = 4 := by omega
        refine V_aload_0 g eX4_grows_131 ?_
        refine V_dup g eX4_grows_132 rfl ?_
        refine V_getI g eX4_grows_133 flX4_258 rfl rfl ?_
        refine V_top (y := nI P) (by rw [gN_o (by decide)]; exact hI') ?_
        refine V_iconst (v := 1) g eX4_grows_136 (by decide) ?_
        refine V_iaddN (b := 1) g eX4_grows_137 ?_
        refine V_putI g eX4_grows_138 pflX4_258 rfl rfl rfl rfl ?_
        refine V_aload_0 g eX4_grows_141 ?_
        refine V_getI g eX4_grows_142 flX4_258 rfl rfl ?_
        refine V_top (y := nI (P + 1)) (by rw [u2_s]) ?_
        refine V_iconst (v := 1) g eX4_grows_145 (by decide) ?_
        refine V_isubN (b := 1) g eX4_grows_146 (by omega) ?_
        refine V_iret g eX4_grows_147 ?_
        exact hk'
      · have q_95 := nI_nle' (a := 4) (b := w) (by decide) (by omega) c_95
        refine V_aload_0 g eX4_grows_98 ?_
        refine V_getR g eX4_grows_99 flX4_105 rfl rfl rfl ?_
        refine V_iconst (v := 4) g eX4_grows_102 (by decide) ?_
        refine V_aload_0 g eX4_grows_103 ?_
        refine V_getI g eX4_grows_104 flX4_258 rfl rfl ?_
        refine V_top (y := nI P) (by rw [gN_o (by decide)]; exact hI') ?_
        refine V_imulN (a := 4) g eX4_grows_107 ?_
        refine V_iload_5 g eX4_grows_108 ?_
        refine V_iaddN g eX4_grows_110 ?_
        refine V_iload_5 g eX4_grows_111 ?_
        refine V_iconst (v := 2) g eX4_grows_113 (by decide) ?_
        refine V_irem g eX4_grows_114 (by decide) ?_
        refine V_top (nI_rem (a := w) (d := 2) (by omega) (by decide) (by decide) rfl) ?_
        refine V_if_ne g eX4_grows_115 (fun c_115 => ?_) (fun c_115 => ?_)
        · refine V_bipush (v := 9) g eX4_grows_122 (by decide) ?_
          refine V_iastN g eX4_grows_124 rfl (by omega) (by decide) ?_
          refine V_iinc_5 (v := 1) g eX4_grows_125 (by decide) (by decide) rfl ?_
          refine V_goto g eX4_grows_128 ?_
          rw [nI_1, gN_s (by rw [if_neg (nI_neq' (a := w % 2) (b := 0) c_115)])]
          exact ih (w + 1) (by omega) (by omega)
        · refine V_iconst (v := 0) g eX4_grows_118 (by decide) ?_
          refine V_goto g eX4_grows_119 ?_
          refine V_iastN g eX4_grows_124 rfl (by omega) (by decide) ?_
          refine V_iinc_5 (v := 1) g eX4_grows_125 (by decide) (by decide) rfl ?_
          refine V_goto g eX4_grows_128 ?_
          rw [nI_1, gN_s (by rw [if_pos (nI_eq' (a := w % 2) (b := 0) (by omega) (by decide) c_115)])]
          exact ih (w + 1) (by omega) (by omega)
  have exit1 : ∀ (I' : It) (w : Int32), I' 0 25 = nI P → x_k X (.inl (some (.int (nI P)))) TM (u2 (gN I' P 4) 0 25 (nI (P + 1))) L RM uc us → V X TM I' L RM uc us 89 [some (.ref 0), some (.int kk), some (.int f), some (.int dd), some (.int mm), some (.int w)] [] := by
    intro I' w hI' hk'
    refine V_iconst (v := 0) g eX4_grows_89 (by decide) ?_
    refine V_istore_5 g eX4_grows_90 (by decide) rfl ?_
    refine V_I (gN_0 I' P).symm ?_
    exact loop2 I' hI' hk' 5 0 (by omega) (by omega)
  have loop1 : ∀ (n w : Nat), w ≤ 8 → 9 ≤ w + n → (kk < 2 → w = 0) → V X TM (gC (gro4 I P kk f dd mm) P F w) L RM uc us 44 [some (.ref 0), some (.int kk), some (.int f), some (.int dd), some (.int mm), some (.int (nI w))] [] := by
    intro n
    induction n with
    | zero => intro w h1 h2; exact absurd h2 (by omega)
    | succ n ih =>
      intro w h1 h2 hw0
      refine V_iload_5 g eX4_grows_44 ?_
      refine V_bipush (v := 8) g eX4_grows_46 (by decide) ?_
      refine V_icmp_ge g eX4_grows_48 (fun c_48 => ?_) (fun c_48 => ?_)
      · have q_48 := nI_le' (a := 8) (b := w) (by decide) (by omega) c_48
        obtain rfl : w = 8 := by omega
        refine exit1 _ _ (by rw [gC_o (by decide), gro4_0]; exact hP) ?_
        unfold gro at hk
        rw [if_neg (fun q => by have := hw0 q; omega)] at hk
        exact hk
      · have q_48 := nI_nle' (a := 8) (b := w) (by decide) (by omega) c_48
        refine V_iload_1 g eX4_grows_51 ?_
        refine V_iconst (v := 2) g eX4_grows_52 (by decide) ?_
        refine V_icmp_lt g eX4_grows_53 (fun c_53 => ?_) (fun c_53 => ?_)
        · rw [hw0 c_53, gC_0]
          refine exit1 _ _ (by rw [gro4_0]; exact hP) ?_
          unfold gro at hk
          rw [if_pos c_53] at hk
          exact hk
        · obtain ⟨rfl, hFP⟩ := hF c_53
          refine V_aload_0 g eX4_grows_56 ?_
          refine V_getR g eX4_grows_57 flX4_102 rfl rfl rfl ?_
          refine V_bipush (v := 8) g eX4_grows_60 (by decide) ?_
          refine V_aload_0 g eX4_grows_62 ?_
          refine V_getI g eX4_grows_63 flX4_258 rfl rfl ?_
          refine V_top (y := nI P) (by rw [gC_o (by decide), gro4_0]; exact hP) ?_
          refine V_imulN (a := 8) g eX4_grows_66 ?_
          refine V_iload_5 g eX4_grows_67 ?_
          refine V_iaddN g eX4_grows_69 ?_
          refine V_aload_0 g eX4_grows_70 ?_
          refine V_getR g eX4_grows_71 flX4_102 rfl rfl rfl ?_
          refine V_bipush (v := 8) g eX4_grows_74 (by decide) ?_
          refine V_iload_2 g eX4_grows_76 ?_
          refine V_imulN (a := 8) g eX4_grows_77 ?_
          refine V_iload_5 g eX4_grows_78 ?_
          refine V_iaddN g eX4_grows_80 ?_
          refine V_ialdN g eX4_grows_81 rfl (by omega) (by decide) ?_
          refine V_iastN g eX4_grows_82 rfl (by omega) (by decide) ?_
          refine V_iinc_5 (v := 1) g eX4_grows_83 (by decide) (by decide) rfl ?_
          refine V_goto g eX4_grows_86 ?_
          rw [nI_1, gC_s (by omega) hFP]
          exact ih (w + 1) (by omega) (by omega) (fun q => absurd q c_53)
  refine V_aload_0 g eX4_grows_0 ?_
  refine V_getR g eX4_grows_1 flX4_90 rfl rfl rfl ?_
  refine V_aload_0 g eX4_grows_4 ?_
  refine V_getI g eX4_grows_5 flX4_258 rfl rfl ?_
  refine V_top (y := nI P) (by simp [u2, hP]) ?_
  refine V_iload_1 g eX4_grows_8 ?_
  refine V_iastN g eX4_grows_9 rfl (by omega) (by decide) ?_
  refine V_aload_0 g eX4_grows_10 ?_
  refine V_getR g eX4_grows_11 flX4_93 rfl rfl rfl ?_
  refine V_aload_0 g eX4_grows_14 ?_
  refine V_getI g eX4_grows_15 flX4_258 rfl rfl ?_
  refine V_top (y := nI P) (by simp [u2, hP]) ?_
  refine V_iload_2 g eX4_grows_18 ?_
  refine V_iastN g eX4_grows_19 rfl (by omega) (by decide) ?_
  refine V_aload_0 g eX4_grows_20 ?_
  refine V_getR g eX4_grows_21 flX4_96 rfl rfl rfl ?_
  refine V_aload_0 g eX4_grows_24 ?_
  refine V_getI g eX4_grows_25 flX4_258 rfl rfl ?_
  refine V_top (y := nI P) (by simp [u2, hP]) ?_
  refine V_iload_3 g eX4_grows_28 ?_
  refine V_iastN g eX4_grows_29 rfl (by omega) (by decide) ?_
  refine V_aload_0 g eX4_grows_30 ?_
  refine V_getR g eX4_grows_31 flX4_99 rfl rfl rfl ?_
  refine V_aload_0 g eX4_grows_34 ?_
  refine V_getI g eX4_grows_35 flX4_258 rfl rfl ?_
  refine V_top (y := nI P) (by simp [u2, hP]) ?_
  refine V_iload_4 g eX4_grows_38 ?_
  refine V_iastN g eX4_grows_40 rfl (by omega) (by decide) ?_
  refine V_iconst (v := 0) g eX4_grows_41 (by decide) ?_
  refine V_istore_5 g eX4_grows_42 (by decide) rfl ?_
  refine V_I (gC_0 (gro4 I P kk f dd mm) P F).symm ?_
  exact loop1 9 0 (by omega) (by omega) (fun _ => rfl)

