/-! BedBookModel: a plant comes, moves (printed out of tmpl/t_model17.txt) -/
set_option maxRecDepth 100000
theorem eN_nn {o : Option Nat} {c : Nat} (h : o = some c) : eN o = nI c := by rw [h]; rfl
theorem aug_s {S : Lb} {n b a : Nat} {g : Nat → Option Nat} (h : S.2.2 b = some a) : aug S (n + 1) g b = aug S n (va_up g (S.2.1 b) (some b)) a := by
  conv => lhs; unfold aug
  rw [h]
theorem aug_n {S : Lb} {n b : Nat} {g : Nat → Option Nat} (h : S.2.2 b = none) : aug S (n + 1) g b = va_up g (S.2.1 b) (some b) := by
  conv => lhs; unfold aug
  rw [h]
abbrev spX4_comes : Sp := fun av T I L R uc us k => ∃ p : Nat, ∃ N : Nat, ∃ B : Nat, ∃ g : Nat → Option Nat, ∃ mn : Nat → Int32, av = [.ref 0, .int (nI p)] ∧ T = TM ∧ R = RM ∧ I 0 25 = nI N ∧ N ≤ 40 ∧ I 0 45 = nI B ∧ B ≤ 8 ∧ p < N ∧ (∀ q, q < N → I 49 q = eN (g q)) ∧ mvC (okM I) (prM I) N B g ∧ (∀ b, b < B → I 50 b = mn b) ∧ (brg (okM I) (prM I) N B (I 48) g mn p = none → ∀ I', (∀ a, a ≠ 49 → a ≠ 50 → a ≠ 51 → a ≠ 52 → a ≠ 53 → I' a = I a) → k (.inl (some (.int 0))) T I' L R uc us) ∧ (∀ r, brg (okM I) (prM I) N B (I 48) g mn p = some r → ∀ I', (∀ a, a ≠ 49 → a ≠ 50 → a ≠ 51 → a ≠ 52 → a ≠ 53 → I' a = I a) → (∀ q, q < N → I' 49 q = eN (r.1 q)) → (∀ b, b < B → I' 50 b = r.2.1 b) → k (.inl (some (.int 1))) T I' L R uc us)
theorem eX4_comes_93 : dc cX4_comes 93 (.iload_n 3) 1 94 := ⟨by decide +kernel, rfl⟩
theorem eX4_comes_94 : dj cX4_comes 94 (.ifCond .lt 25) 25 119 97 := ⟨by decide +kernel, by decide, rfl⟩
theorem eX4_comes_119 : dc cX4_comes 119 (.iconst 1) 1 120 := ⟨by decide +kernel, rfl⟩
theorem eX4_comes_120 : dc cX4_comes 120 (.ireturn) 1 121 := ⟨by decide +kernel, rfl⟩
theorem eX4_comes_97 : dc cX4_comes 97 (.aload_n 0) 1 98 := ⟨by decide +kernel, rfl⟩
theorem eX4_comes_98 : dc cX4_comes 98 (.getfield 150) 3 101 := ⟨by decide +kernel, rfl⟩
theorem eX4_comes_101 : dc cX4_comes 101 (.aload_n 0) 1 102 := ⟨by decide +kernel, rfl⟩
theorem eX4_comes_102 : dc cX4_comes 102 (.getfield 159) 3 105 := ⟨by decide +kernel, rfl⟩
theorem eX4_comes_105 : dc cX4_comes 105 (.iload_n 3) 1 106 := ⟨by decide +kernel, rfl⟩
theorem eX4_comes_106 : dc cX4_comes 106 (.iaload) 1 107 := ⟨by decide +kernel, rfl⟩
theorem eX4_comes_107 : dc cX4_comes 107 (.iload_n 3) 1 108 := ⟨by decide +kernel, rfl⟩
theorem eX4_comes_108 : dc cX4_comes 108 (.iastore) 1 109 := ⟨by decide +kernel, rfl⟩
theorem eX4_comes_109 : dc cX4_comes 109 (.aload_n 0) 1 110 := ⟨by decide +kernel, rfl⟩
theorem eX4_comes_110 : dc cX4_comes 110 (.getfield 162) 3 113 := ⟨by decide +kernel, rfl⟩
theorem eX4_comes_113 : dc cX4_comes 113 (.iload_n 3) 1 114 := ⟨by decide +kernel, rfl⟩
theorem eX4_comes_114 : dc cX4_comes 114 (.iaload) 1 115 := ⟨by decide +kernel, rfl⟩
theorem eX4_comes_115 : dc cX4_comes 115 (.istore_n 3) 1 116 := ⟨by decide +kernel, rfl⟩
theorem eX4_comes_116 : dj cX4_comes 116 (.goto (-23)) (-23) 93 119 := ⟨by decide +kernel, by decide, rfl⟩
theorem eX4_comes_75 : dc cX4_comes 75 (.iload_n 2) 1 76 := ⟨by decide +kernel, rfl⟩
theorem eX4_comes_76 : dj cX4_comes 76 (.ifCond .ge 5) 5 81 79 := ⟨by decide +kernel, by decide, rfl⟩
theorem eX4_comes_79 : dc cX4_comes 79 (.iconst 0) 1 80 := ⟨by decide +kernel, rfl⟩
theorem eX4_comes_80 : dc cX4_comes 80 (.ireturn) 1 81 := ⟨by decide +kernel, rfl⟩
theorem eX4_comes_81 : dc cX4_comes 81 (.aload_n 0) 1 82 := ⟨by decide +kernel, rfl⟩
theorem eX4_comes_82 : dc cX4_comes 82 (.getfield 153) 3 85 := ⟨by decide +kernel, rfl⟩
theorem flX4_153 : FL RX4 153 3 50 := ⟨_, _, _, _, rfl, by decide, by decide, Or.inl (lk q1289), Or.inl rfl⟩
theorem eX4_comes_85 : dc cX4_comes 85 (.iload_n 2) 1 86 := ⟨by decide +kernel, rfl⟩
theorem eX4_comes_86 : dc cX4_comes 86 (.dup2) 1 87 := ⟨by decide +kernel, rfl⟩
theorem eX4_comes_87 : dc cX4_comes 87 (.iaload) 1 88 := ⟨by decide +kernel, rfl⟩
theorem eX4_comes_88 : dc cX4_comes 88 (.iconst 1) 1 89 := ⟨by decide +kernel, rfl⟩
theorem eX4_comes_89 : dc cX4_comes 89 (.iadd) 1 90 := ⟨by decide +kernel, rfl⟩
theorem eX4_comes_90 : dc cX4_comes 90 (.iastore) 1 91 := ⟨by decide +kernel, rfl⟩
theorem eX4_comes_91 : dc cX4_comes 91 (.iload_n 2) 1 92 := ⟨by decide +kernel, rfl⟩
theorem eX4_comes_92 : dc cX4_comes 92 (.istore_n 3) 1 93 := ⟨by decide +kernel, rfl⟩
theorem eX4_comes_68 : dc cX4_comes 68 (.istore_n 2) 1 69 := ⟨by decide +kernel, rfl⟩
theorem eX4_comes_69 : dc cX4_comes 69 (.iinc 3 1) 3 72 := ⟨by decide +kernel, rfl⟩
theorem eX4_comes_72 : dj cX4_comes 72 (.goto (-63)) (-63) 9 75 := ⟨by decide +kernel, by decide, rfl⟩
theorem eX4_comes_67 : dc cX4_comes 67 (.iload_n 2) 1 68 := ⟨by decide +kernel, rfl⟩
theorem eX4_comes_63 : dc cX4_comes 63 (.iload_n 3) 1 64 := ⟨by decide +kernel, rfl⟩
theorem eX4_comes_64 : dj cX4_comes 64 (.goto 4) 4 68 67 := ⟨by decide +kernel, by decide, rfl⟩
theorem eX4_comes_9 : dc cX4_comes 9 (.iload_n 3) 1 10 := ⟨by decide +kernel, rfl⟩
theorem eX4_comes_10 : dc cX4_comes 10 (.aload_n 0) 1 11 := ⟨by decide +kernel, rfl⟩
theorem eX4_comes_11 : dc cX4_comes 11 (.getfield 308) 3 14 := ⟨by decide +kernel, rfl⟩
theorem eX4_comes_14 : dj cX4_comes 14 (.if_icmp .ge 61) 61 75 17 := ⟨by decide +kernel, by decide, rfl⟩
theorem eX4_comes_17 : dc cX4_comes 17 (.aload_n 0) 1 18 := ⟨by decide +kernel, rfl⟩
theorem eX4_comes_18 : dc cX4_comes 18 (.getfield 153) 3 21 := ⟨by decide +kernel, rfl⟩
theorem eX4_comes_21 : dc cX4_comes 21 (.iload_n 3) 1 22 := ⟨by decide +kernel, rfl⟩
theorem eX4_comes_22 : dc cX4_comes 22 (.iaload) 1 23 := ⟨by decide +kernel, rfl⟩
theorem eX4_comes_23 : dc cX4_comes 23 (.aload_n 0) 1 24 := ⟨by decide +kernel, rfl⟩
theorem eX4_comes_24 : dc cX4_comes 24 (.getfield 147) 3 27 := ⟨by decide +kernel, rfl⟩
theorem eX4_comes_27 : dc cX4_comes 27 (.iload_n 3) 1 28 := ⟨by decide +kernel, rfl⟩
theorem eX4_comes_28 : dc cX4_comes 28 (.iaload) 1 29 := ⟨by decide +kernel, rfl⟩
theorem eX4_comes_29 : dj cX4_comes 29 (.if_icmp .ge 38) 38 67 32 := ⟨by decide +kernel, by decide, rfl⟩
theorem eX4_comes_32 : dc cX4_comes 32 (.aload_n 0) 1 33 := ⟨by decide +kernel, rfl⟩
theorem eX4_comes_33 : dc cX4_comes 33 (.getfield 156) 3 36 := ⟨by decide +kernel, rfl⟩
theorem eX4_comes_36 : dc cX4_comes 36 (.iload_n 3) 1 37 := ⟨by decide +kernel, rfl⟩
theorem eX4_comes_37 : dc cX4_comes 37 (.iaload) 1 38 := ⟨by decide +kernel, rfl⟩
theorem eX4_comes_38 : dc cX4_comes 38 (.ldc_w 317) 3 41 := ⟨by decide +kernel, rfl⟩
theorem eX4_comes_41 : dj cX4_comes 41 (.if_icmp .ge 26) 26 67 44 := ⟨by decide +kernel, by decide, rfl⟩
theorem eX4_comes_44 : dc cX4_comes 44 (.iload_n 2) 1 45 := ⟨by decide +kernel, rfl⟩
theorem eX4_comes_45 : dj cX4_comes 45 (.ifCond .lt 18) 18 63 48 := ⟨by decide +kernel, by decide, rfl⟩
theorem eX4_comes_48 : dc cX4_comes 48 (.aload_n 0) 1 49 := ⟨by decide +kernel, rfl⟩
theorem eX4_comes_49 : dc cX4_comes 49 (.getfield 156) 3 52 := ⟨by decide +kernel, rfl⟩
theorem eX4_comes_52 : dc cX4_comes 52 (.iload_n 3) 1 53 := ⟨by decide +kernel, rfl⟩
theorem eX4_comes_53 : dc cX4_comes 53 (.iaload) 1 54 := ⟨by decide +kernel, rfl⟩
theorem eX4_comes_54 : dc cX4_comes 54 (.aload_n 0) 1 55 := ⟨by decide +kernel, rfl⟩
theorem eX4_comes_55 : dc cX4_comes 55 (.getfield 156) 3 58 := ⟨by decide +kernel, rfl⟩
theorem eX4_comes_58 : dc cX4_comes 58 (.iload_n 2) 1 59 := ⟨by decide +kernel, rfl⟩
theorem eX4_comes_59 : dc cX4_comes 59 (.iaload) 1 60 := ⟨by decide +kernel, rfl⟩
theorem eX4_comes_60 : dj cX4_comes 60 (.if_icmp .ge 7) 7 67 63 := ⟨by decide +kernel, by decide, rfl⟩
theorem eX4_comes_0 : dc cX4_comes 0 (.aload_n 0) 1 1 := ⟨by decide +kernel, rfl⟩
theorem eX4_comes_1 : dc cX4_comes 1 (.iload_n 1) 1 2 := ⟨by decide +kernel, rfl⟩
theorem eX4_comes_2 : dc cX4_comes 2 (.invokevirtual 321) 3 5 := ⟨by decide +kernel, rfl⟩
theorem pkX4_321 : PkV RX4 321 yX4_begins (.code yX4_begins cX4_begins 7 none) 7 "BedBookModel" 1 := ⟨cwd_c, (lk q1609), Or.inl (lk q1606), (lk q1608), (lk qs52), ⟨⟨by decide, by decide⟩, by decide +kernel⟩, (lk q67), by decide⟩
theorem eX4_comes_5 : dc cX4_comes 5 (.iconst (-1)) 1 6 := ⟨by decide +kernel, rfl⟩
theorem eX4_comes_6 : dc cX4_comes 6 (.istore_n 2) 1 7 := ⟨by decide +kernel, rfl⟩
theorem eX4_comes_7 : dc cX4_comes 7 (.iconst 0) 1 8 := ⟨by decide +kernel, rfl⟩
theorem eX4_comes_8 : dc cX4_comes 8 (.istore_n 3) 1 9 := ⟨by decide +kernel, rfl⟩
set_option maxHeartbeats 8000000 in
theorem ctX4_comes (l : Launch) : Ct l yX4_comes (.code yX4_comes cX4_comes 4 (some .boolean)) 4 spX4_comes := by
  refine Ct.of (own := RX4) (nm := "comes") (by decide) rfl rfl ?_
  rintro X av T I L R uc us rfl g hN hu hz ⟨p, N, B, gg, mn, rfl, rfl, rfl, hN, hN4, hB, hB8, hp, hgT, hC, hmn, hk0, hk1⟩
  refine VE.go (ls := [some (.ref 0), some (.int (nI p)), none, none]) g hu hz (fun _ => rfl) (fun _ => Nat.le_of_ble_eq_true rfl) ?_
  have hpr := prM_01 I
  obtain ⟨hgB, hgO, π, hPot⟩ := hC
  have hL := Lbl_rds hpr hPot hgB (Lbl_ini hpr (p := p)) B
  have hS := rds_B hPot hgB (ini (okM I) (prM I) p)
  have hkk : 0 + B * (N * B) ≤ 4000 := by
    have h1 := Nat.mul_le_mul hN4 hB8
    have h2 := Nat.mul_le_mul hB8 h1
    omega
  have hC : mvC (okM I) (prM I) N B gg := ⟨hgB, hgO, π, hPot⟩
  have hSm := hL.2.2.2.1
  have rest : ∀ I1 : It, LbA 1000000 B (rds (okM I) (prM I) gg B N (ini (okM I) (prM I) p) B) (I1 51) (I1 52) (I1 53) → (∀ a, a ≠ 51 → a ≠ 52 → a ≠ 53 → I1 a = I a) → V X TM I1 L RM uc us 9 [some (.ref 0), some (.int (nI p)), some (.int (-1)), some (.int 0)] [] := by
    intro I1 hA hM
    unfold brg at hk0 hk1
    generalize rds (okM I) (prM I) gg B N (ini (okM I) (prM I) p) B = S at *
    have h0 : ∀ j, I1 0 j = I 0 j := fun j => by rw [hM 0 (by decide) (by decide) (by decide)]
    have h48 : I1 48 = I 48 := hM 48 (by decide) (by decide) (by decide)
    have h50 : I1 50 = I 50 := hM 50 (by decide) (by decide) (by decide)
    have h49 : I1 49 = I 49 := hM 49 (by decide) (by decide) (by decide)
    have stop : ∀ (I3 : It) (l2 : Option Value), x_k X (.inl (some (.int 1))) TM I3 L RM uc us → V X TM I3 L RM uc us 93 [some (.ref 0), some (.int (nI p)), l2, some (.int (-1))] [] := by
      intro I3 l2 hk
      refine V_iload_3 g eX4_comes_93 ?_
      refine V_if_lt g eX4_comes_94 (fun _ => ?_) (fun c_94 => absurd c_94 (fun q => q (by decide)))
      refine V_iconst (v := 1) g eX4_comes_119 (by decide) ?_
      refine V_zret g eX4_comes_120 rfl ?_
      exact hk
    have path : ∀ (n : Nat) (I2 : It) (g1 : Nat → Option Nat) (b : Nat) (x : Int) (l2 : Option Value), lok l2 = true → b < B → S.1 b = some x → ch S.2.2 n b = none → (∀ q, q < N → I2 49 q = eN (g1 q)) → I2 52 = I1 52 → I2 53 = I1 53 → (∀ I3, (∀ a, a ≠ 49 → I3 a = I2 a) → (∀ q, q < N → I3 49 q = eN (aug S n g1 b q)) → x_k X (.inl (some (.int 1))) TM I3 L RM uc us) → V X TM I2 L RM uc us 93 [some (.ref 0), some (.int (nI p)), l2, some (.int (nI b))] [] := by
      intro n
      induction n with
      | zero => intro I2 g1 b x l2 _ _ _ hc; cases hc
      | succ n ih =>
        intro I2 g1 b x l2 hl hb hx hc h2 h52 h53 hk
        have hby : S.2.1 b < N := by
          rcases hL.1 b x hb hx with ⟨-, k2, -⟩ | ⟨-, -, -, -, k2, -⟩
          · rw [k2]; exact hp
          · exact k2
        have hAb := hA b hb
        have hg2 : ∀ q, q < N → u2 I2 49 (S.2.1 b) (nI b) 49 q = eN (va_up g1 (S.2.1 b) (some b) q) := by
          intro q hq
          by_cases e : q = S.2.1 b
          · rw [e, u2_s, va_up_self]; rfl
          · rw [u2_n _ _ (fun w => e w.2), va_up_ne _ _ e]; exact h2 q hq
        unfold ch at hc
        refine V_iload_3 g eX4_comes_93 ?_
        refine V_if_lt g eX4_comes_94 (fun c_94 => absurd c_94 (nI_pos (by omega))) (fun _ => ?_)
        refine V_aload_0 g eX4_comes_97 ?_
        refine V_getR g eX4_comes_98 flX4_150 rfl rfl rfl ?_
        refine V_aload_0 g eX4_comes_101 ?_
        refine V_getR g eX4_comes_102 flX4_159 rfl rfl rfl ?_
        refine V_iload_3 g eX4_comes_105 ?_
        refine V_ialdN g eX4_comes_106 rfl (by omega) (by decide) ?_
        refine V_top (y := nI (S.2.1 b)) (by rw [h52]; exact hAb.2.1) ?_
        refine V_iload_3 g eX4_comes_107 ?_
        refine V_iastN g eX4_comes_108 rfl (by omega) (by decide) ?_
        refine V_aload_0 g eX4_comes_109 ?_
        refine V_getR g eX4_comes_110 flX4_162 rfl rfl rfl ?_
        refine V_iload_3 g eX4_comes_113 ?_
        refine V_ialdN g eX4_comes_114 rfl (by omega) (by decide) ?_
        refine V_top (y := eN (S.2.2 b)) (by rw [u2_o _ _ (by decide), h53]; exact hAb.2.2) ?_
        refine V_istore_3 g eX4_comes_115 (by decide) hl ?_
        refine V_goto g eX4_comes_116 ?_
        cases hf : S.2.2 b with
        | some a =>
          rw [hf] at hc
          obtain ⟨ha, y, hy⟩ : a < B ∧ ∃ y, S.1 a = some y := by rcases hL.1 b x hb hx with ⟨k1, -⟩ | ⟨a', y, k0, k1, k2, k3, k4, k5, k6, k7⟩; rw [hf] at k1; cases k1; rw [hf] at k1; cases k1; exact ⟨k0, y, k6⟩
          refine ih _ (va_up g1 (S.2.1 b) (some b)) a y l2 hl ha hy hc hg2 (by rw [u2_o _ _ (by decide)]; exact h52) (by rw [u2_o _ _ (by decide)]; exact h53) (fun I3 q1 q2 => ?_)
          refine hk I3 (fun c hc => by rw [q1 c hc, u2_o _ _ hc]) (fun q hq => ?_)
          rw [q2 q hq, aug_s hf]
        | none =>
          refine stop _ l2 (hk _ (fun c hc => by rw [u2_o _ _ hc]) (fun q hq => ?_))
          rw [hg2 q hq, aug_n hf]
    have fin : V X TM I1 L RM uc us 75 [some (.ref 0), some (.int (nI p)), some (.int (eN (bst S.1 (fun b => decide (¬ I 48 b ≤ mn b)) B))), some (.int (nI B))] [] := by
      cases hb : bst S.1 (fun b => decide (¬ I 48 b ≤ mn b)) B with
      | none =>
        rw [hb] at hk0
        refine V_iload_2 g eX4_comes_75 ?_
        refine V_if_ge g eX4_comes_76 (fun c_76 => absurd c_76 (by decide)) (fun _ => ?_)
        refine V_iconst (v := 0) g eX4_comes_79 (by decide) ?_
        refine V_zret g eX4_comes_80 rfl ?_
        exact hk0 rfl I1 (fun a _ _ a1 a2 a3 => hM a a1 a2 a3)
      | some b =>
        rw [hb] at hk1
        obtain ⟨hbB, x, hx⟩ := bst_s B b hb
        refine V_ls (ls' := [some (.ref 0), some (.int (nI p)), some (.int (nI b)), some (.int (nI B))]) rfl ?_
        refine V_iload_2 g eX4_comes_75 ?_
        refine V_if_ge g eX4_comes_76 (fun _ => ?_) (fun c_76 => absurd c_76 (fun q => q (nI_pos' (by omega))))
        refine V_aload_0 g eX4_comes_81 ?_
        refine V_getR g eX4_comes_82 flX4_153 rfl rfl rfl ?_
        refine V_iload_2 g eX4_comes_85 ?_
        refine V_dup2 g eX4_comes_86 rfl rfl ?_
        refine V_ialdN g eX4_comes_87 rfl (by omega) (by decide) ?_
        refine V_top (y := mn b) (by rw [h50]; exact hmn b hbB) ?_
        refine V_iconst (v := 1) g eX4_comes_88 (by decide) ?_
        refine V_iadd g eX4_comes_89 ?_
        refine V_iastN g eX4_comes_90 rfl (by omega) (by decide) ?_
        refine V_iload_2 g eX4_comes_91 ?_
        refine V_istore_3 g eX4_comes_92 (by decide) rfl ?_
        refine path 9 _ gg b x _ rfl hbB hx (ch_B hL.1 hL.2.2.1 hbB hx (by omega)) (fun q hq => by rw [u2_o _ _ (by decide), h49]; exact hgT q hq) (u2_o _ _ (by decide)) (u2_o _ _ (by decide)) (fun I3 q1 q2 => ?_)
        refine hk1 _ rfl I3 (fun a a0 a1 a2 a3 a4 => by rw [q1 a a0, u2_o _ _ a1]; exact hM a a2 a3 a4) q2 (fun c hc => ?_)
        rw [q1 50 (by decide), u2_row, h50]
        show va_up _ _ _ c = va_up mn b (mn b + 1) c
        by_cases e : c = b
        · rw [e, va_up_self, va_up_self]
        · rw [va_up_ne _ _ e, va_up_ne _ _ e]; exact hmn c hc
    have loop : ∀ (n m : Nat), m ≤ B → B + 1 ≤ m + n → V X TM I1 L RM uc us 9 [some (.ref 0), some (.int (nI p)), some (.int (eN (bst S.1 (fun b => decide (¬ I 48 b ≤ mn b)) m))), some (.int (nI m))] [] := by
      intro n
      induction n with
      | zero => intro m h1 h2; exact absurd h2 (by omega)
      | succ n ih =>
        intro m hm1 hm2
        have nx : ∀ o : Option Nat, m < B → o = bst S.1 (fun b => decide (¬ I 48 b ≤ mn b)) (m + 1) → V X TM I1 L RM uc us 68 [some (.ref 0), some (.int (nI p)), some (.int (eN (bst S.1 (fun b => decide (¬ I 48 b ≤ mn b)) m))), some (.int (nI m))] [.int (eN o)] := by
          intro o g0 g1
          subst g1
          refine V_istore_2 g eX4_comes_68 (by decide) rfl ?_
          refine V_iinc_3 (v := 1) g eX4_comes_69 (by decide) (by decide) rfl ?_
          refine V_goto g eX4_comes_72 ?_
          rw [nI_1]
          exact ih (m + 1) (by omega) (by omega)
        have h45 : I1 0 45 = nI B := by rw [h0]; exact hB
        have at67 : m < B → bst S.1 (fun b => decide (¬ I 48 b ≤ mn b)) (m + 1) = bst S.1 (fun b => decide (¬ I 48 b ≤ mn b)) m → V X TM I1 L RM uc us 67 [some (.ref 0), some (.int (nI p)), some (.int (eN (bst S.1 (fun b => decide (¬ I 48 b ≤ mn b)) m))), some (.int (nI m))] [] := by
          intro g0 g1
          refine V_iload_2 g eX4_comes_67 ?_
          exact nx _ g0 g1.symm
        have at63 : m < B → bst S.1 (fun b => decide (¬ I 48 b ≤ mn b)) (m + 1) = some m → V X TM I1 L RM uc us 63 [some (.ref 0), some (.int (nI p)), some (.int (eN (bst S.1 (fun b => decide (¬ I 48 b ≤ mn b)) m))), some (.int (nI m))] [] := by
          intro g0 g1
          refine V_iload_3 g eX4_comes_63 ?_
          refine V_goto g eX4_comes_64 ?_
          exact nx (some m) g0 g1.symm
        refine V_iload_3 g eX4_comes_9 ?_
        refine V_aload_0 g eX4_comes_10 ?_
        refine V_getI g eX4_comes_11 flX4_308 rfl rfl ?_
        refine V_top (y := nI B) h45 ?_
        refine V_icmp_ge g eX4_comes_14 (fun c_14 => ?_) (fun c_14 => ?_)
        · have hmB : m = B := by have := nI_le' (a := B) (b := m) (by omega) (by omega) c_14; omega
          subst hmB
          exact fin
        · have hmB := nI_nle' (a := B) (b := m) (by omega) (by omega) c_14
          have hcm := (hA m hmB).1
          have hbs : bst S.1 (fun b => decide (¬ I 48 b ≤ mn b)) (m + 1) = if decide (¬ I 48 m ≤ mn m) = true ∧ (S.1 m).isSome = true ∧ btr S.1 (bst S.1 (fun b => decide (¬ I 48 b ≤ mn b)) m) m = true then some m else bst S.1 (fun b => decide (¬ I 48 b ≤ mn b)) m := rfl
          refine V_aload_0 g eX4_comes_17 ?_
          refine V_getR g eX4_comes_18 flX4_153 rfl rfl rfl ?_
          refine V_iload_3 g eX4_comes_21 ?_
          refine V_ialdN g eX4_comes_22 rfl (by omega) (by decide) ?_
          refine V_top (y := mn m) (by rw [h50]; exact hmn m hmB) ?_
          refine V_aload_0 g eX4_comes_23 ?_
          refine V_getR g eX4_comes_24 flX4_147 rfl rfl rfl ?_
          refine V_iload_3 g eX4_comes_27 ?_
          refine V_ialdN g eX4_comes_28 rfl (by omega) (by decide) ?_
          refine V_top (y := I 48 m) (by rw [h48]) ?_
          refine V_icmp_ge g eX4_comes_29 (fun c_29 => ?_) (fun c_29 => ?_)
          · exact at67 hmB (by rw [hbs, if_neg (fun w => absurd c_29 (of_decide_eq_true w.1))])
          · refine V_aload_0 g eX4_comes_32 ?_
            refine V_getR g eX4_comes_33 flX4_156 rfl rfl rfl ?_
            refine V_iload_3 g eX4_comes_36 ?_
            refine V_ialdN g eX4_comes_37 rfl (by omega) (by decide) ?_
            refine V_top (y := eL 1000000 (S.1 m)) hcm ?_
            refine V_ldcw g eX4_comes_38 (lk q1614) ?_
            refine V_icmp_ge g eX4_comes_41 (fun c_41 => ?_) (fun c_41 => ?_)
            · refine at67 hmB (hbs.trans (if_neg (fun w => ?_)))
              obtain ⟨x, hx⟩ := Option.isSome_iff_exists.mp w.2.1
              have := Sml_b hSm hB8 hkk hmB hx
              rw [hx] at c_41
              have c := (iN_le (x := 1000000) (by decide) (by decide) (by simp; omega) (by simp; omega)).mp c_41
              simp at c
              omega
            · obtain ⟨x, hx⟩ : ∃ x, S.1 m = some x := by cases hd : S.1 m with | some x => exact ⟨x, rfl⟩ | none => rw [hd] at c_41; exact absurd (by decide) c_41
              refine V_iload_2 g eX4_comes_44 ?_
              refine V_if_lt g eX4_comes_45 (fun c_45 => ?_) (fun c_45 => ?_)
              · have hnone : bst S.1 (fun b => decide (¬ I 48 b ≤ mn b)) m = none := by cases hd : bst S.1 (fun b => decide (¬ I 48 b ≤ mn b)) m with | none => rfl | some c => rw [hd] at c_45; exact absurd c_45 (nI_pos (by have := (bst_s m c hd).1; omega))
                exact at63 hmB (by rw [hbs, if_pos ⟨decide_eq_true c_29, by rw [hx]; rfl, by rw [hnone]; rfl⟩])
              · obtain ⟨c, hc⟩ : ∃ c, bst S.1 (fun b => decide (¬ I 48 b ≤ mn b)) m = some c := by cases hd : bst S.1 (fun b => decide (¬ I 48 b ≤ mn b)) m with | some c => exact ⟨c, rfl⟩ | none => rw [hd] at c_45; exact absurd (by decide) c_45
                obtain ⟨hcm2, y, hy⟩ := bst_s m c hc
                have hbx := Sml_b hSm hB8 hkk hmB hx
                have hby := Sml_b hSm hB8 hkk (by omega) hy
                refine V_ls (ls' := [some (.ref 0), some (.int (nI p)), some (.int (nI c)), some (.int (nI m))]) (by rw [hc]; rfl) ?_
                refine V_aload_0 g eX4_comes_48 ?_
                refine V_getR g eX4_comes_49 flX4_156 rfl rfl rfl ?_
                refine V_iload_3 g eX4_comes_52 ?_
                refine V_ialdN g eX4_comes_53 rfl (by omega) (by decide) ?_
                refine V_top (y := eL 1000000 (S.1 m)) hcm ?_
                refine V_aload_0 g eX4_comes_54 ?_
                refine V_getR g eX4_comes_55 flX4_156 rfl rfl rfl ?_
                refine V_iload_2 g eX4_comes_58 ?_
                refine V_ialdN g eX4_comes_59 rfl (by omega) (by decide) ?_
                refine V_top (y := eL 1000000 (S.1 c)) (hA c (by omega)).1 ?_
                refine V_icmp_ge g eX4_comes_60 (fun c_60 => ?_) (fun c_60 => ?_)
                · refine V_ls (ls' := [some (.ref 0), some (.int (nI p)), some (.int (eN (bst S.1 (fun b => decide (¬ I 48 b ≤ mn b)) m))), some (.int (nI m))]) (by rw [hc]; rfl) ?_
                  refine at67 hmB (hbs.trans (if_neg (fun w => ?_)))
                  have w := w.2.2
                  unfold btr at w
                  rw [hc] at w
                  simp only [hx, hy] at w
                  have w := of_decide_eq_true w
                  rw [hx, hy] at c_60
                  have c := (iN_le (by simp; omega) (by simp; omega) (by simp; omega) (by simp; omega)).mp c_60
                  simp at c
                  omega
                · refine V_ls (ls' := [some (.ref 0), some (.int (nI p)), some (.int (eN (bst S.1 (fun b => decide (¬ I 48 b ≤ mn b)) m))), some (.int (nI m))]) (by rw [hc]; rfl) ?_
                  refine at63 hmB (hbs.trans (if_pos ⟨decide_eq_true c_29, by rw [hx]; rfl, ?_⟩))
                  unfold btr
                  rw [hc]
                  simp only [hx, hy]
                  refine decide_eq_true (Int.not_le.mp fun w => c_60 ?_)
                  rw [hx, hy]
                  exact (iN_le (by simp; omega) (by simp; omega) (by simp; omega) (by simp; omega)).mpr w
    exact loop (B + 1) 0 (by omega) (by omega)
  refine V_aload_0 g eX4_comes_0 ?_
  refine V_iload_1 g eX4_comes_1 ?_
  refine V_cv1 g (ctX4_begins _) eX4_comes_2 pkX4_321 rfl rfl (by decide) (by decide) (Nat.le_of_ble_eq_true rfl) ?_
  refine ⟨p, N, B, gg, rfl, rfl, rfl, hN, hN4, hB, hB8, hp, hgT, hC, fun I1 hA hM => ?_⟩
  refine V_iconst (v := (-1)) g eX4_comes_5 (by decide) ?_
  refine V_istore_2 g eX4_comes_6 (by decide) rfl ?_
  refine V_iconst (v := 0) g eX4_comes_7 (by decide) ?_
  refine V_istore_3 g eX4_comes_8 (by decide) rfl ?_
  exact rest I1 hA hM
/-- what moves answers -/
def mvF (I : It) (N B : Nat) : Int32 := match mvs (okM I) (prM I) N B (I 48) (fun q => decide (¬ I 32 q < 0)) N with
  | none => -1
  | some r => iN r.2.2
theorem mvs_none {ok : Nat → Nat → Bool} {pr : Nat → Nat → Int} {N B : Nat} {rm : Nat → Int32} {li : Nat → Bool} {m : Nat} (h : mvs ok pr N B rm li m = none) : ∀ j, m ≤ j → mvs ok pr N B rm li j = none := by
  intro j
  induction j with
  | zero =>
    intro hj
    obtain rfl : m = 0 := by omega
    exact h
  | succ j ih =>
    intro hj
    rcases Nat.lt_or_ge j m with q | q
    · obtain rfl : m = j + 1 := by omega
      exact h
    · unfold mvs
      rw [ih q]
theorem okM_cg {I I' : It} (h1 : I' 46 = I 46) (h2 : I' 47 = I 47) (h3 : I' 31 = I 31) : okM I' = okM I := by
  funext q b
  unfold okM suit
  rw [h1, h2, h3]
theorem prM_cg {I I' : It} (h : I' 32 = I 32) : prM I' = prM I := by
  funext q b
  unfold prM
  rw [h]
abbrev spX4_moves : Sp := fun av T I L R uc us k => ∃ N : Nat, ∃ B : Nat, av = [.ref 0] ∧ T = TM ∧ R = RM ∧ (fun J => J 0 25 = nI N ∧ N ≤ 40 ∧ J 0 45 = nI B ∧ B ≤ 8 ∧ (∀ I', (∀ a, a ≠ 49 → a ≠ 50 → a ≠ 51 → a ≠ 52 → a ≠ 53 → I' a = J a) → k (.inl (some (.int (mvF J N B)))) T I' L R uc us)) (u2 I 0 0 0)
theorem eX4_moves_90 : dc cX4_moves 90 (.iload_n 2) 1 91 := ⟨by decide +kernel, rfl⟩
theorem eX4_moves_91 : dc cX4_moves 91 (.aload_n 0) 1 92 := ⟨by decide +kernel, rfl⟩
theorem eX4_moves_92 : dc cX4_moves 92 (.getfield 258) 3 95 := ⟨by decide +kernel, rfl⟩
theorem eX4_moves_95 : dj cX4_moves 95 (.if_icmp .ge 41) 41 136 98 := ⟨by decide +kernel, by decide, rfl⟩
theorem eX4_moves_136 : dc cX4_moves 136 (.iload_n 1) 1 137 := ⟨by decide +kernel, rfl⟩
theorem eX4_moves_137 : dc cX4_moves 137 (.ireturn) 1 138 := ⟨by decide +kernel, rfl⟩
theorem eX4_moves_98 : dc cX4_moves 98 (.iload_n 1) 1 99 := ⟨by decide +kernel, rfl⟩
theorem eX4_moves_99 : dc cX4_moves 99 (.aload_n 0) 1 100 := ⟨by decide +kernel, rfl⟩
theorem eX4_moves_100 : dc cX4_moves 100 (.getfield 108) 3 103 := ⟨by decide +kernel, rfl⟩
theorem eX4_moves_103 : dc cX4_moves 103 (.iload_n 2) 1 104 := ⟨by decide +kernel, rfl⟩
theorem eX4_moves_104 : dc cX4_moves 104 (.iaload) 1 105 := ⟨by decide +kernel, rfl⟩
theorem eX4_moves_105 : dj cX4_moves 105 (.ifCond .lt 22) 22 127 108 := ⟨by decide +kernel, by decide, rfl⟩
theorem eX4_moves_127 : dc cX4_moves 127 (.iconst 0) 1 128 := ⟨by decide +kernel, rfl⟩
theorem eX4_moves_128 : dc cX4_moves 128 (.iadd) 1 129 := ⟨by decide +kernel, rfl⟩
theorem eX4_moves_129 : dc cX4_moves 129 (.istore_n 1) 1 130 := ⟨by decide +kernel, rfl⟩
theorem eX4_moves_130 : dc cX4_moves 130 (.iinc 2 1) 3 133 := ⟨by decide +kernel, rfl⟩
theorem eX4_moves_133 : dj cX4_moves 133 (.goto (-43)) (-43) 90 136 := ⟨by decide +kernel, by decide, rfl⟩
theorem eX4_moves_108 : dc cX4_moves 108 (.aload_n 0) 1 109 := ⟨by decide +kernel, rfl⟩
theorem eX4_moves_109 : dc cX4_moves 109 (.getfield 150) 3 112 := ⟨by decide +kernel, rfl⟩
theorem eX4_moves_112 : dc cX4_moves 112 (.iload_n 2) 1 113 := ⟨by decide +kernel, rfl⟩
theorem eX4_moves_113 : dc cX4_moves 113 (.iaload) 1 114 := ⟨by decide +kernel, rfl⟩
theorem eX4_moves_114 : dc cX4_moves 114 (.aload_n 0) 1 115 := ⟨by decide +kernel, rfl⟩
theorem eX4_moves_115 : dc cX4_moves 115 (.getfield 108) 3 118 := ⟨by decide +kernel, rfl⟩
theorem eX4_moves_118 : dc cX4_moves 118 (.iload_n 2) 1 119 := ⟨by decide +kernel, rfl⟩
theorem eX4_moves_119 : dc cX4_moves 119 (.iaload) 1 120 := ⟨by decide +kernel, rfl⟩
theorem eX4_moves_120 : dj cX4_moves 120 (.if_icmp .eq 7) 7 127 123 := ⟨by decide +kernel, by decide, rfl⟩
theorem eX4_moves_123 : dc cX4_moves 123 (.iconst 1) 1 124 := ⟨by decide +kernel, rfl⟩
theorem eX4_moves_124 : dj cX4_moves 124 (.goto 4) 4 128 127 := ⟨by decide +kernel, by decide, rfl⟩
theorem eX4_moves_82 : dc cX4_moves 82 (.iinc 2 1) 3 85 := ⟨by decide +kernel, rfl⟩
theorem eX4_moves_85 : dj cX4_moves 85 (.goto (-30)) (-30) 55 88 := ⟨by decide +kernel, by decide, rfl⟩
theorem eX4_moves_77 : dj cX4_moves 77 (.ifCond .ne 5) 5 82 80 := ⟨by decide +kernel, by decide, rfl⟩
theorem eX4_moves_80 : dc cX4_moves 80 (.iconst (-1)) 1 81 := ⟨by decide +kernel, rfl⟩
theorem eX4_moves_81 : dc cX4_moves 81 (.ireturn) 1 82 := ⟨by decide +kernel, rfl⟩
theorem eX4_moves_55 : dc cX4_moves 55 (.iload_n 2) 1 56 := ⟨by decide +kernel, rfl⟩
theorem eX4_moves_56 : dc cX4_moves 56 (.aload_n 0) 1 57 := ⟨by decide +kernel, rfl⟩
theorem eX4_moves_57 : dc cX4_moves 57 (.getfield 258) 3 60 := ⟨by decide +kernel, rfl⟩
theorem eX4_moves_60 : dj cX4_moves 60 (.if_icmp .ge 28) 28 88 63 := ⟨by decide +kernel, by decide, rfl⟩
theorem eX4_moves_88 : dc cX4_moves 88 (.iconst 0) 1 89 := ⟨by decide +kernel, rfl⟩
theorem eX4_moves_89 : dc cX4_moves 89 (.istore_n 2) 1 90 := ⟨by decide +kernel, rfl⟩
theorem eX4_moves_63 : dc cX4_moves 63 (.aload_n 0) 1 64 := ⟨by decide +kernel, rfl⟩
theorem eX4_moves_64 : dc cX4_moves 64 (.getfield 108) 3 67 := ⟨by decide +kernel, rfl⟩
theorem eX4_moves_67 : dc cX4_moves 67 (.iload_n 2) 1 68 := ⟨by decide +kernel, rfl⟩
theorem eX4_moves_68 : dc cX4_moves 68 (.iaload) 1 69 := ⟨by decide +kernel, rfl⟩
theorem eX4_moves_69 : dj cX4_moves 69 (.ifCond .lt 13) 13 82 72 := ⟨by decide +kernel, by decide, rfl⟩
theorem eX4_moves_72 : dc cX4_moves 72 (.aload_n 0) 1 73 := ⟨by decide +kernel, rfl⟩
theorem eX4_moves_73 : dc cX4_moves 73 (.iload_n 2) 1 74 := ⟨by decide +kernel, rfl⟩
theorem eX4_moves_74 : dc cX4_moves 74 (.invokevirtual 324) 3 77 := ⟨by decide +kernel, rfl⟩
theorem pkX4_324 : PkV RX4 324 yX4_comes (.code yX4_comes cX4_comes 4 (some .boolean)) 4 "BedBookModel" 1 := ⟨cwd_c, (lk q1605), Or.inl (lk q1602), (lk q1604), (lk qs51), ⟨⟨by decide, by decide⟩, by decide +kernel⟩, (lk q67), by decide⟩
theorem eX4_moves_30 : dc cX4_moves 30 (.iload_n 1) 1 31 := ⟨by decide +kernel, rfl⟩
theorem eX4_moves_31 : dc cX4_moves 31 (.aload_n 0) 1 32 := ⟨by decide +kernel, rfl⟩
theorem eX4_moves_32 : dc cX4_moves 32 (.getfield 258) 3 35 := ⟨by decide +kernel, rfl⟩
theorem eX4_moves_35 : dj cX4_moves 35 (.if_icmp .ge 16) 16 51 38 := ⟨by decide +kernel, by decide, rfl⟩
theorem eX4_moves_51 : dc cX4_moves 51 (.iconst 0) 1 52 := ⟨by decide +kernel, rfl⟩
theorem eX4_moves_52 : dc cX4_moves 52 (.istore_n 1) 1 53 := ⟨by decide +kernel, rfl⟩
theorem eX4_moves_53 : dc cX4_moves 53 (.iconst 0) 1 54 := ⟨by decide +kernel, rfl⟩
theorem eX4_moves_54 : dc cX4_moves 54 (.istore_n 2) 1 55 := ⟨by decide +kernel, rfl⟩
theorem eX4_moves_38 : dc cX4_moves 38 (.aload_n 0) 1 39 := ⟨by decide +kernel, rfl⟩
theorem eX4_moves_39 : dc cX4_moves 39 (.getfield 150) 3 42 := ⟨by decide +kernel, rfl⟩
theorem eX4_moves_42 : dc cX4_moves 42 (.iload_n 1) 1 43 := ⟨by decide +kernel, rfl⟩
theorem eX4_moves_43 : dc cX4_moves 43 (.iconst (-1)) 1 44 := ⟨by decide +kernel, rfl⟩
theorem eX4_moves_44 : dc cX4_moves 44 (.iastore) 1 45 := ⟨by decide +kernel, rfl⟩
theorem eX4_moves_45 : dc cX4_moves 45 (.iinc 1 1) 3 48 := ⟨by decide +kernel, rfl⟩
theorem eX4_moves_48 : dj cX4_moves 48 (.goto (-18)) (-18) 30 51 := ⟨by decide +kernel, by decide, rfl⟩
theorem eX4_moves_7 : dc cX4_moves 7 (.iload_n 1) 1 8 := ⟨by decide +kernel, rfl⟩
theorem eX4_moves_8 : dc cX4_moves 8 (.aload_n 0) 1 9 := ⟨by decide +kernel, rfl⟩
theorem eX4_moves_9 : dc cX4_moves 9 (.getfield 308) 3 12 := ⟨by decide +kernel, rfl⟩
theorem eX4_moves_12 : dj cX4_moves 12 (.if_icmp .ge 16) 16 28 15 := ⟨by decide +kernel, by decide, rfl⟩
theorem eX4_moves_28 : dc cX4_moves 28 (.iconst 0) 1 29 := ⟨by decide +kernel, rfl⟩
theorem eX4_moves_29 : dc cX4_moves 29 (.istore_n 1) 1 30 := ⟨by decide +kernel, rfl⟩
theorem eX4_moves_15 : dc cX4_moves 15 (.aload_n 0) 1 16 := ⟨by decide +kernel, rfl⟩
theorem eX4_moves_16 : dc cX4_moves 16 (.getfield 153) 3 19 := ⟨by decide +kernel, rfl⟩
theorem eX4_moves_19 : dc cX4_moves 19 (.iload_n 1) 1 20 := ⟨by decide +kernel, rfl⟩
theorem eX4_moves_20 : dc cX4_moves 20 (.iconst 0) 1 21 := ⟨by decide +kernel, rfl⟩
theorem eX4_moves_21 : dc cX4_moves 21 (.iastore) 1 22 := ⟨by decide +kernel, rfl⟩
theorem eX4_moves_22 : dc cX4_moves 22 (.iinc 1 1) 3 25 := ⟨by decide +kernel, rfl⟩
theorem eX4_moves_25 : dj cX4_moves 25 (.goto (-18)) (-18) 7 28 := ⟨by decide +kernel, by decide, rfl⟩
theorem eX4_moves_5 : dc cX4_moves 5 (.iconst 0) 1 6 := ⟨by decide +kernel, rfl⟩
theorem eX4_moves_6 : dc cX4_moves 6 (.istore_n 1) 1 7 := ⟨by decide +kernel, rfl⟩
theorem eX4_moves_0 : dc cX4_moves 0 (.aload_n 0) 1 1 := ⟨by decide +kernel, rfl⟩
theorem eX4_moves_1 : dc cX4_moves 1 (.iconst 0) 1 2 := ⟨by decide +kernel, rfl⟩
theorem eX4_moves_2 : dc cX4_moves 2 (.putfield 1) 3 5 := ⟨by decide +kernel, rfl⟩
set_option maxHeartbeats 8000000 in
theorem ctX4_moves (l : Launch) : Ct l yX4_moves (.code yX4_moves cX4_moves 3 (some .int)) 5 spX4_moves := by
  refine Ct.of (own := RX4) (nm := "moves") (by decide) rfl rfl ?_
  rintro X av T I L R uc us rfl g hN hu hz ⟨N, B, rfl, rfl, rfl, hk⟩
  refine VE.go (ls := [some (.ref 0), none, none]) g hu hz (fun _ => rfl) (fun _ => Nat.le_of_ble_eq_true rfl) ?_
  have main : ∀ J : It, J 0 25 = nI N → N ≤ 40 → J 0 45 = nI B → B ≤ 8 → (∀ I', (∀ a, a ≠ 49 → a ≠ 50 → a ≠ 51 → a ≠ 52 → a ≠ 53 → I' a = J a) → x_k X (.inl (some (.int (mvF J N B)))) TM I' L RM uc us) → V X TM J L RM uc us 5 [some (.ref 0), none, none] [] := by
    intro J hN hN4 hB hB8 hk
    have hpr := prM_01 J
    obtain ⟨li, hli⟩ : ∃ li : Nat → Bool, li = fun q => decide (¬ J 32 q < 0) := ⟨_, rfl⟩
    have hin : ∀ q, li q = true ↔ ¬ J 32 q < 0 := fun q => by rw [hli]; exact decide_eq_true_iff
    have hmv : mvF J N B = match mvs (okM J) (prM J) N B (J 48) li N with | none => -1 | some r => iN r.2.2 := by rw [hli]; rfl
    rw [hmv] at hk
    have count : ∀ (r : (Nat → Option Nat) × (Nat → Int32) × Int) (I1 : It), mvs (okM J) (prM J) N B (J 48) li N = some r → mvI (okM J) (prM J) N B li N r → (∀ a, a ≠ 49 → a ≠ 50 → a ≠ 51 → a ≠ 52 → a ≠ 53 → I1 a = J a) → (∀ q, q < N → I1 49 q = eN (r.1 q)) → ∀ (n m : Nat), m ≤ N → N + 1 ≤ m + n → V X TM I1 L RM uc us 90 [some (.ref 0), some (.int (iN (tc (prM J) r.1 m))), some (.int (nI m))] [] := by
      intro r I1 hr hI hM h49 n
      have h0 : ∀ j, I1 0 j = J 0 j := fun j => by rw [hM 0 (by decide) (by decide) (by decide) (by decide) (by decide)]
      have h32 : I1 32 = J 32 := hM 32 (by decide) (by decide) (by decide) (by decide) (by decide)
      induction n with
      | zero => intro m h1 h2; exact absurd h2 (by omega)
      | succ n ih =>
        intro m hm1 hm2
        refine V_iload_2 g eX4_moves_90 ?_
        refine V_aload_0 g eX4_moves_91 ?_
        refine V_getI g eX4_moves_92 flX4_258 rfl rfl ?_
        refine V_top (y := nI N) (by rw [h0]; exact hN) ?_
        refine V_icmp_ge g eX4_moves_95 (fun c_95 => ?_) (fun c_95 => ?_)
        · refine V_iload_1 g eX4_moves_136 ?_
          refine V_iret g eX4_moves_137 ?_
          have hmN : m = N := by have := nI_le' (a := N) (b := m) (by omega) (by omega) c_95; omega
          subst hmN
          have := hk I1 hM
          rw [hr] at this
          simp only at this
          rw [hI.2.1] at this
          exact this
        · have hmN := nI_nle' (a := N) (b := m) (by omega) (by omega) c_95
          have hrm := hI.2.2 m hmN
          have htc : tc (prM J) r.1 (m + 1) = tc (prM J) r.1 m + prO (prM J) m (r.1 m) := rfl
          refine V_iload_1 g eX4_moves_98 ?_
          refine V_aload_0 g eX4_moves_99 ?_
          refine V_getR g eX4_moves_100 flX4_108 rfl rfl rfl ?_
          refine V_iload_2 g eX4_moves_103 ?_
          refine V_ialdN g eX4_moves_104 rfl (by omega) (by decide) ?_
          refine V_top (y := J 32 m) (by rw [h32]) ?_
          refine V_if_lt g eX4_moves_105 (fun c_105 => ?_) (fun c_105 => ?_)
          · refine V_iconst (v := 0) g eX4_moves_127 (by decide) ?_
            refine V_iadd g eX4_moves_128 ?_
            refine V_istore_1 g eX4_moves_129 (by decide) rfl ?_
            refine V_iinc_2 (v := 1) g eX4_moves_130 (by decide) (by decide) rfl ?_
            refine V_goto g eX4_moves_133 ?_
            rw [nI_1]
            have hnone : r.1 m = none := by cases hh : r.1 m with | none => rfl | some b => exact absurd c_105 ((hin m).mp (hrm.mp (by rw [hh]; exact fun w => by cases w)).2)
            have := ih (m + 1) (by omega) (by omega)
            rw [htc, hnone] at this
            refine V_ls ?_ this
            show [_, some (Value.int (iN _ + 0)), _] = [_, some (Value.int (iN (_ + 0))), _]
            rw [Int32.add_zero, Int.add_zero]
          · obtain ⟨b, hb⟩ : ∃ b, r.1 m = some b := by cases hh : r.1 m with | some b => exact ⟨b, rfl⟩ | none => exact absurd hh (hrm.mpr ⟨hmN, (hin m).mpr c_105⟩)
            refine V_aload_0 g eX4_moves_108 ?_
            refine V_getR g eX4_moves_109 flX4_150 rfl rfl rfl ?_
            refine V_iload_2 g eX4_moves_112 ?_
            refine V_ialdN g eX4_moves_113 rfl (by omega) (by decide) ?_
            refine V_top (y := nI b) (by rw [h49 m hmN, hb]; rfl) ?_
            refine V_aload_0 g eX4_moves_114 ?_
            refine V_getR g eX4_moves_115 flX4_108 rfl rfl rfl ?_
            refine V_iload_2 g eX4_moves_118 ?_
            refine V_ialdN g eX4_moves_119 rfl (by omega) (by decide) ?_
            refine V_top (y := J 32 m) (by rw [h32]) ?_
            refine V_icmp_eq g eX4_moves_120 (fun c_120 => ?_) (fun c_120 => ?_)
            · refine V_iconst (v := 0) g eX4_moves_127 (by decide) ?_
              refine V_iadd g eX4_moves_128 ?_
              refine V_istore_1 g eX4_moves_129 (by decide) rfl ?_
              refine V_iinc_2 (v := 1) g eX4_moves_130 (by decide) (by decide) rfl ?_
              refine V_goto g eX4_moves_133 ?_
              rw [nI_1]
              have := ih (m + 1) (by omega) (by omega)
              rw [htc, hb] at this
              have e : prO (prM J) m (some b) = 0 := by show prM J m b = 0; unfold prM; rw [if_pos c_120.symm]
              rw [e] at this
              refine V_ls ?_ this
              rw [Int32.add_zero, Int.add_zero]
            · refine V_iconst (v := 1) g eX4_moves_123 (by decide) ?_
              refine V_goto g eX4_moves_124 ?_
              refine V_iadd g eX4_moves_128 ?_
              refine V_istore_1 g eX4_moves_129 (by decide) rfl ?_
              refine V_iinc_2 (v := 1) g eX4_moves_130 (by decide) (by decide) rfl ?_
              refine V_goto g eX4_moves_133 ?_
              rw [nI_1]
              have := ih (m + 1) (by omega) (by omega)
              rw [htc, hb] at this
              have e : prO (prM J) m (some b) = 1 := by show prM J m b = 1; unfold prM; rw [if_neg (fun w => c_120 w.symm)]
              rw [e] at this
              refine V_ls ?_ this
              rw [← iN_add]
              rfl
    have loop : ∀ (n m : Nat) (I1 : It) (r : (Nat → Option Nat) × (Nat → Int32) × Int), m ≤ N → N + 1 ≤ m + n → mvs (okM J) (prM J) N B (J 48) li m = some r → mvI (okM J) (prM J) N B li m r → (∀ a, a ≠ 49 → a ≠ 50 → a ≠ 51 → a ≠ 52 → a ≠ 53 → I1 a = J a) → (∀ q, q < N → I1 49 q = eN (r.1 q)) → (∀ b, b < B → I1 50 b = r.2.1 b) → V X TM I1 L RM uc us 55 [some (.ref 0), some (.int 0), some (.int (nI m))] [] := by
      intro n
      induction n with
      | zero => intro m I1 r h1 h2; exact absurd h2 (by omega)
      | succ n ih =>
        intro m I1 r hm1 hm2 hr hI hM h49 h50
        have h0 : ∀ j, I1 0 j = J 0 j := fun j => by rw [hM 0 (by decide) (by decide) (by decide) (by decide) (by decide)]
        have h32 : I1 32 = J 32 := hM 32 (by decide) (by decide) (by decide) (by decide) (by decide)
        have h48 : I1 48 = J 48 := hM 48 (by decide) (by decide) (by decide) (by decide) (by decide)
        have e1 : okM I1 = okM J := okM_cg (hM 46 (by decide) (by decide) (by decide) (by decide) (by decide)) (hM 47 (by decide) (by decide) (by decide) (by decide) (by decide)) (hM 31 (by decide) (by decide) (by decide) (by decide) (by decide))
        have e2 : prM I1 = prM J := prM_cg h32
        have hs : mvs (okM J) (prM J) N B (J 48) li (m + 1) = if li m = true then (match brg (okM J) (prM J) N B (J 48) r.1 r.2.1 m with | none => none | some r' => some (r'.1, r'.2.1, r.2.2 + r'.2.2)) else some r := by
          conv => lhs; unfold mvs
          rw [hr]
          rfl
        have nx : ∀ (I2 : It) (r2 : (Nat → Option Nat) × (Nat → Int32) × Int), m < N → mvs (okM J) (prM J) N B (J 48) li (m + 1) = some r2 → mvI (okM J) (prM J) N B li (m + 1) r2 → (∀ a, a ≠ 49 → a ≠ 50 → a ≠ 51 → a ≠ 52 → a ≠ 53 → I2 a = J a) → (∀ q, q < N → I2 49 q = eN (r2.1 q)) → (∀ b, b < B → I2 50 b = r2.2.1 b) → V X TM I2 L RM uc us 82 [some (.ref 0), some (.int 0), some (.int (nI m))] [] := by
          intro I2 r2 g0 g1 g2 g3 g4 g5
          refine V_iinc_2 (v := 1) g eX4_moves_82 (by decide) (by decide) rfl ?_
          refine V_goto g eX4_moves_85 ?_
          rw [nI_1]
          exact ih (m + 1) I2 r2 (by omega) (by omega) g1 g2 g3 g4 g5
        have bad : ∀ (I2 : It), mvs (okM J) (prM J) N B (J 48) li (m + 1) = none → m < N → (∀ a, a ≠ 49 → a ≠ 50 → a ≠ 51 → a ≠ 52 → a ≠ 53 → I2 a = J a) → V X TM I2 L RM uc us 77 [some (.ref 0), some (.int 0), some (.int (nI m))] [.int 0] := by
          intro I2 g1 g2 g3
          refine V_if_ne g eX4_moves_77 (fun c_77 => absurd c_77 (by decide)) (fun _ => ?_)
          refine V_iconst (v := (-1)) g eX4_moves_80 (by decide) ?_
          refine V_iret g eX4_moves_81 ?_
          have := hk I2 g3
          rw [mvs_none g1 N (by omega)] at this
          exact this
        refine V_iload_2 g eX4_moves_55 ?_
        refine V_aload_0 g eX4_moves_56 ?_
        refine V_getI g eX4_moves_57 flX4_258 rfl rfl ?_
        refine V_top (y := nI N) (by rw [h0]; exact hN) ?_
        refine V_icmp_ge g eX4_moves_60 (fun c_60 => ?_) (fun c_60 => ?_)
        · refine V_iconst (v := 0) g eX4_moves_88 (by decide) ?_
          refine V_istore_2 g eX4_moves_89 (by decide) rfl ?_
          have hmN : m = N := by have := nI_le' (a := N) (b := m) (by omega) (by omega) c_60; omega
          subst hmN
          exact count r I1 hr hI hM h49 (m + 1) 0 (by omega) (by omega)
        · have hmN := nI_nle' (a := N) (b := m) (by omega) (by omega) c_60
          refine V_aload_0 g eX4_moves_63 ?_
          refine V_getR g eX4_moves_64 flX4_108 rfl rfl rfl ?_
          refine V_iload_2 g eX4_moves_67 ?_
          refine V_ialdN g eX4_moves_68 rfl (by omega) (by decide) ?_
          refine V_top (y := J 32 m) (by rw [h32]) ?_
          refine V_if_lt g eX4_moves_69 (fun c_69 => ?_) (fun c_69 => ?_)
          · have hl : ¬ li m = true := fun w => (hin m).mp w c_69
            rw [if_neg hl] at hs
            exact nx I1 r hmN hs (mvI_skip hI hl) hM h49 h50
          · refine V_aload_0 g eX4_moves_72 ?_
            refine V_iload_2 g eX4_moves_73 ?_
            refine V_cv1 g (ctX4_comes _) eX4_moves_74 pkX4_324 rfl rfl (by decide) (by decide) (Nat.le_of_ble_eq_true rfl) ?_
            have hl : li m = true := (hin m).mpr c_69
            rw [if_pos hl] at hs
            refine ⟨m, N, B, r.1, r.2.1, rfl, rfl, rfl, by rw [h0]; exact hN, hN4, by rw [h0]; exact hB, hB8, hmN, h49, by rw [e1, e2]; exact hI.1, h50, fun hb I2 hI2 => ?_, fun r' hb I2 hI2 g49 g50 => ?_⟩
            · rw [e1, e2, h48] at hb
              rw [hb] at hs
              exact bad I2 hs hmN (fun a a0 a1 a2 a3 a4 => by rw [hI2 a a0 a1 a2 a3 a4]; exact hM a a0 a1 a2 a3 a4)
            rw [e1, e2, h48] at hb
            rw [hb] at hs
            refine V_if_ne g eX4_moves_77 (fun _ => ?_) (fun c_77 => absurd c_77 (by decide))
            exact nx I2 _ hmN hs (mvI_brg hpr hB8 hI hmN hl hb) (fun a a0 a1 a2 a3 a4 => by rw [hI2 a a0 a1 a2 a3 a4]; exact hM a a0 a1 a2 a3 a4) g49 g50
    have gos : ∀ (n m : Nat) (I1 : It), m ≤ N → N + 1 ≤ m + n → (∀ a, a ≠ 49 → a ≠ 50 → I1 a = J a) → (∀ q, q < m → I1 49 q = -1) → (∀ b, b < B → I1 50 b = 0) → V X TM I1 L RM uc us 30 [some (.ref 0), some (.int (nI m)), none] [] := by
      intro n
      induction n with
      | zero => intro m I1 h1 h2; exact absurd h2 (by omega)
      | succ n ih =>
        intro m I1 hm1 hm2 hM h49 h50
        have h0 : ∀ j, I1 0 j = J 0 j := fun j => by rw [hM 0 (by decide) (by decide)]
        refine V_iload_1 g eX4_moves_30 ?_
        refine V_aload_0 g eX4_moves_31 ?_
        refine V_getI g eX4_moves_32 flX4_258 rfl rfl ?_
        refine V_top (y := nI N) (by rw [h0]; exact hN) ?_
        refine V_icmp_ge g eX4_moves_35 (fun c_35 => ?_) (fun c_35 => ?_)
        · refine V_iconst (v := 0) g eX4_moves_51 (by decide) ?_
          refine V_istore_1 g eX4_moves_52 (by decide) rfl ?_
          refine V_iconst (v := 0) g eX4_moves_53 (by decide) ?_
          refine V_istore_2 g eX4_moves_54 (by decide) rfl ?_
          have hmN : m = N := by have := nI_le' (a := N) (b := m) (by omega) (by omega) c_35; omega
          subst hmN
          exact loop (m + 1) 0 I1 (fun _ => none, fun _ => 0, 0) (by omega) (by omega) rfl mvI_0 (fun a a0 a1 _ _ _ => hM a a0 a1) h49 h50
        · have hmN := nI_nle' (a := N) (b := m) (by omega) (by omega) c_35
          refine V_aload_0 g eX4_moves_38 ?_
          refine V_getR g eX4_moves_39 flX4_150 rfl rfl rfl ?_
          refine V_iload_1 g eX4_moves_42 ?_
          refine V_iconst (v := (-1)) g eX4_moves_43 (by decide) ?_
          refine V_iastN g eX4_moves_44 rfl (by omega) (by decide) ?_
          refine V_iinc_1 (v := 1) g eX4_moves_45 (by decide) (by decide) rfl ?_
          refine V_goto g eX4_moves_48 ?_
          rw [nI_1]
          refine ih (m + 1) _ (by omega) (by omega) (fun a a0 a1 => by rw [u2_o _ _ a0]; exact hM a a0 a1) (fun q hq => ?_) (fun b hb => by rw [u2_o _ _ (by decide)]; exact h50 b hb)
          by_cases e : q = m
          · rw [e, u2_s]
          · rw [u2_n _ _ (fun w => e w.2)]; exact h49 q (by omega)
    have mny : ∀ (n m : Nat) (I1 : It), m ≤ B → B + 1 ≤ m + n → (∀ a, a ≠ 50 → I1 a = J a) → (∀ b, b < m → I1 50 b = 0) → V X TM I1 L RM uc us 7 [some (.ref 0), some (.int (nI m)), none] [] := by
      intro n
      induction n with
      | zero => intro m I1 h1 h2; exact absurd h2 (by omega)
      | succ n ih =>
        intro m I1 hm1 hm2 hM h50
        have h0 : ∀ j, I1 0 j = J 0 j := fun j => by rw [hM 0 (by decide)]
        refine V_iload_1 g eX4_moves_7 ?_
        refine V_aload_0 g eX4_moves_8 ?_
        refine V_getI g eX4_moves_9 flX4_308 rfl rfl ?_
        refine V_top (y := nI B) (by rw [h0]; exact hB) ?_
        refine V_icmp_ge g eX4_moves_12 (fun c_12 => ?_) (fun c_12 => ?_)
        · refine V_iconst (v := 0) g eX4_moves_28 (by decide) ?_
          refine V_istore_1 g eX4_moves_29 (by decide) rfl ?_
          have hmB : m = B := by have := nI_le' (a := B) (b := m) (by omega) (by omega) c_12; omega
          subst hmB
          exact gos (N + 1) 0 I1 (by omega) (by omega) (fun a _ a1 => hM a a1) (fun q hq => absurd hq (by omega)) h50
        · have hmB := nI_nle' (a := B) (b := m) (by omega) (by omega) c_12
          refine V_aload_0 g eX4_moves_15 ?_
          refine V_getR g eX4_moves_16 flX4_153 rfl rfl rfl ?_
          refine V_iload_1 g eX4_moves_19 ?_
          refine V_iconst (v := 0) g eX4_moves_20 (by decide) ?_
          refine V_iastN g eX4_moves_21 rfl (by omega) (by decide) ?_
          refine V_iinc_1 (v := 1) g eX4_moves_22 (by decide) (by decide) rfl ?_
          refine V_goto g eX4_moves_25 ?_
          rw [nI_1]
          refine ih (m + 1) _ (by omega) (by omega) (fun a a0 => by rw [u2_o _ _ a0]; exact hM a a0) (fun q hq => ?_)
          by_cases e : q = m
          · rw [e, u2_s]
          · rw [u2_n _ _ (fun w => e w.2)]; exact h50 q (by omega)
    refine V_iconst (v := 0) g eX4_moves_5 (by decide) ?_
    refine V_istore_1 g eX4_moves_6 (by decide) rfl ?_
    exact mny (B + 1) 0 J (by omega) (by omega) (fun _ _ => rfl) (fun q hq => absurd hq (by omega))
  refine V_aload_0 g eX4_moves_0 ?_
  refine V_iconst (v := 0) g eX4_moves_1 (by decide) ?_
  refine V_putI g eX4_moves_2 pflX4_1 rfl rfl rfl rfl ?_
  obtain ⟨hN, hN4, hB, hB8, hk⟩ := hk
  exact main _ hN hN4 hB hB8 hk

