/-! BedBook's Reader: a part (printed out of tmpl/t_rd4.txt) -/
set_option maxRecDepth 100000
/-- reading an expression from mode 0 to mode m, within w; codes of depth d -/
abbrev spRd (ok : Wt → Prop) (m d w : Nat) : Sp := fun av T I L R uc us k => ∃ (rd tp n i : Nat) (t : Nat → Int32) (W : Wt) (r : List Wt) (cs : List Cd) (b : Bool) (ls : List (Bool × List Cd)), av = [.ref rd] ∧ RdS T I R rd tp n i w t ∧ ok W ∧ r.length = w ∧ w ≤ 5 ∧ rd < uc ∧ tp < uc ∧ uc + 7 * (602 - i) + 10 ≤ 600000 ∧ us + 42 * (602 - i) + 100 ≤ 7293034 ∧
  (∀ T' I' L' R' uc' us' i' x c, Rc (srt t n) (vl t n) (0, i, W :: r, cs, b, ls) (m, i', W :: r, cs ++ c, b, ls) → i < i' → RdS T' I' R' rd tp n i' w t → Kp uc (fun z => z = rd) T T' I I' L L' R R' → RE T' I' R' (Nw uc uc') d x c → uc ≤ uc' → uc' ≤ uc + 7 * (i' - i) → us ≤ us' → us' ≤ us + 42 * (i' - i) → k (.inl (some (.ref x))) T' I' L' R' uc' us') ∧
  (∀ T' I' L' R' uc' us' F x, Rc (srt t n) (vl t n) (0, i, W :: r, cs, b, ls) F → Kp uc (fun z => z = rd) T T' I I' L L' R R' → Flt T' I' t n F.1 F.2.1 x → uc ≤ uc' → uc' ≤ uc + 7 * (602 - i) + 1 → us ≤ us' → us' ≤ us + 42 * (602 - i) + 7 → k (.inr x) T' I' L' R' uc' us')
def dP (w : Nat) : Nat := 3 * (5 - w)
def lP (w : Nat) : Nat := 8 + 4 * (5 - w)
def CP (l : Launch) (w : Nat) : Prop := Ct l yX2_part (.code yX2_part cX2_part 3 (some (.object "BedBook$Exp"))) (lP w) (spRd (fun _ => True) 1 (dP w) w)
def CS (l : Launch) (w : Nat) : Prop := Ct l yX2_sum (.code yX2_sum cX2_sum 4 (some (.object "BedBook$Exp"))) (lP w + 1) (spRd (fun W => W.1 = 0) 2 (dP w + 1) w)
def CT (l : Launch) (w : Nat) : Prop := Ct l yX2_test (.code yX2_test cX2_test 3 (some (.object "BedBook$Exp"))) (lP w + 2) (spRd (fun W => W.1 = 0 ∧ W.2.1 = 0) 3 (dP w + 2) w)
def CE (l : Launch) (w : Nat) : Prop := Ct l yX2_e (.code yX2_e cX2_e 3 (some (.object "BedBook$Exp"))) (lP w + 3) (spRd (fun W => W = (0, 0, 0)) 4 (dP w + 3) w)
theorem Kp.al {uc : Nat} {P : Nat → Prop} {T : Tt} {I : It} {L : Lt} {R : Rt} {z : Nat × Nat} {f0 : Nat → Int32} {l0 : Nat → Int64} {r0 : Nat → Option Nat} {j : Nat} {v : Int32} : Kp uc P T (va_up T uc z) I (u2 (va_up I uc f0) uc j v) L (va_up L uc l0) R (va_up R uc r0) := ⟨fun x hx => ⟨va_up_ne _ _ (by omega), va_up_ne _ _ (by omega)⟩, fun x hx _ => ⟨by rw [u2_o _ _ (by omega), va_up_ne _ _ (by omega)], va_up_ne _ _ (by omega)⟩⟩
theorem RdS.wi {T : Tt} {I : It} {R : Rt} {rd tp n i w w' : Nat} {t : Nat → Int32} (h : RdS T I R rd tp n i w t) : RdS T (u2 I rd 6 (nI w')) R rd tp n i w' t := by
  have hne := h.1.ne
  obtain ⟨⟨a1, a2, a3, a4, a5⟩, b1, b2, b3, b4, b5, b6, b7, b8⟩ := h
  exact ⟨⟨a1, a2, a3, by rw [u2_n _ _ (by omega)]; exact a4, a5⟩, by rw [u2_o _ _ hne]; exact b1, b2, by rw [u2_n _ _ (by omega)]; exact b3, by rw [u2_n _ _ (by omega)]; exact b4, by rw [u2_n _ _ (by omega)]; exact b5, by rw [u2_n _ _ (by omega)]; exact b6, u2_s _ _ _ _, b8⟩
theorem Kp.rd {uc rd j : Nat} {v : Int32} {T : Tt} {I : It} {L : Lt} {R : Rt} : Kp uc (fun x => x = rd) T T I (u2 I rd j v) L L R R := ⟨fun _ _ => ⟨rfl, rfl⟩, fun x _ hx => ⟨u2_o _ _ hx, rfl⟩⟩
theorem Kp.tr {uc uc' : Nat} {P : Nat → Prop} {T T' T2 : Tt} {I I' I2 : It} {L L' L2 : Lt} {R R' R2 : Rt} (h : Kp uc P T T' I I' L L' R R') (h2 : Kp uc' P T' T2 I' I2 L' L2 R' R2) (hu : uc ≤ uc') : Kp uc P T T2 I I2 L L2 R R2 := h.trans h2 hu (fun _ _ z => z) (fun _ _ z => z)
theorem Kp.no {uc : Nat} {P : Nat → Prop} {T T' : Tt} {I I' : It} {L L' : Lt} {R R' : Rt} (h : Kp uc (fun _ => False) T T' I I' L L' R R') : Kp uc P T T' I I' L L' R R' := ⟨h.1, fun x hx _ => h.2 x hx id⟩
theorem pkX2_98 : PkV RX2 98 yX2_e (.code yX2_e cX2_e 3 (some (.object "BedBook$Exp"))) 3 "BedBook$Reader" 0 := ⟨cwd_c, (lk q854), Or.inl (lk q851), (lk q853), (lk qs17), ⟨⟨by decide, by decide⟩, by decide +kernel⟩, (lk q65), by decide⟩
theorem eX2_part_74 : dc cX2_part 74 (.aload_n 0) 1 75 := ⟨by decide +kernel, rfl⟩
theorem eX2_part_75 : dc cX2_part 75 (.invokevirtual 25) 3 78 := ⟨by decide +kernel, rfl⟩
theorem eX2_part_78 : dc cX2_part 78 (.iload_n 1) 1 79 := ⟨by decide +kernel, rfl⟩
theorem eX2_part_79 : dj cX2_part 79 (.ifCond .lt 12) 12 91 82 := ⟨by decide +kernel, by decide, rfl⟩
theorem eX2_part_91 : dc cX2_part 91 (.aload_n 0) 1 92 := ⟨by decide +kernel, rfl⟩
theorem eX2_part_92 : dc cX2_part 92 (.dup) 1 93 := ⟨by decide +kernel, rfl⟩
theorem eX2_part_93 : dc cX2_part 93 (.getfield 22) 3 96 := ⟨by decide +kernel, rfl⟩
theorem eX2_part_96 : dc cX2_part 96 (.iconst 1) 1 97 := ⟨by decide +kernel, rfl⟩
theorem eX2_part_97 : dc cX2_part 97 (.iadd) 1 98 := ⟨by decide +kernel, rfl⟩
theorem eX2_part_98 : dc cX2_part 98 (.putfield 22) 3 101 := ⟨by decide +kernel, rfl⟩
theorem eX2_part_101 : dc cX2_part 101 (.aload_n 0) 1 102 := ⟨by decide +kernel, rfl⟩
theorem eX2_part_102 : dc cX2_part 102 (.invokevirtual 98) 3 105 := ⟨by decide +kernel, rfl⟩
theorem eX2_part_105 : dc cX2_part 105 (.astore_n 2) 1 106 := ⟨by decide +kernel, rfl⟩
theorem eX2_part_106 : dc cX2_part 106 (.aload_n 0) 1 107 := ⟨by decide +kernel, rfl⟩
theorem eX2_part_107 : dc cX2_part 107 (.bipush 41) 2 109 := ⟨by decide +kernel, rfl⟩
theorem eX2_part_109 : dc cX2_part 109 (.invokevirtual 102) 3 112 := ⟨by decide +kernel, rfl⟩
theorem pkX2_102 : PkV RX2 102 yX2_need_2 (.code yX2_need_2 cX2_need_2 2 none) 2 "BedBook$Reader" 1 := ⟨cwd_c, (lk q898), Or.inl (lk q895), (lk q897), (lk qs22), ⟨⟨by decide, by decide⟩, by decide +kernel⟩, (lk q65), by decide⟩
theorem eX2_part_112 : dc cX2_part 112 (.aload_n 0) 1 113 := ⟨by decide +kernel, rfl⟩
theorem eX2_part_113 : dc cX2_part 113 (.dup) 1 114 := ⟨by decide +kernel, rfl⟩
theorem eX2_part_114 : dc cX2_part 114 (.getfield 22) 3 117 := ⟨by decide +kernel, rfl⟩
theorem eX2_part_117 : dc cX2_part 117 (.iconst 1) 1 118 := ⟨by decide +kernel, rfl⟩
theorem eX2_part_118 : dc cX2_part 118 (.isub) 1 119 := ⟨by decide +kernel, rfl⟩
theorem eX2_part_119 : dc cX2_part 119 (.putfield 22) 3 122 := ⟨by decide +kernel, rfl⟩
theorem eX2_part_122 : dc cX2_part 122 (.aload_n 2) 1 123 := ⟨by decide +kernel, rfl⟩
theorem eX2_part_123 : dc cX2_part 123 (.areturn) 1 124 := ⟨by decide +kernel, rfl⟩
theorem eX2_part_82 : dc cX2_part 82 (.new 139) 3 85 := ⟨by decide +kernel, rfl⟩
theorem eX2_part_85 : dc cX2_part 85 (.dup) 1 86 := ⟨by decide +kernel, rfl⟩
theorem eX2_part_86 : dc cX2_part 86 (.iload_n 1) 1 87 := ⟨by decide +kernel, rfl⟩
theorem eX2_part_87 : dc cX2_part 87 (.invokespecial 141) 3 90 := ⟨by decide +kernel, rfl⟩
theorem pkX2_141 : PkI RX2 141 yX15_init cX15_init 2 1 := ⟨(lk q889), Or.inl (lk q887), (lk q888), rfl, ⟨⟨by decide, by decide⟩, by decide +kernel⟩, (lk q92), by decide⟩
theorem eX2_part_90 : dc cX2_part 90 (.areturn) 1 91 := ⟨by decide +kernel, rfl⟩
theorem eX2_part_34 : dc cX2_part 34 (.aload_n 0) 1 35 := ⟨by decide +kernel, rfl⟩
theorem eX2_part_35 : dc cX2_part 35 (.getfield 22) 3 38 := ⟨by decide +kernel, rfl⟩
theorem eX2_part_38 : dc cX2_part 38 (.iconst 5) 1 39 := ⟨by decide +kernel, rfl⟩
theorem eX2_part_39 : dj cX2_part 39 (.if_icmp .ne 9) 9 48 42 := ⟨by decide +kernel, by decide, rfl⟩
theorem eX2_part_48 : dc cX2_part 48 (.aload_n 0) 1 49 := ⟨by decide +kernel, rfl⟩
theorem eX2_part_49 : dc cX2_part 49 (.getfield 31) 3 52 := ⟨by decide +kernel, rfl⟩
theorem eX2_part_52 : dc cX2_part 52 (.iconst 2) 1 53 := ⟨by decide +kernel, rfl⟩
theorem eX2_part_53 : dj cX2_part 53 (.if_icmp .ne 21) 21 74 56 := ⟨by decide +kernel, by decide, rfl⟩
theorem eX2_part_56 : dc cX2_part 56 (.aload_n 0) 1 57 := ⟨by decide +kernel, rfl⟩
theorem eX2_part_57 : dc cX2_part 57 (.getfield 45) 3 60 := ⟨by decide +kernel, rfl⟩
theorem eX2_part_60 : dc cX2_part 60 (.istore_n 2) 1 61 := ⟨by decide +kernel, rfl⟩
theorem eX2_part_61 : dc cX2_part 61 (.aload_n 0) 1 62 := ⟨by decide +kernel, rfl⟩
theorem eX2_part_62 : dc cX2_part 62 (.invokevirtual 25) 3 65 := ⟨by decide +kernel, rfl⟩
theorem eX2_part_65 : dc cX2_part 65 (.new 136) 3 68 := ⟨by decide +kernel, rfl⟩
theorem eX2_part_68 : dc cX2_part 68 (.dup) 1 69 := ⟨by decide +kernel, rfl⟩
theorem eX2_part_69 : dc cX2_part 69 (.iload_n 2) 1 70 := ⟨by decide +kernel, rfl⟩
theorem eX2_part_70 : dc cX2_part 70 (.invokespecial 138) 3 73 := ⟨by decide +kernel, rfl⟩
theorem pkX2_138 : PkI RX2 138 yX14_init cX14_init 2 1 := ⟨(lk q876), Or.inl (lk q874), (lk q875), rfl, ⟨⟨by decide, by decide⟩, by decide +kernel⟩, (lk q91), by decide⟩
theorem eX2_part_73 : dc cX2_part 73 (.areturn) 1 74 := ⟨by decide +kernel, rfl⟩
theorem eX2_part_42 : dc cX2_part 42 (.aload_n 0) 1 43 := ⟨by decide +kernel, rfl⟩
theorem eX2_part_43 : dc cX2_part 43 (.iconst 5) 1 44 := ⟨by decide +kernel, rfl⟩
theorem eX2_part_44 : dc cX2_part 44 (.invokevirtual 75) 3 47 := ⟨by decide +kernel, rfl⟩
theorem eX2_part_47 : dc cX2_part 47 (.athrow) 1 48 := ⟨by decide +kernel, rfl⟩
theorem eX2_part_0 : dc cX2_part 0 (.aload_n 0) 1 1 := ⟨by decide +kernel, rfl⟩
theorem eX2_part_1 : dc cX2_part 1 (.ldc 134) 2 3 := ⟨by decide +kernel, rfl⟩
theorem eX2_part_3 : dc cX2_part 3 (.invokevirtual 71) 3 6 := ⟨by decide +kernel, rfl⟩
theorem eX2_part_6 : dc cX2_part 6 (.istore_n 1) 1 7 := ⟨by decide +kernel, rfl⟩
theorem eX2_part_7 : dc cX2_part 7 (.iload_n 1) 1 8 := ⟨by decide +kernel, rfl⟩
theorem eX2_part_8 : dj cX2_part 8 (.ifCond .ge 26) 26 34 11 := ⟨by decide +kernel, by decide, rfl⟩
theorem eX2_part_11 : dc cX2_part 11 (.aload_n 0) 1 12 := ⟨by decide +kernel, rfl⟩
theorem eX2_part_12 : dc cX2_part 12 (.getfield 31) 3 15 := ⟨by decide +kernel, rfl⟩
theorem eX2_part_15 : dc cX2_part 15 (.iconst 2) 1 16 := ⟨by decide +kernel, rfl⟩
theorem eX2_part_16 : dj cX2_part 16 (.if_icmp .eq 18) 18 34 19 := ⟨by decide +kernel, by decide, rfl⟩
theorem eX2_part_19 : dc cX2_part 19 (.aload_n 0) 1 20 := ⟨by decide +kernel, rfl⟩
theorem eX2_part_20 : dc cX2_part 20 (.bipush 40) 2 22 := ⟨by decide +kernel, rfl⟩
theorem eX2_part_22 : dc cX2_part 22 (.invokevirtual 79) 3 25 := ⟨by decide +kernel, rfl⟩
theorem eX2_part_25 : dj cX2_part 25 (.ifCond .ne 9) 9 34 28 := ⟨by decide +kernel, by decide, rfl⟩
theorem eX2_part_28 : dc cX2_part 28 (.aload_n 0) 1 29 := ⟨by decide +kernel, rfl⟩
theorem eX2_part_29 : dc cX2_part 29 (.iconst 1) 1 30 := ⟨by decide +kernel, rfl⟩
theorem eX2_part_30 : dc cX2_part 30 (.invokevirtual 75) 3 33 := ⟨by decide +kernel, rfl⟩
theorem eX2_part_33 : dc cX2_part 33 (.athrow) 1 34 := ⟨by decide +kernel, rfl⟩
set_option maxHeartbeats 8000000 in
theorem ctX2_partA (l : Launch) (w : Nat) (hE : w < 5 → CE l (w + 1)) : CP l w := by
  refine Ct.of (own := RX2) (nm := "part") (by decide) rfl rfl ?_
  rintro X av T I L R uc us hl g hN hu hz ⟨rd, tp, n, i, t, W, r, cs, b, ls, rfl, hS, -, hr, hw, brd, btp, huc, hus, hk, hf⟩
  subst hl
  refine VE.go (ls := [some (.ref rd), none, none]) g hu hz (fun _ => rfl) (fun _ => Nat.le_of_ble_eq_true rfl) ?_
  have hT := hS.1.1
  have hlev : 8 ≤ lP w := by unfold lP; omega
  have hi6 := hS.le
  have hsk : I rd 3 = nI (srt t n i) := hS.2.2.2.2.1
  have hsw : I rd 6 = nI w := hS.2.2.2.2.2.2.2.1
  have hpl : I rd 4 = nI (plc t n i) := hS.2.2.2.2.2.1
  have h2 : srt t n i = 2 → ¬ tS (srt t n) (vl t n) i 40 ∧ ¬ aw (srt t n) (vl t n) i < 7 := by
    intro h
    refine ⟨fun z => absurd (z.1.symm.trans h) (by decide), ?_⟩
    rw [aw_7 _ _ _ (by rw [h]; decide)]
    omega
  have hawS : aw (srt t n) (vl t n) i < 7 → srt t n i = 1 := by
    intro h
    rcases Classical.em (srt t n i = 1) with z | z
    · exact z
    · rw [aw_7 _ _ _ z] at h; omega
  have t74 : w < 5 → ¬ srt t n i = 2 → ¬ (¬ srt t n i = 2 ∧ ¬ tS (srt t n) (vl t n) i 40 ∧ ¬ aw (srt t n) (vl t n) i < 7) → (∀ s', stp (srt t n) (vl t n) (0, i, W :: r, cs, b, ls) = s' ↔ (if tS (srt t n) (vl t n) i 40 then (0, i + 1, (0, 0, 0) :: W :: r, cs, b, ls) else if aw (srt t n) (vl t n) i < 7 then (1, i + 1, W :: r, cs ++ [(2, nI (aw (srt t n) (vl t n) i))], b, ls) else (1, i + 1, W :: r, cs ++ [(1, (vl t n i).toInt32)], b, ls)) = s') → V X T I L R uc us 74 [some (.ref rd), some (.int (whS (srt t n) (vl t n) i 3)), none] [] := by
    intro hw5 hs2 hok hstp
    have h0 : ¬ srt t n i = 0 := by
      intro h0
      refine hok ⟨hs2, fun z => absurd (h0.symm.trans z.1) (by decide), fun z => absurd (h0.symm.trans (hawS z)) (by decide)⟩
    refine V_aload_0 g eX2_part_74 ?_
    refine V_cv0 g (ctX2_next _) eX2_part_75 pkX2_25 hT rfl (by decide) (by omega) (Nat.le_of_ble_eq_true rfl) ?_
    refine spNext_of hS h0 (fun I1 s1 s2 => ?_)
    refine V_iload_1 g eX2_part_78 ?_
    refine V_if_lt g eX2_part_79 (fun c_79 => ?_) (fun c_79 => ?_)
    · have z2 : ¬ aw (srt t n) (vl t n) i < 7 := (whS_3 _ _ _).mp c_79
      have z1 : tS (srt t n) (vl t n) i 40 := Classical.not_not.mp fun z => hok ⟨hs2, z, z2⟩
      refine V_aload_0 g eX2_part_91 ?_
      refine V_dup g eX2_part_92 rfl ?_
      refine V_getI g eX2_part_93 flX2_22 hT rfl ?_
      refine V_top (y := nI w) s1.2.2.2.2.2.2.2.1 ?_
      refine V_iconst (v := 1) g eX2_part_96 (by decide) ?_
      refine V_iadd g eX2_part_97 ?_
      rw [nI_1]
      refine V_putI g eX2_part_98 pflX2_22 hT rfl rfl rfl ?_
      refine V_aload_0 g eX2_part_101 ?_
      refine V_cv0 g (hE hw5) eX2_part_102 pkX2_98 hT rfl (by decide) (by unfold lP; omega) (Nat.le_of_ble_eq_true rfl) ?_
      refine ⟨rd, tp, n, i + 1, t, (0, 0, 0), W :: r, cs, b, ls, rfl, s1.wi, rfl, by rw [List.length_cons, hr], by omega, brd, btp, by omega, by omega, fun T' I' L' R' uc' us' i' x c q1 q2 q3 q4 q5 q6 q7 q8 q9 => ?_, fun T' I' L' R' uc' us' F x q1 q2 q3 q4 q5 q6 q7 => ?_⟩
      rotate_left
      · exact VT_out g hN (hf _ _ _ _ _ _ F x (Rc.step ((hstp _).mpr (if_pos z1)) q1) (Kp.tr (Kp.tr (s2.kp uc T L R) Kp.rd (Nat.le_refl _)) q2 (Nat.le_refl _)) q3 q4 (by omega) q6 (by omega))
      have hi7 := q3.le
      have hT' : (T' rd).1 = 1 := q3.1.1
      refine V_astore_2 g eX2_part_105 (by decide) rfl ?_
      refine V_aload_0 g eX2_part_106 ?_
      refine V_bipush (v := nI 41) g eX2_part_107 (by decide) ?_
      refine V_cv1 g (ctX2_need_2 _) eX2_part_109 pkX2_102 hT' rfl (by decide) (by omega) (Nat.le_of_ble_eq_true rfl) ?_
      refine ⟨rd, tp, n, i', w + 1, 41, t, rfl, q3, by omega, by omega, fun hs I2 p1 p2 => ?_, fun hs T2 I2 L2 R2 p1 p2 => ?_⟩
      rotate_left
      · exact VT_out g hN (hf _ _ _ _ _ _ (11, i', W :: r, cs ++ c, b, ls) _ (Rc.step ((hstp _).mpr (if_pos z1)) (q1.trans (Rc.one (if_neg hs)))) (Kp.tr (Kp.tr (Kp.tr (s2.kp uc T L R) Kp.rd (Nat.le_refl _)) q4 (Nat.le_refl _)) p1.no q6) p2 (by omega) (by omega) (by omega) (by omega))
      refine V_aload_0 g eX2_part_112 ?_
      refine V_dup g eX2_part_113 rfl ?_
      refine V_getI g eX2_part_114 flX2_22 hT' rfl ?_
      refine V_top (y := nI (w + 1)) p1.2.2.2.2.2.2.2.1 ?_
      refine V_iconst (v := 1) g eX2_part_117 (by decide) ?_
      refine V_isub g eX2_part_118 ?_
      refine V_top (y := nI w) ((pk_sub (a := w + 1) (b := 1) (by omega)).trans (by rw [Nat.add_sub_cancel])) ?_
      refine V_putI g eX2_part_119 pflX2_22 hT' rfl rfl rfl ?_
      refine V_aload_2 g eX2_part_122 ?_
      refine V_aret g eX2_part_123 (Or.inl ⟨_, rfl⟩) (Or.inr ⟨_, rfl⟩) ?_
      have ed : dP w = dP (w + 1) + 3 := by unfold dP; omega
      rw [ed] at hk
      refine hk _ _ _ _ _ _ (i' + 1) x c (Rc.step ((hstp _).mpr (if_pos z1)) (q1.trans (Rc.one (if_pos hs)))) (by omega) p1.wi (Kp.tr (Kp.tr (Kp.tr (Kp.tr (s2.kp uc T L R) Kp.rd (Nat.le_refl _)) q4 (Nat.le_refl _)) (p2.kp uc T' L' R') (Nat.le_refl _)) Kp.rd (Nat.le_refl _)) (q5.kp (Kp.tr (p2.kp uc' T' L' R') Kp.rd (Nat.le_refl _)) (fun z hz => by rw [hz]; exact brd) (Nat.le_refl _)) q6 (by omega) q8 (by omega)
    · have haw : aw (srt t n) (vl t n) i < 7 := Classical.not_not.mp fun q => c_79 ((whS_3 _ _ _).mpr q)
      have z1 : ¬ tS (srt t n) (vl t n) i 40 := fun z => absurd ((hawS haw).symm.trans z.1) (by decide)
      have ewh : whS (srt t n) (vl t n) i 3 = nI (aw (srt t n) (vl t n) i) := by show (if aw (srt t n) (vl t n) i < 7 then _ else _) = _; rw [if_pos haw]
      refine V_new (tg := 11) g eX2_part_82 rfl (by decide) (lk q885) (by omega) (by omega) (fun hd_82 => ?_)
      refine V_dup g eX2_part_85 rfl ?_
      refine V_iload_1 g eX2_part_86 ?_
      refine V_ci1 g (ctX15_init _) eX2_part_87 pkX2_141 (by omega) (Nat.le_of_ble_eq_true rfl) ?_
      refine ⟨uc, _, rfl, by rw [va_up_self], ?_⟩
      refine V_aret g eX2_part_90 (Or.inl ⟨_, rfl⟩) (Or.inr ⟨_, rfl⟩) ?_
      refine hk _ _ _ _ _ _ (i + 1) uc [(2, nI (aw (srt t n) (vl t n) i))] (Rc.one ((hstp _).mpr (by rw [if_neg z1, if_pos haw]))) (by omega) (s1.kp (uc := uc) (P := fun _ => False) (L := L) (Kp.al (l0 := fun _ => 0)) brd btp id id) (Kp.tr (s2.kp uc T L R) Kp.al (Nat.le_refl _)) (RE.of ⟨⟨Nat.le_refl _, by omega⟩, Or.inr ⟨by rw [va_up_self], _, haw, by rw [u2_s]; exact ewh, rfl⟩⟩) (by omega) (by omega) (by omega) (by omega)
  have t34 : ¬ (¬ srt t n i = 2 ∧ ¬ tS (srt t n) (vl t n) i 40 ∧ ¬ aw (srt t n) (vl t n) i < 7) → V X T I L R uc us 34 [some (.ref rd), some (.int (whS (srt t n) (vl t n) i 3)), none] [] := by
    intro hok
    refine V_aload_0 g eX2_part_34 ?_
    refine V_getI g eX2_part_35 flX2_22 hT rfl ?_
    rw [hsw]
    refine V_iconst (v := 5) g eX2_part_38 (by decide) ?_
    refine V_icmp_ne g eX2_part_39 (fun c_39 => ?_) (fun c_39 => ?_)
    · have hw5 : w < 5 := by have : w ≠ 5 := fun q => c_39 (by rw [q]; rfl); omega
      have hstp : ∀ s', stp (srt t n) (vl t n) (0, i, W :: r, cs, b, ls) = s' ↔ (if tS (srt t n) (vl t n) i 40 then (0, i + 1, (0, 0, 0) :: W :: r, cs, b, ls) else if aw (srt t n) (vl t n) i < 7 then (1, i + 1, W :: r, cs ++ [(2, nI (aw (srt t n) (vl t n) i))], b, ls) else (1, i + 1, W :: r, cs ++ [(1, (vl t n i).toInt32)], b, ls)) = s' := by
        intro s'
        show (if _ then _ else if (W :: r).length = 6 then _ else _) = _ ↔ _
        rw [if_neg hok, if_neg (by rw [List.length_cons, hr]; omega)]
      refine V_aload_0 g eX2_part_48 ?_
      refine V_getI g eX2_part_49 flX2_31 hT rfl ?_
      rw [hsk]
      refine V_iconst (v := 2) g eX2_part_52 (by decide) ?_
      refine V_icmp_ne g eX2_part_53 (fun c_53 => ?_) (fun c_53 => ?_)
      · exact t74 hw5 (fun q => c_53 (by rw [q]; rfl)) hok hstp
      · have hs2 : srt t n i = 2 := (nI_k (x := 2) srt_lt (c := 2) (by decide) rfl).mp c_53
        obtain ⟨z1, z2⟩ := h2 hs2
        refine V_aload_0 g eX2_part_56 ?_
        refine V_getI g eX2_part_57 flX2_45 hT rfl ?_
        rw [hS.2.2.2.2.2.2.1 hs2]
        refine V_istore_2 g eX2_part_60 (by decide) rfl ?_
        refine V_aload_0 g eX2_part_61 ?_
        refine V_cv0 g (ctX2_next _) eX2_part_62 pkX2_25 hT rfl (by decide) (by omega) (Nat.le_of_ble_eq_true rfl) ?_
        refine spNext_of hS (by rw [hs2]; decide) (fun I1 s1 s2 => ?_)
        refine V_new (tg := 10) g eX2_part_65 rfl (by decide) (lk q872) (by omega) (by omega) (fun hd_65 => ?_)
        refine V_dup g eX2_part_68 rfl ?_
        refine V_iload_2 g eX2_part_69 ?_
        refine V_ci1 g (ctX14_init _) eX2_part_70 pkX2_138 (by omega) (Nat.le_of_ble_eq_true rfl) ?_
        refine ⟨uc, _, rfl, by rw [va_up_self], ?_⟩
        refine V_aret g eX2_part_73 (Or.inl ⟨_, rfl⟩) (Or.inr ⟨_, rfl⟩) ?_
        refine hk _ _ _ _ _ _ (i + 1) uc [(1, (vl t n i).toInt32)] (Rc.one ((hstp _).mpr (by rw [if_neg z1, if_neg z2]))) (by omega) (s1.kp (uc := uc) (P := fun _ => False) (L := L) (Kp.al (l0 := fun _ => 0)) brd btp id id) (Kp.trans (S := fun z => z = rd) (s2.kp uc T L R) Kp.al (Nat.le_refl _) (fun _ _ z => z) (fun _ _ z => z)) (RE.of ⟨⟨Nat.le_refl _, by omega⟩, Or.inl ⟨by rw [va_up_self], by rw [u2_s]⟩⟩) (by omega) (by omega) (by omega) (by omega)
    · refine V_aload_0 g eX2_part_42 ?_
      refine V_iconst (v := nI 5) g eX2_part_43 (by decide) ?_
      refine V_cv1 g (ctX2_wrong _) eX2_part_44 pkX2_75 hT rfl (by decide) (by omega) (Nat.le_of_ble_eq_true rfl) ?_
      refine ⟨rd, 5, _, rfl, hT, hpl, by omega, by omega, fun T' I' L' R' h1 h2 h3 => ?_⟩
      refine V_athrow g hN eX2_part_47 ?_
      obtain rfl : w = 5 := nI_eq' (by omega) (by decide) c_39
      refine hf _ _ _ _ _ _ (15, i, W :: r, cs, b, ls) uc (Rc.one ?_) (Kp.one h1 _) ⟨Or.inr rfl, h2, h3⟩ (by omega) (by omega) (by omega) (by omega)
      show (if _ then _ else if (W :: r).length = 6 then _ else _) = _
      rw [if_neg hok, if_pos (by rw [List.length_cons, hr])]
  refine V_aload_0 g eX2_part_0 ?_
  refine V_ldcS (i := 3) g eX2_part_1 (by decide) rfl ?_
  refine V_cv1 g (ctX2_which _) eX2_part_3 pkX2_71 hT rfl (by decide) (by omega) (Nat.le_of_ble_eq_true rfl) ?_
  refine spWhich_of hS 3 (by decide) (by decide) ?_
  refine V_istore_1 g eX2_part_6 (by decide) rfl ?_
  refine V_iload_1 g eX2_part_7 ?_
  refine V_if_ge g eX2_part_8 (fun c_8 => ?_) (fun c_8 => ?_)
  · exact t34 fun z => z.2.2 (Classical.not_not.mp fun q => absurd ((whS_3 _ _ _).mpr q) (Int32.not_lt.mpr c_8))
  · refine V_aload_0 g eX2_part_11 ?_
    refine V_getI g eX2_part_12 flX2_31 hT rfl ?_
    rw [hsk]
    refine V_iconst (v := 2) g eX2_part_15 (by decide) ?_
    refine V_icmp_eq g eX2_part_16 (fun c_16 => ?_) (fun c_16 => ?_)
    · exact t34 fun z => z.1 ((nI_k (x := 2) srt_lt (c := 2) (by decide) rfl).mp c_16)
    · refine V_aload_0 g eX2_part_19 ?_
      refine V_bipush (v := nI 40) g eX2_part_20 (by decide) ?_
      refine V_cv1 g (ctX2_isSign _) eX2_part_22 pkX2_79 hT rfl (by decide) (by omega) (Nat.le_of_ble_eq_true rfl) ?_
      refine spSign_of hS 40 ?_
      refine V_if_neB g eX2_part_25 (fun c_25 => ?_) (fun c_25 => ?_)
      · exact t34 fun z => z.2.1 c_25
      · refine V_aload_0 g eX2_part_28 ?_
        refine V_iconst (v := nI 1) g eX2_part_29 (by decide) ?_
        refine V_cv1 g (ctX2_wrong _) eX2_part_30 pkX2_75 hT rfl (by decide) (by omega) (Nat.le_of_ble_eq_true rfl) ?_
        refine ⟨rd, 1, _, rfl, hT, hpl, by omega, by omega, fun T' I' L' R' h1 h2 h3 => ?_⟩
        refine V_athrow g hN eX2_part_33 ?_
        refine hf _ _ _ _ _ _ (11, i, W :: r, cs, b, ls) uc (Rc.one ?_) (Kp.one h1 _) ⟨Or.inl rfl, h2, h3⟩ (by omega) (by omega) (by omega) (by omega)
        show (if _ then _ else _) = _
        rw [if_pos ⟨fun q => c_16 (by rw [q]; rfl), c_25, (whS_3 _ _ _).mp (Int32.not_le.mp c_8)⟩]

