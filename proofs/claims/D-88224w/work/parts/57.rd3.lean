/-! BedBook's Reader: what it needs (printed out of tmpl/t_rd3.txt) -/
set_option maxRecDepth 100000
theorem Kp.one {uc : Nat} {T T' : Tt} {I I' : It} {L L' : Lt} {R R' : Rt} (h : ∀ x, x ≠ uc → T' x = T x ∧ I' x = I x ∧ L' x = L x ∧ R' x = R x) (P : Nat → Prop) : Kp uc P T T' I I' L L' R R' := ⟨fun x hx => ⟨(h x (by omega)).1, (h x (by omega)).2.2.1⟩, fun x hx _ => ⟨(h x (by omega)).2.1, (h x (by omega)).2.2.2⟩⟩
abbrev spX2_need : Sp := fun av T I L R uc us k => ∃ (rd tp n i w : Nat) (t : Nat → Int32), av = [.ref rd, .ref (sK 2)] ∧ RdS T I R rd tp n i w t ∧ uc + 1 ≤ 600000 ∧ us + 7 ≤ 7293034 ∧ (tW (srt t n) (vl t n) i 2 → ∀ I', RdS T I' R rd tp n (i + 1) w t → rdK I I' rd → k (.inl none) T I' L R uc us) ∧ (¬ tW (srt t n) (vl t n) i 2 → ∀ T' I' L' R', Kp uc (fun _ => False) T T' I I' L L' R R' → Flt T' I' t n 11 i uc → k (.inr uc) T' I' L' R' (uc + 1) (us + 7))
theorem eX2_need_0 : dc cX2_need 0 (.aload_n 0) 1 1 := ⟨by decide +kernel, rfl⟩
theorem eX2_need_1 : dc cX2_need 1 (.aload_n 1) 1 2 := ⟨by decide +kernel, rfl⟩
theorem eX2_need_2 : dc cX2_need 2 (.invokevirtual 71) 3 5 := ⟨by decide +kernel, rfl⟩
theorem pkX2_71 : PkV RX2 71 yX2_which (.code yX2_which cX2_which 7 (some .int)) 7 "BedBook$Reader" 1 := ⟨cwd_c, (lk q751), Or.inl (lk q748), (lk q750), (lk qs13), ⟨⟨by decide, by decide⟩, by decide +kernel⟩, (lk q65), by decide⟩
theorem eX2_need_5 : dj cX2_need 5 (.ifCond .ge 9) 9 14 8 := ⟨by decide +kernel, by decide, rfl⟩
theorem eX2_need_14 : dc cX2_need 14 (.aload_n 0) 1 15 := ⟨by decide +kernel, rfl⟩
theorem eX2_need_15 : dc cX2_need 15 (.invokevirtual 25) 3 18 := ⟨by decide +kernel, rfl⟩
theorem pkX2_25 : PkV RX2 25 yX2_next (.code yX2_next cX2_next 1 none) 1 "BedBook$Reader" 0 := ⟨cwd_c, (lk q647), Or.inl (lk q644), (lk q646), (lk qs11), ⟨⟨by decide, by decide⟩, by decide +kernel⟩, (lk q65), by decide⟩
theorem eX2_need_18 : dc cX2_need 18 (.return_) 1 19 := ⟨by decide +kernel, rfl⟩
theorem eX2_need_8 : dc cX2_need 8 (.aload_n 0) 1 9 := ⟨by decide +kernel, rfl⟩
theorem eX2_need_9 : dc cX2_need 9 (.iconst 1) 1 10 := ⟨by decide +kernel, rfl⟩
theorem eX2_need_10 : dc cX2_need 10 (.invokevirtual 75) 3 13 := ⟨by decide +kernel, rfl⟩
theorem pkX2_75 : PkV RX2 75 yX2_wrong (.code yX2_wrong cX2_wrong 2 (some (.object "BedBook$Wrong"))) 2 "BedBook$Reader" 1 := ⟨cwd_c, (lk q775), Or.inl (lk q772), (lk q774), (lk qs14), ⟨⟨by decide, by decide⟩, by decide +kernel⟩, (lk q65), by decide⟩
theorem eX2_need_13 : dc cX2_need 13 (.athrow) 1 14 := ⟨by decide +kernel, rfl⟩
set_option maxHeartbeats 8000000 in
theorem ctX2_need (l : Launch) : Ct l yX2_need (.code yX2_need cX2_need 2 none) 7 spX2_need := by
  refine Ct.of (own := RX2) (nm := "need") (by decide) rfl rfl ?_
  rintro X av T I L R uc us rfl g hN hu hz ⟨rd, tp, n, i, w, t, rfl, hS, huc, hus, hk1, hk2⟩
  refine VE.go (ls := [some (.ref rd), some (.ref (sK 2))]) g hu hz (fun _ => rfl) (fun _ => Nat.le_of_ble_eq_true rfl) ?_
  have hT := hS.1.1
  refine V_aload_0 g eX2_need_0 ?_
  refine V_aload_1 g eX2_need_1 ?_
  refine V_cv1 g (ctX2_which _) eX2_need_2 pkX2_71 hT rfl (by decide) (by decide) (Nat.le_of_ble_eq_true rfl) ?_
  refine spWhich_of hS 2 (by decide) (by decide) ?_
  refine V_if_ge g eX2_need_5 (fun c_5 => ?_) (fun c_5 => ?_)
  · refine V_aload_0 g eX2_need_14 ?_
    refine V_cv0 g (ctX2_next _) eX2_need_15 pkX2_25 hT rfl (by decide) (by decide) (Nat.le_of_ble_eq_true rfl) ?_
    have hw : tW (srt t n) (vl t n) i 2 := Classical.not_not.mp fun z => absurd ((whS_2 _ _ _).mpr z) (Int32.not_lt.mpr c_5)
    refine spNext_of hS (by rw [hw.1]; decide) (fun I' h1 h2 => ?_)
    refine V_vret g eX2_need_18 ?_
    exact hk1 hw I' h1 h2
  · refine V_aload_0 g eX2_need_8 ?_
    refine V_iconst (v := nI 1) g eX2_need_9 (by decide) ?_
    refine V_cv1 g (ctX2_wrong _) eX2_need_10 pkX2_75 hT rfl (by decide) (by decide) (Nat.le_of_ble_eq_true rfl) ?_
    refine ⟨rd, 1, _, rfl, hT, hS.2.2.2.2.2.1, huc, hus, fun T' I' L' R' h1 h2 h3 => ?_⟩
    refine V_athrow g hN eX2_need_13 ?_
    exact hk2 ((whS_2 _ _ _).mp (Int32.not_le.mp c_5)) _ _ _ _ (Kp.one h1 _) ⟨Or.inl rfl, h2, h3⟩
abbrev spX2_need_2 : Sp := fun av T I L R uc us k => ∃ (rd tp n i w q : Nat) (t : Nat → Int32), av = [.ref rd, .int (nI q)] ∧ RdS T I R rd tp n i w t ∧ uc + 1 ≤ 600000 ∧ us + 7 ≤ 7293034 ∧ (tS (srt t n) (vl t n) i (nI q) → ∀ I', RdS T I' R rd tp n (i + 1) w t → rdK I I' rd → k (.inl none) T I' L R uc us) ∧ (¬ tS (srt t n) (vl t n) i (nI q) → ∀ T' I' L' R', Kp uc (fun _ => False) T T' I I' L L' R R' → Flt T' I' t n 11 i uc → k (.inr uc) T' I' L' R' (uc + 1) (us + 7))
theorem eX2_need_2_0 : dc cX2_need_2 0 (.aload_n 0) 1 1 := ⟨by decide +kernel, rfl⟩
theorem eX2_need_2_1 : dc cX2_need_2 1 (.iload_n 1) 1 2 := ⟨by decide +kernel, rfl⟩
theorem eX2_need_2_2 : dc cX2_need_2 2 (.invokevirtual 79) 3 5 := ⟨by decide +kernel, rfl⟩
theorem pkX2_79 : PkV RX2 79 yX2_isSign (.code yX2_isSign cX2_isSign 2 (some .boolean)) 2 "BedBook$Reader" 1 := ⟨cwd_c, (lk q871), Or.inl (lk q868), (lk q870), (lk qs21), ⟨⟨by decide, by decide⟩, by decide +kernel⟩, (lk q65), by decide⟩
theorem eX2_need_2_5 : dj cX2_need_2 5 (.ifCond .ne 9) 9 14 8 := ⟨by decide +kernel, by decide, rfl⟩
theorem eX2_need_2_14 : dc cX2_need_2 14 (.aload_n 0) 1 15 := ⟨by decide +kernel, rfl⟩
theorem eX2_need_2_15 : dc cX2_need_2 15 (.invokevirtual 25) 3 18 := ⟨by decide +kernel, rfl⟩
theorem eX2_need_2_18 : dc cX2_need_2 18 (.return_) 1 19 := ⟨by decide +kernel, rfl⟩
theorem eX2_need_2_8 : dc cX2_need_2 8 (.aload_n 0) 1 9 := ⟨by decide +kernel, rfl⟩
theorem eX2_need_2_9 : dc cX2_need_2 9 (.iconst 1) 1 10 := ⟨by decide +kernel, rfl⟩
theorem eX2_need_2_10 : dc cX2_need_2 10 (.invokevirtual 75) 3 13 := ⟨by decide +kernel, rfl⟩
theorem eX2_need_2_13 : dc cX2_need_2 13 (.athrow) 1 14 := ⟨by decide +kernel, rfl⟩
set_option maxHeartbeats 8000000 in
theorem ctX2_need_2 (l : Launch) : Ct l yX2_need_2 (.code yX2_need_2 cX2_need_2 2 none) 7 spX2_need_2 := by
  refine Ct.of (own := RX2) (nm := "need") (by decide) rfl rfl ?_
  rintro X av T I L R uc us rfl g hN hu hz ⟨rd, tp, n, i, w, q, t, rfl, hS, huc, hus, hk1, hk2⟩
  refine VE.go (ls := [some (.ref rd), some (.int (nI q))]) g hu hz (fun _ => rfl) (fun _ => Nat.le_of_ble_eq_true rfl) ?_
  have hT := hS.1.1
  refine V_aload_0 g eX2_need_2_0 ?_
  refine V_iload_1 g eX2_need_2_1 ?_
  refine V_cv1 g (ctX2_isSign _) eX2_need_2_2 pkX2_79 hT rfl (by decide) (by decide) (Nat.le_of_ble_eq_true rfl) ?_
  refine spSign_of hS q ?_
  refine V_if_neB g eX2_need_2_5 (fun c_5 => ?_) (fun c_5 => ?_)
  · refine V_aload_0 g eX2_need_2_14 ?_
    refine V_cv0 g (ctX2_next _) eX2_need_2_15 pkX2_25 hT rfl (by decide) (by decide) (Nat.le_of_ble_eq_true rfl) ?_
    refine spNext_of hS (by rw [c_5.1]; decide) (fun I' h1 h2 => ?_)
    refine V_vret g eX2_need_2_18 ?_
    exact hk1 c_5 I' h1 h2
  · refine V_aload_0 g eX2_need_2_8 ?_
    refine V_iconst (v := nI 1) g eX2_need_2_9 (by decide) ?_
    refine V_cv1 g (ctX2_wrong _) eX2_need_2_10 pkX2_75 hT rfl (by decide) (by decide) (Nat.le_of_ble_eq_true rfl) ?_
    refine ⟨rd, 1, _, rfl, hT, hS.2.2.2.2.2.1, huc, hus, fun T' I' L' R' h1 h2 h3 => ?_⟩
    refine V_athrow g hN eX2_need_2_13 ?_
    exact hk2 c_5 _ _ _ _ (Kp.one h1 _) ⟨Or.inl rfl, h2, h3⟩
abbrev spX2_begin : Sp := fun av T I L R uc us k => ∃ (rd tp n : Nat) (t : Nat → Int32), av = [.ref rd, .ref tp, .int (nI n)] ∧ (T rd).1 = 1 ∧ T tp = (101, 600) ∧ n ≤ 600 ∧ I tp = t ∧ (∀ j, j < n → ∃ q : Nat, q < 128 ∧ t j = nI q) ∧ (∀ I', RdS T I' (u2 R rd 0 (some tp)) rd tp n 0 0 t → (∀ x, x ≠ rd → I' x = I x) → k (.inl none) T I' L (u2 R rd 0 (some tp)) uc us)
theorem eX2_begin_0 : dc cX2_begin 0 (.aload_n 0) 1 1 := ⟨by decide +kernel, rfl⟩
theorem eX2_begin_1 : dc cX2_begin 1 (.aload_n 1) 1 2 := ⟨by decide +kernel, rfl⟩
theorem eX2_begin_2 : dc cX2_begin 2 (.putfield 9) 3 5 := ⟨by decide +kernel, rfl⟩
theorem pflX2_9 {nm : String} : (FL RX2 9 1 0 ∧ FN 1 0) ∨ (FF RX2 9 1 0 ∧ nm = "<init>") := Or.inl ⟨flX2_9, fun C Tb N h => by cases h; rfl⟩
theorem eX2_begin_5 : dc cX2_begin 5 (.aload_n 0) 1 6 := ⟨by decide +kernel, rfl⟩
theorem eX2_begin_6 : dc cX2_begin 6 (.iload_n 2) 1 7 := ⟨by decide +kernel, rfl⟩
theorem eX2_begin_7 : dc cX2_begin 7 (.putfield 15) 3 10 := ⟨by decide +kernel, rfl⟩
theorem pflX2_15 {nm : String} : (FL RX2 15 1 1 ∧ FN 1 1) ∨ (FF RX2 15 1 1 ∧ nm = "<init>") := Or.inl ⟨flX2_15, fun C Tb N h => by cases h; rfl⟩
theorem eX2_begin_10 : dc cX2_begin 10 (.aload_n 0) 1 11 := ⟨by decide +kernel, rfl⟩
theorem eX2_begin_11 : dc cX2_begin 11 (.iconst 0) 1 12 := ⟨by decide +kernel, rfl⟩
theorem eX2_begin_12 : dc cX2_begin 12 (.putfield 19) 3 15 := ⟨by decide +kernel, rfl⟩
theorem eX2_begin_15 : dc cX2_begin 15 (.aload_n 0) 1 16 := ⟨by decide +kernel, rfl⟩
theorem eX2_begin_16 : dc cX2_begin 16 (.iconst 0) 1 17 := ⟨by decide +kernel, rfl⟩
theorem eX2_begin_17 : dc cX2_begin 17 (.putfield 22) 3 20 := ⟨by decide +kernel, rfl⟩
theorem flX2_22 : FL RX2 22 1 6 := ⟨_, _, _, _, rfl, by decide, by decide, Or.inl (lk q145), Or.inl rfl⟩
theorem pflX2_22 {nm : String} : (FL RX2 22 1 6 ∧ FN 1 6) ∨ (FF RX2 22 1 6 ∧ nm = "<init>") := Or.inl ⟨flX2_22, fun C Tb N h => by cases h; rfl⟩
theorem eX2_begin_20 : dc cX2_begin 20 (.aload_n 0) 1 21 := ⟨by decide +kernel, rfl⟩
theorem eX2_begin_21 : dc cX2_begin 21 (.invokevirtual 25) 3 24 := ⟨by decide +kernel, rfl⟩
theorem eX2_begin_24 : dc cX2_begin 24 (.return_) 1 25 := ⟨by decide +kernel, rfl⟩
set_option maxHeartbeats 8000000 in
theorem ctX2_begin (l : Launch) : Ct l yX2_begin (.code yX2_begin cX2_begin 3 none) 7 spX2_begin := by
  refine Ct.of (own := RX2) (nm := "begin") (by decide) rfl rfl ?_
  rintro X av T I L R uc us rfl g hN hu hz ⟨rd, tp, n, t, rfl, hT, hTp, hn, ht, hlet, hk⟩
  refine VE.go (ls := [some (.ref rd), some (.ref tp), some (.int (nI n))]) g hu hz (fun _ => rfl) (fun _ => Nat.le_of_ble_eq_true rfl) ?_
  have hne : tp ≠ rd := tg_ne (T := T) (by rw [hTp, hT]; show 101 ≠ 1; decide)
  have hA : RdA T (u2 (u2 (u2 I rd 1 (nI n)) rd 2 0) rd 6 0) (u2 R rd 0 (some tp)) rd tp n := ⟨hT, u2_s _ _ _ _, hTp, by simp [u2], hn⟩
  have e : (u2 (u2 (u2 I rd 1 (nI n)) rd 2 0) rd 6 0) tp = t := by rw [u2_o _ _ hne, u2_o _ _ hne, u2_o _ _ hne]; exact ht
  refine V_aload_0 g eX2_begin_0 ?_
  refine V_aload_1 g eX2_begin_1 ?_
  refine V_putR (r := some _) g eX2_begin_2 pflX2_9 hT rfl rfl ?_
  refine V_aload_0 g eX2_begin_5 ?_
  refine V_iload_2 g eX2_begin_6 ?_
  refine V_putI g eX2_begin_7 pflX2_15 hT rfl rfl rfl ?_
  refine V_aload_0 g eX2_begin_10 ?_
  refine V_iconst (v := 0) g eX2_begin_11 (by decide) ?_
  refine V_putI g eX2_begin_12 pflX2_19 hT rfl rfl rfl ?_
  refine V_aload_0 g eX2_begin_15 ?_
  refine V_iconst (v := 0) g eX2_begin_16 (by decide) ?_
  refine V_putI g eX2_begin_17 pflX2_22 hT rfl rfl rfl ?_
  refine V_aload_0 g eX2_begin_20 ?_
  refine V_cv0 g (ctX2_next _) eX2_begin_21 pkX2_25 hT rfl (by decide) (by decide) (Nat.le_of_ble_eq_true rfl) ?_
  refine ⟨rd, tp, n, 0, rfl, hA, by simp [u2]; rfl, Nat.zero_le _, by rw [e]; exact hlet, fun I' c1 c2 c3 c4 c5 => ?_⟩
  refine V_vret g eX2_begin_24 ?_
  rw [e] at c2 c3 c4 c5
  refine hk I' ⟨hA.keep c1, by rw [c1.1 tp hne]; exact e, hlet, c2, c3, c4, c5, by rw [c1.2 6 (Or.inr rfl)]; simp [u2]; rfl, fun j hj => absurd hj (by omega)⟩ (fun x hx => by rw [c1.1 x hx, u2_o _ _ hx, u2_o _ _ hx, u2_o _ _ hx])

