/-! JDK: a StringBuilder's letters (printed out of tmpl/t_jdk3.txt) -/
set_option maxRecDepth 100000
def PkZ (own : String) (idx : Nat) (y : MethodName) (cw : Cond) (nL' : Nat) (n : Nat) : Prop := CWd cw y nL' ∧ cw ∈ lw_k ∧ Cond.methodLink own idx y ∈ lw_k ∧ Cond.sameMethod y.cls y.cls y.name y.desc ∈ lw_k ∧ Cond.privateMethod y ∈ lw_k ∧ Cond.instanceMethod y ∈ lw_k ∧ ((y.cls ≠ "java/lang/invoke/MethodHandle" ∧ y.cls ≠ "java/lang/invoke/VarHandle") ∧ (parseMethodDescriptor y.desc).map (fun d => d.parameters.length) = some n) ∧ Cond.initialized y.cls ∈ lw_k ∧ nL' ≤ 21
section RowsZ
variable {X : CX} {T : Tt} {I : It} {L : Lt} {R : Rt} {uc us pc pc' tgt : Nat} {ls : List (Option Value)} {st stk av : List Value} {cc : ByteArray} {own : String} {ret : Option FieldType} {nL lev : Nat} {nm : String} {x y : MethodName} {owner : String} {cw : Cond} {lev' nL' idx a tg N : Nat} {S : Sp} {C : String} {Tb : u_T} {b : ByteArray}
/-- invokevirtual of a private method of a superclass -/
theorem ivk_Z {as : List Value} (g : Gd X cc own ret nL lev nm) (d : dc cc pc (.invokevirtual idx) 3 pc') (hw : CWd cw y nL') (hcw : cw ∈ lw_k) (hl : Cond.methodLink own idx y ∈ lw_k) (hsame : Cond.sameMethod y.cls y.cls y.name y.desc ∈ lw_k) (hpr : Cond.privateMethod y ∈ lw_k) (hi : Cond.instanceMethod y ∈ lw_k)
    (hy : (y.cls ≠ "java/lang/invoke/MethodHandle" ∧ y.cls ≠ "java/lang/invoke/VarHandle") ∧ (parseMethodDescriptor y.desc).map (fun d => d.parameters.length) = some as.length) (hT : (T a).1 = tg) (hkt : kt[tg]? = some (C, Tb, N)) (h99 : tg < 99) : Ivk X T I L R pc y (.ref a :: as) (as.reverse ++ .ref a :: st) st := by
  intro U locs cells slots la hR hF XU
  obtain ⟨hd, -⟩ := d
  obtain ⟨e1, e2, e3, e4, e5, e6, e7, e8, e9, e10⟩ := g
  have hts : ∀ w ∈ lw_k, w.before (x_a X) (x_s X) = true := fun w h => e10.at h _
  obtain ⟨mk, methM, hnamed, hmethM, hstM, habM⟩ := Cond.instanceMethod_spec (hts _ hi)
  obtain ⟨methM', cM, hmethM', -, -, hsigM⟩ := hw _ _ mk hnamed (hts _ hcw)
  cases hmethM.symm.trans hmethM'
  obtain ⟨cn, ck, r1, hcn, hck, hni, hf, hn1⟩ := Cond.sameMethod_found (hts _ hsame)
  have hn : (x_s X).methodNamed? ⟨y.cls, y.name, y.desc⟩ = some mk := hnamed
  have hcm : cn = mk.cls := Option.some.inj (hcn.symm.trans (findClass_of_methodNamed hnamed))
  rw [hcm] at hck
  obtain ⟨cellB, hcell, hobj, hcls⟩ := Rep.recv e10 hR hT hkt h99
  have hselP : selectMethod (x_e X).platform (x_s X).vm cellB.cls mk = .method mk := selectMethod_private hmethM (Cond.privateMethod_at (hts _ hpr) mk methM hnamed hmethM)
  have hlen : (as.map (cv (w_ad (x_w X)))).length = methM.sig.parameters.length := by
    have := hy.2
    rw [hsigM] at this
    rw [List.length_map]
    exact (Option.some.inj this).symm
  have hstk : (F0 (x_m X) pc la ((as.reverse ++ .ref a :: st).map (cv (w_ad (x_w X))))).stack = (as.map (cv (w_ad (x_w X)))).reverse ++ .ref (w_ad (x_w X) a) :: st.map (cv (w_ad (x_w X))) := by
    show (as.reverse ++ .ref a :: st).map (cv (w_ad (x_w X))) = _
    rw [List.map_append, List.map_reverse]
    rfl
  obtain ⟨vm₁, X₁, hstep⟩ := XU.invokevirtualUp e1 e6 (hts _ hl) (hts _ hsame) hy.1 hn hmethM hstM (a := w_ad (x_w X) a) (cell := cellB) hcell (fun z h => by rw [h] at hobj; cases hobj) hselP hmethM habM hck hni (g := F0 (x_m X) pc la ((as.reverse ++ .ref a :: st).map (cv (w_ad (x_w X))))) rfl (argsL := as.map (cv (w_ad (x_w X)))) (rest := st.map (cv (w_ad (x_w X)))) hlen hstk (by rw [e2]; exact hd)
  exact ⟨vm₁, mk, X₁, X₁.named hnamed, hstep⟩
theorem V_cz1 {x1 : Value} (g : Gd X cc own ret nL lev nm) (hC : Ct (x_l X) y cw lev' S) (d : dc cc pc (.invokevirtual idx) 3 pc') (pk : PkZ own idx y cw nL' 1) (hT : (T a).1 = tg) (hkt : kt[tg]? = some (C, Tb, N)) (h99 : tg < 99) (hlev : lev' + 1 ≤ lev) (hroom : (st.map fun v => v.category).sum ≤ 8) (hS : S [.ref a, x1] T I L R uc us (Cn X pc pc' ls st)) : V X T I L R uc us pc ls (x1 :: .ref a :: st) := by
  obtain ⟨p1, p2, p3, p4, p5, p6, p7, p8, p9⟩ := pk
  exact V_call g hC (ivk_Z (as := [x1]) g d p1 p2 p3 p4 p5 p6 p7 hT hkt h99) d p1 p2 p8 hlev p9 hroom hS
end RowsZ
theorem narB {q : Nat} (h : q < 128) : narrow .byte (.int (nI q)) = .int (nI q) := by
  have : ∀ q, q < 128 → narrow .byte (.int (nI q)) = .int (nI q) := by decide
  exact this q h
theorem ecI_le {a b : Nat} (h : a ≤ b) (hb : b < 2 ^ 30) : nI a - nI b ≤ 0 := by
  rw [Int32.le_iff_toInt_le, pk_sub_toInt (by omega) hb]
  show (a : Int) - b ≤ 0
  omega
abbrev spJ16_isLatin1 : Sp := fun av T I L R uc us k => ∃ b : Nat, av = [.ref b] ∧ (T b).1 = 15 ∧ I b 1 = 0 ∧ k (.inl (some (.int 1))) T I L R uc us
theorem eJ16_isLatin1_0 : dc cJ16_isLatin1 0 (.getstatic 18) 3 3 := ⟨by decide +kernel, rfl⟩
theorem eJ16_isLatin1_3 : dj cJ16_isLatin1 3 (.ifCond .eq 14) 14 17 6 := ⟨by decide +kernel, by decide, rfl⟩
theorem eJ16_isLatin1_6 : dc cJ16_isLatin1 6 (.aload_n 0) 1 7 := ⟨by decide +kernel, rfl⟩
theorem eJ16_isLatin1_7 : dc cJ16_isLatin1 7 (.getfield 22) 3 10 := ⟨by decide +kernel, rfl⟩
theorem eJ16_isLatin1_10 : dj cJ16_isLatin1 10 (.ifCond .ne 7) 7 17 13 := ⟨by decide +kernel, by decide, rfl⟩
theorem eJ16_isLatin1_13 : dc cJ16_isLatin1 13 (.iconst 1) 1 14 := ⟨by decide +kernel, rfl⟩
theorem eJ16_isLatin1_14 : dj cJ16_isLatin1 14 (.goto 4) 4 18 17 := ⟨by decide +kernel, by decide, rfl⟩
theorem eJ16_isLatin1_18 : dc cJ16_isLatin1 18 (.ireturn) 1 19 := ⟨by decide +kernel, rfl⟩
set_option maxHeartbeats 8000000 in
theorem ctJ16_isLatin1 (l : Launch) : Ct l yJ16_isLatin1 (.code yJ16_isLatin1 cJ16_isLatin1 1 (some .boolean)) 1 spJ16_isLatin1 := by
  refine Ct.of (own := RJ16) (nm := "isLatin1") (by decide) rfl rfl ?_
  rintro X av T I L R uc us rfl g hN hu hz ⟨b, rfl, hT, hI, hk⟩
  refine VE.go (ls := [some (.ref b)]) g hu hz (fun _ => rfl) (fun _ => Nat.le_of_ble_eq_true rfl) ?_
  refine V_getsI g eJ16_isLatin1_0 (fun _ _ _ h => h.2.2.1) (lk q916) ?_
  refine V_if_eq g eJ16_isLatin1_3 (fun c_3 => absurd c_3 (by decide)) (fun _ => ?_)
  refine V_aload_0 g eJ16_isLatin1_6 ?_
  refine V_getI g eJ16_isLatin1_7 flJ16_22_15 hT rfl ?_
  refine V_if_ne g eJ16_isLatin1_10 (fun c_10 => absurd c_10 (fun z => z hI)) (fun _ => ?_)
  refine V_iconst (v := 1) g eJ16_isLatin1_13 (by decide) ?_
  refine V_goto g eJ16_isLatin1_14 ?_
  refine V_zret g eJ16_isLatin1_18 rfl ?_
  exact hk
abbrev spJ16_newCapacity : Sp := fun av T I L R uc us k => ∃ (b v cap : Nat), av = [.ref b, .int (nI (cap + 1))] ∧ (T b).1 = 15 ∧ R b 0 = some v ∧ T v = (101, cap) ∧ I b 1 = 0 ∧ cap < 40000 ∧ k (.inl (some (.int (nI (2 * cap + 2))))) T I L R uc us
theorem eJ16_newCapacity_0 : dc cJ16_newCapacity 0 (.aload_n 0) 1 1 := ⟨by decide +kernel, rfl⟩
theorem eJ16_newCapacity_1 : dc cJ16_newCapacity 1 (.getfield 15) 3 4 := ⟨by decide +kernel, rfl⟩
theorem eJ16_newCapacity_4 : dc cJ16_newCapacity 4 (.arraylength) 1 5 := ⟨by decide +kernel, rfl⟩
theorem eJ16_newCapacity_5 : dc cJ16_newCapacity 5 (.istore_n 2) 1 6 := ⟨by decide +kernel, rfl⟩
theorem eJ16_newCapacity_6 : dc cJ16_newCapacity 6 (.iload_n 1) 1 7 := ⟨by decide +kernel, rfl⟩
theorem eJ16_newCapacity_7 : dc cJ16_newCapacity 7 (.aload_n 0) 1 8 := ⟨by decide +kernel, rfl⟩
theorem eJ16_newCapacity_8 : dc cJ16_newCapacity 8 (.getfield 22) 3 11 := ⟨by decide +kernel, rfl⟩
theorem eJ16_newCapacity_11 : dc cJ16_newCapacity 11 (.ishl) 1 12 := ⟨by decide +kernel, rfl⟩
theorem eJ16_newCapacity_12 : dc cJ16_newCapacity 12 (.istore_n 3) 1 13 := ⟨by decide +kernel, rfl⟩
theorem eJ16_newCapacity_13 : dc cJ16_newCapacity 13 (.iload_n 3) 1 14 := ⟨by decide +kernel, rfl⟩
theorem eJ16_newCapacity_14 : dc cJ16_newCapacity 14 (.iload_n 2) 1 15 := ⟨by decide +kernel, rfl⟩
theorem eJ16_newCapacity_15 : dc cJ16_newCapacity 15 (.isub) 1 16 := ⟨by decide +kernel, rfl⟩
theorem eJ16_newCapacity_16 : dc cJ16_newCapacity 16 (.istore 4) 2 18 := ⟨by decide +kernel, rfl⟩
theorem eJ16_newCapacity_18 : dc cJ16_newCapacity 18 (.iload_n 2) 1 19 := ⟨by decide +kernel, rfl⟩
theorem eJ16_newCapacity_19 : dc cJ16_newCapacity 19 (.iload 4) 2 21 := ⟨by decide +kernel, rfl⟩
theorem eJ16_newCapacity_21 : dc cJ16_newCapacity 21 (.iload_n 2) 1 22 := ⟨by decide +kernel, rfl⟩
theorem eJ16_newCapacity_22 : dc cJ16_newCapacity 22 (.iconst 2) 1 23 := ⟨by decide +kernel, rfl⟩
theorem eJ16_newCapacity_23 : dc cJ16_newCapacity 23 (.aload_n 0) 1 24 := ⟨by decide +kernel, rfl⟩
theorem eJ16_newCapacity_24 : dc cJ16_newCapacity 24 (.getfield 22) 3 27 := ⟨by decide +kernel, rfl⟩
theorem eJ16_newCapacity_27 : dc cJ16_newCapacity 27 (.ishl) 1 28 := ⟨by decide +kernel, rfl⟩
theorem eJ16_newCapacity_28 : dc cJ16_newCapacity 28 (.iadd) 1 29 := ⟨by decide +kernel, rfl⟩
theorem eJ16_newCapacity_29 : dc cJ16_newCapacity 29 (.invokestatic 114) 3 32 := ⟨by decide +kernel, rfl⟩
theorem pkJ16_114 : PkS RJ16 114 yJ3_newLength (.code yJ3_newLength cJ3_newLength 4 (some .int)) 4 3 := ⟨cwd_c, (lk q377), (lk q963), (lk q376), (lk q70), nmd_c, ⟨⟨by decide, by decide⟩, by decide +kernel⟩, by decide⟩
theorem eJ16_newCapacity_32 : dc cJ16_newCapacity 32 (.istore 5) 2 34 := ⟨by decide +kernel, rfl⟩
theorem eJ16_newCapacity_34 : dc cJ16_newCapacity 34 (.iload 5) 2 36 := ⟨by decide +kernel, rfl⟩
theorem eJ16_newCapacity_36 : dc cJ16_newCapacity 36 (.ldc 39) 2 38 := ⟨by decide +kernel, rfl⟩
theorem eJ16_newCapacity_38 : dj cJ16_newCapacity 38 (.if_icmp .ne 13) 13 51 41 := ⟨by decide +kernel, by decide, rfl⟩
theorem eJ16_newCapacity_51 : dc cJ16_newCapacity 51 (.iload 5) 2 53 := ⟨by decide +kernel, rfl⟩
theorem eJ16_newCapacity_53 : dc cJ16_newCapacity 53 (.aload_n 0) 1 54 := ⟨by decide +kernel, rfl⟩
theorem eJ16_newCapacity_54 : dc cJ16_newCapacity 54 (.getfield 22) 3 57 := ⟨by decide +kernel, rfl⟩
theorem eJ16_newCapacity_57 : dc cJ16_newCapacity 57 (.ishr) 1 58 := ⟨by decide +kernel, rfl⟩
theorem eJ16_newCapacity_58 : dc cJ16_newCapacity 58 (.ireturn) 1 59 := ⟨by decide +kernel, rfl⟩
set_option maxHeartbeats 8000000 in
theorem ctJ16_newCapacity (l : Launch) : Ct l yJ16_newCapacity (.code yJ16_newCapacity cJ16_newCapacity 6 (some .int)) 3 spJ16_newCapacity := by
  refine Ct.of (own := RJ16) (nm := "newCapacity") (by decide) rfl rfl ?_
  rintro X av T I L R uc us rfl g hN hu hz ⟨b, v, cap, rfl, hT, hR, hV, hI, hcap, hk⟩
  refine VE.go (ls := [some (.ref b), some (.int (nI (cap + 1))), none, none, none, none]) g hu hz (fun _ => rfl) (fun _ => Nat.le_of_ble_eq_true rfl) ?_
  refine V_aload_0 g eJ16_newCapacity_0 ?_
  refine V_getR g eJ16_newCapacity_1 flJ16_15_15 hT rfl hR ?_
  refine V_alen g eJ16_newCapacity_4 hV (by decide) ?_
  refine V_istore_2 g eJ16_newCapacity_5 (by decide) rfl ?_
  refine V_iload_1 g eJ16_newCapacity_6 ?_
  refine V_aload_0 g eJ16_newCapacity_7 ?_
  refine V_getI g eJ16_newCapacity_8 flJ16_22_15 hT rfl ?_
  refine V_ishl g eJ16_newCapacity_11 ?_
  rw [hI, shl0]
  refine V_istore_3 g eJ16_newCapacity_12 (by decide) rfl ?_
  refine V_iload_3 g eJ16_newCapacity_13 ?_
  refine V_iload_2 g eJ16_newCapacity_14 ?_
  refine V_isub g eJ16_newCapacity_15 ?_
  refine V_top (y := nI 1) ((pk_sub (by omega)).trans (by rw [Nat.add_sub_cancel_left])) ?_
  refine V_istore_4 g eJ16_newCapacity_16 (by decide) rfl ?_
  refine V_iload_2 g eJ16_newCapacity_18 ?_
  refine V_iload_4 g eJ16_newCapacity_19 ?_
  refine V_iload_2 g eJ16_newCapacity_21 ?_
  refine V_iconst (v := 2) g eJ16_newCapacity_22 (by decide) ?_
  refine V_aload_0 g eJ16_newCapacity_23 ?_
  refine V_getI g eJ16_newCapacity_24 flJ16_22_15 hT rfl ?_
  refine V_ishl g eJ16_newCapacity_27 ?_
  rw [hI, shl0]
  refine V_iadd g eJ16_newCapacity_28 ?_
  refine V_top (y := nI (cap + 2)) (nI_add cap 2) ?_
  refine V_cs3 g (ctJ3_newLength _) eJ16_newCapacity_29 pkJ16_114 (by decide) (Nat.le_of_ble_eq_true rfl) ?_
  refine ⟨cap, 1, cap + 2, rfl, by omega, by omega, by omega, by omega, ?_⟩
  rw [show cap + max 1 (cap + 2) = 2 * cap + 2 by omega]
  refine V_istore_5 g eJ16_newCapacity_32 (by decide) rfl ?_
  refine V_iload_5 g eJ16_newCapacity_34 ?_
  refine V_ldc g eJ16_newCapacity_36 (lk q964) ?_
  refine V_icmp_ne g eJ16_newCapacity_38 (fun _ => ?_) (fun c_38 => absurd c_38 (fun q => absurd (nI_eq' (a := 2 * cap + 2) (b := 2147483647) (by omega) (by decide) q) (by omega)))
  refine V_iload_5 g eJ16_newCapacity_51 ?_
  refine V_aload_0 g eJ16_newCapacity_53 ?_
  refine V_getI g eJ16_newCapacity_54 flJ16_22_15 hT rfl ?_
  refine V_ishr g eJ16_newCapacity_57 ?_
  rw [hI, shr0]
  refine V_iret g eJ16_newCapacity_58 ?_
  exact hk
abbrev spJ5_copyOf_3 : Sp := fun av T I L R uc us k => ∃ (a n N : Nat), av = [.ref a, .int (nI N)] ∧ T a = (101, n) ∧ n < N ∧ N < 100000 ∧ (∀ j, fits .byte (.int (I a j)) = true) ∧ uc + 1 ≤ 600000 ∧ us + N ≤ 7293034 ∧ ((T uc).1 = 99 → k (.inl (some (.ref uc))) (va_up T uc (101, N)) (va_up I uc (va_cpy (I a) (fun _ => 0) 0 0 n)) (va_up L uc fun _ => 0) (va_up R uc fun _ => none) (uc + 1) (us + N))
theorem eJ5_copyOf_3_0 : dc cJ5_copyOf_3 0 (.iload_n 1) 1 1 := ⟨by decide +kernel, rfl⟩
theorem eJ5_copyOf_3_1 : dc cJ5_copyOf_3 1 (.aload_n 0) 1 2 := ⟨by decide +kernel, rfl⟩
theorem eJ5_copyOf_3_2 : dc cJ5_copyOf_3 2 (.arraylength) 1 3 := ⟨by decide +kernel, rfl⟩
theorem eJ5_copyOf_3_3 : dj cJ5_copyOf_3 3 (.if_icmp .ne 11) 11 14 6 := ⟨by decide +kernel, by decide, rfl⟩
theorem eJ5_copyOf_3_14 : dc cJ5_copyOf_3 14 (.iload_n 1) 1 15 := ⟨by decide +kernel, rfl⟩
theorem eJ5_copyOf_3_15 : dc cJ5_copyOf_3 15 (.newarray .byte) 2 17 := ⟨by decide +kernel, rfl⟩
theorem eJ5_copyOf_3_17 : dc cJ5_copyOf_3 17 (.astore_n 2) 1 18 := ⟨by decide +kernel, rfl⟩
theorem eJ5_copyOf_3_18 : dc cJ5_copyOf_3 18 (.aload_n 0) 1 19 := ⟨by decide +kernel, rfl⟩
theorem eJ5_copyOf_3_19 : dc cJ5_copyOf_3 19 (.iconst 0) 1 20 := ⟨by decide +kernel, rfl⟩
theorem eJ5_copyOf_3_20 : dc cJ5_copyOf_3 20 (.aload_n 2) 1 21 := ⟨by decide +kernel, rfl⟩
theorem eJ5_copyOf_3_21 : dc cJ5_copyOf_3 21 (.iconst 0) 1 22 := ⟨by decide +kernel, rfl⟩
theorem eJ5_copyOf_3_22 : dc cJ5_copyOf_3 22 (.aload_n 0) 1 23 := ⟨by decide +kernel, rfl⟩
theorem eJ5_copyOf_3_23 : dc cJ5_copyOf_3 23 (.arraylength) 1 24 := ⟨by decide +kernel, rfl⟩
theorem eJ5_copyOf_3_24 : dc cJ5_copyOf_3 24 (.iload_n 1) 1 25 := ⟨by decide +kernel, rfl⟩
theorem eJ5_copyOf_3_25 : dc cJ5_copyOf_3 25 (.invokestatic 304) 3 28 := ⟨by decide +kernel, rfl⟩
theorem eJ5_copyOf_3_28 : dc cJ5_copyOf_3 28 (.invokestatic 150) 3 31 := ⟨by decide +kernel, rfl⟩
theorem eJ5_copyOf_3_31 : dc cJ5_copyOf_3 31 (.aload_n 2) 1 32 := ⟨by decide +kernel, rfl⟩
theorem eJ5_copyOf_3_32 : dc cJ5_copyOf_3 32 (.areturn) 1 33 := ⟨by decide +kernel, rfl⟩
set_option maxHeartbeats 8000000 in
theorem ctJ5_copyOf_3 (l : Launch) : Ct l yJ5_copyOf_3 (.code yJ5_copyOf_3 cJ5_copyOf_3 3 (some (.array .byte))) 2 spJ5_copyOf_3 := by
  refine Ct.of (own := RJ5) (nm := "copyOf") (by decide) rfl rfl ?_
  rintro X av T I L R uc us rfl g hN hu hz ⟨a, n, N, rfl, hT, hnN, hN, hfit, huc, hus, hk⟩
  refine VE.go (ls := [some (.ref a), some (.int (nI N)), none]) g hu hz (fun _ => rfl) (fun _ => Nat.le_of_ble_eq_true rfl) ?_
  refine V_iload_1 g eJ5_copyOf_3_0 ?_
  refine V_aload_0 g eJ5_copyOf_3_1 ?_
  refine V_alen g eJ5_copyOf_3_2 hT (by decide) ?_
  refine V_icmp_ne g eJ5_copyOf_3_3 (fun _ => ?_) (fun c_3 => absurd c_3 (fun q => absurd (nI_eq' (by omega) (by omega) q) (by omega)))
  refine V_iload_1 g eJ5_copyOf_3_14 ?_
  refine V_newa (tg := 101) (N := N) g eJ5_copyOf_3_15 (by decide) rfl (lk q162) (by omega) (by omega) (by omega) (fun hd_15 => ?_)
  refine V_astore_2 g eJ5_copyOf_3_17 (by decide) rfl ?_
  have hne : a ≠ uc := ne_of99 hd_15 (by rw [hT]; show 101 ≠ 99; decide)
  have hTa : va_up T uc (101, N) a = (101, n) := by rw [va_up_ne _ _ hne]; exact hT
  refine V_aload_0 g eJ5_copyOf_3_18 ?_
  refine V_iconst (v := nI 0) g eJ5_copyOf_3_19 (by decide) ?_
  refine V_aload_2 g eJ5_copyOf_3_20 ?_
  refine V_iconst (v := nI 0) g eJ5_copyOf_3_21 (by decide) ?_
  refine V_aload_0 g eJ5_copyOf_3_22 ?_
  refine V_alen g eJ5_copyOf_3_23 hTa (by decide) ?_
  refine V_iload_1 g eJ5_copyOf_3_24 ?_
  refine V_mmin g eJ5_copyOf_3_25 (lk q414) (by decide) (Nat.le_of_ble_eq_true rfl) ?_
  rw [miN (by omega) (by omega), Nat.min_eq_left (by omega)]
  refine V_copyI g eJ5_copyOf_3_28 (lk q417) (Or.inr rfl) hTa (va_up_self _ _ _) (by omega) (by omega) (by omega) (by omega) (fun i hi => by rw [va_up_ne _ _ hne]; exact hfit _) (by decide) (Nat.le_of_ble_eq_true rfl) ?_
  refine V_aload_2 g eJ5_copyOf_3_31 ?_
  refine V_aret g eJ5_copyOf_3_32 (Or.inr ⟨_, rfl⟩) (Or.inr ⟨_, rfl⟩) ?_
  have := hk hd_15
  rw [bx_uu, va_up_ne _ _ hne, va_up_self]
  exact this
abbrev spJ16_ensureCapacityInternal : Sp := fun av T I L R uc us k => ∃ (b v cap n : Nat), av = [.ref b, .int (nI (n + 1))] ∧ (T b).1 = 15 ∧ R b 0 = some v ∧ T v = (101, cap) ∧ I b 1 = 0 ∧ n ≤ cap ∧ cap < 40000 ∧ (∀ j, fits .byte (.int (I v j)) = true) ∧ uc + 1 ≤ 600000 ∧ us + (2 * cap + 2) ≤ 7293034 ∧ (n < cap → k (.inl none) T I L R uc us) ∧ (n = cap → (T uc).1 = 99 → k (.inl none) (va_up T uc (101, 2 * cap + 2)) (va_up I uc (va_cpy (I v) (fun _ => 0) 0 0 cap)) (va_up L uc fun _ => 0) (u2 (va_up R uc fun _ => none) b 0 (some uc)) (uc + 1) (us + (2 * cap + 2)))
theorem eJ16_ensureCapacityInternal_0 : dc cJ16_ensureCapacityInternal 0 (.aload_n 0) 1 1 := ⟨by decide +kernel, rfl⟩
theorem eJ16_ensureCapacityInternal_1 : dc cJ16_ensureCapacityInternal 1 (.getfield 15) 3 4 := ⟨by decide +kernel, rfl⟩
theorem eJ16_ensureCapacityInternal_4 : dc cJ16_ensureCapacityInternal 4 (.arraylength) 1 5 := ⟨by decide +kernel, rfl⟩
theorem eJ16_ensureCapacityInternal_5 : dc cJ16_ensureCapacityInternal 5 (.aload_n 0) 1 6 := ⟨by decide +kernel, rfl⟩
theorem eJ16_ensureCapacityInternal_6 : dc cJ16_ensureCapacityInternal 6 (.getfield 22) 3 9 := ⟨by decide +kernel, rfl⟩
theorem eJ16_ensureCapacityInternal_9 : dc cJ16_ensureCapacityInternal 9 (.ishr) 1 10 := ⟨by decide +kernel, rfl⟩
theorem eJ16_ensureCapacityInternal_10 : dc cJ16_ensureCapacityInternal 10 (.istore_n 2) 1 11 := ⟨by decide +kernel, rfl⟩
theorem eJ16_ensureCapacityInternal_11 : dc cJ16_ensureCapacityInternal 11 (.iload_n 1) 1 12 := ⟨by decide +kernel, rfl⟩
theorem eJ16_ensureCapacityInternal_12 : dc cJ16_ensureCapacityInternal 12 (.iload_n 2) 1 13 := ⟨by decide +kernel, rfl⟩
theorem eJ16_ensureCapacityInternal_13 : dc cJ16_ensureCapacityInternal 13 (.isub) 1 14 := ⟨by decide +kernel, rfl⟩
theorem eJ16_ensureCapacityInternal_14 : dj cJ16_ensureCapacityInternal 14 (.ifCond .le 24) 24 38 17 := ⟨by decide +kernel, by decide, rfl⟩
theorem eJ16_ensureCapacityInternal_38 : dc cJ16_ensureCapacityInternal 38 (.return_) 1 39 := ⟨by decide +kernel, rfl⟩
theorem eJ16_ensureCapacityInternal_17 : dc cJ16_ensureCapacityInternal 17 (.aload_n 0) 1 18 := ⟨by decide +kernel, rfl⟩
theorem eJ16_ensureCapacityInternal_18 : dc cJ16_ensureCapacityInternal 18 (.aload_n 0) 1 19 := ⟨by decide +kernel, rfl⟩
theorem eJ16_ensureCapacityInternal_19 : dc cJ16_ensureCapacityInternal 19 (.getfield 15) 3 22 := ⟨by decide +kernel, rfl⟩
theorem eJ16_ensureCapacityInternal_22 : dc cJ16_ensureCapacityInternal 22 (.aload_n 0) 1 23 := ⟨by decide +kernel, rfl⟩
theorem eJ16_ensureCapacityInternal_23 : dc cJ16_ensureCapacityInternal 23 (.iload_n 1) 1 24 := ⟨by decide +kernel, rfl⟩
theorem eJ16_ensureCapacityInternal_24 : dc cJ16_ensureCapacityInternal 24 (.invokevirtual 104) 3 27 := ⟨by decide +kernel, rfl⟩
theorem pzJ16_104 : PkZ RJ16 104 yJ16_newCapacity (.code yJ16_newCapacity cJ16_newCapacity 6 (some .int)) 6 1 := ⟨cwd_c, (lk q962), (lk q959), (lk q1671), (lt_k q960 rfl), (lk q961), ⟨⟨by decide, by decide⟩, by decide +kernel⟩, (lk q94), by decide⟩
theorem eJ16_ensureCapacityInternal_27 : dc cJ16_ensureCapacityInternal 27 (.aload_n 0) 1 28 := ⟨by decide +kernel, rfl⟩
theorem eJ16_ensureCapacityInternal_28 : dc cJ16_ensureCapacityInternal 28 (.getfield 22) 3 31 := ⟨by decide +kernel, rfl⟩
theorem eJ16_ensureCapacityInternal_31 : dc cJ16_ensureCapacityInternal 31 (.ishl) 1 32 := ⟨by decide +kernel, rfl⟩
theorem eJ16_ensureCapacityInternal_32 : dc cJ16_ensureCapacityInternal 32 (.invokestatic 108) 3 35 := ⟨by decide +kernel, rfl⟩
theorem pkJ16_108 : PkS RJ16 108 yJ5_copyOf_3 (.code yJ5_copyOf_3 cJ5_copyOf_3 3 (some (.array .byte))) 3 2 := ⟨cwd_c, (lk q967), (lk q965), (lk q966), (lk q72), nmd_c, ⟨⟨by decide, by decide⟩, by decide +kernel⟩, by decide⟩
theorem eJ16_ensureCapacityInternal_35 : dc cJ16_ensureCapacityInternal 35 (.putfield 15) 3 38 := ⟨by decide +kernel, rfl⟩
set_option maxHeartbeats 8000000 in
theorem ctJ16_ensureCapacityInternal (l : Launch) : Ct l yJ16_ensureCapacityInternal (.code yJ16_ensureCapacityInternal cJ16_ensureCapacityInternal 3 none) 4 spJ16_ensureCapacityInternal := by
  refine Ct.of (own := RJ16) (nm := "ensureCapacityInternal") (by decide) rfl rfl ?_
  rintro X av T I L R uc us rfl g hN hu hz ⟨b, v, cap, n, rfl, hT, hR, hV, hI, hn, hcap, hfit, huc, hus, hk1, hk2⟩
  refine VE.go (ls := [some (.ref b), some (.int (nI (n + 1))), none]) g hu hz (fun _ => rfl) (fun _ => Nat.le_of_ble_eq_true rfl) ?_
  rcases Nat.lt_or_ge n cap with hlt | hge
  · have hk := hk1 hlt
    refine V_aload_0 g eJ16_ensureCapacityInternal_0 ?_
    refine V_getR g eJ16_ensureCapacityInternal_1 flJ16_15_15 hT rfl hR ?_
    refine V_alen g eJ16_ensureCapacityInternal_4 hV (by decide) ?_
    refine V_aload_0 g eJ16_ensureCapacityInternal_5 ?_
    refine V_getI g eJ16_ensureCapacityInternal_6 flJ16_22_15 hT rfl ?_
    refine V_ishr g eJ16_ensureCapacityInternal_9 ?_
    rw [hI, shr0]
    refine V_istore_2 g eJ16_ensureCapacityInternal_10 (by decide) rfl ?_
    refine V_iload_1 g eJ16_ensureCapacityInternal_11 ?_
    refine V_iload_2 g eJ16_ensureCapacityInternal_12 ?_
    refine V_isub g eJ16_ensureCapacityInternal_13 ?_
    refine V_if_le g eJ16_ensureCapacityInternal_14 (fun _ => ?_) (fun c_14 => absurd c_14 (fun q => q (ecI_le (by omega) (by omega))))
    refine V_vret g eJ16_ensureCapacityInternal_38 ?_
    exact hk
  · obtain rfl : n = cap := by omega
    have hk := hk2 rfl
    refine V_aload_0 g eJ16_ensureCapacityInternal_0 ?_
    refine V_getR g eJ16_ensureCapacityInternal_1 flJ16_15_15 hT rfl hR ?_
    refine V_alen g eJ16_ensureCapacityInternal_4 hV (by decide) ?_
    refine V_aload_0 g eJ16_ensureCapacityInternal_5 ?_
    refine V_getI g eJ16_ensureCapacityInternal_6 flJ16_22_15 hT rfl ?_
    refine V_ishr g eJ16_ensureCapacityInternal_9 ?_
    rw [hI, shr0]
    refine V_istore_2 g eJ16_ensureCapacityInternal_10 (by decide) rfl ?_
    refine V_iload_1 g eJ16_ensureCapacityInternal_11 ?_
    refine V_iload_2 g eJ16_ensureCapacityInternal_12 ?_
    refine V_isub g eJ16_ensureCapacityInternal_13 ?_
    refine V_top (y := nI 1) ((pk_sub (by omega)).trans (by rw [Nat.add_sub_cancel_left])) ?_
    refine V_if_le g eJ16_ensureCapacityInternal_14 (fun c_14 => absurd c_14 (by decide)) (fun _ => ?_)
    refine V_aload_0 g eJ16_ensureCapacityInternal_17 ?_
    refine V_aload_0 g eJ16_ensureCapacityInternal_18 ?_
    refine V_getR g eJ16_ensureCapacityInternal_19 flJ16_15_15 hT rfl hR ?_
    refine V_aload_0 g eJ16_ensureCapacityInternal_22 ?_
    refine V_iload_1 g eJ16_ensureCapacityInternal_23 ?_
    refine V_cz1 g (ctJ16_newCapacity _) eJ16_ensureCapacityInternal_24 pzJ16_104 hT rfl (by decide) (by decide) (Nat.le_of_ble_eq_true rfl) ?_
    refine ⟨b, v, n, rfl, hT, hR, hV, hI, hcap, ?_⟩
    refine V_aload_0 g eJ16_ensureCapacityInternal_27 ?_
    refine V_getI g eJ16_ensureCapacityInternal_28 flJ16_22_15 hT rfl ?_
    refine V_ishl g eJ16_ensureCapacityInternal_31 ?_
    rw [hI, shl0]
    refine V_cs2 g (ctJ5_copyOf_3 _) eJ16_ensureCapacityInternal_32 pkJ16_108 (by decide) (Nat.le_of_ble_eq_true rfl) ?_
    refine ⟨v, n, 2 * n + 2, rfl, hV, by omega, by omega, hfit, huc, hus, fun h99 => ?_⟩
    have hk := hk h99
    refine V_putR (r := some _) g eJ16_ensureCapacityInternal_35 pflJ16_15_15 (by rw [va_up_ne _ _ (ne_of99 h99 (by rw [hT]; decide))]; exact hT) rfl rfl ?_
    refine V_vret g eJ16_ensureCapacityInternal_38 ?_
    exact hk
abbrev spJ16_append : Sp := fun av T I L R uc us k => ∃ (b v cap n q : Nat) (f : Nat → Nat), av = [.ref b, .int (nI q)] ∧ SBt T I R b v cap n f ∧ q < 128 ∧ uc + 1 ≤ 600000 ∧ us + (2 * cap + 2) ≤ 7293034 ∧ (n < cap → k (.inl (some (.ref b))) T (u2 (u2 I b 3 (nI (n + 1))) v n (nI q)) L R uc us) ∧ (n = cap → (T uc).1 = 99 → k (.inl (some (.ref b))) (va_up T uc (101, 2 * cap + 2)) (u2 (u2 (va_up I uc (va_cpy (I v) (fun _ => 0) 0 0 cap)) b 3 (nI (n + 1))) uc n (nI q)) (va_up L uc fun _ => 0) (u2 (va_up R uc fun _ => none) b 0 (some uc)) (uc + 1) (us + (2 * cap + 2)))
theorem eJ16_append_10 : dc cJ16_append 10 (.aload_n 0) 1 11 := ⟨by decide +kernel, rfl⟩
theorem eJ16_append_11 : dc cJ16_append 11 (.invokevirtual 83) 3 14 := ⟨by decide +kernel, rfl⟩
theorem puJ16_83_J17 : PkU RJ16 83 ⟨"java/lang/AbstractStringBuilder", "isLatin1", "()Z"⟩ "java/lang/AbstractStringBuilder" yJ16_isLatin1 (.code yJ16_isLatin1 cJ16_isLatin1 1 (some .boolean)) 1 RJ17 0 := ⟨cwd_c, (lk q979), (lk q975), (lk q977), Or.inl ⟨_, _, _, (lk q979), (lk q976)⟩, (lk q976), (lk q978), ⟨⟨by decide, by decide⟩, by decide +kernel⟩, (lk q94), by decide⟩
theorem eJ16_append_14 : dj cJ16_append 14 (.ifCond .eq 31) 31 45 17 := ⟨by decide +kernel, by decide, rfl⟩
theorem eJ16_append_17 : dc cJ16_append 17 (.iload_n 1) 1 18 := ⟨by decide +kernel, rfl⟩
theorem eJ16_append_18 : dc cJ16_append 18 (.invokestatic 191) 3 21 := ⟨by decide +kernel, rfl⟩
theorem pkJ16_191 : PkS RJ16 191 yJ13_canEncode_2 (.code yJ13_canEncode_2 cJ13_canEncode_2 1 (some .boolean)) 1 1 := ⟨cwd_c, (lk q982), (lk q980), (lk q981), (lk q86), nmd_c, ⟨⟨by decide, by decide⟩, by decide +kernel⟩, by decide⟩
theorem eJ16_append_21 : dj cJ16_append 21 (.ifCond .eq 24) 24 45 24 := ⟨by decide +kernel, by decide, rfl⟩
theorem eJ16_append_24 : dc cJ16_append 24 (.aload_n 0) 1 25 := ⟨by decide +kernel, rfl⟩
theorem eJ16_append_25 : dc cJ16_append 25 (.getfield 15) 3 28 := ⟨by decide +kernel, rfl⟩
theorem eJ16_append_28 : dc cJ16_append 28 (.aload_n 0) 1 29 := ⟨by decide +kernel, rfl⟩
theorem eJ16_append_29 : dc cJ16_append 29 (.dup) 1 30 := ⟨by decide +kernel, rfl⟩
theorem eJ16_append_30 : dc cJ16_append 30 (.getfield 79) 3 33 := ⟨by decide +kernel, rfl⟩
theorem flJ16_79_15 : FL RJ16 79 15 3 := ⟨_, _, _, _, rfl, by decide, by decide, Or.inl (lk q926), Or.inl rfl⟩
theorem eJ16_append_33 : dc cJ16_append 33 (.dup_x1) 1 34 := ⟨by decide +kernel, rfl⟩
theorem eJ16_append_34 : dc cJ16_append 34 (.iconst 1) 1 35 := ⟨by decide +kernel, rfl⟩
theorem eJ16_append_35 : dc cJ16_append 35 (.iadd) 1 36 := ⟨by decide +kernel, rfl⟩
theorem eJ16_append_36 : dc cJ16_append 36 (.putfield 79) 3 39 := ⟨by decide +kernel, rfl⟩
theorem pflJ16_79_15 {nm : String} : (FL RJ16 79 15 3 ∧ FN 15 3) ∨ (FF RJ16 79 15 3 ∧ nm = "<init>") := Or.inl ⟨flJ16_79_15, fun C Tb N h => by cases h; rfl⟩
theorem eJ16_append_39 : dc cJ16_append 39 (.iload_n 1) 1 40 := ⟨by decide +kernel, rfl⟩
theorem eJ16_append_40 : dc cJ16_append 40 (.i2b) 1 41 := ⟨by decide +kernel, rfl⟩
theorem eJ16_append_41 : dc cJ16_append 41 (.bastore) 1 42 := ⟨by decide +kernel, rfl⟩
theorem eJ16_append_42 : dj cJ16_append 42 (.goto 33) 33 75 45 := ⟨by decide +kernel, by decide, rfl⟩
theorem eJ16_append_75 : dc cJ16_append 75 (.aload_n 0) 1 76 := ⟨by decide +kernel, rfl⟩
theorem eJ16_append_76 : dc cJ16_append 76 (.areturn) 1 77 := ⟨by decide +kernel, rfl⟩
theorem eJ16_append_0 : dc cJ16_append 0 (.aload_n 0) 1 1 := ⟨by decide +kernel, rfl⟩
theorem eJ16_append_1 : dc cJ16_append 1 (.aload_n 0) 1 2 := ⟨by decide +kernel, rfl⟩
theorem eJ16_append_2 : dc cJ16_append 2 (.getfield 79) 3 5 := ⟨by decide +kernel, rfl⟩
theorem eJ16_append_5 : dc cJ16_append 5 (.iconst 1) 1 6 := ⟨by decide +kernel, rfl⟩
theorem eJ16_append_6 : dc cJ16_append 6 (.iadd) 1 7 := ⟨by decide +kernel, rfl⟩
theorem eJ16_append_7 : dc cJ16_append 7 (.invokevirtual 100) 3 10 := ⟨by decide +kernel, rfl⟩
theorem pzJ16_100 : PkZ RJ16 100 yJ16_ensureCapacityInternal (.code yJ16_ensureCapacityInternal cJ16_ensureCapacityInternal 3 none) 3 1 := ⟨cwd_c, (lk q958), (lk q955), (lk q1670), (lt_k q956 rfl), (lk q957), ⟨⟨by decide, by decide⟩, by decide +kernel⟩, (lk q94), by decide⟩
set_option maxHeartbeats 8000000 in
theorem ctJ16_append (l : Launch) : Ct l yJ16_append (.code yJ16_append cJ16_append 2 (some (.object "java/lang/AbstractStringBuilder"))) 5 spJ16_append := by
  refine Ct.of (own := RJ16) (nm := "append") (by decide) rfl rfl ?_
  rintro X av T I L R uc us rfl g hN hu hz ⟨b, v, cap, n, q, f, rfl, hS, hq, huc, hus, hk1, hk2⟩
  refine VE.go (ls := [some (.ref b), some (.int (nI q))]) g hu hz (fun _ => rfl) (fun _ => Nat.le_of_ble_eq_true rfl) ?_
  have hfit := hS.fit
  obtain ⟨hT, hR, hV, hI1, hI3, hn, hcap, hf, hz⟩ := hS
  have tl : ∀ (T' : Tt) (I' : It) (L' : Lt) (R' : Rt) (uc' us' v' cap' : Nat), (T' b).1 = 15 → R' b 0 = some v' → T' v' = (101, cap') → I' b 1 = 0 → I' b 3 = nI n → n < cap' → cap' < 2 ^ 30 → x_k X (.inl (some (.ref b))) T' (u2 (u2 I' b 3 (nI (n + 1))) v' n (nI q)) L' R' uc' us' → V X T' I' L' R' uc' us' 10 [some (.ref b), some (.int (nI q))] [] := by
    intro T' I' L' R' uc' us' v' cap' hT hR hV hI1 hI3 hn hcap hk
    refine V_aload_0 g eJ16_append_10 ?_
    refine V_cu0 g (ctJ16_isLatin1 _) eJ16_append_11 puJ16_83_J17 hT rfl (by decide) (by decide) (Nat.le_of_ble_eq_true rfl) ?_
    refine ⟨b, rfl, hT, hI1, ?_⟩
    refine V_if_eq g eJ16_append_14 (fun c_14 => absurd c_14 (by decide)) (fun _ => ?_)
    refine V_iload_1 g eJ16_append_17 ?_
    refine V_cs1 g (ctJ13_canEncode_2 _) eJ16_append_18 pkJ16_191 (by decide) (Nat.le_of_ble_eq_true rfl) ?_
    refine ⟨q, rfl, by omega, ?_⟩
    refine V_if_eq g eJ16_append_21 (fun c_21 => absurd c_21 (by decide)) (fun _ => ?_)
    refine V_aload_0 g eJ16_append_24 ?_
    refine V_getR g eJ16_append_25 flJ16_15_15 hT rfl hR ?_
    refine V_aload_0 g eJ16_append_28 ?_
    refine V_dup g eJ16_append_29 rfl ?_
    refine V_getI g eJ16_append_30 flJ16_79_15 hT rfl ?_
    refine V_dup_x1 g eJ16_append_33 rfl rfl ?_
    refine V_iconst (v := 1) g eJ16_append_34 (by decide) ?_
    refine V_iadd g eJ16_append_35 ?_
    refine V_top (y := nI (n + 1)) (by rw [hI3]; exact nI_add n 1) ?_
    refine V_putI g eJ16_append_36 pflJ16_79_15 hT rfl rfl rfl ?_
    refine V_iload_1 g eJ16_append_39 ?_
    refine V_i2b g eJ16_append_40 ?_
    rw [hI3, i2bN hq]
    refine V_bastN g eJ16_append_41 hV (by omega) (by omega) (narB hq) ?_
    refine V_goto g eJ16_append_42 ?_
    refine V_aload_0 g eJ16_append_75 ?_
    refine V_aret g eJ16_append_76 (Or.inl ⟨_, rfl⟩) (Or.inr ⟨_, rfl⟩) ?_
    exact hk
  refine V_aload_0 g eJ16_append_0 ?_
  refine V_aload_0 g eJ16_append_1 ?_
  refine V_getI g eJ16_append_2 flJ16_79_15 hT rfl ?_
  refine V_iconst (v := 1) g eJ16_append_5 (by decide) ?_
  refine V_iadd g eJ16_append_6 ?_
  refine V_top (y := nI (n + 1)) (by rw [hI3]; exact nI_add n 1) ?_
  refine V_cz1 g (ctJ16_ensureCapacityInternal _) eJ16_append_7 pzJ16_100 hT rfl (by decide) (by decide) (Nat.le_of_ble_eq_true rfl) ?_
  refine ⟨b, v, cap, n, rfl, hT, hR, hV, hI1, hn, hcap, hfit, huc, hus, fun hlt => ?_, fun heq h99 => ?_⟩
  · exact tl T I L R uc us v cap hT hR hV hI1 hI3 hlt (by omega) (hk1 hlt)
  have hb : b ≠ uc := ne_of99 h99 (by rw [hT]; decide)
  exact tl _ _ _ _ _ _ uc (2 * cap + 2) (by rw [va_up_ne _ _ hb]; exact hT) (by rw [u2_s]) (va_up_self _ _ _) (by rw [va_up_ne _ _ hb]; exact hI1) (by rw [va_up_ne _ _ hb]; exact hI3) (by omega) (by omega) (hk2 heq h99)
abbrev spJ17_append : Sp := fun av T I L R uc us k => ∃ (b v cap n q : Nat) (f : Nat → Nat), av = [.ref b, .int (nI q)] ∧ SBt T I R b v cap n f ∧ q < 128 ∧ uc + 1 ≤ 600000 ∧ us + (2 * cap + 2) ≤ 7293034 ∧ (n < cap → k (.inl (some (.ref b))) T (u2 (u2 I b 3 (nI (n + 1))) v n (nI q)) L R uc us) ∧ (n = cap → (T uc).1 = 99 → k (.inl (some (.ref b))) (va_up T uc (101, 2 * cap + 2)) (u2 (u2 (va_up I uc (va_cpy (I v) (fun _ => 0) 0 0 cap)) b 3 (nI (n + 1))) uc n (nI q)) (va_up L uc fun _ => 0) (u2 (va_up R uc fun _ => none) b 0 (some uc)) (uc + 1) (us + (2 * cap + 2)))
theorem eJ17_append_5 : dc cJ17_append 5 (.pop) 1 6 := ⟨by decide +kernel, rfl⟩
theorem eJ17_append_6 : dc cJ17_append 6 (.aload_n 0) 1 7 := ⟨by decide +kernel, rfl⟩
theorem eJ17_append_7 : dc cJ17_append 7 (.areturn) 1 8 := ⟨by decide +kernel, rfl⟩
theorem eJ17_append_0 : dc cJ17_append 0 (.aload_n 0) 1 1 := ⟨by decide +kernel, rfl⟩
theorem eJ17_append_1 : dc cJ17_append 1 (.iload_n 1) 1 2 := ⟨by decide +kernel, rfl⟩
theorem eJ17_append_2 : dc cJ17_append 2 (.invokespecial 50) 3 5 := ⟨by decide +kernel, rfl⟩
theorem ppJ17_50 : PkP RJ17 50 yJ16_append (.code yJ16_append cJ16_append 2 (some (.object "java/lang/AbstractStringBuilder"))) 2 1 := ⟨cwd_c, (lk q954), (lk q952), (lk q1669), (lk q935), (lk q953), ⟨by decide, by decide +kernel⟩, (lk q94), by decide⟩
set_option maxHeartbeats 8000000 in
theorem ctJ17_append (l : Launch) : Ct l yJ17_append (.code yJ17_append cJ17_append 2 (some (.object "java/lang/StringBuilder"))) 6 spJ17_append := by
  refine Ct.of (own := RJ17) (nm := "append") (by decide) rfl rfl ?_
  rintro X av T I L R uc us rfl g hN hu hz ⟨b, v, cap, n, q, f, rfl, hS, hq, huc, hus, hk1, hk2⟩
  refine VE.go (ls := [some (.ref b), some (.int (nI q))]) g hu hz (fun _ => rfl) (fun _ => Nat.le_of_ble_eq_true rfl) ?_
  have t1 : ∀ (T' : Tt) (I' : It) (L' : Lt) (R' : Rt) (uc' us' : Nat), x_k X (.inl (some (.ref b))) T' I' L' R' uc' us' → V X T' I' L' R' uc' us' 5 [some (.ref b), some (.int (nI q))] [.ref b] := by
    intro T' I' L' R' uc' us' hk
    refine V_pop g eJ17_append_5 rfl ?_
    refine V_aload_0 g eJ17_append_6 ?_
    refine V_aret g eJ17_append_7 (Or.inl ⟨_, rfl⟩) (Or.inr ⟨_, rfl⟩) ?_
    exact hk
  refine V_aload_0 g eJ17_append_0 ?_
  refine V_iload_1 g eJ17_append_1 ?_
  refine V_cp1 g (ctJ16_append _) eJ17_append_2 ppJ17_50 hS.1 rfl (by decide) (by decide) (Nat.le_of_ble_eq_true rfl) ?_
  refine ⟨b, v, cap, n, q, f, rfl, hS, hq, huc, hus, fun hlt => ?_, fun heq h99 => ?_⟩
  · exact t1 _ _ _ _ _ _ (hk1 hlt)
  exact t1 _ _ _ _ _ _ (hk2 heq h99)
abbrev spJ16_charAt : Sp := fun av T I L R uc us k => ∃ (b v cap n j : Nat) (f : Nat → Nat), av = [.ref b, .int (nI j)] ∧ SBt T I R b v cap n f ∧ j < n ∧ k (.inl (some (.int (nI (f j))))) T I L R uc us
theorem eJ16_charAt_0 : dc cJ16_charAt 0 (.aload_n 0) 1 1 := ⟨by decide +kernel, rfl⟩
theorem eJ16_charAt_1 : dc cJ16_charAt 1 (.getfield 22) 3 4 := ⟨by decide +kernel, rfl⟩
theorem eJ16_charAt_4 : dc cJ16_charAt 4 (.istore_n 2) 1 5 := ⟨by decide +kernel, rfl⟩
theorem eJ16_charAt_5 : dc cJ16_charAt 5 (.aload_n 0) 1 6 := ⟨by decide +kernel, rfl⟩
theorem eJ16_charAt_6 : dc cJ16_charAt 6 (.getfield 15) 3 9 := ⟨by decide +kernel, rfl⟩
theorem eJ16_charAt_9 : dc cJ16_charAt 9 (.astore_n 3) 1 10 := ⟨by decide +kernel, rfl⟩
theorem eJ16_charAt_10 : dc cJ16_charAt 10 (.aload_n 0) 1 11 := ⟨by decide +kernel, rfl⟩
theorem eJ16_charAt_11 : dc cJ16_charAt 11 (.getfield 79) 3 14 := ⟨by decide +kernel, rfl⟩
theorem eJ16_charAt_14 : dc cJ16_charAt 14 (.aload_n 3) 1 15 := ⟨by decide +kernel, rfl⟩
theorem eJ16_charAt_15 : dc cJ16_charAt 15 (.arraylength) 1 16 := ⟨by decide +kernel, rfl⟩
theorem eJ16_charAt_16 : dc cJ16_charAt 16 (.iload_n 2) 1 17 := ⟨by decide +kernel, rfl⟩
theorem eJ16_charAt_17 : dc cJ16_charAt 17 (.ishr) 1 18 := ⟨by decide +kernel, rfl⟩
theorem eJ16_charAt_18 : dc cJ16_charAt 18 (.invokestatic 138) 3 21 := ⟨by decide +kernel, rfl⟩
theorem eJ16_charAt_21 : dc cJ16_charAt 21 (.istore 4) 2 23 := ⟨by decide +kernel, rfl⟩
theorem eJ16_charAt_23 : dc cJ16_charAt 23 (.iload_n 1) 1 24 := ⟨by decide +kernel, rfl⟩
theorem eJ16_charAt_24 : dc cJ16_charAt 24 (.iload 4) 2 26 := ⟨by decide +kernel, rfl⟩
theorem eJ16_charAt_26 : dc cJ16_charAt 26 (.invokestatic 144) 3 29 := ⟨by decide +kernel, rfl⟩
theorem pkJ16_144 : PkS RJ16 144 yJ12_checkIndex (.code yJ12_checkIndex cJ12_checkIndex 2 none) 2 2 := ⟨cwd_c, (lk q763), (lk q1098), (lk q762), (lk q85), nmd_c, ⟨⟨by decide, by decide⟩, by decide +kernel⟩, by decide⟩
theorem eJ16_charAt_29 : dc cJ16_charAt 29 (.iload_n 2) 1 30 := ⟨by decide +kernel, rfl⟩
theorem eJ16_charAt_30 : dj cJ16_charAt 30 (.ifCond .ne 12) 12 42 33 := ⟨by decide +kernel, by decide, rfl⟩
theorem eJ16_charAt_33 : dc cJ16_charAt 33 (.aload_n 3) 1 34 := ⟨by decide +kernel, rfl⟩
theorem eJ16_charAt_34 : dc cJ16_charAt 34 (.iload_n 1) 1 35 := ⟨by decide +kernel, rfl⟩
theorem eJ16_charAt_35 : dc cJ16_charAt 35 (.baload) 1 36 := ⟨by decide +kernel, rfl⟩
theorem eJ16_charAt_36 : dc cJ16_charAt 36 (.sipush 255) 3 39 := ⟨by decide +kernel, rfl⟩
theorem eJ16_charAt_39 : dc cJ16_charAt 39 (.iand) 1 40 := ⟨by decide +kernel, rfl⟩
theorem eJ16_charAt_40 : dc cJ16_charAt 40 (.i2c) 1 41 := ⟨by decide +kernel, rfl⟩
theorem eJ16_charAt_41 : dc cJ16_charAt 41 (.ireturn) 1 42 := ⟨by decide +kernel, rfl⟩
set_option maxHeartbeats 8000000 in
theorem ctJ16_charAt (l : Launch) : Ct l yJ16_charAt (.code yJ16_charAt cJ16_charAt 5 (some .char)) 3 spJ16_charAt := by
  refine Ct.of (own := RJ16) (nm := "charAt") (by decide) rfl rfl ?_
  rintro X av T I L R uc us rfl g hN hu hz ⟨b, v, cap, n, j, f, rfl, hS, hj, hk⟩
  refine VE.go (ls := [some (.ref b), some (.int (nI j)), none, none, none]) g hu hz (fun _ => rfl) (fun _ => Nat.le_of_ble_eq_true rfl) ?_
  obtain ⟨hT, hR, hV, hI1, hI3, hn, hcap, hf, hz⟩ := hS
  obtain ⟨hf1, hf2⟩ := hf j hj
  refine V_aload_0 g eJ16_charAt_0 ?_
  refine V_getI g eJ16_charAt_1 flJ16_22_15 hT rfl ?_
  refine V_istore_2 g eJ16_charAt_4 (by decide) rfl ?_
  refine V_aload_0 g eJ16_charAt_5 ?_
  refine V_getR g eJ16_charAt_6 flJ16_15_15 hT rfl hR ?_
  refine V_astore_3 g eJ16_charAt_9 (by decide) rfl ?_
  refine V_aload_0 g eJ16_charAt_10 ?_
  refine V_getI g eJ16_charAt_11 flJ16_79_15 hT rfl ?_
  refine V_aload_3 g eJ16_charAt_14 ?_
  refine V_alen g eJ16_charAt_15 hV (by decide) ?_
  refine V_iload_2 g eJ16_charAt_16 ?_
  refine V_ishr g eJ16_charAt_17 ?_
  rw [hI1, shr0, hI3]
  refine V_mmin g eJ16_charAt_18 (lk q1097) (by decide) (Nat.le_of_ble_eq_true rfl) ?_
  rw [miN (by omega) (by omega), Nat.min_eq_left hn]
  refine V_istore_4 g eJ16_charAt_21 (by decide) rfl ?_
  refine V_iload_1 g eJ16_charAt_23 ?_
  refine V_iload_4 g eJ16_charAt_24 ?_
  refine V_cs2 g (ctJ12_checkIndex _) eJ16_charAt_26 pkJ16_144 (by decide) (Nat.le_of_ble_eq_true rfl) ?_
  refine ⟨j, n, rfl, hj, by omega, ?_⟩
  refine V_iload_2 g eJ16_charAt_29 ?_
  refine V_if_ne g eJ16_charAt_30 (fun c_30 => absurd c_30 (fun z => z rfl)) (fun _ => ?_)
  refine V_aload_3 g eJ16_charAt_33 ?_
  refine V_iload_1 g eJ16_charAt_34 ?_
  refine V_baldN g eJ16_charAt_35 hV (by omega) (by omega) ?_
  refine V_sipush (v := 255) g eJ16_charAt_36 (by decide) ?_
  refine V_iand g eJ16_charAt_39 ?_
  rw [hf1, and255 hf2]
  refine V_i2c g eJ16_charAt_40 ?_
  rw [i2cN (by omega)]
  refine V_zret g eJ16_charAt_41 (pk_charN (by omega)).1 ?_
  exact hk
abbrev spJ17_charAt : Sp := fun av T I L R uc us k => ∃ (b v cap n j : Nat) (f : Nat → Nat), av = [.ref b, .int (nI j)] ∧ SBt T I R b v cap n f ∧ j < n ∧ k (.inl (some (.int (nI (f j))))) T I L R uc us
theorem eJ17_charAt_0 : dc cJ17_charAt 0 (.aload_n 0) 1 1 := ⟨by decide +kernel, rfl⟩
theorem eJ17_charAt_1 : dc cJ17_charAt 1 (.iload_n 1) 1 2 := ⟨by decide +kernel, rfl⟩
theorem eJ17_charAt_2 : dc cJ17_charAt 2 (.invokespecial 329) 3 5 := ⟨by decide +kernel, rfl⟩
theorem ppJ17_329 : PkP RJ17 329 yJ16_charAt (.code yJ16_charAt cJ16_charAt 5 (some .char)) 5 1 := ⟨cwd_c, (lk q1096), (lk q1094), (lk q1673), (lk q935), (lk q1095), ⟨by decide, by decide +kernel⟩, (lk q94), by decide⟩
theorem eJ17_charAt_5 : dc cJ17_charAt 5 (.ireturn) 1 6 := ⟨by decide +kernel, rfl⟩
set_option maxHeartbeats 8000000 in
theorem ctJ17_charAt (l : Launch) : Ct l yJ17_charAt (.code yJ17_charAt cJ17_charAt 2 (some .char)) 4 spJ17_charAt := by
  refine Ct.of (own := RJ17) (nm := "charAt") (by decide) rfl rfl ?_
  rintro X av T I L R uc us rfl g hN hu hz ⟨b, v, cap, n, j, f, rfl, hS, hj, hk⟩
  refine VE.go (ls := [some (.ref b), some (.int (nI j))]) g hu hz (fun _ => rfl) (fun _ => Nat.le_of_ble_eq_true rfl) ?_
  have hf2 := (hS.2.2.2.2.2.2.2.1 j hj).2
  refine V_aload_0 g eJ17_charAt_0 ?_
  refine V_iload_1 g eJ17_charAt_1 ?_
  refine V_cp1 g (ctJ16_charAt _) eJ17_charAt_2 ppJ17_329 hS.1 rfl (by decide) (by decide) (Nat.le_of_ble_eq_true rfl) ?_
  refine ⟨b, v, cap, n, j, f, rfl, hS, hj, ?_⟩
  refine V_zret g eJ17_charAt_5 (pk_charN (by omega)).1 ?_
  exact hk

