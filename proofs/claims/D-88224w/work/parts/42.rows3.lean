/-! rows of V: super's methods, overriding methods, String constants' methods by number of arguments; arraycopy; class objects -/
set_option maxRecDepth 100000
def PkU (own : String) (idx : Nat) (x : MethodName) (owner : String) (y : MethodName) (cw : Cond) (nL' : Nat) (C : String) (n : Nat) : Prop := CWd cw y nL' ∧ cw ∈ lw_k ∧ Cond.methodLink own idx x ∈ lw_k ∧ Cond.sameMethod x.cls owner x.name x.desc ∈ lw_k ∧ DeclK ⟨owner, x.name, x.desc⟩ ∧ Cond.instanceMethod y ∈ lw_k ∧ Cond.selects C x y ∈ lw_k ∧ ((owner ≠ "java/lang/invoke/MethodHandle" ∧ owner ≠ "java/lang/invoke/VarHandle") ∧ (parseMethodDescriptor x.desc).map (fun d => d.parameters.length) = some n) ∧ Cond.initialized y.cls ∈ lw_k ∧ nL' ≤ 21
def PkP (own : String) (idx : Nat) (y : MethodName) (cw : Cond) (nL' : Nat) (n : Nat) : Prop := CWd cw y nL' ∧ cw ∈ lw_k ∧ Cond.methodLink own idx y ∈ lw_k ∧ Cond.sameMethod y.cls y.cls y.name y.desc ∈ lw_k ∧ Cond.superclass own y.cls ∈ lw_k ∧ Cond.instanceMethod y ∈ lw_k ∧ (y.name ≠ "<init>" ∧ (parseMethodDescriptor y.desc).map (fun d => d.parameters.length) = some n) ∧ Cond.initialized y.cls ∈ lw_k ∧ nL' ≤ 21
def PkT (own : String) (idx : Nat) (y : MethodName) (cw : Cond) (nL' : Nat) (n : Nat) : Prop := CWd cw y nL' ∧ cw ∈ lw_k ∧ Cond.methodLink own idx y ∈ lw_k ∧ Cond.instanceMethod y ∈ lw_k ∧ Cond.selects "java/lang/String" y y ∈ lw_k ∧ ((y.cls ≠ "java/lang/invoke/MethodHandle" ∧ y.cls ≠ "java/lang/invoke/VarHandle") ∧ (parseMethodDescriptor y.desc).map (fun d => d.parameters.length) = some n) ∧ Cond.initialized y.cls ∈ lw_k ∧ nL' ≤ 21
section Rows3
variable {X : CX} {T : Tt} {I : It} {L : Lt} {R : Rt} {uc us pc pc' tgt : Nat} {ls : List (Option Value)} {st stk av : List Value} {cc : ByteArray} {own : String} {ret : Option FieldType} {nL lev : Nat} {nm : String} {x y : MethodName} {owner : String} {cw : Cond} {lev' nL' idx a tg N : Nat} {S : Sp} {C : String} {Tb : u_T} {b : ByteArray}
/-- invokespecial of the superclass's own method -/
theorem ivk_P {as : List Value} (g : Gd X cc own ret nL lev nm) (d : dc cc pc (.invokespecial idx) 3 pc') (hw : CWd cw y nL') (hcw : cw ∈ lw_k) (hl : Cond.methodLink own idx y ∈ lw_k) (hsame : Cond.sameMethod y.cls y.cls y.name y.desc ∈ lw_k) (hsup : Cond.superclass own y.cls ∈ lw_k) (hi : Cond.instanceMethod y ∈ lw_k)
    (hy : y.name ≠ "<init>" ∧ (parseMethodDescriptor y.desc).map (fun d => d.parameters.length) = some as.length) (hT : (T a).1 = tg) (hkt : kt[tg]? = some (C, Tb, N)) (h99 : tg < 99) : Ivk X T I L R pc y (.ref a :: as) (as.reverse ++ .ref a :: st) st := by
  intro U locs cells slots la hR hF XU
  obtain ⟨hd, -⟩ := d
  obtain ⟨e1, e2, e3, e4, e5, e6, e7, e8, e9, e10⟩ := g
  have hts : ∀ w ∈ lw_k, w.before (x_a X) (x_s X) = true := fun w h => e10.at h _
  obtain ⟨mk, methM, hnamed, hmethM, hstM, habM⟩ := Cond.instanceMethod_spec (hts _ hi)
  obtain ⟨methM', cM, hmethM', -, -, hsigM⟩ := hw _ _ mk hnamed (hts _ hcw)
  cases hmethM.symm.trans hmethM'
  obtain ⟨ps, dk, kp, hps, hdk, hkp, hsuper, -, -, hnid⟩ := Cond.superclass_spec e6 (hts _ hsup)
  have hn : (x_s X).methodNamed? ⟨y.cls, y.name, y.desc⟩ = some mk := hnamed
  have hpm : ps = mk.cls := Option.some.inj (hps.symm.trans (findClass_of_methodNamed hnamed))
  have hsub : (x_s X).vm.isSubclass ps mk.cls = true := by rw [hpm]; simp [Vm.isSubclass, Vm.isSubclassAux]
  obtain ⟨cellB, hcell, hobj, hcls⟩ := Rep.recv e10 hR hT hkt h99
  obtain ⟨kB, hkB, -⟩ := Vm.findClass_spec hcls
  have hlen : (as.map (cv (w_ad (x_w X)))).length = methM.sig.parameters.length := by
    have := hy.2
    rw [hsigM] at this
    rw [List.length_map]
    exact (Option.some.inj this).symm
  have hstk : (F0 (x_m X) pc la ((as.reverse ++ .ref a :: st).map (cv (w_ad (x_w X))))).stack = (as.map (cv (w_ad (x_w X)))).reverse ++ .ref (w_ad (x_w X) a) :: st.map (cv (w_ad (x_w X))) := by
    show (as.reverse ++ .ref a :: st).map (cv (w_ad (x_w X))) = _
    rw [List.map_append, List.map_reverse]
    rfl
  obtain ⟨vm₁, X₁, hstep⟩ := XU.invokespecialUp e1 e6 (hts _ hl) (hts _ hsame) hn hmethM hstM habM hy.1 hdk hnid hps hsuper hsub (a := w_ad (x_w X) a) (cell := cellB) hcell (fun z h => by rw [h] at hobj; cases hobj) hkB (g := F0 (x_m X) pc la ((as.reverse ++ .ref a :: st).map (cv (w_ad (x_w X))))) rfl (argsL := as.map (cv (w_ad (x_w X)))) (rest := st.map (cv (w_ad (x_w X)))) hlen hstk (by rw [e2]; exact hd)
  exact ⟨vm₁, mk, X₁, X₁.named hnamed, fun target h => hstep target (h [])⟩
theorem V_cu0 (g : Gd X cc own ret nL lev nm) (hC : Ct (x_l X) y cw lev' S) (d : dc cc pc (.invokevirtual idx) 3 pc') (pk : PkU own idx x owner y cw nL' C 0) (hT : (T a).1 = tg) (hkt : kt[tg]? = some (C, Tb, N)) (h99 : tg < 99) (hlev : lev' + 1 ≤ lev) (hroom : (st.map fun v => v.category).sum ≤ 8) (hS : S [.ref a] T I L R uc us (Cn X pc pc' ls st)) : V X T I L R uc us pc ls (.ref a :: st) := by
  obtain ⟨p1, p2, p3, p4, p5, p6, p7, p8, p9, p10⟩ := pk
  exact V_call g hC (ivk_U (as := []) g d p3 p4 p5 p6 p7 p8 hT hkt h99) d p1 p2 p9 hlev p10 hroom hS
theorem V_cp0 (g : Gd X cc own ret nL lev nm) (hC : Ct (x_l X) y cw lev' S) (d : dc cc pc (.invokespecial idx) 3 pc') (pk : PkP own idx y cw nL' 0) (hT : (T a).1 = tg) (hkt : kt[tg]? = some (C, Tb, N)) (h99 : tg < 99) (hlev : lev' + 1 ≤ lev) (hroom : (st.map fun v => v.category).sum ≤ 8) (hS : S [.ref a] T I L R uc us (Cn X pc pc' ls st)) : V X T I L R uc us pc ls (.ref a :: st) := by
  obtain ⟨p1, p2, p3, p4, p5, p6, p7, p8, p9⟩ := pk
  exact V_call g hC (ivk_P (as := []) g d p1 p2 p3 p4 p5 p6 p7 hT hkt h99) d p1 p2 p8 hlev p9 hroom hS
theorem V_ct0 {i : Nat} (g : Gd X cc own ret nL lev nm) (hC : Ct (x_l X) y cw lev' S) (d : dc cc pc (.invokevirtual idx) 3 pc') (pk : PkT own idx y cw nL' 0) (hi : i < 5) (hlev : lev' + 1 ≤ lev) (hroom : (st.map fun v => v.category).sum ≤ 8) (hS : S [.ref (sK i)] T I L R uc us (Cn X pc pc' ls st)) : V X T I L R uc us pc ls (.ref (sK i) :: st) := by
  obtain ⟨p1, p2, p3, p4, p5, p6, p7, p8⟩ := pk
  exact V_call g hC (ivk_St (as := []) g d hi p1 p2 p3 p4 p5 p6) d p1 p2 p7 hlev p8 hroom hS
theorem V_cu1 {x1 : Value} (g : Gd X cc own ret nL lev nm) (hC : Ct (x_l X) y cw lev' S) (d : dc cc pc (.invokevirtual idx) 3 pc') (pk : PkU own idx x owner y cw nL' C 1) (hT : (T a).1 = tg) (hkt : kt[tg]? = some (C, Tb, N)) (h99 : tg < 99) (hlev : lev' + 1 ≤ lev) (hroom : (st.map fun v => v.category).sum ≤ 8) (hS : S [.ref a, x1] T I L R uc us (Cn X pc pc' ls st)) : V X T I L R uc us pc ls (x1 :: .ref a :: st) := by
  obtain ⟨p1, p2, p3, p4, p5, p6, p7, p8, p9, p10⟩ := pk
  exact V_call g hC (ivk_U (as := [x1]) g d p3 p4 p5 p6 p7 p8 hT hkt h99) d p1 p2 p9 hlev p10 hroom hS
theorem V_cp1 {x1 : Value} (g : Gd X cc own ret nL lev nm) (hC : Ct (x_l X) y cw lev' S) (d : dc cc pc (.invokespecial idx) 3 pc') (pk : PkP own idx y cw nL' 1) (hT : (T a).1 = tg) (hkt : kt[tg]? = some (C, Tb, N)) (h99 : tg < 99) (hlev : lev' + 1 ≤ lev) (hroom : (st.map fun v => v.category).sum ≤ 8) (hS : S [.ref a, x1] T I L R uc us (Cn X pc pc' ls st)) : V X T I L R uc us pc ls (x1 :: .ref a :: st) := by
  obtain ⟨p1, p2, p3, p4, p5, p6, p7, p8, p9⟩ := pk
  exact V_call g hC (ivk_P (as := [x1]) g d p1 p2 p3 p4 p5 p6 p7 hT hkt h99) d p1 p2 p8 hlev p9 hroom hS
theorem V_ct1 {x1 : Value} {i : Nat} (g : Gd X cc own ret nL lev nm) (hC : Ct (x_l X) y cw lev' S) (d : dc cc pc (.invokevirtual idx) 3 pc') (pk : PkT own idx y cw nL' 1) (hi : i < 5) (hlev : lev' + 1 ≤ lev) (hroom : (st.map fun v => v.category).sum ≤ 8) (hS : S [.ref (sK i), x1] T I L R uc us (Cn X pc pc' ls st)) : V X T I L R uc us pc ls (x1 :: .ref (sK i) :: st) := by
  obtain ⟨p1, p2, p3, p4, p5, p6, p7, p8⟩ := pk
  exact V_call g hC (ivk_St (as := [x1]) g d hi p1 p2 p3 p4 p5 p6) d p1 p2 p7 hlev p8 hroom hS
theorem V_cu2 {x1 x2 : Value} (g : Gd X cc own ret nL lev nm) (hC : Ct (x_l X) y cw lev' S) (d : dc cc pc (.invokevirtual idx) 3 pc') (pk : PkU own idx x owner y cw nL' C 2) (hT : (T a).1 = tg) (hkt : kt[tg]? = some (C, Tb, N)) (h99 : tg < 99) (hlev : lev' + 1 ≤ lev) (hroom : (st.map fun v => v.category).sum ≤ 8) (hS : S [.ref a, x1, x2] T I L R uc us (Cn X pc pc' ls st)) : V X T I L R uc us pc ls (x2 :: x1 :: .ref a :: st) := by
  obtain ⟨p1, p2, p3, p4, p5, p6, p7, p8, p9, p10⟩ := pk
  exact V_call g hC (ivk_U (as := [x1, x2]) g d p3 p4 p5 p6 p7 p8 hT hkt h99) d p1 p2 p9 hlev p10 hroom hS
theorem V_cp2 {x1 x2 : Value} (g : Gd X cc own ret nL lev nm) (hC : Ct (x_l X) y cw lev' S) (d : dc cc pc (.invokespecial idx) 3 pc') (pk : PkP own idx y cw nL' 2) (hT : (T a).1 = tg) (hkt : kt[tg]? = some (C, Tb, N)) (h99 : tg < 99) (hlev : lev' + 1 ≤ lev) (hroom : (st.map fun v => v.category).sum ≤ 8) (hS : S [.ref a, x1, x2] T I L R uc us (Cn X pc pc' ls st)) : V X T I L R uc us pc ls (x2 :: x1 :: .ref a :: st) := by
  obtain ⟨p1, p2, p3, p4, p5, p6, p7, p8, p9⟩ := pk
  exact V_call g hC (ivk_P (as := [x1, x2]) g d p1 p2 p3 p4 p5 p6 p7 hT hkt h99) d p1 p2 p8 hlev p9 hroom hS
theorem V_ct2 {x1 x2 : Value} {i : Nat} (g : Gd X cc own ret nL lev nm) (hC : Ct (x_l X) y cw lev' S) (d : dc cc pc (.invokevirtual idx) 3 pc') (pk : PkT own idx y cw nL' 2) (hi : i < 5) (hlev : lev' + 1 ≤ lev) (hroom : (st.map fun v => v.category).sum ≤ 8) (hS : S [.ref (sK i), x1, x2] T I L R uc us (Cn X pc pc' ls st)) : V X T I L R uc us pc ls (x2 :: x1 :: .ref (sK i) :: st) := by
  obtain ⟨p1, p2, p3, p4, p5, p6, p7, p8⟩ := pk
  exact V_call g hC (ivk_St (as := [x1, x2]) g d hi p1 p2 p3 p4 p5 p6) d p1 p2 p7 hlev p8 hroom hS
theorem V_cu3 {x1 x2 x3 : Value} (g : Gd X cc own ret nL lev nm) (hC : Ct (x_l X) y cw lev' S) (d : dc cc pc (.invokevirtual idx) 3 pc') (pk : PkU own idx x owner y cw nL' C 3) (hT : (T a).1 = tg) (hkt : kt[tg]? = some (C, Tb, N)) (h99 : tg < 99) (hlev : lev' + 1 ≤ lev) (hroom : (st.map fun v => v.category).sum ≤ 8) (hS : S [.ref a, x1, x2, x3] T I L R uc us (Cn X pc pc' ls st)) : V X T I L R uc us pc ls (x3 :: x2 :: x1 :: .ref a :: st) := by
  obtain ⟨p1, p2, p3, p4, p5, p6, p7, p8, p9, p10⟩ := pk
  exact V_call g hC (ivk_U (as := [x1, x2, x3]) g d p3 p4 p5 p6 p7 p8 hT hkt h99) d p1 p2 p9 hlev p10 hroom hS
theorem V_cp3 {x1 x2 x3 : Value} (g : Gd X cc own ret nL lev nm) (hC : Ct (x_l X) y cw lev' S) (d : dc cc pc (.invokespecial idx) 3 pc') (pk : PkP own idx y cw nL' 3) (hT : (T a).1 = tg) (hkt : kt[tg]? = some (C, Tb, N)) (h99 : tg < 99) (hlev : lev' + 1 ≤ lev) (hroom : (st.map fun v => v.category).sum ≤ 8) (hS : S [.ref a, x1, x2, x3] T I L R uc us (Cn X pc pc' ls st)) : V X T I L R uc us pc ls (x3 :: x2 :: x1 :: .ref a :: st) := by
  obtain ⟨p1, p2, p3, p4, p5, p6, p7, p8, p9⟩ := pk
  exact V_call g hC (ivk_P (as := [x1, x2, x3]) g d p1 p2 p3 p4 p5 p6 p7 hT hkt h99) d p1 p2 p8 hlev p9 hroom hS
theorem V_ct3 {x1 x2 x3 : Value} {i : Nat} (g : Gd X cc own ret nL lev nm) (hC : Ct (x_l X) y cw lev' S) (d : dc cc pc (.invokevirtual idx) 3 pc') (pk : PkT own idx y cw nL' 3) (hi : i < 5) (hlev : lev' + 1 ≤ lev) (hroom : (st.map fun v => v.category).sum ≤ 8) (hS : S [.ref (sK i), x1, x2, x3] T I L R uc us (Cn X pc pc' ls st)) : V X T I L R uc us pc ls (x3 :: x2 :: x1 :: .ref (sK i) :: st) := by
  obtain ⟨p1, p2, p3, p4, p5, p6, p7, p8⟩ := pk
  exact V_call g hC (ivk_St (as := [x1, x2, x3]) g d hi p1 p2 p3 p4 p5 p6) d p1 p2 p7 hlev p8 hroom hS
/-- the same reference twice -/
theorem V_acmp_neS {off : Int} {z : Nat} (g : Gd X cc own ret nL lev nm) (d : dj cc pc (.if_acmp .ne off) off tgt pc') (k : V X T I L R uc us pc' ls st) : V X T I L R uc us pc ls (.ref z :: .ref z :: st) := by
  intro H locs la q1 q2 q3 q4
  obtain ⟨hd, ht, rfl⟩ := d
  show W _ _ _ _ _ _ _ _ _ _ _ _ _ _ _ (F0 _ _ _ (va_rf (some _) :: va_rf (some _) :: _))
  exact lv_acmp_ne g.1 g.2.1 hd ht (fun c => absurd rfl c) (fun _ => k H locs la q1 q2 q3 q4)
theorem V_ldcM (g : Gd X cc own ret nL lev nm) (d : dc cc pc (.ldc idx) 2 pc') (hl : Cond.classLink own idx "[Ljava/lang/Object;" ∈ lw_k) (k : V X T I L R uc us pc' ls (.ref sM :: st)) : V X T I L R uc us pc ls st := by
  intro H locs la h1 h2 h3 h4
  obtain ⟨hd, rfl⟩ := d
  obtain ⟨e1, e2, e3, e4, e5, e6, e7, e8, e9, e10⟩ := g
  exact va_ldcM e1 e2 e6 (e10.at hl _) e9.2.1.2.2.2.2.2.2.1 hd (k H locs la h1 h2 h3 h4)
theorem V_getC {n : Nat} (g : Gd X cc own ret nL lev nm) (d : dc cc pc (.invokevirtual idx) 3 pc') (hT : T a = (104, n)) (hl : Cond.methodLink own idx ⟨"java/lang/Object", "getClass", "()Ljava/lang/Class;"⟩ ∈ lw_k) (hlev : 1 ≤ lev) (hroom : (st.map fun v => v.category).sum ≤ 8) (k : V X T I L R uc us pc' ls (.ref sM :: st)) : V X T I L R uc us pc ls (.ref a :: st) := by
  intro H locs la h1 h2 h3 h4
  obtain ⟨hd, rfl⟩ := d
  obtain ⟨e1, e2, e3, e4, e5, e6, e7, e8, e9, e10⟩ := g
  have hts : ∀ w ∈ lw_k, w.before (x_a X) (x_s X) = true := fun w h => e10.at h _
  have hc := h1.arr hT (by decide)
  obtain ⟨kA, comp, g1, g2, g3, g4⟩ := e10.objA
  refine va_getC e1 e2 (by rw [h4.1, e4, e3]) e6 (hts _ hl) (hts _ (lt_k q1702 rfl)) (hts _ (lk q1701)) (hts _ (lk q389)) (hts _ (lk q408)) e9.2.1.2.2.2.2.2.2.1 ⟨_, hc, rfl, g4⟩ ?_ ?_ hd (k H locs la h1 h2 h3 h4)
  · show 1 ≤ x_v X
    rw [e5]; exact hlev
  · show ((st.map (cv (w_ad (x_w X)))).map fun v => v.category).sum + 14 ≤ 40 * x_v X
    rw [sum_cat, e5]
    omega
theorem nnI {z : Nat} (h : z < 2 ^ 31) : (nI z).toInt = (z : Int) := nI_toInt h
/-- System.arraycopy of ints or bytes -/
theorem V_copyI {a0 n0 n1 sp dp n : Nat} (g : Gd X cc own ret nL lev nm) (d : dc cc pc (.invokestatic idx) 3 pc') (hl : Cond.methodLink own idx arraycopyName ∈ lw_k) (htg : tg = 100 ∨ tg = 101) (hT0 : T a0 = (tg, n0)) (hT : T a = (tg, n1)) (hn0 : n0 < 2 ^ 30) (hn1 : n1 < 2 ^ 30) (h4' : sp + n ≤ n0) (h5' : dp + n ≤ n1) (hfit : ∀ i, i < n → fits (aft tg) (.int (I a0 (sp + i))) = true) (hlev : 1 ≤ lev) (hroom : (st.map fun v => v.category).sum ≤ 8)
    (k : V X T (va_up I a (va_cpy (I a0) (I a) sp dp n)) L R uc us pc' ls st) : V X T I L R uc us pc ls (.int (nI n) :: .int (nI dp) :: .ref a :: .int (nI sp) :: .ref a0 :: st) := by
  intro H locs la h1 h2 h3 h4 U hU XU
  obtain ⟨hd, rfl⟩ := d
  obtain ⟨e1, e2, e3, e4, e5, e6, e7, e8, e9, e10⟩ := g
  have hts : ∀ w ∈ lw_k, w.before (x_a X) (x_s X) = true := fun w h => e10.at h _
  have h99 : 99 < tg := by omega
  have hk0 : kd (aft tg) = 0 := by rcases htg with rfl | rfl <;> rfl
  have hf0 : ∀ i l r, fv (w_ad (x_w X)) (aft tg) i l r = .int i := fun i l r => fv_i hk0
  have hc0 := h1.arr hT0 h99
  have hc1 := h1.arr hT h99
  simp only [hf0] at hc0 hc1
  have hA : ArrOfT (x_s X) (w_A (x_w X) tg) (aft tg) := by
    obtain ⟨a1, a2, a3, a4, a5⟩ := e10.arr
    rcases htg with rfl | rfl
    · exact a1
    · exact a2
  obtain ⟨-, k0, hk0', cm0, hkk0⟩ := hA n0 (fun j => .int (I a0 j))
  obtain ⟨-, k1, hk1, cm1, hkk1⟩ := hA n1 (fun j => .int (I a j))
  have hprim : refKind (aft tg) = false := by rcases htg with rfl | rfl <;> rfl
  have cs : (nI sp).toNatClampNeg = sp := nI_clamp (by omega)
  have cd : (nI dp).toNatClampNeg = dp := nI_clamp (by omega)
  have cn : (nI n).toNatClampNeg = n := nI_clamp (by omega)
  obtain ⟨vm', X', step⟩ := XU.arraycopy e1 e6 (hts _ hl) (hts _ (lk q419)) (hts _ (lk q418)) (hts _ (lk q73)) (src := w_ad (x_w X) a0) (dst := w_ad (x_w X) a) (cs := arrV (w_A (x_w X) tg) n0 (fun j => .int (I a0 j))) (cd := arrV (w_A (x_w X) tg) n1 (fun j => .int (I a j))) (srcPos := nI sp) (destPos := nI dp) (n := nI n) (by rw [hU]; exact hc0) (by rw [hU]; exact hc1)
    (fun _ h => by cases h) (fun _ h => by cases h) (fun h => by cases h) (fun h => by cases h) hk0' hk1 hkk0 hkk1 (by simp [hprim]) (nI_pos (by omega)) (nI_pos (by omega)) (nI_pos (by omega))
    (by rw [nnI (by omega), nnI (by omega)]; show ¬ _ > ((arrV _ n0 _).slots.size : Int); rw [arrV_size]; omega)
    (by rw [nnI (by omega), nnI (by omega)]; show ¬ _ > ((arrV _ n1 _).slots.size : Int); rw [arrV_size]; omega)
    (fun vm₁ _ i hi => by
      rw [cn] at hi
      have e : (arrV (w_A (x_w X) tg) n0 (fun j => Value.int (I a0 j))).slots.getD ((nI sp).toNatClampNeg + i) .null = .int (I a0 (sp + i)) := by
        rw [Array.getD_eq_getD_getElem?, cs, arrV_read _ _ (by omega)]
        rfl
      refine ⟨?_, ?_⟩
      · rw [e]
        exact hfit i hi
      · rw [e]
        exact trivial)
    (g := F0 (x_m X) pc la ((.int (nI n) :: .int (nI dp) :: .ref a :: .int (nI sp) :: .ref a0 :: st).map (cv (w_ad (x_w X))))) rfl (by show la.size = _; rw [h4.1, e4, e3]) (rest := st.map (cv (w_ad (x_w X)))) rfl (by rw [e2]; exact hd) (by show 1 ≤ x_v X; rw [e5]; exact hlev) (by show 2 * 0 + ((st.map (cv (w_ad (x_w X)))).map fun v => v.category).sum + (nativeFrameWords "java/lang/System" "arraycopy" 5 + 11) ≤ 40 * x_v X; rw [sum_cat, e5]; have : nativeFrameWords "java/lang/System" "arraycopy" 5 = 7 := (by decide); omega)
  have e1' : copied (arrV (w_A (x_w X) tg) n0 (fun j => .int (I a0 j))) (arrV (w_A (x_w X) tg) n1 (fun j => .int (I a j))) (nI sp) (nI dp) (nI n) = arrV (w_A (x_w X) tg) n1 (fun j => .int (va_cpy (I a0) (I a) sp dp n j)) := by
    have := va_copied (fun z => Value.int z) (w_A (x_w X) tg) (w_A (x_w X) tg) (n1 := n1) (dp := dp) (I a0) (I a) h4'
    unfold copied
    rw [cs, cd, cn]
    exact this
  rw [e1'] at X' step
  have hlt : w_ad (x_w X) a < H.size := (Array.getElem?_eq_some_iff.mp hc1).1
  have hheap : ((U.setVm vm').setCell (w_ad (x_w X) a) (arrV (w_A (x_w X) tg) n1 (fun j => .int (va_cpy (I a0) (I a) sp dp n j)))).heap = H.setIfInBounds (w_ad (x_w X) a) (arrV (w_A (x_w X) tg) n1 (fun j => .int (va_cpy (I a0) (I a) sp dp n j))) := by rw [← hU]; rfl
  have ha99 : (T a).1 ≠ 99 := by rw [hT]; show tg ≠ 99; omega
  obtain ⟨t, r1, r2⟩ := k _ _ la (h1.set (I' := va_up I a (va_cpy (I a0) (I a) sp dp n)) (a := a) (H' := H.setIfInBounds (w_ad (x_w X) a) (arrV (w_A (x_w X) tg) n1 (fun j => .int (va_cpy (I a0) (I a) sp dp n j)))) ha99 (by simp) (fun q hq => by simp [Array.getElem?_setIfInBounds, Ne.symm hq]) (fun b hb => va_up_ne _ _ hb) (fun _ _ => rfl) (fun _ _ => rfl) (by
      unfold cOK
      rw [hT, if_neg (by show ¬ tg < 99; omega)]
      simp only [hf0, va_up_self]
      simp [Array.getElem?_setIfInBounds, hlt])) h2 (fun q hq => by
      rcases List.mem_append.mp hq with h | h
      · exact h3 q h
      · obtain ⟨z, -, hz⟩ := List.mem_map.mp h
        rw [← hz]
        exact (h1.1.1 a ha99).2) h4 _ hheap X'
  exact ⟨t, step t r1, r2⟩
/-- System.arraycopy of references -/
theorem V_copyR {a0 n0 n1 sp dp n : Nat} (g : Gd X cc own ret nL lev nm) (d : dc cc pc (.invokestatic idx) 3 pc') (hl : Cond.methodLink own idx arraycopyName ∈ lw_k) (hT0 : T a0 = (104, n0)) (hT : T a = (104, n1)) (hn0 : n0 < 2 ^ 30) (hn1 : n1 < 2 ^ 30) (h4' : sp + n ≤ n0) (h5' : dp + n ≤ n1) (hel : ∀ i y, i < n → R a0 (sp + i) = some y → (T y).1 < 17) (hlev : 1 ≤ lev) (hroom : (st.map fun v => v.category).sum ≤ 8)
    (k : V X T I L (va_up R a (va_cpy (R a0) (R a) sp dp n)) uc us pc' ls st) : V X T I L R uc us pc ls (.int (nI n) :: .int (nI dp) :: .ref a :: .int (nI sp) :: .ref a0 :: st) := by
  intro H locs la h1 h2 h3 h4 U hU XU
  obtain ⟨hd, rfl⟩ := d
  obtain ⟨e1, e2, e3, e4, e5, e6, e7, e8, e9, e10⟩ := g
  have hts : ∀ w ∈ lw_k, w.before (x_a X) (x_s X) = true := fun w h => e10.at h _
  have hf0 : ∀ i l r, fv (w_ad (x_w X)) (aft 104) i l r = va_rf (r.map (w_ad (x_w X))) := fun i l r => rfl
  have hc0 := h1.arr hT0 (by decide)
  have hc1 := h1.arr hT (by decide)
  simp only [hf0] at hc0 hc1
  have hA : ArrOfT (x_s X) (w_A (x_w X) 104) (.object "java/lang/Object") := e10.arr.2.2.2.2
  obtain ⟨-, k0, hk0', cm0, hkk0⟩ := hA n0 (fun j => va_rf ((R a0 j).map (w_ad (x_w X))))
  obtain ⟨-, k1, hk1, cm1, hkk1⟩ := hA n1 (fun j => va_rf ((R a j).map (w_ad (x_w X))))
  obtain ⟨kO, comp, o1, o2, o3, o4⟩ := e10.objA
  have cs : (nI sp).toNatClampNeg = sp := nI_clamp (by omega)
  have cd : (nI dp).toNatClampNeg = dp := nI_clamp (by omega)
  have cn : (nI n).toNatClampNeg = n := nI_clamp (by omega)
  obtain ⟨vm', X', step⟩ := XU.arraycopy e1 e6 (hts _ hl) (hts _ (lk q419)) (hts _ (lk q418)) (hts _ (lk q73)) (src := w_ad (x_w X) a0) (dst := w_ad (x_w X) a) (cs := arrV (w_A (x_w X) 104) n0 (fun j => va_rf ((R a0 j).map (w_ad (x_w X))))) (cd := arrV (w_A (x_w X) 104) n1 (fun j => va_rf ((R a j).map (w_ad (x_w X))))) (srcPos := nI sp) (destPos := nI dp) (n := nI n) (by rw [hU]; exact hc0) (by rw [hU]; exact hc1)
    (fun _ h => by cases h) (fun _ h => by cases h) (fun h => by cases h) (fun h => by cases h) hk0' hk1 hkk0 hkk1 rfl (nI_pos (by omega)) (nI_pos (by omega)) (nI_pos (by omega))
    (by rw [nnI (by omega), nnI (by omega)]; show ¬ _ > ((arrV _ n0 _).slots.size : Int); rw [arrV_size]; omega)
    (by rw [nnI (by omega), nnI (by omega)]; show ¬ _ > ((arrV _ n1 _).slots.size : Int); rw [arrV_size]; omega)
    (fun vm₁ hal i hi => by
      rw [cn] at hi
      have e : (arrV (w_A (x_w X) 104) n0 (fun j => va_rf ((R a0 j).map (w_ad (x_w X))))).slots.getD ((nI sp).toNatClampNeg + i) .null = va_rf ((R a0 (sp + i)).map (w_ad (x_w X))) := by
        rw [Array.getD_eq_getD_getElem?, cs, arrV_read _ _ (by omega)]
        rfl
      rw [e]
      cases hy : R a0 (sp + i) with
      | none => exact ⟨rfl, trivial⟩
      | some y =>
        have hb := hel i y hi hy
        obtain ⟨⟨C, Tb, N⟩, hkt⟩ : ∃ q, kt[(T y).1]? = some q := ⟨kt[(T y).1]'(by simp [kt]; omega), List.getElem?_eq_getElem _⟩
        obtain ⟨-, -, q3, -⟩ := k_new _ hb hkt
        obtain ⟨cellV, g1, g2, g3⟩ := h1.1.recv e10 rfl hkt (by omega)
        cases hk1.symm.trans o1
        cases hkk1.symm.trans o2
        obtain ⟨c0, t0, f1, f2, f3⟩ := Cond.castable_spec (hts _ q3)
        cases g3.symm.trans f1
        cases o3.symm.trans f2
        obtain ⟨kC, hkC, -⟩ := Vm.findClass_spec g3
        obtain ⟨kE, hkE, -⟩ := Vm.findClass_spec o3
        obtain ⟨kC', hkC', -⟩ := hal.2.2 _ _ hkC
        obtain ⟨kE', hkE', -⟩ := hal.2.2 _ _ hkE
        refine ⟨rfl, cellV, (show U.heap[w_ad (x_w X) y]? = some cellV by rw [hU]; exact g1), (fun q h => by rw [h] at g2; cases g2), ⟨kC', hkC'⟩, ?_, ?_⟩
        · exact ⟨kE', hkE'⟩
        · show vm₁.assignable _ _ = true
          rw [hal.assignable]
          exact f3)
    (g := F0 (x_m X) pc la ((.int (nI n) :: .int (nI dp) :: .ref a :: .int (nI sp) :: .ref a0 :: st).map (cv (w_ad (x_w X))))) rfl (by show la.size = _; rw [h4.1, e4, e3]) (rest := st.map (cv (w_ad (x_w X)))) rfl (by rw [e2]; exact hd) (by show 1 ≤ x_v X; rw [e5]; exact hlev) (by show 2 * 0 + ((st.map (cv (w_ad (x_w X)))).map fun v => v.category).sum + (nativeFrameWords "java/lang/System" "arraycopy" 5 + 11) ≤ 40 * x_v X; rw [sum_cat, e5]; have : nativeFrameWords "java/lang/System" "arraycopy" 5 = 7 := (by decide); omega)
  have e1' : copied (arrV (w_A (x_w X) 104) n0 (fun j => va_rf ((R a0 j).map (w_ad (x_w X))))) (arrV (w_A (x_w X) 104) n1 (fun j => va_rf ((R a j).map (w_ad (x_w X))))) (nI sp) (nI dp) (nI n) = arrV (w_A (x_w X) 104) n1 (fun j => va_rf ((va_cpy (R a0) (R a) sp dp n j).map (w_ad (x_w X)))) := by
    have := va_copied (fun z : Option Nat => va_rf (z.map (w_ad (x_w X)))) (w_A (x_w X) 104) (w_A (x_w X) 104) (n1 := n1) (dp := dp) (R a0) (R a) h4'
    unfold copied
    rw [cs, cd, cn]
    exact this
  rw [e1'] at X' step
  have hlt : w_ad (x_w X) a < H.size := (Array.getElem?_eq_some_iff.mp hc1).1
  have hheap : ((U.setVm vm').setCell (w_ad (x_w X) a) (arrV (w_A (x_w X) 104) n1 (fun j => va_rf ((va_cpy (R a0) (R a) sp dp n j).map (w_ad (x_w X)))))).heap = H.setIfInBounds (w_ad (x_w X) a) (arrV (w_A (x_w X) 104) n1 (fun j => va_rf ((va_cpy (R a0) (R a) sp dp n j).map (w_ad (x_w X))))) := by rw [← hU]; rfl
  have ha99 : (T a).1 ≠ 99 := by rw [hT]; show 104 ≠ 99; omega
  obtain ⟨t, r1, r2⟩ := k _ _ la (h1.set (R' := va_up R a (va_cpy (R a0) (R a) sp dp n)) (a := a) (H' := H.setIfInBounds (w_ad (x_w X) a) (arrV (w_A (x_w X) 104) n1 (fun j => va_rf ((va_cpy (R a0) (R a) sp dp n j).map (w_ad (x_w X)))))) ha99 (by simp) (fun q hq => by simp [Array.getElem?_setIfInBounds, Ne.symm hq]) (fun _ _ => rfl) (fun _ _ => rfl) (fun b hb => va_up_ne _ _ hb) (by
      unfold cOK
      rw [hT, if_neg (by show ¬ 104 < 99; omega)]
      simp only [hf0, va_up_self]
      simp [Array.getElem?_setIfInBounds, hlt])) h2 (fun q hq => by
      rcases List.mem_append.mp hq with h | h
      · exact h3 q h
      · obtain ⟨z, -, hz⟩ := List.mem_map.mp h
        rw [← hz]
        exact (h1.1.1 a ha99).2) h4 _ hheap X'
  exact ⟨t, step t r1, r2⟩

theorem V_mmax {u v : Int32} (g : Gd X cc own ret nL lev nm) (d : dc cc pc (.invokestatic idx) 3 pc') (hl : Cond.methodLink own idx Lib.Math.max.name ∈ lw_k) (hlev : 1 ≤ lev) (hroom : (st.map fun v => v.category).sum ≤ 8) (k : V X T I L R uc us pc' ls (.int (if u < v then v else u) :: st)) : V X T I L R uc us pc ls (.int v :: .int u :: st) := by
  intro H locs la h1 h2 h3 h4
  obtain ⟨hd, rfl⟩ := d
  obtain ⟨e1, e2, e3, e4, e5, e6, e7, e8, e9, e10⟩ := g
  have hts : ∀ w ∈ lw_k, w.before (x_a X) (x_s X) = true := fun w h => e10.at h _
  obtain ⟨b1, b2, b3, b4⟩ := h2
  refine va_mmax e1 e2 (by rw [h4.1, e4, e3]) e6 (hts _ hl) (hts _ (lk q379)) (hts _ (lk q71)) (hts _ (lk q380)) (by show 1 ≤ x_v X; rw [e5]; exact hlev) (by show ((st.map (cv (w_ad (x_w X)))).map fun v => v.category).sum + 13 ≤ 40 * x_v X; rw [sum_cat, e5]; omega) (by show uc - x_u X ≤ 601024 - x_u X; omega) (by show us - x_z X ≤ 7293034 - x_z X; omega) hd (k H locs la h1 ⟨b1, b2, b3, b4⟩ h3 h4)
theorem V_mmin {u v : Int32} (g : Gd X cc own ret nL lev nm) (d : dc cc pc (.invokestatic idx) 3 pc') (hl : Cond.methodLink own idx Lib.Math.min.name ∈ lw_k) (hlev : 1 ≤ lev) (hroom : (st.map fun v => v.category).sum ≤ 8) (k : V X T I L R uc us pc' ls (.int (if v < u then v else u) :: st)) : V X T I L R uc us pc ls (.int v :: .int u :: st) := by
  intro H locs la h1 h2 h3 h4
  obtain ⟨hd, rfl⟩ := d
  obtain ⟨e1, e2, e3, e4, e5, e6, e7, e8, e9, e10⟩ := g
  have hts : ∀ w ∈ lw_k, w.before (x_a X) (x_s X) = true := fun w h => e10.at h _
  obtain ⟨b1, b2, b3, b4⟩ := h2
  refine va_mmin e1 e2 (by rw [h4.1, e4, e3]) e6 (hts _ hl) (hts _ (lk q415)) (hts _ (lk q71)) (hts _ (lk q416)) (by show 1 ≤ x_v X; rw [e5]; exact hlev) (by show ((st.map (cv (w_ad (x_w X)))).map fun v => v.category).sum + 13 ≤ 40 * x_v X; rw [sum_cat, e5]; omega) (by show uc - x_u X ≤ 601024 - x_u X; omega) (by show us - x_z X ≤ 7293034 - x_z X; omega) hd (k H locs la h1 ⟨b1, b2, b3, b4⟩ h3 h4)
end Rows3
