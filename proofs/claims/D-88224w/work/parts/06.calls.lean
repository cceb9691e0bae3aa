/-! calls, throws, the start of a contract -/
set_option maxRecDepth 100000
/-- what the code word of y says -/
def CWd (cw : Cond) (y : MethodName) (n : Nat) : Prop := ∀ (U : State) (a : Array Value) (mk : MethodId), U.methodNamed? y = some mk → cw.before a U = true → ∃ methY cY, U.vm.method? mk = some methY ∧ methY.code = some cY ∧ cY.maxLocals = n ∧ parseMethodDescriptor y.desc = some methY.sig
theorem cwd_c {y : MethodName} {b : ByteArray} {n : Nat} {r : Option FieldType} : CWd (.code y b n r) y n := by
  intro U a mk hn h
  obtain ⟨meth, c, h1, h2, -, h4, -, -, -, h8⟩ := Cond.code_spec hn h
  exact ⟨meth, c, h1, h2, h4, h8⟩
theorem cwd_w {y : MethodName} {b : ByteArray} {n : Nat} {r : Option FieldType} {hh : List (Nat × Nat × Nat × Nat)} : CWd (.codeWith y b n r hh) y n := by
  intro U a mk hn h
  obtain ⟨m9, meth, c, hn9, h1, h2, -, h4, -, -, -, h8⟩ := Cond.codeWith_spec h
  cases hn.symm.trans hn9
  exact ⟨meth, c, h1, h2, h4, h8⟩
/-- the invoking instruction at pc comes to the entry of y -/
def Ivk (X : CX) (T : Tt) (I : It) (L : Lt) (R : Rt) (pc : Nat) (y : MethodName) (av stk st : List Value) : Prop :=
  ∀ (U : State) (locs : List Loc) (cells slots : Nat) (la : Array Slot), Rep (x_w X) T I L R U.heap → (∀ q ∈ locs, w_F (x_w X) q.base) →
    Stand (x_p X) (x_l X) (x_e X) (rmx (x_v X) (x_u X) (x_z X)) (x_s X) (x_m X) (x_a X) (x_b X) (x_h X) (x_c X) U locs cells slots →
    ∃ (vm₁ : Vm) (mk : MethodId), Stand (x_p X) (x_l X) (x_e X) (rmx (x_v X) (x_u X) (x_z X)) (x_s X) (x_m X) (x_a X) (x_b X) (x_h X) (x_c X) (U.setVm vm₁) locs cells slots ∧ (U.setVm vm₁).methodNamed? y = some mk ∧
      ∀ target, (∀ acts, Steps (x_p X).tables (x_e X) (x_b X) (doInvoke (x_e X) ((U.setVm vm₁).setTop (F0 (x_m X) pc la (st.map (cv (w_ad (x_w X)))))) acts mk (av.map (cv (w_ad (x_w X)))).toArray).1 target) → Steps (x_p X).tables (x_e X) (x_b X) (U.setTop (F0 (x_m X) pc la (stk.map (cv (w_ad (x_w X)))))) target
theorem stand_keep {p : Program} {l : Launch} {e : Env} {R : Room} {s : State} {m : MethodId} {args : Array Value} {below : List Frame} {meth : Method} {c : Code} {T : State} {locs : List Loc} {cells slots : Nat} (X : Stand p l e R s m args below meth c T locs cells slots) {F : Nat → Prop} (h : ∀ q ∈ locs, F q.base) : ∀ a : Nat, a < s.heap.size → ¬ F a → T.heap[a]? = s.heap[a]? := by
  intro a ha hF
  have hc : s.heap[a]? = some s.heap[a] := Array.getElem?_eq_getElem ha
  obtain ⟨c', h1, h2, h3, h4⟩ := X.same.2.2.2.2.2 a _ hc
  have h1' : T.heap[a]? = some c' := h1
  rw [h1', hc]
  congr 1
  rw [h2]
  have : c'.slots = s.heap[a].slots := by
    apply Array.ext_getElem?
    intro i
    exact h4 i (fun q => hF (h _ q))
  rw [this]
section CallsV
variable {X : CX} {T : Tt} {I : It} {L : Lt} {R : Rt} {uc us pc pc' tgt : Nat} {ls : List (Option Value)} {st stk av : List Value} {cc : ByteArray} {own : String} {ret : Option FieldType} {nL lev : Nat} {nm : String} {y : MethodName} {cw : Cond} {lev' nL' idx : Nat} {S : Sp}
theorem sum_cat (ad : Nat → Nat) (st : List Value) : ((st.map (cv ad)).map fun v => v.category).sum = (st.map fun v => v.category).sum := by
  rw [List.map_map]
  congr 1
  apply List.map_congr_left
  intro v _
  exact cv_cat ad v
theorem V_call (g : Gd X cc own ret nL lev nm) (hC : Ct (x_l X) y cw lev' S) (hi : Ivk X T I L R pc y av stk st) {ig : Instr} (d : dc cc pc ig 3 pc') (hw : CWd cw y nL') (hcw : cw ∈ lw_k) (hini : Cond.initialized y.cls ∈ lw_k) (hlev : lev' + 1 ≤ lev) (hnl : nL' ≤ 21) (hroom : (st.map fun v => v.category).sum ≤ 8)
    (hS : S av T I L R uc us (Cn X pc pc' ls st)) : V X T I L R uc us pc ls stk := by
  intro H locs la h1 h2 h3 h4 U hU XU
  subst hU
  obtain ⟨hd, rfl⟩ := d
  obtain ⟨e1, e2, e3, e4, e5, e6, e7, e8, e9, e10⟩ := g
  obtain ⟨vm₁, mk, X1, hn, hstep⟩ := hi U locs _ _ la h1.1 h3 XU
  have hM := hC (x_w X) av T I L R uc us _ h2.2.2.1 h2.2.2.2 hS
  have hWK : WK (x_w X) (U.setVm vm₁) := e10.warm X1.warmed
  obtain ⟨methY, cY, hmY, hcY, hlY, -⟩ := hw _ #[] mk hn (hWK.at hcw _)
  obtain ⟨kY, hkY, -⟩ := className_of_methodNamed hn
  have hinitY : kY.init = .initialized := Cond.initialized_spec (findClass_of_methodNamed hn) hkY (hWK.at hini #[])
  generalize hgg : F0 (x_m X) pc la (st.map (cv (w_ad (x_w X)))) = gg at hstep
  have hgm : gg.method = x_m X := by rw [← hgg]
  have hgp : gg.pc = pc := by rw [← hgg]
  have hgs : gg.stack = st.map (cv (w_ad (x_w X))) := by rw [← hgg]
  have hgl : gg.locals.size = (x_c X).maxLocals := by rw [← hgg, e3, ← e4]; exact h4.1
  have hgr : gg.monitorRoom = 0 := by rw [← hgg]
  have hAt : At (U.setVm vm₁) gg.method (x_c X) (x_b X) := by rw [hgm]; exact X1.here
  have hdg : decode (x_c X).code gg.pc = .ok (ig, 3) := by rw [hgp, e2]; exact hd
  have hb := h2
  obtain ⟨b1, b2, b3, b4⟩ := hb
  have happ : (headSpec [cw] (rmx lev' uc us)).appliesLoose y (x_e X).platform ((U.setVm vm₁).calling gg mk (av.map (cv (w_ad (x_w X)))).toArray) = true := by
    refine Spec.appliesLoose_calling (g := gg) hAt hdg hn hkY hinitY (X1.room_calling (g := gg) (R' := rmx lev' uc us) hgl hmY hcY ?_ ?_ ?_ ?_) ?_
    · show lev' + 1 ≤ x_v X
      rw [e5]; exact hlev
    · show 2 * gg.monitorRoom + (gg.stack.map fun v => v.category).sum + (cY.maxLocals + 11) + 40 * lev' ≤ 40 * x_v X
      rw [hgr, hgs, sum_cat, hlY, e5]
      omega
    · show uc - x_u X + (601024 - uc) ≤ 601024 - x_u X
      omega
    · show us - x_z X + (7293034 - us) ≤ 7293034 - x_z X
      omega
    · exact atoms_intro fun c hc => by
        rw [List.mem_singleton.mp hc]
        exact hWK.at hcw _
  obtain ⟨mid, hmid⟩ := hAt.above
  have hfr : ((U.setVm vm₁).setTop gg).frames = (.java gg :: mid) ++ x_b X := by rw [State.frames_setTop' gg hAt.top, hmid]; rfl
  obtain ⟨o, s₂, hsteps, -, hend, hq⟩ := Steps.callFree hM (x_p X) X1.admits X1.cas X1.clock (acts := []) hfr happ ⟨rfl, hWK.warm (State.WarmedH.refl (U.setVm vm₁)), e9.2.1.kept X1.warmed (stand_keep XU h3), h1⟩ trivial
  obtain ⟨r, T', I', L', R', uc', us', Lo, hk, hRep', hB', rfl, hW2, hsame, hLo⟩ := hq
  rw [State.frames_setTop' gg hAt.top, X1.tail] at hend
  obtain ⟨b1', b2', b3', b4'⟩ := hB'
  have z1 : uc - x_u X + (uc' - uc) = uc' - x_u X := by omega
  have z2 : us - x_z X + (us' - us) = us' - x_z X := by omega
  have hF' : ∀ q ∈ locs ++ Lo, w_F (x_w X) q.base := fun q hq => by
    rcases List.mem_append.mp hq with h | h
    · exact h3 q h
    · exact hLo q h
  have hBd : Bd (x_u X) (x_z X) uc' us' := ⟨by omega, by omega, b3', b4'⟩
  cases r with
  | inl v =>
    obtain ⟨T2, X2, -, -, ht⟩ := X1.outOf (g := gg) hgm hdg hend hW2 hsame
    rw [z1, z2] at X2
    have hh : T2.heap = s₂.heap := by rw [ht]; rfl
    subst hgg
    cases v with
    | none =>
      obtain ⟨t2, a1, a2⟩ := hk T2.heap (locs ++ Lo) la (by rw [hh]; exact hRep') hBd hF' h4 T2 rfl X2
      exact ⟨t2, hstep t2 fun acts => by rw [doInvoke_state]; exact hsteps.trans (by rw [ht]; exact a1), a2⟩
    | some v =>
      obtain ⟨t2, a1, a2⟩ := hk T2.heap (locs ++ Lo) la (by rw [hh]; exact hRep') hBd hF' h4 T2 rfl X2
      exact ⟨t2, hstep t2 fun acts => by rw [doInvoke_state]; exact hsteps.trans (by rw [ht]; exact a1), a2⟩
  | inr x =>
    obtain ⟨T2, X2, -, -, ht⟩ := X1.outOfThrown (g := gg) hgm hend hW2 hsame
    rw [z1, z2] at X2
    have hh : T2.heap = s₂.heap := by rw [ht]; exact (Stand.throwing_heap _ _ _).symm
    subst hgg
    obtain ⟨t2, a1, a2⟩ := hk T2.heap (locs ++ Lo) la _ T2 (by rw [hh]; exact hRep') hBd hF' h4 rfl X2
    exact ⟨t2, hstep t2 fun acts => by rw [doInvoke_state]; exact hsteps.trans (by rw [ht]; exact a1), a2⟩
/-- nothing here catches x -/
theorem VT_out {x : Nat} (g : Gd X cc own ret nL lev nm) (hN : NH X) (k : x_k X (.inr x) T I L R uc us) : VT X T I L R uc us pc ls x := by
  intro H locs la stk U h1 h2 h3 h4 hU XU
  obtain ⟨e1, e2, e3, e4, e5, e6, e7, e8, e9, e10⟩ := g
  have hno : ∀ z ∈ (x_c X).exceptionTable.toList, covers z pc = false := by
    intro z hz
    have : (x_c X).exceptionTable = #[] := Array.isEmpty_iff.mp hN
    rw [this] at hz
    simp at hz
  obtain ⟨r1, r2, r3, r4, r5⟩ := XU.leaveThrown (w_ad (x_w X) x) (g := F0 (x_m X) pc la stk) rfl rfl rfl hno e8
  refine ⟨_, r1, .inr x, T, I, L, R, uc, us, locs, k, ?_, h2, r2, r3, r4, r5, h3⟩
  show RepU (x_w X) uc T I L R U.heap
  rw [hU]; exact h1
theorem V_athrow {x : Nat} (g : Gd X cc own ret nL lev nm) (hN : NH X) (d : dc cc pc .athrow 1 pc') (k : x_k X (.inr x) T I L R uc us) : V X T I L R uc us pc ls (.ref x :: st) := by
  intro H locs la h1 h2 h3 h4 U hU XU
  obtain ⟨hd, rfl⟩ := d
  obtain ⟨e1, e2, e3, e4, e5, e6, e7, e8, e9, e10⟩ := g
  have hno : ∀ z ∈ (x_c X).exceptionTable.toList, covers z pc = false := by
    intro z hz
    have : (x_c X).exceptionTable = #[] := Array.isEmpty_iff.mp hN
    rw [this] at hz
    simp at hz
  obtain ⟨r1, r2, r3, r4, r5⟩ := XU.athrowLeaves e1 (a := w_ad (x_w X) x) (rest := st.map (cv (w_ad (x_w X)))) (g := F0 (x_m X) pc la (.ref (w_ad (x_w X) x) :: st.map (cv (w_ad (x_w X))))) rfl rfl rfl hno rfl (by rw [e2]; exact hd) e8
  refine ⟨_, r1, .inr x, T, I, L, R, uc, us, locs, k, ?_, h2, r2, r3, r4, r5, h3⟩
  show RepU (x_w X) uc T I L R U.heap
  rw [hU]; exact h1
/-- the start of a walk -/
def VE (X : CX) (T : Tt) (I : It) (L : Lt) (R : Rt) (av : List Value) : Prop :=
  ∀ H : Heap, RepU (x_w X) (x_u X) T I L R H → Bd (x_u X) (x_z X) (x_u X) (x_z X) →
    W (x_p X) (x_l X) (x_e X) (rmx (x_v X) (x_u X) (x_z X)) (x_s X) (x_m X) (x_a X) (x_b X) (x_h X) (x_c X) H [] 0 0 (QQ X) (entryFrame (x_m X) (av.map (cv (w_ad (x_w X)))).toArray (x_n X))
theorem VE.go {uc us : Nat} (g : Gd X cc own ret nL lev nm) (hu : x_u X = uc) (hz : x_z X = us) (hl : ∀ ad, lvl ad 0 ls = lv_args 0 (av.map (cv ad))) (hn : ∀ ad, (lg_sl (av.map (cv ad))).length ≤ nL) (k : V X T I L R uc us 0 ls []) : VE X T I L R av := by
  intro H h1 h2
  have h5 := lv_entry (av.map (cv (w_ad (x_w X)))) (n := x_n X) (by rw [g.2.2.2.1]; exact hn _)
  rw [lg_entry_eq]
  rw [← hl] at h5
  have := k H [] _ (by rw [← hu]; exact h1) (by rw [hu, hz] at h2 ⊢; exact h2) (fun q hq => by cases hq) h5
  rw [hu, hz, Nat.sub_self, Nat.sub_self] at this
  rw [hu, hz]
  exact this
/-- a contract out of a walk, no handlers -/
theorem Ct.of {l : Launch} {lev : Nat} (hy : plainName y.cls = true) (hnm : y.name = nm) (hcls : y.cls = own)
    (body : ∀ (X : CX) (av : List Value) (T : Tt) (I : It) (L : Lt) (R : Rt) (uc us : Nat), x_l X = l → Gd X cc own ret nL lev nm → NH X → x_u X = uc → x_z X = us → S av T I L R uc us (x_k X) → VE X T I L R av) :
    Ct l y (.code y cc nL ret) lev S := by
  intro w av T I L R uc us k huc hus hS
  refine MetFree.of_bodyS (code := cc) (maxLocals := nL) (ret := ret) hy ?_ ?_
  · intro args s m h hn
    obtain ⟨meth, c, h1, h2, h3, h4, h5, h6, -, -⟩ := Cond.code_spec hn (atoms_spec (ws := [Cond.code y cc nL ret]) h _ List.mem_cons_self)
    exact ⟨meth, c, h1, h2, h3, h4, h5, h6⟩
  · intro p e s m args below meth c s₁ B hml hP _
    obtain ⟨rfl, hWK, hFG, hRep⟩ := hP
    have hcw := atoms_spec (ws := [Cond.code y cc nL ret]) B.pre _ List.mem_cons_self
    have hh0 : s₁.heap = s.heap := by rw [B.state]; rfl
    have hown : s.vm.findClass y.cls = some m.cls := findClass_of_methodNamed B.named
    rw [hcls] at hown
    obtain ⟨t, a1, r, T', I', L', R', uc', us', Lo, b1, b2, b3, b4, b5, b6, b7, b8⟩ := body (p, l, e, s, m, (av.map (cv (w_ad w))).toArray, below, meth, c, w, nL, lev, uc, us, k) av T I L R uc us rfl
      ⟨B.exec, B.bytes, hml, rfl, rfl, hown, B.returns, B.notSynchronized, ⟨(name_of_methodNamed B.named B.method).1.trans hnm, hFG, Nat.le_of_eq hRep.2⟩, hWK⟩ (B.noHandlers hcw) rfl rfl hS s₁.heap (by rw [hh0]; exact hRep) ⟨Nat.le_refl _, Nat.le_refl _, huc, hus⟩ s₁ rfl (Stand.of_body B)
    exact ⟨t, _, a1, b4, b5, r, T', I', L', R', uc', us', Lo, b1, b2, b3, rfl, b6, b7, b8⟩
/-- the receiver's class -/
theorem Rep.recv {w : Wd} {s : State} {H : Heap} {a tg N : Nat} {C : String} {Tb : u_T} (hK : WK w s) (h : Rep w T I L R H) (hT : (T a).1 = tg) (hkt : kt[tg]? = some (C, Tb, N)) (h99 : tg < 99) : ∃ cell : Cell, H[w_ad w a]? = some cell ∧ cell.vm.isStatics = false ∧ s.vm.findClass C = some cell.cls := by
  obtain ⟨cell, q1, q2, q3, -⟩ := h.obj hT hkt h99
  exact ⟨cell, q1, by rw [q3]; rfl, by rw [q2]; exact (hK.2.1 tg _ hkt).2.1⟩
/-- invokevirtual of a method of the receiver's own class -/
theorem ivk_V {as : List Value} {a tg N : Nat} {C : String} {Tb : u_T} (g : Gd X cc own ret nL lev nm) (d : dc cc pc (.invokevirtual idx) 3 pc') (hw : CWd cw y nL') (hcw : cw ∈ lw_k) (hl : Cond.methodLink own idx y ∈ lw_k ∨ ∃ host, Cond.methodLinkNest own idx y host ∈ lw_k) (hi : Cond.instanceMethod y ∈ lw_k) (hs : Cond.selects C y y ∈ lw_k)
    (hy : (y.cls ≠ "java/lang/invoke/MethodHandle" ∧ y.cls ≠ "java/lang/invoke/VarHandle") ∧ (parseMethodDescriptor y.desc).map (fun d => d.parameters.length) = some as.length) (hT : (T a).1 = tg) (hkt : kt[tg]? = some (C, Tb, N)) (h99 : tg < 99) : Ivk X T I L R pc y (.ref a :: as) (as.reverse ++ .ref a :: st) st := by
  intro U locs cells slots la hR hF XU
  obtain ⟨hd, -⟩ := d
  obtain ⟨e1, e2, e3, e4, e5, e6, e7, e8, e9, e10⟩ := g
  have hts : ∀ w ∈ lw_k, w.before (x_a X) (x_s X) = true := fun w h => e10.at h _
  obtain ⟨mk, methM, hnamed, hmethM, hstM, habM⟩ := Cond.instanceMethod_spec (hts _ hi)
  obtain ⟨methM', cM, hmethM', -, -, hsigM⟩ := hw _ _ mk hnamed (hts _ hcw)
  cases hmethM.symm.trans hmethM'
  obtain ⟨c2, r2, m2, q1, q2, q3, q4, kP, hkP, hkPi⟩ := Cond.selects_spec (hts _ hs)
  obtain ⟨cellB, hcell, hobj, hcls⟩ := Rep.recv e10 hR hT hkt h99
  cases hcls.symm.trans q1
  cases (State.methodFound?_of_named hnamed hy.1).symm.trans q2
  cases hnamed.symm.trans q3
  have hselP : selectMethod (x_e X).platform (x_s X).vm cellB.cls mk = .method mk := by rw [Launch.admits_selectMethod XU.admits]; exact q4
  have hlen : (as.map (cv (w_ad (x_w X)))).length = methM.sig.parameters.length := by
    have := hy.2
    rw [hsigM] at this
    rw [List.length_map]
    exact (Option.some.inj this).symm
  have hstk : (F0 (x_m X) pc la ((as.reverse ++ .ref a :: st).map (cv (w_ad (x_w X))))).stack = (as.map (cv (w_ad (x_w X)))).reverse ++ .ref (w_ad (x_w X) a) :: st.map (cv (w_ad (x_w X))) := by
    show (as.reverse ++ .ref a :: st).map (cv (w_ad (x_w X))) = _
    rw [List.map_append, List.map_reverse]
    rfl
  rcases hl with hl | ⟨host, hl⟩
  · obtain ⟨vm₁, X₁, hstep⟩ := XU.invokevirtual e1 e6 (hts _ hl) hnamed hmethM hstM hkP hkPi hy.1 (a := w_ad (x_w X) a) (cell := cellB) hcell (fun z h => by rw [h] at hobj; cases hobj) hselP hmethM habM hkP hkPi (g := F0 (x_m X) pc la ((as.reverse ++ .ref a :: st).map (cv (w_ad (x_w X))))) rfl hlen hstk (by rw [e2]; exact hd)
    exact ⟨vm₁, mk, X₁, X₁.named hnamed, hstep⟩
  · obtain ⟨vm₁, X₁, hstep⟩ := XU.invokevirtualNest e1 e6 (hts _ hl) hnamed hmethM hstM hkP hkPi hy.1 (a := w_ad (x_w X) a) (cell := cellB) hcell (fun z h => by rw [h] at hobj; cases hobj) hselP hmethM habM hkP hkPi (g := F0 (x_m X) pc la ((as.reverse ++ .ref a :: st).map (cv (w_ad (x_w X))))) rfl hlen hstk (by rw [e2]; exact hd)
    exact ⟨vm₁, mk, X₁, X₁.named hnamed, hstep⟩
/-- invokestatic -/
theorem ivk_S {as : List Value} (g : Gd X cc own ret nL lev nm) (d : dc cc pc (.invokestatic idx) 3 pc') (hw : CWd cw y nL') (hcw : cw ∈ lw_k) (hl : Cond.methodLink own idx y ∈ lw_k) (hs : Cond.static y ∈ lw_k) (hini : Cond.initialized y.cls ∈ lw_k) (hnm : ∀ U : State, ∀ a, cw.before a U = true → ∃ mk, U.methodNamed? y = some mk)
    (hy : (y.cls ≠ "java/lang/invoke/MethodHandle" ∧ y.cls ≠ "java/lang/invoke/VarHandle") ∧ (parseMethodDescriptor y.desc).map (fun d => d.parameters.length) = some as.length) : Ivk X T I L R pc y as (as.reverse ++ st) st := by
  intro U locs cells slots la hR hF XU
  obtain ⟨hd, -⟩ := d
  obtain ⟨e1, e2, e3, e4, e5, e6, e7, e8, e9, e10⟩ := g
  have hts : ∀ w ∈ lw_k, w.before (x_a X) (x_s X) = true := fun w h => e10.at h _
  obtain ⟨mk, hnamed⟩ := hnm _ _ (hts _ hcw)
  obtain ⟨methM, cM, hmethM, -, -, hsigM⟩ := hw _ _ mk hnamed (hts _ hcw)
  have hstatic : methM.isStatic = true := Cond.static_spec hnamed hmethM (hts _ hs)
  obtain ⟨kP, hkP, -⟩ := className_of_methodNamed hnamed
  have hinitP : kP.init = .initialized := Cond.initialized_spec (findClass_of_methodNamed hnamed) hkP (hts _ hini)
  have hlen : (as.map (cv (w_ad (x_w X)))).length = methM.sig.parameters.length := by
    have := hy.2
    rw [hsigM] at this
    rw [List.length_map]
    exact (Option.some.inj this).symm
  have hstk : (F0 (x_m X) pc la ((as.reverse ++ st).map (cv (w_ad (x_w X))))).stack = (as.map (cv (w_ad (x_w X)))).reverse ++ st.map (cv (w_ad (x_w X))) := by
    show (as.reverse ++ st).map (cv (w_ad (x_w X))) = _
    rw [List.map_append, List.map_reverse]
  obtain ⟨vm₁, X₁, hstep⟩ := XU.invokestatic e1 e6 (hts _ hl) hnamed hmethM hstatic hkP hinitP hy.1 (g := F0 (x_m X) pc la ((as.reverse ++ st).map (cv (w_ad (x_w X))))) rfl hlen hstk (by rw [e2]; exact hd)
  exact ⟨vm₁, mk, X₁, X₁.named hnamed, hstep⟩
theorem nmd_c {y : MethodName} {b : ByteArray} {n : Nat} {r : Option FieldType} : ∀ U : State, ∀ a, (Cond.code y b n r).before a U = true → ∃ mk, U.methodNamed? y = some mk := fun U a h => Cond.code_named h
theorem nmd_w {y : MethodName} {b : ByteArray} {n : Nat} {r : Option FieldType} {hh : List (Nat × Nat × Nat × Nat)} : ∀ U : State, ∀ a, (Cond.codeWith y b n r hh).before a U = true → ∃ mk, U.methodNamed? y = some mk := by
  intro U a h
  obtain ⟨m9, meth, c, hn9, -⟩ := Cond.codeWith_spec h
  exact ⟨m9, hn9⟩
/-- a constructor -/
theorem ivk_I {as : List Value} {a : Nat} {bytes : ByteArray} (g : Gd X cc own ret nL lev nm) (d : dc cc pc (.invokespecial idx) 3 pc') (hcw : Cond.code y bytes nL' none ∈ lw_k) (hl : Cond.methodLink own idx y ∈ lw_k ∨ ∃ host, Cond.methodLinkNest own idx y host ∈ lw_k) (hi : Cond.instanceMethod y ∈ lw_k) (hin : y.name = "<init>")
    (hy : (y.cls ≠ "java/lang/invoke/MethodHandle" ∧ y.cls ≠ "java/lang/invoke/VarHandle") ∧ (parseMethodDescriptor y.desc).map (fun d => d.parameters.length) = some as.length) : Ivk X T I L R pc y (.ref a :: as) (as.reverse ++ .ref a :: st) st := by
  intro U locs cells slots la hR hF XU
  obtain ⟨hd, -⟩ := d
  obtain ⟨e1, e2, e3, e4, e5, e6, e7, e8, e9, e10⟩ := g
  have hts : ∀ w ∈ lw_k, w.before (x_a X) (x_s X) = true := fun w h => e10.at h _
  have hpl : (x_e X).platform.magicAccessors = ({} : Platform).magicAccessors := by rw [XU.admits.platform]
  have hlen : ∀ sig, parseMethodDescriptor y.desc = some sig → (as.map (cv (w_ad (x_w X)))).length = sig.parameters.length := by
    intro sig hsig
    have := hy.2
    rw [hsig] at this
    rw [List.length_map]
    exact (Option.some.inj this).symm
  have hstk : (F0 (x_m X) pc la ((as.reverse ++ .ref a :: st).map (cv (w_ad (x_w X))))).stack = (as.map (cv (w_ad (x_w X)))).reverse ++ .ref (w_ad (x_w X) a) :: st.map (cv (w_ad (x_w X))) := by
    show (as.reverse ++ .ref a :: st).map (cv (w_ad (x_w X))) = _
    rw [List.map_append, List.map_reverse]
    rfl
  rcases hl with hl | ⟨host, hl⟩
  · obtain ⟨mk, methM, cM, kP, vm₁, hnamed, hmethM, hcodeM, -, hlocalsM, -, hkP, -, hW₁, hstep⟩ := Steps.initColdArgs (e := x_e X) XU.here e1 XU.warmed hpl e6 hin hy.1 (hts _ hl) (hts _ hi) (hts _ hcw) (f := F0 (x_m X) pc la ((as.reverse ++ .ref a :: st).map (cv (w_ad (x_w X))))) rfl hlen hstk (by rw [e2]; exact hd)
    exact ⟨vm₁, mk, XU.noted hW₁, (XU.noted hW₁).named hnamed, hstep⟩
  · obtain ⟨mk, methM, cM, kP, vm₁, hnamed, hmethM, hcodeM, -, hlocalsM, -, hkP, -, hW₁, hstep⟩ := Steps.initColdArgsNest (e := x_e X) XU.here e1 XU.warmed hpl e6 hin hy.1 (hts _ hl) (hts _ hi) (hts _ hcw) (f := F0 (x_m X) pc la ((as.reverse ++ .ref a :: st).map (cv (w_ad (x_w X))))) rfl hlen hstk (by rw [e2]; exact hd)
    exact ⟨vm₁, mk, XU.noted hW₁, (XU.noted hW₁).named hnamed, hstep⟩
end CallsV
