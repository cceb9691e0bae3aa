/-! rows of V: strings, statics, calls of overriding methods, arraycopy, class objects -/
set_option maxRecDepth 100000
section Rows2
variable {X : CX} {T : Tt} {I : It} {L : Lt} {R : Rt} {uc us pc pc' tgt : Nat} {ls : List (Option Value)} {st stk av : List Value} {cc : ByteArray} {own : String} {ret : Option FieldType} {nL lev : Nat} {nm : String} {y : MethodName} {cw : Cond} {lev' nL' idx a tg N : Nat} {S : Sp} {C : String} {Tb : u_T} {b : ByteArray}
theorem V_T {T' : Tt} (h : T = T') (k : V X T' I L R uc us pc ls st) : V X T I L R uc us pc ls st := h ▸ k
theorem V_R {R' : Rt} (h : R = R') (k : V X T I L R' uc us pc ls st) : V X T I L R uc us pc ls st := h ▸ k
theorem V_uc {uc' us' : Nat} (h : uc = uc') (h2 : us = us') (k : V X T I L R uc' us' pc ls st) : V X T I L R uc us pc ls st := h ▸ h2 ▸ k
theorem keepS {p : Program} {l : Launch} {e : Env} {R : Room} {s : State} {m : MethodId} {args : Array Value} {below : List Frame} {meth : Method} {c : Code} {U : State} {locs : List Loc} {cells slots : Nat} (X : Stand p l e R s m args below meth c U locs cells slots) {F : Nat → Prop} (h : ∀ q ∈ locs, F q.base) {H : Heap} (hU : U.heap = H) : va_S F s.heap H locs := by
  subst hU
  refine ⟨?_, stand_keep X h, h⟩
  refine Nat.le_of_not_lt fun q => ?_
  have hc : s.heap[U.heap.size]? = some s.heap[U.heap.size] := Array.getElem?_eq_getElem q
  obtain ⟨c', h1, -⟩ := X.same.2.2.2.2.2 _ _ hc
  have h1' : U.heap[U.heap.size]? = some c' := h1
  simp at h1'
/-- the rows below need what has not changed -/
theorem V_keep (k : ∀ (H : Heap) (locs : List Loc) (la : Array Slot), RepU (x_w X) uc T I L R H → Bd (x_u X) (x_z X) uc us → (∀ q ∈ locs, w_F (x_w X) q.base) → lv_has la (x_n X) (lvl (w_ad (x_w X)) 0 ls) → va_S (w_F (x_w X)) (x_s X).heap H locs → W (x_p X) (x_l X) (x_e X) (rmx (x_v X) (x_u X) (x_z X)) (x_s X) (x_m X) (x_a X) (x_b X) (x_h X) (x_c X) H locs (uc - x_u X) (us - x_z X) (QQ X) (F0 (x_m X) pc la (st.map (cv (w_ad (x_w X)))))) : V X T I L R uc us pc ls st := by
  intro H locs la h1 h2 h3 h4 U hU XU
  exact k H locs la h1 h2 h3 h4 (keepS XU h3 hU) U hU XU
theorem V_ldcS {i : Nat} (g : Gd X cc "BedBook$Reader" ret nL lev nm) (d : dc cc pc (.ldc idx) 2 pc') (hi : i < 5) (he : (strI i).1 = idx) (k : V X T I L R uc us pc' ls (.ref (sK i) :: st)) : V X T I L R uc us pc ls st := by
  intro H locs la h1 h2 h3 h4
  obtain ⟨hd, rfl⟩ := d
  obtain ⟨e1, e2, e3, e4, e5, e6, e7, e8, e9, e10⟩ := g
  subst he
  exact va_ldcS e1 e2 e6 (e9.2.1.2.1 i hi) hd (k H locs la h1 h2 h3 h4)
theorem V_strV {i : Nat} (g : Gd X cc own ret nL lev nm) (d : dc cc pc (.getfield idx) 3 pc') (hi : i < 5) (hl : Cond.fieldLink own idx "java/lang/String" "value" "[B" ∈ lw_k) (k : V X T I L R uc us pc' ls (.ref (sV i) :: st)) : V X T I L R uc us pc ls (.ref (sK i) :: st) := by
  refine V_keep fun H locs la h1 h2 h3 h4 hS => ?_
  obtain ⟨hd, rfl⟩ := d
  obtain ⟨e1, e2, e3, e4, e5, e6, e7, e8, e9, e10⟩ := g
  exact vk_getf e1 e2 (e9.2.1.1.1 i hi).2.2.1 hS e6 (e10.at hl _) (fun _ h => h) hd (k H locs la h1 h2 h3 h4)
theorem V_strC {i : Nat} (g : Gd X cc own ret nL lev nm) (d : dc cc pc (.getfield idx) 3 pc') (hi : i < 5) (hl : Cond.fieldLink own idx "java/lang/String" "coder" "B" ∈ lw_k) (k : V X T I L R uc us pc' ls (.int 0 :: st)) : V X T I L R uc us pc ls (.ref (sK i) :: st) := by
  refine V_keep fun H locs la h1 h2 h3 h4 hS => ?_
  obtain ⟨hd, rfl⟩ := d
  obtain ⟨e1, e2, e3, e4, e5, e6, e7, e8, e9, e10⟩ := g
  exact vk_getf e1 e2 (e9.2.1.1.1 i hi).2.1 hS e6 (e10.at hl _) (fun _ h => h) hd (k H locs la h1 h2 h3 h4)
theorem V_strL {i : Nat} (g : Gd X cc own ret nL lev nm) (d : dc cc pc .arraylength 1 pc') (hi : i < 5) (k : V X T I L R uc us pc' ls (.int (nI (strL.getD i 0)) :: st)) : V X T I L R uc us pc ls (.ref (sV i) :: st) := by
  refine V_keep fun H locs la h1 h2 h3 h4 hS => ?_
  obtain ⟨hd, rfl⟩ := d
  obtain ⟨e1, e2, e3, e4, e5, e6, e7, e8, e9, e10⟩ := g
  exact va_tlen e1 e2 (e9.2.1.1.1 i hi).2.2.2 hS rfl hd (k H locs la h1 h2 h3 h4)
theorem V_strB {i j : Nat} (g : Gd X cc own ret nL lev nm) (d : dc cc pc .baload 1 pc') (hi : i < 5) (hj : j < strL.getD i 0) (hn : strL.getD i 0 < 2 ^ 31) (k : V X T I L R uc us pc' ls (.int ((strB.getD i []).getD j 0) :: st)) : V X T I L R uc us pc ls (.int (nI j) :: .ref (sV i) :: st) := by
  refine V_keep fun H locs la h1 h2 h3 h4 hS => ?_
  obtain ⟨hd, rfl⟩ := d
  obtain ⟨e1, e2, e3, e4, e5, e6, e7, e8, e9, e10⟩ := g
  exact va_tb e1 e2 (e9.2.1.1.1 i hi).2.2.2 hS (vp_in_nI hj hn) (by rw [nI_clamp (by omega)]; rfl) hd (k H locs la h1 h2 h3 h4)
/-- invokevirtual on a String constant -/
theorem ivk_St {as : List Value} {i : Nat} (g : Gd X cc own ret nL lev nm) (d : dc cc pc (.invokevirtual idx) 3 pc') (hi5 : i < 5) (hw : CWd cw y nL') (hcw : cw ∈ lw_k) (hl : Cond.methodLink own idx y ∈ lw_k) (hi : Cond.instanceMethod y ∈ lw_k) (hs : Cond.selects "java/lang/String" y y ∈ lw_k)
    (hy : (y.cls ≠ "java/lang/invoke/MethodHandle" ∧ y.cls ≠ "java/lang/invoke/VarHandle") ∧ (parseMethodDescriptor y.desc).map (fun d => d.parameters.length) = some as.length) : Ivk X T I L R pc y (.ref (sK i) :: as) (as.reverse ++ .ref (sK i) :: st) st := by
  intro U locs cells slots la hR hF XU
  obtain ⟨hd, -⟩ := d
  obtain ⟨e1, e2, e3, e4, e5, e6, e7, e8, e9, e10⟩ := g
  have hts : ∀ w ∈ lw_k, w.before (x_a X) (x_s X) = true := fun w h => e10.at h _
  obtain ⟨mk, methM, hnamed, hmethM, hstM, habM⟩ := Cond.instanceMethod_spec (hts _ hi)
  obtain ⟨methM', cM, hmethM', -, -, hsigM⟩ := hw _ _ mk hnamed (hts _ hcw)
  cases hmethM.symm.trans hmethM'
  obtain ⟨c2, r2, m2, q1, q2, q3, q4, kP, hkP, hkPi⟩ := Cond.selects_spec (hts _ hs)
  obtain ⟨cellB, hcell, hobj, hcls⟩ := vk_recv e9.2.1.1 hi5 (keepS XU hF rfl)
  cases hcls.symm.trans q1
  cases (State.methodFound?_of_named hnamed hy.1).symm.trans q2
  cases hnamed.symm.trans q3
  have hselP : selectMethod (x_e X).platform (x_s X).vm cellB.cls mk = .method mk := by rw [Launch.admits_selectMethod XU.admits]; exact q4
  have hlen : (as.map (cv (w_ad (x_w X)))).length = methM.sig.parameters.length := by
    have := hy.2
    rw [hsigM] at this
    rw [List.length_map]
    exact (Option.some.inj this).symm
  have hstk : (F0 (x_m X) pc la ((as.reverse ++ .ref (sK i) :: st).map (cv (w_ad (x_w X))))).stack = (as.map (cv (w_ad (x_w X)))).reverse ++ .ref (w_ad (x_w X) (sK i)) :: st.map (cv (w_ad (x_w X))) := by
    show (as.reverse ++ .ref (sK i) :: st).map (cv (w_ad (x_w X))) = _
    rw [List.map_append, List.map_reverse]
    rfl
  obtain ⟨vm₁, X₁, hstep⟩ := XU.invokevirtual e1 e6 (hts _ hl) hnamed hmethM hstM hkP hkPi hy.1 (a := w_ad (x_w X) (sK i)) (cell := cellB) hcell (fun z h => by rw [h] at hobj; cases hobj) hselP hmethM habM hkP hkPi (g := F0 (x_m X) pc la ((as.reverse ++ .ref (sK i) :: st).map (cv (w_ad (x_w X))))) rfl hlen hstk (by rw [e2]; exact hd)
  exact ⟨vm₁, mk, X₁, X₁.named hnamed, hstep⟩
/-- va_Decl out of a code word or a 'declares' -/
def DeclK (x : MethodName) : Prop := (∃ (b : ByteArray) (n : Nat) (r : Option FieldType), Cond.code x b n r ∈ lw_k ∧ Cond.instanceMethod x ∈ lw_k) ∨ Cond.declares x ∈ lw_k
theorem DeclK.at {x : MethodName} (h : DeclK x) {w : Wd} {s : State} (hK : WK w s) (args : Array Value) : va_Decl s x := by
  rcases h with ⟨b, n, r, h1, h2⟩ | h
  · exact va_Decl.of (hK.at h2 args) (hK.at h1 args)
  · exact va_Decl.abs (va_Nw.of rfl (hK.at h args))
/-- invokevirtual of x, that the receiver's class has as y -/
theorem ivk_U {as : List Value} {x : MethodName} {owner : String} (g : Gd X cc own ret nL lev nm) (d : dc cc pc (.invokevirtual idx) 3 pc') (hl : Cond.methodLink own idx x ∈ lw_k) (hsame : Cond.sameMethod x.cls owner x.name x.desc ∈ lw_k) (hdl : DeclK ⟨owner, x.name, x.desc⟩) (hi : Cond.instanceMethod y ∈ lw_k) (hs : Cond.selects C x y ∈ lw_k)
    (hy : (owner ≠ "java/lang/invoke/MethodHandle" ∧ owner ≠ "java/lang/invoke/VarHandle") ∧ (parseMethodDescriptor x.desc).map (fun d => d.parameters.length) = some as.length) (hT : (T a).1 = tg) (hkt : kt[tg]? = some (C, Tb, N)) (h99 : tg < 99) : Ivk X T I L R pc y (.ref a :: as) (as.reverse ++ .ref a :: st) st := by
  intro U locs cells slots la hR hF XU
  obtain ⟨hd, -⟩ := d
  obtain ⟨e1, e2, e3, e4, e5, e6, e7, e8, e9, e10⟩ := g
  have hts : ∀ w ∈ lw_k, w.before (x_a X) (x_s X) = true := fun w h => e10.at h _
  obtain ⟨r0, r, hn, hrm, hstR, hsigR⟩ := hdl.at e10 (x_a X)
  obtain ⟨cn, ck, r1, hcn, hck, hni, hf, hn1⟩ := Cond.sameMethod_found (hts _ hsame)
  cases hn.symm.trans hn1
  obtain ⟨mk, methM, hnamed, hmethM, -, habM⟩ := Cond.instanceMethod_spec (hts _ hi)
  obtain ⟨c2, r2, m2, q1, q2, q3, q4, kP, hkP, hkPi⟩ := Cond.selects_spec (hts _ hs)
  obtain ⟨cellB, hcell, hobj, hcls⟩ := Rep.recv e10 hR hT hkt h99
  cases hcls.symm.trans q1
  cases hf.symm.trans q2
  cases hnamed.symm.trans q3
  have hselP : selectMethod (x_e X).platform (x_s X).vm cellB.cls r0 = .method mk := by rw [Launch.admits_selectMethod XU.admits]; exact q4
  have hlen : (as.map (cv (w_ad (x_w X)))).length = r.sig.parameters.length := by
    have := hy.2
    rw [hsigR] at this
    rw [List.length_map]
    exact (Option.some.inj this).symm
  have hstk : (F0 (x_m X) pc la ((as.reverse ++ .ref a :: st).map (cv (w_ad (x_w X))))).stack = (as.map (cv (w_ad (x_w X)))).reverse ++ .ref (w_ad (x_w X) a) :: st.map (cv (w_ad (x_w X))) := by
    show (as.reverse ++ .ref a :: st).map (cv (w_ad (x_w X))) = _
    rw [List.map_append, List.map_reverse]
    rfl
  obtain ⟨vm₁, X₁, hstep⟩ := XU.invokevirtualUp e1 e6 (hts _ hl) (hts _ hsame) hy.1 hn hrm hstR (a := w_ad (x_w X) a) (cell := cellB) hcell (fun z h => by rw [h] at hobj; cases hobj) hselP hmethM habM hkP hkPi (g := F0 (x_m X) pc la ((as.reverse ++ .ref a :: st).map (cv (w_ad (x_w X))))) rfl (argsL := as.map (cv (w_ad (x_w X)))) (rest := st.map (cv (w_ad (x_w X)))) hlen hstk (by rw [e2]; exact hd)
  exact ⟨vm₁, mk, X₁, X₁.named hnamed, hstep⟩
theorem V_getsI {ref : String} {f dsc : String} {v : Int32} (g : Gd X cc own ret nL lev nm) (d : dc cc pc (.getstatic idx) 3 pc') (hz : ∀ w s H, FG w s H → va_Z ref f dsc (.int v) (w_F w) s H) (hl : Cond.fieldLink own idx ref f dsc ∈ lw_k) (k : V X T I L R uc us pc' ls (.int v :: st)) : V X T I L R uc us pc ls st := by
  refine V_keep fun H locs la h1 h2 h3 h4 hS => ?_
  obtain ⟨hd, rfl⟩ := d
  obtain ⟨e1, e2, e3, e4, e5, e6, e7, e8, e9, e10⟩ := g
  exact va_gets e1 e2 (hz _ _ _ e9.2.1) hS e6 (e10.at hl _) (fun _ h => h) hd (k H locs la h1 h2 h3 h4)
theorem V_getsR {ref : String} {f dsc : String} (g : Gd X cc own ret nL lev nm) (d : dc cc pc (.getstatic idx) 3 pc') (hz : ∀ w s H, FG w s H → ∃ r : Option Nat, va_Z ref f dsc (cv (w_ad w) (rv r)) (w_F w) s H) (hl : Cond.fieldLink own idx ref f dsc ∈ lw_k) (k : ∀ r : Option Nat, V X T I L R uc us pc' ls (rv r :: st)) : V X T I L R uc us pc ls st := by
  refine V_keep fun H locs la h1 h2 h3 h4 hS => ?_
  obtain ⟨hd, rfl⟩ := d
  obtain ⟨e1, e2, e3, e4, e5, e6, e7, e8, e9, e10⟩ := g
  obtain ⟨r, hr⟩ := hz _ _ _ e9.2.1
  exact va_gets e1 e2 hr hS e6 (e10.at hl _) (fun _ h => h) hd (k r H locs la h1 h2 h3 h4)
end Rows2
