/-! call rows by number of arguments (printed by tools/gen_calls.py) -/
set_option maxRecDepth 100000
def PkV (own : String) (idx : Nat) (y : MethodName) (cw : Cond) (nL' : Nat) (C : String) (n : Nat) : Prop := CWd cw y nL' ∧ cw ∈ lw_k ∧ (Cond.methodLink own idx y ∈ lw_k ∨ ∃ host, Cond.methodLinkNest own idx y host ∈ lw_k) ∧ Cond.instanceMethod y ∈ lw_k ∧ Cond.selects C y y ∈ lw_k ∧ ((y.cls ≠ "java/lang/invoke/MethodHandle" ∧ y.cls ≠ "java/lang/invoke/VarHandle") ∧ (parseMethodDescriptor y.desc).map (fun d => d.parameters.length) = some n) ∧ Cond.initialized y.cls ∈ lw_k ∧ nL' ≤ 21
def PkS (own : String) (idx : Nat) (y : MethodName) (cw : Cond) (nL' : Nat) (n : Nat) : Prop := CWd cw y nL' ∧ cw ∈ lw_k ∧ Cond.methodLink own idx y ∈ lw_k ∧ Cond.static y ∈ lw_k ∧ Cond.initialized y.cls ∈ lw_k ∧ (∀ U : State, ∀ a, cw.before a U = true → ∃ mk, U.methodNamed? y = some mk) ∧ ((y.cls ≠ "java/lang/invoke/MethodHandle" ∧ y.cls ≠ "java/lang/invoke/VarHandle") ∧ (parseMethodDescriptor y.desc).map (fun d => d.parameters.length) = some n) ∧ nL' ≤ 21
def PkI (own : String) (idx : Nat) (y : MethodName) (b : ByteArray) (nL' : Nat) (n : Nat) : Prop := Cond.code y b nL' none ∈ lw_k ∧ (Cond.methodLink own idx y ∈ lw_k ∨ ∃ host, Cond.methodLinkNest own idx y host ∈ lw_k) ∧ Cond.instanceMethod y ∈ lw_k ∧ y.name = "<init>" ∧ ((y.cls ≠ "java/lang/invoke/MethodHandle" ∧ y.cls ≠ "java/lang/invoke/VarHandle") ∧ (parseMethodDescriptor y.desc).map (fun d => d.parameters.length) = some n) ∧ Cond.initialized y.cls ∈ lw_k ∧ nL' ≤ 21
section CallRows
variable {X : CX} {T : Tt} {I : It} {L : Lt} {R : Rt} {uc us pc pc' tgt : Nat} {ls : List (Option Value)} {st : List Value} {cc : ByteArray} {own : String} {ret : Option FieldType} {nL lev : Nat} {nm : String} {y : MethodName} {cw : Cond} {lev' nL' idx a tg N : Nat} {S : Sp} {C : String} {Tb : u_T} {b : ByteArray}
theorem V_cv0 (g : Gd X cc own ret nL lev nm) (hC : Ct (x_l X) y cw lev' S) (d : dc cc pc (.invokevirtual idx) 3 pc') (pk : PkV own idx y cw nL' C 0) (hT : (T a).1 = tg) (hkt : kt[tg]? = some (C, Tb, N)) (h99 : tg < 99) (hlev : lev' + 1 ≤ lev) (hroom : (st.map fun v => v.category).sum ≤ 8) (hS : S [.ref a] T I L R uc us (Cn X pc pc' ls st)) : V X T I L R uc us pc ls (.ref a :: st) := by
  obtain ⟨p1, p2, p3, p4, p5, p6, p7, p8⟩ := pk
  exact V_call g hC (ivk_V (as := []) g d p1 p2 p3 p4 p5 p6 hT hkt h99) d p1 p2 p7 hlev p8 hroom hS
theorem V_cs0 (g : Gd X cc own ret nL lev nm) (hC : Ct (x_l X) y cw lev' S) (d : dc cc pc (.invokestatic idx) 3 pc') (pk : PkS own idx y cw nL' 0) (hlev : lev' + 1 ≤ lev) (hroom : (st.map fun v => v.category).sum ≤ 8) (hS : S [] T I L R uc us (Cn X pc pc' ls st)) : V X T I L R uc us pc ls (st) := by
  obtain ⟨p1, p2, p3, p4, p5, p6, p7, p8⟩ := pk
  exact V_call g hC (ivk_S (as := []) g d p1 p2 p3 p4 p5 p6 p7) d p1 p2 p5 hlev p8 hroom hS
theorem V_ci0 (g : Gd X cc own ret nL lev nm) (hC : Ct (x_l X) y (.code y b nL' none) lev' S) (d : dc cc pc (.invokespecial idx) 3 pc') (pk : PkI own idx y b nL' 0) (hlev : lev' + 1 ≤ lev) (hroom : (st.map fun v => v.category).sum ≤ 8) (hS : S [.ref a] T I L R uc us (Cn X pc pc' ls st)) : V X T I L R uc us pc ls (.ref a :: st) := by
  obtain ⟨p1, p2, p3, p4, p5, p6, p7⟩ := pk
  exact V_call g hC (ivk_I (as := []) g d p1 p2 p3 p4 p5) d cwd_c p1 p6 hlev p7 hroom hS
theorem V_cv1 {x1 : Value} (g : Gd X cc own ret nL lev nm) (hC : Ct (x_l X) y cw lev' S) (d : dc cc pc (.invokevirtual idx) 3 pc') (pk : PkV own idx y cw nL' C 1) (hT : (T a).1 = tg) (hkt : kt[tg]? = some (C, Tb, N)) (h99 : tg < 99) (hlev : lev' + 1 ≤ lev) (hroom : (st.map fun v => v.category).sum ≤ 8) (hS : S [.ref a, x1] T I L R uc us (Cn X pc pc' ls st)) : V X T I L R uc us pc ls (x1 :: .ref a :: st) := by
  obtain ⟨p1, p2, p3, p4, p5, p6, p7, p8⟩ := pk
  exact V_call g hC (ivk_V (as := [x1]) g d p1 p2 p3 p4 p5 p6 hT hkt h99) d p1 p2 p7 hlev p8 hroom hS
theorem V_cs1 {x1 : Value} (g : Gd X cc own ret nL lev nm) (hC : Ct (x_l X) y cw lev' S) (d : dc cc pc (.invokestatic idx) 3 pc') (pk : PkS own idx y cw nL' 1) (hlev : lev' + 1 ≤ lev) (hroom : (st.map fun v => v.category).sum ≤ 8) (hS : S [x1] T I L R uc us (Cn X pc pc' ls st)) : V X T I L R uc us pc ls (x1 :: st) := by
  obtain ⟨p1, p2, p3, p4, p5, p6, p7, p8⟩ := pk
  exact V_call g hC (ivk_S (as := [x1]) g d p1 p2 p3 p4 p5 p6 p7) d p1 p2 p5 hlev p8 hroom hS
theorem V_ci1 {x1 : Value} (g : Gd X cc own ret nL lev nm) (hC : Ct (x_l X) y (.code y b nL' none) lev' S) (d : dc cc pc (.invokespecial idx) 3 pc') (pk : PkI own idx y b nL' 1) (hlev : lev' + 1 ≤ lev) (hroom : (st.map fun v => v.category).sum ≤ 8) (hS : S [.ref a, x1] T I L R uc us (Cn X pc pc' ls st)) : V X T I L R uc us pc ls (x1 :: .ref a :: st) := by
  obtain ⟨p1, p2, p3, p4, p5, p6, p7⟩ := pk
  exact V_call g hC (ivk_I (as := [x1]) g d p1 p2 p3 p4 p5) d cwd_c p1 p6 hlev p7 hroom hS
theorem V_cv2 {x1 x2 : Value} (g : Gd X cc own ret nL lev nm) (hC : Ct (x_l X) y cw lev' S) (d : dc cc pc (.invokevirtual idx) 3 pc') (pk : PkV own idx y cw nL' C 2) (hT : (T a).1 = tg) (hkt : kt[tg]? = some (C, Tb, N)) (h99 : tg < 99) (hlev : lev' + 1 ≤ lev) (hroom : (st.map fun v => v.category).sum ≤ 8) (hS : S [.ref a, x1, x2] T I L R uc us (Cn X pc pc' ls st)) : V X T I L R uc us pc ls (x2 :: x1 :: .ref a :: st) := by
  obtain ⟨p1, p2, p3, p4, p5, p6, p7, p8⟩ := pk
  exact V_call g hC (ivk_V (as := [x1, x2]) g d p1 p2 p3 p4 p5 p6 hT hkt h99) d p1 p2 p7 hlev p8 hroom hS
theorem V_cs2 {x1 x2 : Value} (g : Gd X cc own ret nL lev nm) (hC : Ct (x_l X) y cw lev' S) (d : dc cc pc (.invokestatic idx) 3 pc') (pk : PkS own idx y cw nL' 2) (hlev : lev' + 1 ≤ lev) (hroom : (st.map fun v => v.category).sum ≤ 8) (hS : S [x1, x2] T I L R uc us (Cn X pc pc' ls st)) : V X T I L R uc us pc ls (x2 :: x1 :: st) := by
  obtain ⟨p1, p2, p3, p4, p5, p6, p7, p8⟩ := pk
  exact V_call g hC (ivk_S (as := [x1, x2]) g d p1 p2 p3 p4 p5 p6 p7) d p1 p2 p5 hlev p8 hroom hS
theorem V_ci2 {x1 x2 : Value} (g : Gd X cc own ret nL lev nm) (hC : Ct (x_l X) y (.code y b nL' none) lev' S) (d : dc cc pc (.invokespecial idx) 3 pc') (pk : PkI own idx y b nL' 2) (hlev : lev' + 1 ≤ lev) (hroom : (st.map fun v => v.category).sum ≤ 8) (hS : S [.ref a, x1, x2] T I L R uc us (Cn X pc pc' ls st)) : V X T I L R uc us pc ls (x2 :: x1 :: .ref a :: st) := by
  obtain ⟨p1, p2, p3, p4, p5, p6, p7⟩ := pk
  exact V_call g hC (ivk_I (as := [x1, x2]) g d p1 p2 p3 p4 p5) d cwd_c p1 p6 hlev p7 hroom hS
theorem V_cv3 {x1 x2 x3 : Value} (g : Gd X cc own ret nL lev nm) (hC : Ct (x_l X) y cw lev' S) (d : dc cc pc (.invokevirtual idx) 3 pc') (pk : PkV own idx y cw nL' C 3) (hT : (T a).1 = tg) (hkt : kt[tg]? = some (C, Tb, N)) (h99 : tg < 99) (hlev : lev' + 1 ≤ lev) (hroom : (st.map fun v => v.category).sum ≤ 8) (hS : S [.ref a, x1, x2, x3] T I L R uc us (Cn X pc pc' ls st)) : V X T I L R uc us pc ls (x3 :: x2 :: x1 :: .ref a :: st) := by
  obtain ⟨p1, p2, p3, p4, p5, p6, p7, p8⟩ := pk
  exact V_call g hC (ivk_V (as := [x1, x2, x3]) g d p1 p2 p3 p4 p5 p6 hT hkt h99) d p1 p2 p7 hlev p8 hroom hS
theorem V_cs3 {x1 x2 x3 : Value} (g : Gd X cc own ret nL lev nm) (hC : Ct (x_l X) y cw lev' S) (d : dc cc pc (.invokestatic idx) 3 pc') (pk : PkS own idx y cw nL' 3) (hlev : lev' + 1 ≤ lev) (hroom : (st.map fun v => v.category).sum ≤ 8) (hS : S [x1, x2, x3] T I L R uc us (Cn X pc pc' ls st)) : V X T I L R uc us pc ls (x3 :: x2 :: x1 :: st) := by
  obtain ⟨p1, p2, p3, p4, p5, p6, p7, p8⟩ := pk
  exact V_call g hC (ivk_S (as := [x1, x2, x3]) g d p1 p2 p3 p4 p5 p6 p7) d p1 p2 p5 hlev p8 hroom hS
theorem V_ci3 {x1 x2 x3 : Value} (g : Gd X cc own ret nL lev nm) (hC : Ct (x_l X) y (.code y b nL' none) lev' S) (d : dc cc pc (.invokespecial idx) 3 pc') (pk : PkI own idx y b nL' 3) (hlev : lev' + 1 ≤ lev) (hroom : (st.map fun v => v.category).sum ≤ 8) (hS : S [.ref a, x1, x2, x3] T I L R uc us (Cn X pc pc' ls st)) : V X T I L R uc us pc ls (x3 :: x2 :: x1 :: .ref a :: st) := by
  obtain ⟨p1, p2, p3, p4, p5, p6, p7⟩ := pk
  exact V_call g hC (ivk_I (as := [x1, x2, x3]) g d p1 p2 p3 p4 p5) d cwd_c p1 p6 hlev p7 hroom hS
theorem V_cv4 {x1 x2 x3 x4 : Value} (g : Gd X cc own ret nL lev nm) (hC : Ct (x_l X) y cw lev' S) (d : dc cc pc (.invokevirtual idx) 3 pc') (pk : PkV own idx y cw nL' C 4) (hT : (T a).1 = tg) (hkt : kt[tg]? = some (C, Tb, N)) (h99 : tg < 99) (hlev : lev' + 1 ≤ lev) (hroom : (st.map fun v => v.category).sum ≤ 8) (hS : S [.ref a, x1, x2, x3, x4] T I L R uc us (Cn X pc pc' ls st)) : V X T I L R uc us pc ls (x4 :: x3 :: x2 :: x1 :: .ref a :: st) := by
  obtain ⟨p1, p2, p3, p4, p5, p6, p7, p8⟩ := pk
  exact V_call g hC (ivk_V (as := [x1, x2, x3, x4]) g d p1 p2 p3 p4 p5 p6 hT hkt h99) d p1 p2 p7 hlev p8 hroom hS
theorem V_cs4 {x1 x2 x3 x4 : Value} (g : Gd X cc own ret nL lev nm) (hC : Ct (x_l X) y cw lev' S) (d : dc cc pc (.invokestatic idx) 3 pc') (pk : PkS own idx y cw nL' 4) (hlev : lev' + 1 ≤ lev) (hroom : (st.map fun v => v.category).sum ≤ 8) (hS : S [x1, x2, x3, x4] T I L R uc us (Cn X pc pc' ls st)) : V X T I L R uc us pc ls (x4 :: x3 :: x2 :: x1 :: st) := by
  obtain ⟨p1, p2, p3, p4, p5, p6, p7, p8⟩ := pk
  exact V_call g hC (ivk_S (as := [x1, x2, x3, x4]) g d p1 p2 p3 p4 p5 p6 p7) d p1 p2 p5 hlev p8 hroom hS
theorem V_ci4 {x1 x2 x3 x4 : Value} (g : Gd X cc own ret nL lev nm) (hC : Ct (x_l X) y (.code y b nL' none) lev' S) (d : dc cc pc (.invokespecial idx) 3 pc') (pk : PkI own idx y b nL' 4) (hlev : lev' + 1 ≤ lev) (hroom : (st.map fun v => v.category).sum ≤ 8) (hS : S [.ref a, x1, x2, x3, x4] T I L R uc us (Cn X pc pc' ls st)) : V X T I L R uc us pc ls (x4 :: x3 :: x2 :: x1 :: .ref a :: st) := by
  obtain ⟨p1, p2, p3, p4, p5, p6, p7⟩ := pk
  exact V_call g hC (ivk_I (as := [x1, x2, x3, x4]) g d p1 p2 p3 p4 p5) d cwd_c p1 p6 hlev p7 hroom hS
theorem V_cv5 {x1 x2 x3 x4 x5 : Value} (g : Gd X cc own ret nL lev nm) (hC : Ct (x_l X) y cw lev' S) (d : dc cc pc (.invokevirtual idx) 3 pc') (pk : PkV own idx y cw nL' C 5) (hT : (T a).1 = tg) (hkt : kt[tg]? = some (C, Tb, N)) (h99 : tg < 99) (hlev : lev' + 1 ≤ lev) (hroom : (st.map fun v => v.category).sum ≤ 8) (hS : S [.ref a, x1, x2, x3, x4, x5] T I L R uc us (Cn X pc pc' ls st)) : V X T I L R uc us pc ls (x5 :: x4 :: x3 :: x2 :: x1 :: .ref a :: st) := by
  obtain ⟨p1, p2, p3, p4, p5, p6, p7, p8⟩ := pk
  exact V_call g hC (ivk_V (as := [x1, x2, x3, x4, x5]) g d p1 p2 p3 p4 p5 p6 hT hkt h99) d p1 p2 p7 hlev p8 hroom hS
theorem V_cs5 {x1 x2 x3 x4 x5 : Value} (g : Gd X cc own ret nL lev nm) (hC : Ct (x_l X) y cw lev' S) (d : dc cc pc (.invokestatic idx) 3 pc') (pk : PkS own idx y cw nL' 5) (hlev : lev' + 1 ≤ lev) (hroom : (st.map fun v => v.category).sum ≤ 8) (hS : S [x1, x2, x3, x4, x5] T I L R uc us (Cn X pc pc' ls st)) : V X T I L R uc us pc ls (x5 :: x4 :: x3 :: x2 :: x1 :: st) := by
  obtain ⟨p1, p2, p3, p4, p5, p6, p7, p8⟩ := pk
  exact V_call g hC (ivk_S (as := [x1, x2, x3, x4, x5]) g d p1 p2 p3 p4 p5 p6 p7) d p1 p2 p5 hlev p8 hroom hS
theorem V_ci5 {x1 x2 x3 x4 x5 : Value} (g : Gd X cc own ret nL lev nm) (hC : Ct (x_l X) y (.code y b nL' none) lev' S) (d : dc cc pc (.invokespecial idx) 3 pc') (pk : PkI own idx y b nL' 5) (hlev : lev' + 1 ≤ lev) (hroom : (st.map fun v => v.category).sum ≤ 8) (hS : S [.ref a, x1, x2, x3, x4, x5] T I L R uc us (Cn X pc pc' ls st)) : V X T I L R uc us pc ls (x5 :: x4 :: x3 :: x2 :: x1 :: .ref a :: st) := by
  obtain ⟨p1, p2, p3, p4, p5, p6, p7⟩ := pk
  exact V_call g hC (ivk_I (as := [x1, x2, x3, x4, x5]) g d p1 p2 p3 p4 p5) d cwd_c p1 p6 hlev p7 hroom hS
theorem V_cv6 {x1 x2 x3 x4 x5 x6 : Value} (g : Gd X cc own ret nL lev nm) (hC : Ct (x_l X) y cw lev' S) (d : dc cc pc (.invokevirtual idx) 3 pc') (pk : PkV own idx y cw nL' C 6) (hT : (T a).1 = tg) (hkt : kt[tg]? = some (C, Tb, N)) (h99 : tg < 99) (hlev : lev' + 1 ≤ lev) (hroom : (st.map fun v => v.category).sum ≤ 8) (hS : S [.ref a, x1, x2, x3, x4, x5, x6] T I L R uc us (Cn X pc pc' ls st)) : V X T I L R uc us pc ls (x6 :: x5 :: x4 :: x3 :: x2 :: x1 :: .ref a :: st) := by
  obtain ⟨p1, p2, p3, p4, p5, p6, p7, p8⟩ := pk
  exact V_call g hC (ivk_V (as := [x1, x2, x3, x4, x5, x6]) g d p1 p2 p3 p4 p5 p6 hT hkt h99) d p1 p2 p7 hlev p8 hroom hS
theorem V_cs6 {x1 x2 x3 x4 x5 x6 : Value} (g : Gd X cc own ret nL lev nm) (hC : Ct (x_l X) y cw lev' S) (d : dc cc pc (.invokestatic idx) 3 pc') (pk : PkS own idx y cw nL' 6) (hlev : lev' + 1 ≤ lev) (hroom : (st.map fun v => v.category).sum ≤ 8) (hS : S [x1, x2, x3, x4, x5, x6] T I L R uc us (Cn X pc pc' ls st)) : V X T I L R uc us pc ls (x6 :: x5 :: x4 :: x3 :: x2 :: x1 :: st) := by
  obtain ⟨p1, p2, p3, p4, p5, p6, p7, p8⟩ := pk
  exact V_call g hC (ivk_S (as := [x1, x2, x3, x4, x5, x6]) g d p1 p2 p3 p4 p5 p6 p7) d p1 p2 p5 hlev p8 hroom hS
theorem V_ci6 {x1 x2 x3 x4 x5 x6 : Value} (g : Gd X cc own ret nL lev nm) (hC : Ct (x_l X) y (.code y b nL' none) lev' S) (d : dc cc pc (.invokespecial idx) 3 pc') (pk : PkI own idx y b nL' 6) (hlev : lev' + 1 ≤ lev) (hroom : (st.map fun v => v.category).sum ≤ 8) (hS : S [.ref a, x1, x2, x3, x4, x5, x6] T I L R uc us (Cn X pc pc' ls st)) : V X T I L R uc us pc ls (x6 :: x5 :: x4 :: x3 :: x2 :: x1 :: .ref a :: st) := by
  obtain ⟨p1, p2, p3, p4, p5, p6, p7⟩ := pk
  exact V_call g hC (ivk_I (as := [x1, x2, x3, x4, x5, x6]) g d p1 p2 p3 p4 p5) d cwd_c p1 p6 hlev p7 hroom hS
end CallRows
theorem kI {X : CX} {T : Tt} {I : It} {L : Lt} {R : Rt} {uc us : Nat} {v v' : Int32} (h : x_k X (.inl (some (.int v))) T I L R uc us) (e : v = v') : x_k X (.inl (some (.int v'))) T I L R uc us := e ▸ h
theorem kII {X : CX} {T : Tt} {I I' : It} {L : Lt} {R : Rt} {uc us : Nat} {v v' : Int32} (h : x_k X (.inl (some (.int v))) T I L R uc us) (e : v = v') (e2 : I = I') : x_k X (.inl (some (.int v'))) T I' L R uc us := e ▸ e2 ▸ h
theorem kVI {X : CX} {T : Tt} {I I' : It} {L : Lt} {R : Rt} {uc us : Nat} (h : x_k X (.inl none) T I L R uc us) (e2 : I = I') : x_k X (.inl none) T I' L R uc us := e2 ▸ h
/-- BedBookModel's memory: its object 0, the array of the field k under the id k -/
def TM : Tt := fun a => match a with
  | 0 => (3, 0)
  | 1 => (100, 600)
  | 4 => (100, 602)
  | 5 => (100, 602)
  | 6 => (102, 602)
  | 9 => (102, 11)
  | 10 => (100, 2)
  | 11 => (103, 32)
  | 12 => (100, 32)
  | 13 => (100, 1320)
  | 14 => (100, 1320)
  | 19 => (100, 7)
  | 20 => (100, 7)
  | 21 => (100, 7)
  | 22 => (100, 7)
  | 23 => (100, 660)
  | 26 => (100, 40)
  | 27 => (100, 40)
  | 28 => (100, 40)
  | 29 => (100, 40)
  | 30 => (100, 320)
  | 31 => (100, 160)
  | 32 => (100, 40)
  | 33 => (100, 40)
  | 34 => (100, 40)
  | 35 => (103, 40)
  | 36 => (100, 40)
  | 38 => (100, 300)
  | 39 => (100, 300)
  | 40 => (100, 300)
  | 42 => (100, 100)
  | 43 => (100, 100)
  | 44 => (100, 100)
  | 46 => (100, 8)
  | 47 => (100, 8)
  | 48 => (100, 8)
  | 49 => (100, 40)
  | 50 => (100, 8)
  | 51 => (100, 8)
  | 52 => (100, 8)
  | 53 => (100, 8)
  | 55 => (100, 400)
  | _ => (99, 0)
def RM : Rt := fun a k => if a = 0 then some k else none
