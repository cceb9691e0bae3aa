/-! plants of four kinds: rows of their fields; their small methods (printed out of tmpl/t_pl1.txt) -/
set_option maxRecDepth 100000
def IsPl (T : Tt) (a : Nat) : Prop := (T a).1 = 4 ∨ (T a).1 = 5 ∨ (T a).1 = 6 ∨ (T a).1 = 7
/-- where Plant's k-th field lies: a part's own field comes ahead -/
def pf (T : Tt) (a k : Nat) : Nat := if (T a).1 < 6 then k else k + 1
def PF (own : String) (idx k : Nat) : Prop := FL own idx 4 k ∧ FL own idx 5 k ∧ FL own idx 6 (k + 1) ∧ FL own idx 7 (k + 1)
def PP1 (own : String) (idx tg k : Nat) (nm : String) : Prop := (FL own idx tg k ∧ FN tg k) ∨ (FF own idx tg k ∧ nm = "<init>")
def PP (own : String) (idx k : Nat) (nm : String) : Prop := PP1 own idx 4 k nm ∧ PP1 own idx 5 k nm ∧ PP1 own idx 6 (k + 1) nm ∧ PP1 own idx 7 (k + 1) nm
def kd4 (v k : Nat) : Prop := kd (kft 4 k) = v ∧ kd (kft 5 k) = v ∧ kd (kft 6 (k + 1)) = v ∧ kd (kft 7 (k + 1)) = v
section Pl
variable {X : CX} {T : Tt} {I : It} {L : Lt} {R : Rt} {uc us pc pc' idx k a : Nat} {ls : List (Option Value)} {st : List Value} {cc : ByteArray} {own : String} {ret : Option FieldType} {nL lev : Nat} {nm : String}
theorem V_pgI (g : Gd X cc own ret nL lev nm) (d : dc cc pc (.getfield idx) 3 pc') (f : PF own idx k) (hp : IsPl T a) (hk : kd4 0 k) (kx : V X T I L R uc us pc' ls (.int (I a (pf T a k)) :: st)) : V X T I L R uc us pc ls (.ref a :: st) := by
  unfold pf at kx
  rcases hp with h | h | h | h
  · rw [h, if_pos (by decide)] at kx; exact V_getI g d f.1 h hk.1 kx
  · rw [h, if_pos (by decide)] at kx; exact V_getI g d f.2.1 h hk.2.1 kx
  · rw [h, if_neg (by decide)] at kx; exact V_getI g d f.2.2.1 h hk.2.2.1 kx
  · rw [h, if_neg (by decide)] at kx; exact V_getI g d f.2.2.2 h hk.2.2.2 kx
theorem V_pgR {b : Nat} (g : Gd X cc own ret nL lev nm) (d : dc cc pc (.getfield idx) 3 pc') (f : PF own idx k) (hp : IsPl T a) (hk : kd4 2 k) (hr : R a (pf T a k) = some b) (kx : V X T I L R uc us pc' ls (.ref b :: st)) : V X T I L R uc us pc ls (.ref a :: st) := by
  unfold pf at hr
  rcases hp with h | h | h | h
  · rw [h, if_pos (by decide)] at hr; exact V_getR g d f.1 h hk.1 hr kx
  · rw [h, if_pos (by decide)] at hr; exact V_getR g d f.2.1 h hk.2.1 hr kx
  · rw [h, if_neg (by decide)] at hr; exact V_getR g d f.2.2.1 h hk.2.2.1 hr kx
  · rw [h, if_neg (by decide)] at hr; exact V_getR g d f.2.2.2 h hk.2.2.2 hr kx
theorem V_ppR {r : Option Nat} {v : Value} (g : Gd X cc own ret nL lev nm) (d : dc cc pc (.putfield idx) 3 pc') (f : PP own idx k nm) (hp : IsPl T a) (hk : kd4 2 k) (hv : v = rv r) (kx : V X T I L (u2 R a (pf T a k) r) uc us pc' ls st) : V X T I L R uc us pc ls (v :: .ref a :: st) := by
  unfold pf at kx
  rcases hp with h | h | h | h
  · rw [h, if_pos (by decide)] at kx; exact V_putR g d f.1 h hk.1 hv kx
  · rw [h, if_pos (by decide)] at kx; exact V_putR g d f.2.1 h hk.2.1 hv kx
  · rw [h, if_neg (by decide)] at kx; exact V_putR g d f.2.2.1 h hk.2.2.1 hv kx
  · rw [h, if_neg (by decide)] at kx; exact V_putR g d f.2.2.2 h hk.2.2.2 hv kx
theorem V_ppI {x : Int32} (g : Gd X cc own ret nL lev nm) (d : dc cc pc (.putfield idx) 3 pc') (f : PP own idx k nm) (hp : IsPl T a) (hk : kd4 0 k) (hn : narrow (kft 4 k) (.int x) = .int x ∧ narrow (kft 5 k) (.int x) = .int x ∧ narrow (kft 6 (k + 1)) (.int x) = .int x ∧ narrow (kft 7 (k + 1)) (.int x) = .int x) (hf : fits (kft 4 k) (.int x) = true ∧ fits (kft 5 k) (.int x) = true ∧ fits (kft 6 (k + 1)) (.int x) = true ∧ fits (kft 7 (k + 1)) (.int x) = true) (kx : V X T (u2 I a (pf T a k) x) L R uc us pc' ls st) : V X T I L R uc us pc ls (.int x :: .ref a :: st) := by
  unfold pf at kx
  rcases hp with h | h | h | h
  · rw [h, if_pos (by decide)] at kx; exact V_putI g d f.1 h hk.1 hn.1 hf.1 kx
  · rw [h, if_pos (by decide)] at kx; exact V_putI g d f.2.1 h hk.2.1 hn.2.1 hf.2.1 kx
  · rw [h, if_neg (by decide)] at kx; exact V_putI g d f.2.2.1 h hk.2.2.1 hn.2.2.1 hf.2.2.1 kx
  · rw [h, if_neg (by decide)] at kx; exact V_putI g d f.2.2.2 h hk.2.2.2 hn.2.2.2 hf.2.2.2 kx
end Pl
abbrev spX5_number : Sp := fun av T I L R uc us k => ∃ a : Nat, av = [.ref a] ∧ IsPl T a ∧ k (.inl (some (.int (I a (pf T a 0))))) T I L R uc us
theorem eX5_number_0 : dc cX5_number 0 (.aload_n 0) 1 1 := ⟨by decide +kernel, rfl⟩
theorem eX5_number_1 : dc cX5_number 1 (.getfield 22) 3 4 := ⟨by decide +kernel, rfl⟩
theorem flX5_22_4 : FL RX5 22 4 0 := ⟨_, _, _, _, rfl, by decide, by decide, Or.inl (lk q306), Or.inl rfl⟩
theorem flX5_22_5 : FL RX5 22 5 0 := ⟨_, _, _, _, rfl, by decide, by decide, Or.inl (lk q306), Or.inl rfl⟩
theorem flX5_22_6 : FL RX5 22 6 1 := ⟨_, _, _, _, rfl, by decide, by decide, Or.inl (lk q306), Or.inl rfl⟩
theorem flX5_22_7 : FL RX5 22 7 1 := ⟨_, _, _, _, rfl, by decide, by decide, Or.inl (lk q306), Or.inl rfl⟩
theorem pfX5_22 : PF RX5 22 0 := ⟨flX5_22_4, flX5_22_5, flX5_22_6, flX5_22_7⟩
theorem eX5_number_4 : dc cX5_number 4 (.ireturn) 1 5 := ⟨by decide +kernel, rfl⟩
set_option maxHeartbeats 8000000 in
theorem ctX5_number (l : Launch) : Ct l yX5_number (.code yX5_number cX5_number 1 (some .int)) 1 spX5_number := by
  refine Ct.of (own := RX5) (nm := "number") (by decide) rfl rfl ?_
  rintro X av T I L R uc us rfl g hN hu hz ⟨a, rfl, hp, hk⟩
  refine VE.go (ls := [some (.ref a)]) g hu hz (fun _ => rfl) (fun _ => Nat.le_of_ble_eq_true rfl) ?_
  refine V_aload_0 g eX5_number_0 ?_
  refine V_pgI g eX5_number_1 pfX5_22 hp ⟨rfl, rfl, rfl, rfl⟩ ?_
  refine V_iret g eX5_number_4 ?_
  exact hk
abbrev spX5_marks : Sp := fun av T I L R uc us k => ∃ (a m : Nat), av = [.ref a] ∧ IsPl T a ∧ R a (pf T a 6) = some m ∧ k (.inl (some (.ref m))) T I L R uc us
theorem eX5_marks_0 : dc cX5_marks 0 (.aload_n 0) 1 1 := ⟨by decide +kernel, rfl⟩
theorem eX5_marks_1 : dc cX5_marks 1 (.getfield 9) 3 4 := ⟨by decide +kernel, rfl⟩
theorem flX5_9_4 : FL RX5 9 4 6 := ⟨_, _, _, _, rfl, by decide, by decide, Or.inl (lk q315), Or.inl rfl⟩
theorem flX5_9_5 : FL RX5 9 5 6 := ⟨_, _, _, _, rfl, by decide, by decide, Or.inl (lk q315), Or.inl rfl⟩
theorem flX5_9_6 : FL RX5 9 6 7 := ⟨_, _, _, _, rfl, by decide, by decide, Or.inl (lk q315), Or.inl rfl⟩
theorem flX5_9_7 : FL RX5 9 7 7 := ⟨_, _, _, _, rfl, by decide, by decide, Or.inl (lk q315), Or.inl rfl⟩
theorem pfX5_9 : PF RX5 9 6 := ⟨flX5_9_4, flX5_9_5, flX5_9_6, flX5_9_7⟩
theorem eX5_marks_4 : dc cX5_marks 4 (.areturn) 1 5 := ⟨by decide +kernel, rfl⟩
set_option maxHeartbeats 8000000 in
theorem ctX5_marks (l : Launch) : Ct l yX5_marks (.code yX5_marks cX5_marks 1 (some (.array .int))) 1 spX5_marks := by
  refine Ct.of (own := RX5) (nm := "marks") (by decide) rfl rfl ?_
  rintro X av T I L R uc us rfl g hN hu hz ⟨a, m, rfl, hp, hr, hk⟩
  refine VE.go (ls := [some (.ref a)]) g hu hz (fun _ => rfl) (fun _ => Nat.le_of_ble_eq_true rfl) ?_
  refine V_aload_0 g eX5_marks_0 ?_
  refine V_pgR g eX5_marks_1 pfX5_9 hp ⟨rfl, rfl, rfl, rfl⟩ hr ?_
  refine V_aret g eX5_marks_4 (Or.inr ⟨_, rfl⟩) (Or.inr ⟨_, rfl⟩) ?_
  exact hk

