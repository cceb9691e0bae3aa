/-! Constant, About, Row, Line: what they are worth (printed out of tmpl/t_exp2.txt) -/
set_option maxRecDepth 100000
section Sw2
variable {X : CX} {T : Tt} {I : It} {L : Lt} {R : Rt} {uc us pc pc' tgt : Nat} {ls : List (Option Value)} {st : List Value} {cc : ByteArray} {own : String} {ret : Option FieldType} {nL lev : Nat} {nm : String}
theorem V_look {dflt off : Int} {ps : Array (Int × Int)} {len : Nat} {x : Int32} (g : Gd X cc own ret nL lev nm) (d : dc cc pc (.lookupswitch dflt ps) len pc') (hp : (ps.toList.zip (ps.toList.drop 1)).all (fun (a, next) => a.1 < next.1) = true) (ho : Op.lookupswitch.offset ps.toList dflt x.toInt = off) (ht : (pc : Int) + off = (tgt : Int)) (k : V X T I L R uc us tgt ls st) : V X T I L R uc us pc ls (.int x :: st) := by
  intro H locs la q1 q2 q3 q4
  exact lv_lookup g.1 g.2.1 d.1 hp ho ht (k H locs la q1 q2 q3 q4)
end Sw2
abbrev spX14_value : Sp := fun av T I L R uc us k => ∃ (a q : Nat), av = [.ref a, .ref q] ∧ (T a).1 = 10 ∧ k (.inl (some (.int (I a 0)))) T I L R uc us
theorem eX14_value_0 : dc cX14_value 0 (.aload_n 0) 1 1 := ⟨by decide +kernel, rfl⟩
theorem eX14_value_1 : dc cX14_value 1 (.getfield 7) 3 4 := ⟨by decide +kernel, rfl⟩
theorem flX14_7 : FL RX14 7 10 0 := ⟨_, _, _, _, rfl, by decide, by decide, Or.inl (lk q881), Or.inl rfl⟩
theorem eX14_value_4 : dc cX14_value 4 (.ireturn) 1 5 := ⟨by decide +kernel, rfl⟩
set_option maxHeartbeats 8000000 in
theorem ctX14_value (l : Launch) : Ct l yX14_value (.code yX14_value cX14_value 2 (some .int)) 1 spX14_value := by
  refine Ct.of (own := RX14) (nm := "value") (by decide) rfl rfl ?_
  rintro X av T I L R uc us rfl g hN hu hz ⟨a, q, rfl, hT, hk⟩
  refine VE.go (ls := [some (.ref a), some (.ref q)]) g hu hz (fun _ => rfl) (fun _ => Nat.le_of_ble_eq_true rfl) ?_
  refine V_aload_0 g eX14_value_0 ?_
  refine V_getI g eX14_value_1 flX14_7 hT rfl ?_
  refine V_iret g eX14_value_4 ?_
  exact hk
abbrev spX15_value : Sp := fun av T I L R uc us k => ∃ (a q w : Nat), av = [.ref a, .ref q] ∧ (T a).1 = 11 ∧ (T q).1 = 2 ∧ w < 7 ∧ I a 0 = nI w ∧ k (.inl (some (.int (I q w)))) T I L R uc us
theorem eX15_value_0 : dc cX15_value 0 (.aload_n 0) 1 1 := ⟨by decide +kernel, rfl⟩
theorem eX15_value_1 : dc cX15_value 1 (.getfield 7) 3 4 := ⟨by decide +kernel, rfl⟩
theorem flX15_7 : FL RX15 7 11 0 := ⟨_, _, _, _, rfl, by decide, by decide, Or.inl (lk q891), Or.inl rfl⟩
theorem eX15_value_4 : dc cX15_value 4 (.tableswitch 70 0 5 #[40, 45, 50, 55, 60, 65]) 40 44 := ⟨by decide +kernel, rfl⟩
theorem eX15_value_44 : dc cX15_value 44 (.aload_n 1) 1 45 := ⟨by decide +kernel, rfl⟩
theorem eX15_value_45 : dc cX15_value 45 (.getfield 13) 3 48 := ⟨by decide +kernel, rfl⟩
theorem flX15_13 : FL RX15 13 2 0 := ⟨_, _, _, _, rfl, by decide, by decide, Or.inr ⟨_, (lt_k q169 rfl)⟩, Or.inl rfl⟩
theorem eX15_value_48 : dc cX15_value 48 (.ireturn) 1 49 := ⟨by decide +kernel, rfl⟩
theorem eX15_value_49 : dc cX15_value 49 (.aload_n 1) 1 50 := ⟨by decide +kernel, rfl⟩
theorem eX15_value_50 : dc cX15_value 50 (.getfield 18) 3 53 := ⟨by decide +kernel, rfl⟩
theorem flX15_18 : FL RX15 18 2 1 := ⟨_, _, _, _, rfl, by decide, by decide, Or.inr ⟨_, (lt_k q171 rfl)⟩, Or.inl rfl⟩
theorem eX15_value_53 : dc cX15_value 53 (.ireturn) 1 54 := ⟨by decide +kernel, rfl⟩
theorem eX15_value_54 : dc cX15_value 54 (.aload_n 1) 1 55 := ⟨by decide +kernel, rfl⟩
theorem eX15_value_55 : dc cX15_value 55 (.getfield 21) 3 58 := ⟨by decide +kernel, rfl⟩
theorem flX15_21 : FL RX15 21 2 2 := ⟨_, _, _, _, rfl, by decide, by decide, Or.inr ⟨_, (lt_k q173 rfl)⟩, Or.inl rfl⟩
theorem eX15_value_58 : dc cX15_value 58 (.ireturn) 1 59 := ⟨by decide +kernel, rfl⟩
theorem eX15_value_59 : dc cX15_value 59 (.aload_n 1) 1 60 := ⟨by decide +kernel, rfl⟩
theorem eX15_value_60 : dc cX15_value 60 (.getfield 24) 3 63 := ⟨by decide +kernel, rfl⟩
theorem flX15_24 : FL RX15 24 2 3 := ⟨_, _, _, _, rfl, by decide, by decide, Or.inr ⟨_, (lt_k q175 rfl)⟩, Or.inl rfl⟩
theorem eX15_value_63 : dc cX15_value 63 (.ireturn) 1 64 := ⟨by decide +kernel, rfl⟩
theorem eX15_value_64 : dc cX15_value 64 (.aload_n 1) 1 65 := ⟨by decide +kernel, rfl⟩
theorem eX15_value_65 : dc cX15_value 65 (.getfield 27) 3 68 := ⟨by decide +kernel, rfl⟩
theorem flX15_27 : FL RX15 27 2 4 := ⟨_, _, _, _, rfl, by decide, by decide, Or.inr ⟨_, (lt_k q177 rfl)⟩, Or.inl rfl⟩
theorem eX15_value_68 : dc cX15_value 68 (.ireturn) 1 69 := ⟨by decide +kernel, rfl⟩
theorem eX15_value_69 : dc cX15_value 69 (.aload_n 1) 1 70 := ⟨by decide +kernel, rfl⟩
theorem eX15_value_70 : dc cX15_value 70 (.getfield 30) 3 73 := ⟨by decide +kernel, rfl⟩
theorem flX15_30 : FL RX15 30 2 5 := ⟨_, _, _, _, rfl, by decide, by decide, Or.inr ⟨_, (lt_k q179 rfl)⟩, Or.inl rfl⟩
theorem eX15_value_73 : dc cX15_value 73 (.ireturn) 1 74 := ⟨by decide +kernel, rfl⟩
theorem eX15_value_74 : dc cX15_value 74 (.aload_n 1) 1 75 := ⟨by decide +kernel, rfl⟩
theorem eX15_value_75 : dc cX15_value 75 (.getfield 33) 3 78 := ⟨by decide +kernel, rfl⟩
theorem flX15_33 : FL RX15 33 2 6 := ⟨_, _, _, _, rfl, by decide, by decide, Or.inr ⟨_, (lt_k q181 rfl)⟩, Or.inl rfl⟩
theorem eX15_value_78 : dc cX15_value 78 (.ireturn) 1 79 := ⟨by decide +kernel, rfl⟩
set_option maxHeartbeats 8000000 in
theorem ctX15_value (l : Launch) : Ct l yX15_value (.code yX15_value cX15_value 2 (some .int)) 1 spX15_value := by
  refine Ct.of (own := RX15) (nm := "value") (by decide) rfl rfl ?_
  rintro X av T I L R uc us rfl g hN hu hz ⟨a, q, w, rfl, hT, hq, hw, hI, hk⟩
  refine VE.go (ls := [some (.ref a), some (.ref q)]) g hu hz (fun _ => rfl) (fun _ => Nat.le_of_ble_eq_true rfl) ?_
  have hw' : w = 0 ∨ w = 1 ∨ w = 2 ∨ w = 3 ∨ w = 4 ∨ w = 5 ∨ w = 6 := by omega
  rcases hw' with rfl | rfl | rfl | rfl | rfl | rfl | rfl
  ·
    refine V_aload_0 g eX15_value_0 ?_
    refine V_getI g eX15_value_1 flX15_7 hT rfl ?_
    rw [hI]
    refine V_tIn (off := 40) (tgt := 44) g eX15_value_4 (by decide) (by decide) (by decide) (by decide) ?_
    refine V_aload_1 g eX15_value_44 ?_
    refine V_getI g eX15_value_45 flX15_13 hq rfl ?_
    refine V_iret g eX15_value_48 ?_
    exact hk
  ·
    refine V_aload_0 g eX15_value_0 ?_
    refine V_getI g eX15_value_1 flX15_7 hT rfl ?_
    rw [hI]
    refine V_tIn (off := 45) (tgt := 49) g eX15_value_4 (by decide) (by decide) (by decide) (by decide) ?_
    refine V_aload_1 g eX15_value_49 ?_
    refine V_getI g eX15_value_50 flX15_18 hq rfl ?_
    refine V_iret g eX15_value_53 ?_
    exact hk
  ·
    refine V_aload_0 g eX15_value_0 ?_
    refine V_getI g eX15_value_1 flX15_7 hT rfl ?_
    rw [hI]
    refine V_tIn (off := 50) (tgt := 54) g eX15_value_4 (by decide) (by decide) (by decide) (by decide) ?_
    refine V_aload_1 g eX15_value_54 ?_
    refine V_getI g eX15_value_55 flX15_21 hq rfl ?_
    refine V_iret g eX15_value_58 ?_
    exact hk
  ·
    refine V_aload_0 g eX15_value_0 ?_
    refine V_getI g eX15_value_1 flX15_7 hT rfl ?_
    rw [hI]
    refine V_tIn (off := 55) (tgt := 59) g eX15_value_4 (by decide) (by decide) (by decide) (by decide) ?_
    refine V_aload_1 g eX15_value_59 ?_
    refine V_getI g eX15_value_60 flX15_24 hq rfl ?_
    refine V_iret g eX15_value_63 ?_
    exact hk
  ·
    refine V_aload_0 g eX15_value_0 ?_
    refine V_getI g eX15_value_1 flX15_7 hT rfl ?_
    rw [hI]
    refine V_tIn (off := 60) (tgt := 64) g eX15_value_4 (by decide) (by decide) (by decide) (by decide) ?_
    refine V_aload_1 g eX15_value_64 ?_
    refine V_getI g eX15_value_65 flX15_27 hq rfl ?_
    refine V_iret g eX15_value_68 ?_
    exact hk
  ·
    refine V_aload_0 g eX15_value_0 ?_
    refine V_getI g eX15_value_1 flX15_7 hT rfl ?_
    rw [hI]
    refine V_tIn (off := 65) (tgt := 69) g eX15_value_4 (by decide) (by decide) (by decide) (by decide) ?_
    refine V_aload_1 g eX15_value_69 ?_
    refine V_getI g eX15_value_70 flX15_30 hq rfl ?_
    refine V_iret g eX15_value_73 ?_
    exact hk
  ·
    refine V_aload_0 g eX15_value_0 ?_
    refine V_getI g eX15_value_1 flX15_7 hT rfl ?_
    rw [hI]
    refine V_tOut (tgt := 74) g eX15_value_4 (by decide) (by decide) ?_
    refine V_aload_1 g eX15_value_74 ?_
    refine V_getI g eX15_value_75 flX15_33 hq rfl ?_
    refine V_iret g eX15_value_78 ?_
    exact hk
theorem osw_w : ∀ q, q < 128 → Op.lookupswitch.offset [(43, 43), (45, 47), (60, 51), (61, 62)] 73 (nI q).toInt = if q = 43 then 43 else if q = 45 then 47 else if q = 60 then 51 else if q = 61 then 62 else 73 := by decide
abbrev spX16_worked : Sp := fun av T I L R uc us k => ∃ (q : Nat) (x y : Int32), av = [.int (nI q), .int x, .int y] ∧ q < 128 ∧ k (.inl (some (.int (opv (sgo q) x y)))) T I L R uc us
theorem eX16_worked_0 : dc cX16_worked 0 (.iload_n 0) 1 1 := ⟨by decide +kernel, rfl⟩
theorem eX16_worked_1 : dc cX16_worked 1 (.lookupswitch 73 #[(43, 43), (45, 47), (60, 51), (61, 62)]) 43 44 := ⟨by decide +kernel, rfl⟩
theorem eX16_worked_44 : dc cX16_worked 44 (.iload_n 1) 1 45 := ⟨by decide +kernel, rfl⟩
theorem eX16_worked_45 : dc cX16_worked 45 (.iload_n 2) 1 46 := ⟨by decide +kernel, rfl⟩
theorem eX16_worked_46 : dc cX16_worked 46 (.iadd) 1 47 := ⟨by decide +kernel, rfl⟩
theorem eX16_worked_47 : dc cX16_worked 47 (.ireturn) 1 48 := ⟨by decide +kernel, rfl⟩
theorem eX16_worked_48 : dc cX16_worked 48 (.iload_n 1) 1 49 := ⟨by decide +kernel, rfl⟩
theorem eX16_worked_49 : dc cX16_worked 49 (.iload_n 2) 1 50 := ⟨by decide +kernel, rfl⟩
theorem eX16_worked_50 : dc cX16_worked 50 (.isub) 1 51 := ⟨by decide +kernel, rfl⟩
theorem eX16_worked_51 : dc cX16_worked 51 (.ireturn) 1 52 := ⟨by decide +kernel, rfl⟩
theorem eX16_worked_52 : dc cX16_worked 52 (.iload_n 1) 1 53 := ⟨by decide +kernel, rfl⟩
theorem eX16_worked_53 : dc cX16_worked 53 (.iload_n 2) 1 54 := ⟨by decide +kernel, rfl⟩
theorem eX16_worked_54 : dj cX16_worked 54 (.if_icmp .ge 7) 7 61 57 := ⟨by decide +kernel, by decide, rfl⟩
theorem eX16_worked_61 : dc cX16_worked 61 (.iconst 0) 1 62 := ⟨by decide +kernel, rfl⟩
theorem eX16_worked_62 : dc cX16_worked 62 (.ireturn) 1 63 := ⟨by decide +kernel, rfl⟩
theorem eX16_worked_57 : dc cX16_worked 57 (.iconst 1) 1 58 := ⟨by decide +kernel, rfl⟩
theorem eX16_worked_58 : dj cX16_worked 58 (.goto 4) 4 62 61 := ⟨by decide +kernel, by decide, rfl⟩
theorem eX16_worked_63 : dc cX16_worked 63 (.iload_n 1) 1 64 := ⟨by decide +kernel, rfl⟩
theorem eX16_worked_64 : dc cX16_worked 64 (.iload_n 2) 1 65 := ⟨by decide +kernel, rfl⟩
theorem eX16_worked_65 : dj cX16_worked 65 (.if_icmp .ne 7) 7 72 68 := ⟨by decide +kernel, by decide, rfl⟩
theorem eX16_worked_72 : dc cX16_worked 72 (.iconst 0) 1 73 := ⟨by decide +kernel, rfl⟩
theorem eX16_worked_73 : dc cX16_worked 73 (.ireturn) 1 74 := ⟨by decide +kernel, rfl⟩
theorem eX16_worked_68 : dc cX16_worked 68 (.iconst 1) 1 69 := ⟨by decide +kernel, rfl⟩
theorem eX16_worked_69 : dj cX16_worked 69 (.goto 4) 4 73 72 := ⟨by decide +kernel, by decide, rfl⟩
theorem eX16_worked_74 : dc cX16_worked 74 (.iload_n 1) 1 75 := ⟨by decide +kernel, rfl⟩
theorem eX16_worked_75 : dj cX16_worked 75 (.ifCond .eq 11) 11 86 78 := ⟨by decide +kernel, by decide, rfl⟩
theorem eX16_worked_86 : dc cX16_worked 86 (.iconst 0) 1 87 := ⟨by decide +kernel, rfl⟩
theorem eX16_worked_87 : dc cX16_worked 87 (.ireturn) 1 88 := ⟨by decide +kernel, rfl⟩
theorem eX16_worked_78 : dc cX16_worked 78 (.iload_n 2) 1 79 := ⟨by decide +kernel, rfl⟩
theorem eX16_worked_79 : dj cX16_worked 79 (.ifCond .eq 7) 7 86 82 := ⟨by decide +kernel, by decide, rfl⟩
theorem eX16_worked_82 : dc cX16_worked 82 (.iconst 1) 1 83 := ⟨by decide +kernel, rfl⟩
theorem eX16_worked_83 : dj cX16_worked 83 (.goto 4) 4 87 86 := ⟨by decide +kernel, by decide, rfl⟩
set_option maxHeartbeats 8000000 in
theorem ctX16_worked (l : Launch) : Ct l yX16_worked (.code yX16_worked cX16_worked 3 (some .int)) 1 spX16_worked := by
  refine Ct.of (own := RX16) (nm := "worked") (by decide) rfl rfl ?_
  rintro X av T I L R uc us rfl g hN hu hz ⟨q, x, y, rfl, hq, hk⟩
  refine VE.go (ls := [some (.int (nI q)), some (.int x), some (.int y)]) g hu hz (fun _ => rfl) (fun _ => Nat.le_of_ble_eq_true rfl) ?_
  have ho := osw_w q hq
  by_cases h1 : q = 43
  · subst h1
    refine V_iload_0 g eX16_worked_0 ?_
    refine V_look (off := 43) (tgt := 44) g eX16_worked_1 (by decide) ho (by decide) ?_
    refine V_iload_1 g eX16_worked_44 ?_
    refine V_iload_2 g eX16_worked_45 ?_
    refine V_iadd g eX16_worked_46 ?_
    refine V_iret g eX16_worked_47 ?_
    exact hk
  rw [if_neg h1] at ho
  by_cases h2 : q = 45
  · subst h2
    refine V_iload_0 g eX16_worked_0 ?_
    refine V_look (off := 47) (tgt := 48) g eX16_worked_1 (by decide) ho (by decide) ?_
    refine V_iload_1 g eX16_worked_48 ?_
    refine V_iload_2 g eX16_worked_49 ?_
    refine V_isub g eX16_worked_50 ?_
    refine V_iret g eX16_worked_51 ?_
    exact hk
  rw [if_neg h2] at ho
  by_cases h3 : q = 60
  · subst h3
    refine V_iload_0 g eX16_worked_0 ?_
    refine V_look (off := 51) (tgt := 52) g eX16_worked_1 (by decide) ho (by decide) ?_
    refine V_iload_1 g eX16_worked_52 ?_
    refine V_iload_2 g eX16_worked_53 ?_
    refine V_icmp_ge g eX16_worked_54 (fun c_54 => ?_) (fun c_54 => ?_)
    · refine V_iconst (v := 0) g eX16_worked_61 (by decide) ?_
      refine V_iret g eX16_worked_62 ?_
      refine kI hk ?_
      show (if y ≤ x then (0 : Int32) else 1) = _
      first | rw [if_pos c_54] | rw [if_neg c_54]
    · refine V_iconst (v := 1) g eX16_worked_57 (by decide) ?_
      refine V_goto g eX16_worked_58 ?_
      refine V_iret g eX16_worked_62 ?_
      refine kI hk ?_
      show (if y ≤ x then (0 : Int32) else 1) = _
      first | rw [if_pos c_54] | rw [if_neg c_54]
  rw [if_neg h3] at ho
  by_cases h4 : q = 61
  · subst h4
    refine V_iload_0 g eX16_worked_0 ?_
    refine V_look (off := 62) (tgt := 63) g eX16_worked_1 (by decide) ho (by decide) ?_
    refine V_iload_1 g eX16_worked_63 ?_
    refine V_iload_2 g eX16_worked_64 ?_
    refine V_icmp_ne g eX16_worked_65 (fun c_65 => ?_) (fun c_65 => ?_)
    · refine V_iconst (v := 0) g eX16_worked_72 (by decide) ?_
      refine V_iret g eX16_worked_73 ?_
      refine kI hk ?_
      show (if x = y then (1 : Int32) else 0) = _
      first | rw [if_pos c_65] | rw [if_neg c_65] | (rw [if_pos (Classical.not_not.mp c_65)])
    · refine V_iconst (v := 1) g eX16_worked_68 (by decide) ?_
      refine V_goto g eX16_worked_69 ?_
      refine V_iret g eX16_worked_73 ?_
      refine kI hk ?_
      show (if x = y then (1 : Int32) else 0) = _
      first | rw [if_pos c_65] | rw [if_neg c_65] | (rw [if_pos (Classical.not_not.mp c_65)])
  rw [if_neg h4] at ho
  have hs : sgo q = 7 := by unfold sgo; rw [if_neg h1, if_neg h2, if_neg h3, if_neg h4]
  rw [hs] at hk
  refine V_iload_0 g eX16_worked_0 ?_
  refine V_look (off := 73) (tgt := 74) g eX16_worked_1 (by decide) ho (by decide) ?_
  refine V_iload_1 g eX16_worked_74 ?_
  refine V_if_eq g eX16_worked_75 (fun c_75 => ?_) (fun c_75 => ?_)
  · refine V_iconst (v := 0) g eX16_worked_86 (by decide) ?_
    refine V_iret g eX16_worked_87 ?_
    refine kI hk ?_
    show (if x = 0 then (0 : Int32) else if y = 0 then 0 else 1) = _
    first | rw [if_pos c_75] | rw [if_neg c_75, if_pos c_79] | rw [if_neg c_75, if_neg c_79]
  · refine V_iload_2 g eX16_worked_78 ?_
    refine V_if_eq g eX16_worked_79 (fun c_79 => ?_) (fun c_79 => ?_)
    · refine V_iconst (v := 0) g eX16_worked_86 (by decide) ?_
      refine V_iret g eX16_worked_87 ?_
      refine kI hk ?_
      show (if x = 0 then (0 : Int32) else if y = 0 then 0 else 1) = _
      first | rw [if_pos c_75] | rw [if_neg c_75, if_pos c_79] | rw [if_neg c_75, if_neg c_79]
    · refine V_iconst (v := 1) g eX16_worked_82 (by decide) ?_
      refine V_goto g eX16_worked_83 ?_
      refine V_iret g eX16_worked_87 ?_
      refine kI hk ?_
      show (if x = 0 then (0 : Int32) else if y = 0 then 0 else 1) = _
      first | rw [if_pos c_75] | rw [if_neg c_75, if_pos c_79] | rw [if_neg c_75, if_neg c_79]
abbrev spX16_value (d : Nat) : Sp := fun av T I L R uc us k => ∃ (a q : Nat) (c : List Cd) (Q : Nat → Prop), av = [.ref a, .ref q] ∧ RW T I R Q (RE T I R Q d) a c ∧ (T q).1 = 2 ∧ k (.inl (some (.int (vlc (I q) c)))) T I L R uc us
def CV (l : Launch) (d : Nat) : Prop := Ct l yX16_value (.code yX16_value cX16_value 4 (some .int)) (d + 7) (spX16_value d)
section Exv
variable {X : CX} {T : Tt} {I : It} {L : Lt} {R : Rt} {uc us pc pc' tgt : Nat} {ls : List (Option Value)} {st : List Value} {cc : ByteArray} {own : String} {ret : Option FieldType} {nL lev idx : Nat} {nm : String} {x : MethodName}
theorem V_exv {y q d : Nat} {c : List Cd} {Q : Nat → Prop} (g : Gd X cc own ret nL lev nm) (e : dc cc pc (.invokevirtual idx) 3 pc')
    (p1 : PkU own idx x "BedBook$Exp" yX14_value (.code yX14_value cX14_value 2 (some .int)) 2 RX14 1) (p2 : PkU own idx x "BedBook$Exp" yX15_value (.code yX15_value cX15_value 2 (some .int)) 2 RX15 1) (p3 : PkU own idx x "BedBook$Exp" yX16_value (.code yX16_value cX16_value 4 (some .int)) 4 RX16 1)
    (hv : ∀ d', d' + 1 = d → CV (x_l X) d') (hE : RE T I R Q d y c) (hq : (T q).1 = 2) (hlev : d + 7 ≤ lev) (hroom : (st.map fun v => v.category).sum ≤ 8) (k : V X T I L R uc us pc' ls (.int (vlc (I q) c) :: st)) : V X T I L R uc us pc ls (.ref q :: .ref y :: st) := by
  rcases hE.cs with h | ⟨d', rfl, h⟩
  · obtain ⟨h1, ⟨h2, rfl⟩ | ⟨h2, w, hw, hI, rfl⟩⟩ := h
    · exact V_cu1 g (ctX14_value _) e p1 h2 rfl (by decide) (by omega) hroom ⟨y, q, rfl, h2, k⟩
    · refine V_cu1 g (ctX15_value _) e p2 h2 rfl (by decide) (by omega) hroom ⟨y, q, w, rfl, h2, hq, hw, hI, ?_⟩
      have e1 : vlc (I q) [(2, nI w)] = I q w := by
        show I q (nI w).toNatClampNeg = _
        rw [nI_clamp (by omega)]
      rw [e1] at k
      exact k
  · have h12 : (T y).1 = 12 := by
      obtain ⟨_, _, _, _, _, _, _, _, _, _, _, _, _, _, _, h6, _⟩ := h
      exact h6
    exact V_cu1 g (hv d' rfl) e p3 h12 rfl (by decide) (by omega) hroom ⟨y, q, c, Q, rfl, h, hq, k⟩
theorem V_cstE {y : Nat} (g : Gd X cc own ret nL lev nm) (d : dc cc pc (.checkcast idx) 3 pc') (hT : (T y).1 = 10 ∨ (T y).1 = 11 ∨ (T y).1 = 12) (hcl : Cond.classLink own idx "BedBook$Exp" ∈ lw_k) (k : V X T I L R uc us pc' ls (.ref y :: st)) : V X T I L R uc us pc ls (.ref y :: st) := by
  rcases hT with h | h | h
  · exact V_cast g d h rfl (by decide) hcl (Or.inr (lt_k q1679 rfl)) k
  · exact V_cast g d h rfl (by decide) hcl (Or.inr (lt_k q1678 rfl)) k
  · exact V_cast g d h rfl (by decide) hcl (Or.inr (lt_k q1680 rfl)) k
end Exv
theorem puX16_37_X14 : PkU RX16 37 ⟨"BedBook$Exp", "value", "(LBedBook$Ask;)I"⟩ "BedBook$Exp" yX14_value (.code yX14_value cX14_value 2 (some .int)) 2 RX14 1 := ⟨cwd_c, (lk q1082), (lk q1088), (lk q1076), Or.inr (lt_k q1075 rfl), (lk q1081), (lk q1080), ⟨⟨by decide, by decide⟩, by decide +kernel⟩, (lk q91), by decide⟩
theorem puX16_37_X15 : PkU RX16 37 ⟨"BedBook$Exp", "value", "(LBedBook$Ask;)I"⟩ "BedBook$Exp" yX15_value (.code yX15_value cX15_value 2 (some .int)) 2 RX15 1 := ⟨cwd_c, (lk q1079), (lk q1088), (lk q1076), Or.inr (lt_k q1075 rfl), (lk q1078), (lk q1077), ⟨⟨by decide, by decide⟩, by decide +kernel⟩, (lk q92), by decide⟩
theorem puX16_37_X16 : PkU RX16 37 ⟨"BedBook$Exp", "value", "(LBedBook$Ask;)I"⟩ "BedBook$Exp" yX16_value (.code yX16_value cX16_value 4 (some .int)) 4 RX16 1 := ⟨cwd_c, (lk q1085), (lk q1088), (lk q1076), Or.inr (lt_k q1075 rfl), (lk q1084), (lk q1083), ⟨⟨by decide, by decide⟩, by decide +kernel⟩, (lk q93), by decide⟩
theorem eX16_value_18 : dc cX16_value 18 (.iload_n 3) 1 19 := ⟨by decide +kernel, rfl⟩
theorem eX16_value_19 : dc cX16_value 19 (.aload_n 0) 1 20 := ⟨by decide +kernel, rfl⟩
theorem eX16_value_20 : dc cX16_value 20 (.getfield 12) 3 23 := ⟨by decide +kernel, rfl⟩
theorem flX16_12 : FL RX16 12 12 0 := ⟨_, _, _, _, rfl, by decide, by decide, Or.inl (lk q937), Or.inl rfl⟩
theorem eX16_value_23 : dc cX16_value 23 (.invokevirtual 41) 3 26 := ⟨by decide +kernel, rfl⟩
theorem pkX16_41 : PkV RX16 41 yJ2_size (.code yJ2_size cJ2_size 1 (some .int)) 1 "java/util/ArrayList" 0 := ⟨cwd_c, (lk q295), Or.inl (lk q1089), (lk q293), (lk q294), ⟨⟨by decide, by decide⟩, by decide +kernel⟩, (lk q64), by decide⟩
theorem eX16_value_26 : dj cX16_value 26 (.if_icmp .ge 39) 39 65 29 := ⟨by decide +kernel, by decide, rfl⟩
theorem eX16_value_65 : dc cX16_value 65 (.iload_n 2) 1 66 := ⟨by decide +kernel, rfl⟩
theorem eX16_value_66 : dc cX16_value 66 (.ireturn) 1 67 := ⟨by decide +kernel, rfl⟩
theorem eX16_value_29 : dc cX16_value 29 (.aload_n 0) 1 30 := ⟨by decide +kernel, rfl⟩
theorem eX16_value_30 : dc cX16_value 30 (.getfield 21) 3 33 := ⟨by decide +kernel, rfl⟩
theorem flX16_21 : FL RX16 21 12 1 := ⟨_, _, _, _, rfl, by decide, by decide, Or.inl (lk q938), Or.inl rfl⟩
theorem eX16_value_33 : dc cX16_value 33 (.iload_n 3) 1 34 := ⟨by decide +kernel, rfl⟩
theorem eX16_value_34 : dc cX16_value 34 (.iconst 1) 1 35 := ⟨by decide +kernel, rfl⟩
theorem eX16_value_35 : dc cX16_value 35 (.isub) 1 36 := ⟨by decide +kernel, rfl⟩
theorem eX16_value_36 : dc cX16_value 36 (.invokevirtual 45) 3 39 := ⟨by decide +kernel, rfl⟩
theorem pkX16_45 : PkV RX16 45 yJ17_charAt (.code yJ17_charAt cJ17_charAt 2 (some .char)) 2 "java/lang/StringBuilder" 1 := ⟨cwd_c, (lk q1093), Or.inl (lk q1090), (lk q1091), (lk q1092), ⟨⟨by decide, by decide⟩, by decide +kernel⟩, (lk q95), by decide⟩
theorem eX16_value_39 : dc cX16_value 39 (.iload_n 2) 1 40 := ⟨by decide +kernel, rfl⟩
theorem eX16_value_40 : dc cX16_value 40 (.aload_n 0) 1 41 := ⟨by decide +kernel, rfl⟩
theorem eX16_value_41 : dc cX16_value 41 (.getfield 12) 3 44 := ⟨by decide +kernel, rfl⟩
theorem eX16_value_44 : dc cX16_value 44 (.iload_n 3) 1 45 := ⟨by decide +kernel, rfl⟩
theorem eX16_value_45 : dc cX16_value 45 (.invokevirtual 33) 3 48 := ⟨by decide +kernel, rfl⟩
theorem pkX16_33 : PkV RX16 33 yJ2_get (.code yJ2_get cJ2_get 2 (some (.object "java/lang/Object"))) 2 "java/util/ArrayList" 1 := ⟨cwd_c, (lk q442), Or.inl (lk q1086), (lk q440), (lk q441), ⟨⟨by decide, by decide⟩, by decide +kernel⟩, (lk q64), by decide⟩
theorem eX16_value_48 : dc cX16_value 48 (.checkcast 2) 3 51 := ⟨by decide +kernel, rfl⟩
theorem eX16_value_51 : dc cX16_value 51 (.aload_n 1) 1 52 := ⟨by decide +kernel, rfl⟩
theorem eX16_value_52 : dc cX16_value 52 (.invokevirtual 37) 3 55 := ⟨by decide +kernel, rfl⟩
theorem eX16_value_55 : dc cX16_value 55 (.invokestatic 49) 3 58 := ⟨by decide +kernel, rfl⟩
theorem pkX16_49 : PkS RX16 49 yX16_worked (.code yX16_worked cX16_worked 3 (some .int)) 3 3 := ⟨cwd_c, (lk q1102), (lk q1100), (lk q1101), (lk q93), nmd_c, ⟨⟨by decide, by decide⟩, by decide +kernel⟩, by decide⟩
theorem eX16_value_58 : dc cX16_value 58 (.istore_n 2) 1 59 := ⟨by decide +kernel, rfl⟩
theorem eX16_value_59 : dc cX16_value 59 (.iinc 3 1) 3 62 := ⟨by decide +kernel, rfl⟩
theorem eX16_value_62 : dj cX16_value 62 (.goto (-44)) (-44) 18 65 := ⟨by decide +kernel, by decide, rfl⟩
theorem eX16_value_0 : dc cX16_value 0 (.aload_n 0) 1 1 := ⟨by decide +kernel, rfl⟩
theorem eX16_value_1 : dc cX16_value 1 (.getfield 12) 3 4 := ⟨by decide +kernel, rfl⟩
theorem eX16_value_4 : dc cX16_value 4 (.iconst 0) 1 5 := ⟨by decide +kernel, rfl⟩
theorem eX16_value_5 : dc cX16_value 5 (.invokevirtual 33) 3 8 := ⟨by decide +kernel, rfl⟩
theorem eX16_value_8 : dc cX16_value 8 (.checkcast 2) 3 11 := ⟨by decide +kernel, rfl⟩
theorem eX16_value_11 : dc cX16_value 11 (.aload_n 1) 1 12 := ⟨by decide +kernel, rfl⟩
theorem eX16_value_12 : dc cX16_value 12 (.invokevirtual 37) 3 15 := ⟨by decide +kernel, rfl⟩
theorem eX16_value_15 : dc cX16_value 15 (.istore_n 2) 1 16 := ⟨by decide +kernel, rfl⟩
theorem eX16_value_16 : dc cX16_value 16 (.iconst 1) 1 17 := ⟨by decide +kernel, rfl⟩
theorem eX16_value_17 : dc cX16_value 17 (.istore_n 3) 1 18 := ⟨by decide +kernel, rfl⟩
set_option maxHeartbeats 8000000 in
theorem ctX16_valueA (l : Launch) (d : Nat) (hv : ∀ d', d' + 1 = d → CV l d') : CV l d := by
  refine Ct.of (own := RX16) (nm := "value") (by decide) rfl rfl ?_
  rintro X av T I L R uc us hl g hN hu hz ⟨a, q, c, Q, rfl, ⟨l', e, cap, s, v, cp, n, h, f, gc, h1, h2, h3, h4, h5, h6, h7, h8, h9, h10, h11, rfl⟩, hq, hk⟩
  subst hl
  refine VE.go (ls := [some (.ref a), some (.ref q), none, none]) g hu hz (fun _ => rfl) (fun _ => Nat.le_of_ble_eq_true rfl) ?_
  have hw : ∀ j, j ≤ n → wfc (gc j) := fun j hj => (h11 j hj).wf
  obtain ⟨l1, l2, l3, l4, l5, l6, l7, l8, l9⟩ := id h9
  have loop : ∀ (m j : Nat), j + m = n → V X T I L R uc us 18 [some (.ref a), some (.ref q), some (.int (vlc (I q) (rwC gc f j))), some (.int (nI (j + 1)))] [] := by
    intro m
    induction m with
    | zero =>
      intro j hj
      obtain rfl : j = n := by omega
      refine V_iload_3 g eX16_value_18 ?_
      refine V_aload_0 g eX16_value_19 ?_
      refine V_getR g eX16_value_20 flX16_12 h6 rfl h7 ?_
      refine V_cv0 g (ctJ2_size _) eX16_value_23 pkX16_41 l1 rfl (by decide) (by omega) (Nat.le_of_ble_eq_true rfl) ?_
      refine ⟨l', rfl, l1, ?_⟩
      rw [l2]
      refine V_icmp_ge g eX16_value_26 (fun _ => ?_) (fun c_26 => absurd c_26 (fun z => z (Int32.le_refl _)))
      refine V_iload_2 g eX16_value_65 ?_
      refine V_iret g eX16_value_66 ?_
      exact hk
    | succ m ih =>
      intro j hj
      refine V_iload_3 g eX16_value_18 ?_
      refine V_aload_0 g eX16_value_19 ?_
      refine V_getR g eX16_value_20 flX16_12 h6 rfl h7 ?_
      refine V_cv0 g (ctJ2_size _) eX16_value_23 pkX16_41 l1 rfl (by decide) (by omega) (Nat.le_of_ble_eq_true rfl) ?_
      refine ⟨l', rfl, l1, ?_⟩
      rw [l2]
      refine V_icmp_ge g eX16_value_26 (fun c_26 => absurd c_26 (nI_ge (by omega) (by omega))) (fun _ => ?_)
      refine V_aload_0 g eX16_value_29 ?_
      refine V_getR g eX16_value_30 flX16_21 h6 rfl h8 ?_
      refine V_iload_3 g eX16_value_33 ?_
      refine V_iconst (v := 1) g eX16_value_34 (by decide) ?_
      refine V_isub g eX16_value_35 ?_
      refine V_top (y := nI j) ((pk_sub (a := j + 1) (b := 1) (by omega)).trans (by rw [Nat.add_sub_cancel])) ?_
      refine V_cv1 g (ctJ17_charAt _) eX16_value_36 pkX16_45 h10.1 rfl (by decide) (by omega) (Nat.le_of_ble_eq_true rfl) ?_
      refine ⟨s, v, cp, n, j, f, rfl, h10, by omega, ?_⟩
      refine V_iload_2 g eX16_value_39 ?_
      refine V_aload_0 g eX16_value_40 ?_
      refine V_getR g eX16_value_41 flX16_12 h6 rfl h7 ?_
      refine V_iload_3 g eX16_value_44 ?_
      refine V_cv1 g (ctJ2_get _) eX16_value_45 pkX16_33 l1 rfl (by decide) (by omega) (Nat.le_of_ble_eq_true rfl) ?_
      refine ⟨l', e, cap, n + 1, j + 1, h (j + 1), rfl, l1, l3, l4, l2, by omega, l7, by omega, (l8 (j + 1) (by omega)).1, ?_⟩
      refine V_cstE g eX16_value_48 (h11 (j + 1) (by omega)).tag (lk q1087) ?_
      refine V_aload_1 g eX16_value_51 ?_
      refine V_exv g eX16_value_52 puX16_37_X14 puX16_37_X15 puX16_37_X16 hv (h11 (j + 1) (by omega)) hq (by omega) (Nat.le_of_ble_eq_true rfl) ?_
      refine V_cs3 g (ctX16_worked _) eX16_value_55 pkX16_49 (by omega) (Nat.le_of_ble_eq_true rfl) ?_
      refine ⟨f j, _, _, rfl, (h10.2.2.2.2.2.2.2.1 j (by omega)).2, ?_⟩
      rw [← vlc_row (wfc_rw j fun i hi => hw i (by omega)) (hw (j + 1) (by omega)) (f j) (I q)]
      refine V_istore_2 g eX16_value_58 (by decide) rfl ?_
      refine V_iinc_3 (v := 1) g eX16_value_59 (by decide) (by decide) rfl ?_
      refine V_goto g eX16_value_62 ?_
      rw [nI_1]
      exact ih (j + 1) (by omega)
  refine V_aload_0 g eX16_value_0 ?_
  refine V_getR g eX16_value_1 flX16_12 h6 rfl h7 ?_
  refine V_iconst (v := nI 0) g eX16_value_4 (by decide) ?_
  refine V_cv1 g (ctJ2_get _) eX16_value_5 pkX16_33 l1 rfl (by decide) (by omega) (Nat.le_of_ble_eq_true rfl) ?_
  refine ⟨l', e, cap, n + 1, 0, h 0, rfl, l1, l3, l4, l2, by omega, l7, by omega, (l8 0 (by omega)).1, ?_⟩
  refine V_cstE g eX16_value_8 (h11 0 (by omega)).tag (lk q1087) ?_
  refine V_aload_1 g eX16_value_11 ?_
  refine V_exv g eX16_value_12 puX16_37_X14 puX16_37_X15 puX16_37_X16 hv (h11 0 (by omega)) hq (by omega) (Nat.le_of_ble_eq_true rfl) ?_
  refine V_istore_2 g eX16_value_15 (by decide) rfl ?_
  refine V_iconst (v := 1) g eX16_value_16 (by decide) ?_
  refine V_istore_3 g eX16_value_17 (by decide) rfl ?_
  exact loop n 0 (by omega)
theorem ctX16_value (l : Launch) : ∀ d, CV l d := by
  intro d
  induction d with
  | zero => exact ctX16_valueA l 0 fun d' h => absurd h (by omega)
  | succ d ih =>
    refine ctX16_valueA l (d + 1) fun d' h => ?_
    obtain rfl : d' = d := by omega
    exact ih

