/-! marks of any plant (printed out of tmpl/t_pl6.txt) -/
set_option maxRecDepth 100000
section Mk
variable {X : CX} {T : Tt} {I : It} {L : Lt} {R : Rt} {uc us pc pc' idx a m : Nat} {ls : List (Option Value)} {st : List Value} {cc : ByteArray} {own : String} {ret : Option FieldType} {nL lev : Nat} {nm : String} {x : MethodName}
/-- a call of marks() on a plant of any kind -/
theorem V_mk4 (g : Gd X cc own ret nL lev nm) (e : dc cc pc (.invokevirtual idx) 3 pc') (p4 : PkU own idx x "BedBook$Plant" yX5_marks (.code yX5_marks cX5_marks 1 (some (.array .int))) 1 RX6 0) (p5 : PkU own idx x "BedBook$Plant" yX5_marks (.code yX5_marks cX5_marks 1 (some (.array .int))) 1 RX7 0) (p6 : PkU own idx x "BedBook$Plant" yX5_marks (.code yX5_marks cX5_marks 1 (some (.array .int))) 1 RX9 0) (p7 : PkU own idx x "BedBook$Plant" yX5_marks (.code yX5_marks cX5_marks 1 (some (.array .int))) 1 RX10 0)
    (hp : IsPl T a) (hr : R a (pf T a 6) = some m) (hlev : 2 ≤ lev) (hroom : (st.map fun v => v.category).sum ≤ 8) (k : V X T I L R uc us pc' ls (.ref m :: st)) : V X T I L R uc us pc ls (.ref a :: st) := by
  rcases id hp with h | h | h | h
  · exact V_cu0 g (ctX5_marks _) e p4 h rfl (by decide) hlev hroom ⟨a, m, rfl, hp, hr, k⟩
  · exact V_cu0 g (ctX5_marks _) e p5 h rfl (by decide) hlev hroom ⟨a, m, rfl, hp, hr, k⟩
  · exact V_cu0 g (ctX5_marks _) e p6 h rfl (by decide) hlev hroom ⟨a, m, rfl, hp, hr, k⟩
  · exact V_cu0 g (ctX5_marks _) e p7 h rfl (by decide) hlev hroom ⟨a, m, rfl, hp, hr, k⟩
end Mk
theorem puX8_15_X6 : PkU RX8 15 ⟨"BedBook$Plant", "marks", "()[I"⟩ "BedBook$Plant" yX5_marks (.code yX5_marks cX5_marks 1 (some (.array .int))) 1 RX6 0 := ⟨cwd_c, (lk q497), (lk q490), (lk q492), Or.inr (lt_k q500 rfl), (lk q491), (lk q496), ⟨⟨by decide, by decide⟩, by decide +kernel⟩, (lk q68), by decide⟩
theorem puX8_15_X7 : PkU RX8 15 ⟨"BedBook$Plant", "marks", "()[I"⟩ "BedBook$Plant" yX5_marks (.code yX5_marks cX5_marks 1 (some (.array .int))) 1 RX7 0 := ⟨cwd_c, (lk q497), (lk q490), (lk q492), Or.inr (lt_k q500 rfl), (lk q491), (lk q494), ⟨⟨by decide, by decide⟩, by decide +kernel⟩, (lk q68), by decide⟩
theorem puX8_15_X9 : PkU RX8 15 ⟨"BedBook$Plant", "marks", "()[I"⟩ "BedBook$Plant" yX5_marks (.code yX5_marks cX5_marks 1 (some (.array .int))) 1 RX9 0 := ⟨cwd_c, (lk q497), (lk q490), (lk q492), Or.inr (lt_k q500 rfl), (lk q491), (lk q493), ⟨⟨by decide, by decide⟩, by decide +kernel⟩, (lk q68), by decide⟩
theorem puX8_15_X10 : PkU RX8 15 ⟨"BedBook$Plant", "marks", "()[I"⟩ "BedBook$Plant" yX5_marks (.code yX5_marks cX5_marks 1 (some (.array .int))) 1 RX10 0 := ⟨cwd_c, (lk q497), (lk q490), (lk q492), Or.inr (lt_k q500 rfl), (lk q491), (lk q495), ⟨⟨by decide, by decide⟩, by decide +kernel⟩, (lk q68), by decide⟩

