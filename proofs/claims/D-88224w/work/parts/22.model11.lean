/-! BedBookModel: behind a part (printed out of tmpl/t_model11.txt) -/
set_option maxRecDepth 100000
/-- the reading is at its end -/
abbrev fnl (F : Ms) : Prop := F.1 = 8 ∨ F.1 = 11 ∨ F.1 = 15
theorem rn_pos {S : Nat → Nat} {v : Nat → Int64} {n : Nat} {s F : Ms} (h : rn S v n s = F) (hf : fnl F) (hs : s.1 < 8) : ∃ n1, n = n1 + 1 ∧ rn S v n1 (stp S v s) = F := by
  cases n with
  | zero =>
    have h : s = F := h
    subst h
    unfold fnl at hf
    omega
  | succ n => exact ⟨n, rfl, h⟩
theorem rn_fix {S : Nat → Nat} {v : Nat → Int64} {s : Ms} (h : ∀ _ : Unit, stp S v s = s) : ∀ n, rn S v n s = s := by
  intro n
  induction n with
  | zero => rfl
  | succ n ih =>
    show rn S v n (stp S v s) = s
    rw [h ()]
    exact ih
theorem stp1 {S : Nat → Nat} {v : Nat → Int64} {i su sg an : Nat} {r : List Wt} {cs : List Cd} {b : Bool} {ls : List (Bool × List Cd)} (h : ¬ su = 0) : stp S v (1, i, (su, sg, an) :: r, cs, b, ls) = stp S v (1, i, (0, sg, an) :: r, cs ++ [(su, 0)], b, ls) := by
  show (if _ then _ else _) = (if _ then _ else _)
  have e : pn su = [(su, 0)] := if_neg h
  have e0 : pn 0 = [] := rfl
  rw [e, e0, List.append_nil]
theorem stp3 {S : Nat → Nat} {v : Nat → Int64} {i an : Nat} {r : List Wt} {cs : List Cd} {b : Bool} {ls : List (Bool × List Cd)} (h : an = 7) : stp S v (3, i, (0, 0, an) :: r, cs, b, ls) = stp S v (3, i, (0, 0, 0) :: r, cs ++ [(7, 0)], b, ls) := by
  subst h
  show (if _ then _ else _) = (if _ then _ else _)
  have e : pn 7 = [(7, 0)] := rfl
  have e0 : pn 0 = [] := rfl
  rw [e, e0, List.append_nil]
/-- the code c comes behind, its sign at the place a waits no more -/
theorem PS_emw {nt H : Nat} {I : It} {m m' i su sg an c : Nat} {x' : Wt} {a : Nat} {r : List Wt} {cs : List Cd} {b : Bool} {ls : List (Bool × List Cd)} (h : PS nt H (m, i, (su, sg, an) :: r, cs, b, ls) I) (hm : m < 5) (ha : (a = 19 ∧ x' = (0, sg, an) ∧ ¬ su = 0) ∨ (a = 20 ∧ x' = (su, 0, an) ∧ ¬ sg = 0) ∨ (a = 21 ∧ x' = (su, sg, 0) ∧ ¬ an = 0)) : PS nt H (m', i, x' :: r, cs ++ [(c, 0)], b, ls) (u2 (emI I H ((enc ls).length + cs.length) (nI c) 0) a r.length 0) := by
  obtain ⟨t1, t2, t3, t4, t5, t6, t7, t8, t9⟩ := PS_top h hm
  have hC := codM_em h.2.2.2.2.1 c 0
  have hC' : codM H (enc ls ++ (cs ++ [(c, 0)])) (emI I H ((enc ls).length + cs.length) (nI c) 0) := by
    rw [← List.append_assoc]
    have : codM H (enc ls ++ cs ++ [(c, 0)]) (emI I H (enc ls ++ cs).length (nI c) 0) := hC
    rw [List.length_append] at this
    exact this
  have h7 : I 0 7 = nI i := h.2.1
  have e0 : nI 0 = 0 := rfl
  rcases ha with ⟨rfl, rfl, hz⟩ | ⟨rfl, rfl, hz⟩ | ⟨rfl, rfl, hz⟩
  · refine PS_upd h hm (fun j => by simp [emI, u2]) (fun j => by simp [emI, u2]) (fun j => by simp [emI, u2]) (by simp [emI, u2]) (by simp [emI, u2]) (by simp [emI, u2, h7]) h.1 (by simp [emI, u2]; congr 1) (codM_o hC' (fun j => by simp [u2]) (fun j => by simp [u2])) (fun D hD => by simp [emI, u2, hD]) (by simp [emI, u2, e0]; exact ⟨t4, t5⟩) ⟨by show 0 < 8; decide, t7, t8⟩ ?_
    simp [p1, hz] at t9 ⊢
    omega
  · refine PS_upd h hm (fun j => by simp [emI, u2]) (fun j => by simp [emI, u2]) (fun j => by simp [emI, u2]) (by simp [emI, u2]) (by simp [emI, u2]) (by simp [emI, u2, h7]) h.1 (by simp [emI, u2]; congr 1) (codM_o hC' (fun j => by simp [u2]) (fun j => by simp [u2])) (fun D hD => by simp [emI, u2, hD]) (by simp [emI, u2, e0]; exact ⟨t3, t5⟩) ⟨t6, by show 0 < 8; decide, t8⟩ ?_
    simp [p1, hz] at t9 ⊢
    omega
  · refine PS_upd h hm (fun j => by simp [emI, u2]) (fun j => by simp [emI, u2]) (fun j => by simp [emI, u2]) (by simp [emI, u2]) (by simp [emI, u2]) (by simp [emI, u2, h7]) h.1 (by simp [emI, u2]; congr 1) (codM_o hC' (fun j => by simp [u2]) (fun j => by simp [u2])) (fun D hD => by simp [emI, u2, hD]) (by simp [emI, u2, e0]; exact ⟨t3, t4⟩) ⟨t6, t7, Or.inl rfl⟩ ?_
    simp [p1, hz] at t9 ⊢
    omega
/-- a sign c waits now at the place a; a step on -/
theorem PS_set {nt H : Nat} {I : It} {m m' i su sg an c : Nat} {x' : Wt} {a : Nat} {r : List Wt} {cs : List Cd} {b : Bool} {ls : List (Bool × List Cd)} (h : PS nt H (m, i, (su, sg, an) :: r, cs, b, ls) I) (hm : m < 5) (hi : i < nt) (hc : c < 8) (ha : (a = 19 ∧ x' = (c, sg, an)) ∨ (a = 20 ∧ x' = (su, c, an)) ∨ (a = 21 ∧ x' = (su, sg, c) ∧ c = 7)) (h0 : ¬ (a = 19 ∧ ¬ su = 0) ∧ ¬ (a = 20 ∧ ¬ sg = 0) ∧ ¬ (a = 21 ∧ ¬ an = 0)) : PS nt H (m', i + 1, x' :: r, cs, b, ls) (u2 (u2 I a r.length (nI c)) 0 7 (nI (i + 1))) := by
  obtain ⟨t1, t2, t3, t4, t5, t6, t7, t8, t9⟩ := PS_top h hm
  have hC : codM H (enc ls ++ cs) I := h.2.2.2.2.1
  have h17 : I 0 17 = nI ((enc ls).length + cs.length) := h.2.2.2.1
  have pp : ∀ z : Nat, (if z = 0 then 0 else 1) ≤ 1 := fun z => by split <;> omega
  rcases ha with ⟨rfl, rfl⟩ | ⟨rfl, rfl⟩ | ⟨rfl, rfl, rfl⟩
  · refine PS_upd h hm (fun j => by simp [u2]) (fun j => by simp [u2]) (fun j => by simp [u2]) (by simp [u2]) (by simp [u2]) (by simp [u2]) hi (by simp [u2, h17]) (codM_o hC (fun j => by simp [u2]) (fun j => by simp [u2])) (fun D hD => by simp [u2, hD]) (by simp [u2]; exact ⟨t4, t5⟩) ⟨hc, t7, t8⟩ ?_
    have := pp c
    have e : su = 0 := Decidable.byContradiction fun q => h0.1 ⟨rfl, q⟩
    simp only [p1, e, if_true] at t9 ⊢
    omega
  · refine PS_upd h hm (fun j => by simp [u2]) (fun j => by simp [u2]) (fun j => by simp [u2]) (by simp [u2]) (by simp [u2]) (by simp [u2]) hi (by simp [u2, h17]) (codM_o hC (fun j => by simp [u2]) (fun j => by simp [u2])) (fun D hD => by simp [u2, hD]) (by simp [u2]; exact ⟨t3, t5⟩) ⟨t6, hc, t8⟩ ?_
    have := pp c
    have e : sg = 0 := Decidable.byContradiction fun q => h0.2.1 ⟨rfl, q⟩
    simp only [p1, e, if_true] at t9 ⊢
    omega
  · refine PS_upd h hm (fun j => by simp [u2]) (fun j => by simp [u2]) (fun j => by simp [u2]) (by simp [u2]) (by simp [u2]) (by simp [u2]) hi (by simp [u2, h17]) (codM_o hC (fun j => by simp [u2]) (fun j => by simp [u2])) (fun D hD => by simp [u2, hD]) (by simp [u2]; exact ⟨t3, t4⟩) ⟨t6, t7, Or.inr rfl⟩ ?_
    have e : an = 0 := Decidable.byContradiction fun q => h0.2.2 ⟨rfl, q⟩
    simp only [p1, e, if_true] at t9 ⊢
    simp
    omega
abbrev spX4_goesOnBehind : Sp := fun av T I L R uc us k => av = [.ref 0] ∧ T = TM ∧ R = RM ∧ ((¬ I 0 8 = 0 ∧ k (.inl (some (.int 0))) T I L R uc us) ∨ ∃ S : Nat → Nat, ∃ P : Nat → Nat, ∃ v : Nat → Int64, ∃ nt : Nat, ∃ H : Nat, ∃ I0 : It, ∃ i : Nat, ∃ su : Nat, ∃ sg : Nat, ∃ an : Nat, ∃ r : List Wt, ∃ cs : List Cd, ∃ b : Bool, ∃ ls : List (Bool × List Cd), ∃ n : Nat, ∃ F : Ms, TK S P v nt H I0 L ∧ rdF H I0 I ∧ PS nt H (1, i, (su, sg, an) :: r, cs, b, ls) I ∧ rn S v n (1, i, (su, sg, an) :: r, cs, b, ls) = F ∧ fnl F ∧ (∀ I', (F.1 = 11 ∨ F.1 = 15) → FS nt H (flt P F) I' → rdF H I0 I' → k (.inl (some (.int 0))) T I' L R uc us) ∧ (∀ I' m s', m < n → rn S v m s' = F → s'.1 = 0 → PS nt H s' I' → rdF H I0 I' → k (.inl (some (.int 1))) T I' L R uc us) ∧ (∀ I' m s', m < n → rn S v m s' = F → s'.1 = 4 → s'.2.2.1.length = 1 → PS nt H s' I' → rdF H I0 I' → k (.inl (some (.int 0))) T I' L R uc us))
theorem eX4_goesOnBehind_0 : dc cX4_goesOnBehind 0 (.aload_n 0) 1 1 := ⟨by decide +kernel, rfl⟩
theorem eX4_goesOnBehind_1 : dc cX4_goesOnBehind 1 (.getfield 194) 3 4 := ⟨by decide +kernel, rfl⟩
theorem eX4_goesOnBehind_4 : dj cX4_goesOnBehind 4 (.ifCond .ne 273) 273 277 7 := ⟨by decide +kernel, by decide, rfl⟩
theorem eX4_goesOnBehind_277 : dc cX4_goesOnBehind 277 (.iconst 0) 1 278 := ⟨by decide +kernel, rfl⟩
theorem eX4_goesOnBehind_278 : dc cX4_goesOnBehind 278 (.ireturn) 1 279 := ⟨by decide +kernel, rfl⟩
theorem eX4_goesOnBehind_264 : dc cX4_goesOnBehind 264 (.aload_n 0) 1 265 := ⟨by decide +kernel, rfl⟩
theorem eX4_goesOnBehind_265 : dc cX4_goesOnBehind 265 (.dup) 1 266 := ⟨by decide +kernel, rfl⟩
theorem eX4_goesOnBehind_266 : dc cX4_goesOnBehind 266 (.getfield 228) 3 269 := ⟨by decide +kernel, rfl⟩
theorem eX4_goesOnBehind_269 : dc cX4_goesOnBehind 269 (.iconst 1) 1 270 := ⟨by decide +kernel, rfl⟩
theorem eX4_goesOnBehind_270 : dc cX4_goesOnBehind 270 (.isub) 1 271 := ⟨by decide +kernel, rfl⟩
theorem eX4_goesOnBehind_271 : dc cX4_goesOnBehind 271 (.putfield 228) 3 274 := ⟨by decide +kernel, rfl⟩
theorem eX4_goesOnBehind_274 : dj cX4_goesOnBehind 274 (.goto (-274)) (-274) 0 277 := ⟨by decide +kernel, by decide, rfl⟩
theorem eX4_goesOnBehind_218 : dc cX4_goesOnBehind 218 (.aload_n 0) 1 219 := ⟨by decide +kernel, rfl⟩
theorem eX4_goesOnBehind_219 : dc cX4_goesOnBehind 219 (.iconst 3) 1 220 := ⟨by decide +kernel, rfl⟩
theorem eX4_goesOnBehind_220 : dc cX4_goesOnBehind 220 (.invokevirtual 204) 3 223 := ⟨by decide +kernel, rfl⟩
theorem eX4_goesOnBehind_223 : dj cX4_goesOnBehind 223 (.ifCond .eq 26) 26 249 226 := ⟨by decide +kernel, by decide, rfl⟩
theorem eX4_goesOnBehind_249 : dc cX4_goesOnBehind 249 (.aload_n 0) 1 250 := ⟨by decide +kernel, rfl⟩
theorem eX4_goesOnBehind_250 : dc cX4_goesOnBehind 250 (.getfield 228) 3 253 := ⟨by decide +kernel, rfl⟩
theorem eX4_goesOnBehind_253 : dj cX4_goesOnBehind 253 (.ifCond .ne 5) 5 258 256 := ⟨by decide +kernel, by decide, rfl⟩
theorem eX4_goesOnBehind_258 : dc cX4_goesOnBehind 258 (.aload_n 0) 1 259 := ⟨by decide +kernel, rfl⟩
theorem eX4_goesOnBehind_259 : dc cX4_goesOnBehind 259 (.bipush 41) 2 261 := ⟨by decide +kernel, rfl⟩
theorem eX4_goesOnBehind_261 : dc cX4_goesOnBehind 261 (.invokevirtual 245) 3 264 := ⟨by decide +kernel, rfl⟩
theorem pkX4_245 : PkV RX4 245 yX4_takeSign (.code yX4_takeSign cX4_takeSign 2 none) 2 "BedBookModel" 1 := ⟨cwd_c, (lk q1484), Or.inl (lk q1481), (lk q1483), (lk qs39), ⟨⟨by decide, by decide⟩, by decide +kernel⟩, (lk q67), by decide⟩
theorem eX4_goesOnBehind_256 : dc cX4_goesOnBehind 256 (.iconst 0) 1 257 := ⟨by decide +kernel, rfl⟩
theorem eX4_goesOnBehind_257 : dc cX4_goesOnBehind 257 (.ireturn) 1 258 := ⟨by decide +kernel, rfl⟩
theorem eX4_goesOnBehind_226 : dc cX4_goesOnBehind 226 (.aload_n 0) 1 227 := ⟨by decide +kernel, rfl⟩
theorem eX4_goesOnBehind_227 : dc cX4_goesOnBehind 227 (.getfield 81) 3 230 := ⟨by decide +kernel, rfl⟩
theorem eX4_goesOnBehind_230 : dc cX4_goesOnBehind 230 (.aload_n 0) 1 231 := ⟨by decide +kernel, rfl⟩
theorem eX4_goesOnBehind_231 : dc cX4_goesOnBehind 231 (.getfield 228) 3 234 := ⟨by decide +kernel, rfl⟩
theorem eX4_goesOnBehind_234 : dc cX4_goesOnBehind 234 (.bipush 7) 2 236 := ⟨by decide +kernel, rfl⟩
theorem eX4_goesOnBehind_236 : dc cX4_goesOnBehind 236 (.iastore) 1 237 := ⟨by decide +kernel, rfl⟩
theorem eX4_goesOnBehind_237 : dc cX4_goesOnBehind 237 (.aload_n 0) 1 238 := ⟨by decide +kernel, rfl⟩
theorem eX4_goesOnBehind_238 : dc cX4_goesOnBehind 238 (.dup) 1 239 := ⟨by decide +kernel, rfl⟩
theorem eX4_goesOnBehind_239 : dc cX4_goesOnBehind 239 (.getfield 191) 3 242 := ⟨by decide +kernel, rfl⟩
theorem eX4_goesOnBehind_242 : dc cX4_goesOnBehind 242 (.iconst 1) 1 243 := ⟨by decide +kernel, rfl⟩
theorem eX4_goesOnBehind_243 : dc cX4_goesOnBehind 243 (.iadd) 1 244 := ⟨by decide +kernel, rfl⟩
theorem eX4_goesOnBehind_244 : dc cX4_goesOnBehind 244 (.putfield 191) 3 247 := ⟨by decide +kernel, rfl⟩
theorem eX4_goesOnBehind_247 : dc cX4_goesOnBehind 247 (.iconst 1) 1 248 := ⟨by decide +kernel, rfl⟩
theorem eX4_goesOnBehind_248 : dc cX4_goesOnBehind 248 (.ireturn) 1 249 := ⟨by decide +kernel, rfl⟩
theorem eX4_goesOnBehind_189 : dc cX4_goesOnBehind 189 (.aload_n 0) 1 190 := ⟨by decide +kernel, rfl⟩
theorem eX4_goesOnBehind_190 : dc cX4_goesOnBehind 190 (.getfield 81) 3 193 := ⟨by decide +kernel, rfl⟩
theorem eX4_goesOnBehind_193 : dc cX4_goesOnBehind 193 (.aload_n 0) 1 194 := ⟨by decide +kernel, rfl⟩
theorem eX4_goesOnBehind_194 : dc cX4_goesOnBehind 194 (.getfield 228) 3 197 := ⟨by decide +kernel, rfl⟩
theorem eX4_goesOnBehind_197 : dc cX4_goesOnBehind 197 (.iaload) 1 198 := ⟨by decide +kernel, rfl⟩
theorem eX4_goesOnBehind_198 : dj cX4_goesOnBehind 198 (.ifCond .eq 20) 20 218 201 := ⟨by decide +kernel, by decide, rfl⟩
theorem eX4_goesOnBehind_201 : dc cX4_goesOnBehind 201 (.aload_n 0) 1 202 := ⟨by decide +kernel, rfl⟩
theorem eX4_goesOnBehind_202 : dc cX4_goesOnBehind 202 (.bipush 7) 2 204 := ⟨by decide +kernel, rfl⟩
theorem eX4_goesOnBehind_204 : dc cX4_goesOnBehind 204 (.iconst 0) 1 205 := ⟨by decide +kernel, rfl⟩
theorem eX4_goesOnBehind_205 : dc cX4_goesOnBehind 205 (.invokevirtual 241) 3 208 := ⟨by decide +kernel, rfl⟩
theorem eX4_goesOnBehind_208 : dc cX4_goesOnBehind 208 (.aload_n 0) 1 209 := ⟨by decide +kernel, rfl⟩
theorem eX4_goesOnBehind_209 : dc cX4_goesOnBehind 209 (.getfield 81) 3 212 := ⟨by decide +kernel, rfl⟩
theorem eX4_goesOnBehind_212 : dc cX4_goesOnBehind 212 (.aload_n 0) 1 213 := ⟨by decide +kernel, rfl⟩
theorem eX4_goesOnBehind_213 : dc cX4_goesOnBehind 213 (.getfield 228) 3 216 := ⟨by decide +kernel, rfl⟩
theorem eX4_goesOnBehind_216 : dc cX4_goesOnBehind 216 (.iconst 0) 1 217 := ⟨by decide +kernel, rfl⟩
theorem eX4_goesOnBehind_217 : dc cX4_goesOnBehind 217 (.iastore) 1 218 := ⟨by decide +kernel, rfl⟩
theorem eX4_goesOnBehind_96 : dc cX4_goesOnBehind 96 (.aload_n 0) 1 97 := ⟨by decide +kernel, rfl⟩
theorem eX4_goesOnBehind_97 : dc cX4_goesOnBehind 97 (.getfield 78) 3 100 := ⟨by decide +kernel, rfl⟩
theorem eX4_goesOnBehind_100 : dc cX4_goesOnBehind 100 (.aload_n 0) 1 101 := ⟨by decide +kernel, rfl⟩
theorem eX4_goesOnBehind_101 : dc cX4_goesOnBehind 101 (.getfield 228) 3 104 := ⟨by decide +kernel, rfl⟩
theorem eX4_goesOnBehind_104 : dc cX4_goesOnBehind 104 (.iaload) 1 105 := ⟨by decide +kernel, rfl⟩
theorem eX4_goesOnBehind_105 : dj cX4_goesOnBehind 105 (.ifCond .eq 30) 30 135 108 := ⟨by decide +kernel, by decide, rfl⟩
theorem eX4_goesOnBehind_135 : dc cX4_goesOnBehind 135 (.aload_n 0) 1 136 := ⟨by decide +kernel, rfl⟩
theorem eX4_goesOnBehind_136 : dc cX4_goesOnBehind 136 (.bipush 60) 2 138 := ⟨by decide +kernel, rfl⟩
theorem eX4_goesOnBehind_138 : dc cX4_goesOnBehind 138 (.invokevirtual 197) 3 141 := ⟨by decide +kernel, rfl⟩
theorem eX4_goesOnBehind_141 : dj cX4_goesOnBehind 141 (.ifCond .ne 12) 12 153 144 := ⟨by decide +kernel, by decide, rfl⟩
theorem eX4_goesOnBehind_153 : dc cX4_goesOnBehind 153 (.aload_n 0) 1 154 := ⟨by decide +kernel, rfl⟩
theorem eX4_goesOnBehind_154 : dc cX4_goesOnBehind 154 (.getfield 78) 3 157 := ⟨by decide +kernel, rfl⟩
theorem eX4_goesOnBehind_157 : dc cX4_goesOnBehind 157 (.aload_n 0) 1 158 := ⟨by decide +kernel, rfl⟩
theorem eX4_goesOnBehind_158 : dc cX4_goesOnBehind 158 (.getfield 228) 3 161 := ⟨by decide +kernel, rfl⟩
theorem eX4_goesOnBehind_161 : dc cX4_goesOnBehind 161 (.aload_n 0) 1 162 := ⟨by decide +kernel, rfl⟩
theorem eX4_goesOnBehind_162 : dc cX4_goesOnBehind 162 (.bipush 60) 2 164 := ⟨by decide +kernel, rfl⟩
theorem eX4_goesOnBehind_164 : dc cX4_goesOnBehind 164 (.invokevirtual 197) 3 167 := ⟨by decide +kernel, rfl⟩
theorem eX4_goesOnBehind_167 : dj cX4_goesOnBehind 167 (.ifCond .eq 7) 7 174 170 := ⟨by decide +kernel, by decide, rfl⟩
theorem eX4_goesOnBehind_170 : dc cX4_goesOnBehind 170 (.iconst 5) 1 171 := ⟨by decide +kernel, rfl⟩
theorem eX4_goesOnBehind_171 : dj cX4_goesOnBehind 171 (.goto 5) 5 176 174 := ⟨by decide +kernel, by decide, rfl⟩
theorem eX4_goesOnBehind_176 : dc cX4_goesOnBehind 176 (.iastore) 1 177 := ⟨by decide +kernel, rfl⟩
theorem eX4_goesOnBehind_177 : dc cX4_goesOnBehind 177 (.aload_n 0) 1 178 := ⟨by decide +kernel, rfl⟩
theorem eX4_goesOnBehind_178 : dc cX4_goesOnBehind 178 (.dup) 1 179 := ⟨by decide +kernel, rfl⟩
theorem eX4_goesOnBehind_179 : dc cX4_goesOnBehind 179 (.getfield 191) 3 182 := ⟨by decide +kernel, rfl⟩
theorem eX4_goesOnBehind_182 : dc cX4_goesOnBehind 182 (.iconst 1) 1 183 := ⟨by decide +kernel, rfl⟩
theorem eX4_goesOnBehind_183 : dc cX4_goesOnBehind 183 (.iadd) 1 184 := ⟨by decide +kernel, rfl⟩
theorem eX4_goesOnBehind_184 : dc cX4_goesOnBehind 184 (.putfield 191) 3 187 := ⟨by decide +kernel, rfl⟩
theorem eX4_goesOnBehind_187 : dc cX4_goesOnBehind 187 (.iconst 1) 1 188 := ⟨by decide +kernel, rfl⟩
theorem eX4_goesOnBehind_188 : dc cX4_goesOnBehind 188 (.ireturn) 1 189 := ⟨by decide +kernel, rfl⟩
theorem eX4_goesOnBehind_144 : dc cX4_goesOnBehind 144 (.aload_n 0) 1 145 := ⟨by decide +kernel, rfl⟩
theorem eX4_goesOnBehind_145 : dc cX4_goesOnBehind 145 (.bipush 61) 2 147 := ⟨by decide +kernel, rfl⟩
theorem eX4_goesOnBehind_147 : dc cX4_goesOnBehind 147 (.invokevirtual 197) 3 150 := ⟨by decide +kernel, rfl⟩
theorem eX4_goesOnBehind_150 : dj cX4_goesOnBehind 150 (.ifCond .eq 39) 39 189 153 := ⟨by decide +kernel, by decide, rfl⟩
theorem eX4_goesOnBehind_174 : dc cX4_goesOnBehind 174 (.bipush 6) 2 176 := ⟨by decide +kernel, rfl⟩
theorem eX4_goesOnBehind_108 : dc cX4_goesOnBehind 108 (.aload_n 0) 1 109 := ⟨by decide +kernel, rfl⟩
theorem eX4_goesOnBehind_109 : dc cX4_goesOnBehind 109 (.aload_n 0) 1 110 := ⟨by decide +kernel, rfl⟩
theorem eX4_goesOnBehind_110 : dc cX4_goesOnBehind 110 (.getfield 78) 3 113 := ⟨by decide +kernel, rfl⟩
theorem eX4_goesOnBehind_113 : dc cX4_goesOnBehind 113 (.aload_n 0) 1 114 := ⟨by decide +kernel, rfl⟩
theorem eX4_goesOnBehind_114 : dc cX4_goesOnBehind 114 (.getfield 228) 3 117 := ⟨by decide +kernel, rfl⟩
theorem eX4_goesOnBehind_117 : dc cX4_goesOnBehind 117 (.iaload) 1 118 := ⟨by decide +kernel, rfl⟩
theorem eX4_goesOnBehind_118 : dc cX4_goesOnBehind 118 (.iconst 0) 1 119 := ⟨by decide +kernel, rfl⟩
theorem eX4_goesOnBehind_119 : dc cX4_goesOnBehind 119 (.invokevirtual 241) 3 122 := ⟨by decide +kernel, rfl⟩
theorem eX4_goesOnBehind_122 : dc cX4_goesOnBehind 122 (.aload_n 0) 1 123 := ⟨by decide +kernel, rfl⟩
theorem eX4_goesOnBehind_123 : dc cX4_goesOnBehind 123 (.getfield 78) 3 126 := ⟨by decide +kernel, rfl⟩
theorem eX4_goesOnBehind_126 : dc cX4_goesOnBehind 126 (.aload_n 0) 1 127 := ⟨by decide +kernel, rfl⟩
theorem eX4_goesOnBehind_127 : dc cX4_goesOnBehind 127 (.getfield 228) 3 130 := ⟨by decide +kernel, rfl⟩
theorem eX4_goesOnBehind_130 : dc cX4_goesOnBehind 130 (.iconst 0) 1 131 := ⟨by decide +kernel, rfl⟩
theorem eX4_goesOnBehind_131 : dc cX4_goesOnBehind 131 (.iastore) 1 132 := ⟨by decide +kernel, rfl⟩
theorem eX4_goesOnBehind_132 : dj cX4_goesOnBehind 132 (.goto 57) 57 189 135 := ⟨by decide +kernel, by decide, rfl⟩
theorem eX4_goesOnBehind_43 : dc cX4_goesOnBehind 43 (.aload_n 0) 1 44 := ⟨by decide +kernel, rfl⟩
theorem eX4_goesOnBehind_44 : dc cX4_goesOnBehind 44 (.bipush 43) 2 46 := ⟨by decide +kernel, rfl⟩
theorem eX4_goesOnBehind_46 : dc cX4_goesOnBehind 46 (.invokevirtual 197) 3 49 := ⟨by decide +kernel, rfl⟩
theorem eX4_goesOnBehind_49 : dj cX4_goesOnBehind 49 (.ifCond .ne 12) 12 61 52 := ⟨by decide +kernel, by decide, rfl⟩
theorem eX4_goesOnBehind_61 : dc cX4_goesOnBehind 61 (.aload_n 0) 1 62 := ⟨by decide +kernel, rfl⟩
theorem eX4_goesOnBehind_62 : dc cX4_goesOnBehind 62 (.getfield 75) 3 65 := ⟨by decide +kernel, rfl⟩
theorem eX4_goesOnBehind_65 : dc cX4_goesOnBehind 65 (.aload_n 0) 1 66 := ⟨by decide +kernel, rfl⟩
theorem eX4_goesOnBehind_66 : dc cX4_goesOnBehind 66 (.getfield 228) 3 69 := ⟨by decide +kernel, rfl⟩
theorem eX4_goesOnBehind_69 : dc cX4_goesOnBehind 69 (.aload_n 0) 1 70 := ⟨by decide +kernel, rfl⟩
theorem eX4_goesOnBehind_70 : dc cX4_goesOnBehind 70 (.bipush 43) 2 72 := ⟨by decide +kernel, rfl⟩
theorem eX4_goesOnBehind_72 : dc cX4_goesOnBehind 72 (.invokevirtual 197) 3 75 := ⟨by decide +kernel, rfl⟩
theorem eX4_goesOnBehind_75 : dj cX4_goesOnBehind 75 (.ifCond .eq 7) 7 82 78 := ⟨by decide +kernel, by decide, rfl⟩
theorem eX4_goesOnBehind_78 : dc cX4_goesOnBehind 78 (.iconst 3) 1 79 := ⟨by decide +kernel, rfl⟩
theorem eX4_goesOnBehind_79 : dj cX4_goesOnBehind 79 (.goto 4) 4 83 82 := ⟨by decide +kernel, by decide, rfl⟩
theorem eX4_goesOnBehind_83 : dc cX4_goesOnBehind 83 (.iastore) 1 84 := ⟨by decide +kernel, rfl⟩
theorem eX4_goesOnBehind_84 : dc cX4_goesOnBehind 84 (.aload_n 0) 1 85 := ⟨by decide +kernel, rfl⟩
theorem eX4_goesOnBehind_85 : dc cX4_goesOnBehind 85 (.dup) 1 86 := ⟨by decide +kernel, rfl⟩
theorem eX4_goesOnBehind_86 : dc cX4_goesOnBehind 86 (.getfield 191) 3 89 := ⟨by decide +kernel, rfl⟩
theorem eX4_goesOnBehind_89 : dc cX4_goesOnBehind 89 (.iconst 1) 1 90 := ⟨by decide +kernel, rfl⟩
theorem eX4_goesOnBehind_90 : dc cX4_goesOnBehind 90 (.iadd) 1 91 := ⟨by decide +kernel, rfl⟩
theorem eX4_goesOnBehind_91 : dc cX4_goesOnBehind 91 (.putfield 191) 3 94 := ⟨by decide +kernel, rfl⟩
theorem eX4_goesOnBehind_94 : dc cX4_goesOnBehind 94 (.iconst 1) 1 95 := ⟨by decide +kernel, rfl⟩
theorem eX4_goesOnBehind_95 : dc cX4_goesOnBehind 95 (.ireturn) 1 96 := ⟨by decide +kernel, rfl⟩
theorem eX4_goesOnBehind_52 : dc cX4_goesOnBehind 52 (.aload_n 0) 1 53 := ⟨by decide +kernel, rfl⟩
theorem eX4_goesOnBehind_53 : dc cX4_goesOnBehind 53 (.bipush 45) 2 55 := ⟨by decide +kernel, rfl⟩
theorem eX4_goesOnBehind_55 : dc cX4_goesOnBehind 55 (.invokevirtual 197) 3 58 := ⟨by decide +kernel, rfl⟩
theorem eX4_goesOnBehind_58 : dj cX4_goesOnBehind 58 (.ifCond .eq 38) 38 96 61 := ⟨by decide +kernel, by decide, rfl⟩
theorem eX4_goesOnBehind_82 : dc cX4_goesOnBehind 82 (.iconst 4) 1 83 := ⟨by decide +kernel, rfl⟩
theorem eX4_goesOnBehind_7 : dc cX4_goesOnBehind 7 (.aload_n 0) 1 8 := ⟨by decide +kernel, rfl⟩
theorem eX4_goesOnBehind_8 : dc cX4_goesOnBehind 8 (.getfield 75) 3 11 := ⟨by decide +kernel, rfl⟩
theorem eX4_goesOnBehind_11 : dc cX4_goesOnBehind 11 (.aload_n 0) 1 12 := ⟨by decide +kernel, rfl⟩
theorem eX4_goesOnBehind_12 : dc cX4_goesOnBehind 12 (.getfield 228) 3 15 := ⟨by decide +kernel, rfl⟩
theorem eX4_goesOnBehind_15 : dc cX4_goesOnBehind 15 (.iaload) 1 16 := ⟨by decide +kernel, rfl⟩
theorem eX4_goesOnBehind_16 : dj cX4_goesOnBehind 16 (.ifCond .eq 27) 27 43 19 := ⟨by decide +kernel, by decide, rfl⟩
theorem eX4_goesOnBehind_19 : dc cX4_goesOnBehind 19 (.aload_n 0) 1 20 := ⟨by decide +kernel, rfl⟩
theorem eX4_goesOnBehind_20 : dc cX4_goesOnBehind 20 (.aload_n 0) 1 21 := ⟨by decide +kernel, rfl⟩
theorem eX4_goesOnBehind_21 : dc cX4_goesOnBehind 21 (.getfield 75) 3 24 := ⟨by decide +kernel, rfl⟩
theorem eX4_goesOnBehind_24 : dc cX4_goesOnBehind 24 (.aload_n 0) 1 25 := ⟨by decide +kernel, rfl⟩
theorem eX4_goesOnBehind_25 : dc cX4_goesOnBehind 25 (.getfield 228) 3 28 := ⟨by decide +kernel, rfl⟩
theorem eX4_goesOnBehind_28 : dc cX4_goesOnBehind 28 (.iaload) 1 29 := ⟨by decide +kernel, rfl⟩
theorem eX4_goesOnBehind_29 : dc cX4_goesOnBehind 29 (.iconst 0) 1 30 := ⟨by decide +kernel, rfl⟩
theorem eX4_goesOnBehind_30 : dc cX4_goesOnBehind 30 (.invokevirtual 241) 3 33 := ⟨by decide +kernel, rfl⟩
theorem eX4_goesOnBehind_33 : dc cX4_goesOnBehind 33 (.aload_n 0) 1 34 := ⟨by decide +kernel, rfl⟩
theorem eX4_goesOnBehind_34 : dc cX4_goesOnBehind 34 (.getfield 75) 3 37 := ⟨by decide +kernel, rfl⟩
theorem eX4_goesOnBehind_37 : dc cX4_goesOnBehind 37 (.aload_n 0) 1 38 := ⟨by decide +kernel, rfl⟩
theorem eX4_goesOnBehind_38 : dc cX4_goesOnBehind 38 (.getfield 228) 3 41 := ⟨by decide +kernel, rfl⟩
theorem eX4_goesOnBehind_41 : dc cX4_goesOnBehind 41 (.iconst 0) 1 42 := ⟨by decide +kernel, rfl⟩
theorem eX4_goesOnBehind_42 : dc cX4_goesOnBehind 42 (.iastore) 1 43 := ⟨by decide +kernel, rfl⟩
set_option maxHeartbeats 8000000 in
theorem ctX4_goesOnBehind (l : Launch) : Ct l yX4_goesOnBehind (.code yX4_goesOnBehind cX4_goesOnBehind 1 (some .boolean)) 3 spX4_goesOnBehind := by
  refine Ct.of (own := RX4) (nm := "goesOnBehind") (by decide) rfl rfl ?_
  rintro X av T I L R uc us rfl g hN hu hz ⟨rfl, rfl, rfl, ⟨h8, hk⟩ | ⟨S, P, v, nt, H, I0, i, su, sg, an, r, cs, b, ls, n, F, hTK, hr, hPS, hrn, hF, hkF, hk0, hk4⟩⟩
  · refine VE.go (ls := [some (.ref 0)]) g hu hz (fun _ => rfl) (fun _ => Nat.le_of_ble_eq_true rfl) ?_
    refine V_aload_0 g eX4_goesOnBehind_0 ?_
    refine V_getI g eX4_goesOnBehind_1 flX4_194 rfl rfl ?_
    refine V_if_ne g eX4_goesOnBehind_4 (fun _ => ?_) (fun c_4 => absurd c_4 h8)
    refine V_iconst (v := 0) g eX4_goesOnBehind_277 (by decide) ?_
    refine V_zret g eX4_goesOnBehind_278 rfl ?_
    exact hk
  refine VE.go (ls := [some (.ref 0)]) g hu hz (fun _ => rfl) (fun _ => Nat.le_of_ble_eq_true rfl) ?_
  have hn6 : nt ≤ 600 := hTK.2.2.2.2.2.2
  have hH : H < 2 := hTK.2.2.2.2.2.1
  have h16 : ∀ I', rdF H I0 I' → I' 0 16 = nI H := fun I' hr => by rw [hr 0 16 (by unfold tch; omega)]; exact hTK.2.2.2.2.1
  have loop : ∀ (q n' : Nat), n' ≤ q → n' ≤ n → ∀ (I : It) (i su sg an : Nat) (r : List Wt) (cs : List Cd), rdF H I0 I → PS nt H (1, i, (su, sg, an) :: r, cs, b, ls) I → rn S v n' (1, i, (su, sg, an) :: r, cs, b, ls) = F → V X TM I L RM uc us 0 [some (.ref 0)] [] := by
    intro q
    induction q with
    | zero =>
      intro n' h1 _ I i su sg an r cs _ _ h2
      obtain ⟨n1, h3, -⟩ := rn_pos h2 hF (by show 1 < 8; decide)
      omega
    | succ q ih =>
      intro n' hn1 hn2 I i su sg an r cs hr hPS hrn
      obtain ⟨n1, rfl, hrn1⟩ := rn_pos hrn hF (by show 1 < 8; decide)
      have hi : i ≤ nt := hPS.1
      have h218 : ∀ (I : It) (cs : List Cd) (m : Nat), m < n1 + 1 → rdF H I0 I → PS nt H (3, i, (0, 0, 0) :: r, cs, b, ls) I → rn S v m (stp S v (3, i, (0, 0, 0) :: r, cs, b, ls)) = F → V X TM I L RM uc us 218 [some (.ref 0)] [] := by
        intro I cs m hm hr hPS hrm
        have hat : I 0 7 = nI i := hPS.2.1
        have h8 : I 0 8 = 0 := hPS.2.2.1
        obtain ⟨t1, t2, t3, t4, t5, t6, t7, t8, t9⟩ := PS_top hPS (by decide)
        have e0 : pn 0 = [] := rfl
        have pop : ∀ y r', r = y :: r' → tS S v i 41 → ¬ tW S v i 3 → V X TM (onI I i) L RM uc us 264 [some (.ref 0)] [] := by
          intro y r' hr' hs hw
          subst hr'
          have hlt : i < nt := hTK.lt hi (by rw [hs.1]; decide)
          have e1 : stp S v (3, i, (0, 0, 0) :: y :: r', cs, b, ls) = (4, i, (0, 0, 0) :: y :: r', cs, b, ls) := by
            show (if _ then _ else _) = _
            rw [if_neg hw, e0, List.append_nil]
          rw [e1] at hrm
          obtain ⟨m1, rfl, hrm1⟩ := rn_pos hrm hF (by show 4 < 8; decide)
          have e2 : stp S v (4, i, (0, 0, 0) :: y :: r', cs, b, ls) = (1, i + 1, y :: r', cs, b, ls) := by
            show (if _ then _ else _) = _
            rw [if_pos hs]
          rw [e2] at hrm1
          obtain ⟨y1, y2, y3⟩ := y
          refine V_aload_0 g eX4_goesOnBehind_264 ?_
          refine V_dup g eX4_goesOnBehind_265 rfl ?_
          refine V_getI g eX4_goesOnBehind_266 flX4_228 rfl rfl ?_
          refine V_top (y := nI ((y1, y2, y3) :: r').length) (by simp only [onI, u2_n _ _ (show ¬ (0 = 0 ∧ 18 = 7) by omega)]; exact t1) ?_
          refine V_iconst (v := 1) g eX4_goesOnBehind_269 (by decide) ?_
          refine V_isubN (b := 1) g eX4_goesOnBehind_270 (by simp) ?_
          refine V_top (y := nI r'.length) (by simp) ?_
          refine V_putI g eX4_goesOnBehind_271 pflX4_228 rfl rfl rfl rfl ?_
          refine V_goto g eX4_goesOnBehind_274 ?_
          exact ih m1 (by omega) (by omega) _ (i + 1) y1 y2 y3 r' cs ((hr.u2 (by unfold tch; omega)).u2 (by unfold tch; omega)) (PS_pop (PS_mode hPS (by decide)) hlt) hrm1
        have bad : ∀ y r', r = y :: r' → ¬ tS S v i 41 → ¬ tW S v i 3 → V X TM (u2 I 0 8 (1 + 16 * nI (P i))) L RM uc us 264 [some (.ref 0)] [] := by
          intro y r' hr' hs hw
          have e1 : stp S v (3, i, (0, 0, 0) :: r, cs, b, ls) = (4, i, (0, 0, 0) :: r, cs, b, ls) := by
            show (if _ then _ else _) = _
            rw [if_neg hw, e0, List.append_nil]
          rw [e1] at hrm
          obtain ⟨m1, rfl, hrm1⟩ := rn_pos hrm hF (by show 4 < 8; decide)
          have e2 : stp S v (4, i, (0, 0, 0) :: r, cs, b, ls) = (11, i, r, cs, b, ls) := by
            rw [hr']
            show (if _ then _ else _) = _
            rw [if_neg hs]
          rw [e2] at hrm1
          have hFF : F = (11, i, r, cs, b, ls) := by rw [← hrm1]; exact rn_fix (fun _ => rfl) m1
          have hflt : flt P F = 1 + 16 * nI (P i) := by rw [hFF]; rfl
          have hP6 := (hTK.1 i hi).2.2.2
          have hfs : FS nt H (flt P F) (u2 I 0 8 (1 + 16 * nI (P i))) := by rw [hflt]; exact PS_fs hPS hn6 (by show 3 < 5; decide) hr
          refine V_aload_0 g eX4_goesOnBehind_264 ?_
          refine V_dup g eX4_goesOnBehind_265 rfl ?_
          refine V_getI g eX4_goesOnBehind_266 flX4_228 rfl rfl ?_
          refine V_iconst (v := 1) g eX4_goesOnBehind_269 (by decide) ?_
          refine V_isub g eX4_goesOnBehind_270 ?_
          refine V_putI g eX4_goesOnBehind_271 pflX4_228 rfl rfl rfl rfl ?_
          refine V_goto g eX4_goesOnBehind_274 ?_
          refine V_aload_0 g eX4_goesOnBehind_0 ?_
          refine V_getI g eX4_goesOnBehind_1 flX4_194 rfl rfl ?_
          refine V_top (y := nI (1 + 16 * P i)) (by simp [u2]; exact nI_flt (e := 1)) ?_
          refine V_if_ne g eX4_goesOnBehind_4 (fun _ => ?_) (fun c_4 => absurd c_4 (nI_ne0 (by omega) (by omega)))
          refine V_iconst (v := 0) g eX4_goesOnBehind_277 (by decide) ?_
          refine V_zret g eX4_goesOnBehind_278 rfl ?_
          exact hkF _ (by rw [hFF]; exact Or.inl rfl) (FS_18 hfs) ((hr.u2 (by unfold tch; omega)).u2 (by unfold tch; omega))
        refine V_aload_0 g eX4_goesOnBehind_218 ?_
        refine V_iconst (v := 3) g eX4_goesOnBehind_219 (by decide) ?_
        refine V_cv1 g (ctX4_isWord _) eX4_goesOnBehind_220 pkX4_204 rfl rfl (by decide) (by decide) (Nat.le_of_ble_eq_true rfl) ?_
        refine ⟨3, i, rfl, rfl, rfl, hat, by omega, by decide, ?_⟩
        refine V_if_eqB g eX4_goesOnBehind_223 (fun c_223 => ?_) (fun c_223 => ?_)
        · have hw : ¬ tW S v i 3 := fun q => c_223 ((hTK.wd hr h8 hi (by decide)).mpr q)
          have e1 : stp S v (3, i, (0, 0, 0) :: r, cs, b, ls) = (4, i, (0, 0, 0) :: r, cs, b, ls) := by show (if _ then _ else _) = _; rw [if_neg hw, e0, List.append_nil]
          refine V_aload_0 g eX4_goesOnBehind_249 ?_
          refine V_getI g eX4_goesOnBehind_250 flX4_228 rfl rfl ?_
          refine V_top (y := nI r.length) t1 ?_
          refine V_if_ne g eX4_goesOnBehind_253 (fun c_253 => ?_) (fun c_253 => ?_)
          · obtain ⟨y, r', hr'⟩ : ∃ y r', r = y :: r' := by cases r with | nil => exact absurd rfl c_253 | cons y r' => exact ⟨y, r', rfl⟩
            refine V_aload_0 g eX4_goesOnBehind_258 ?_
            refine V_bipush (v := 41) g eX4_goesOnBehind_259 (by decide) ?_
            refine V_cv1 g (ctX4_takeSign _) eX4_goesOnBehind_261 pkX4_245 rfl rfl (by decide) (by decide) (Nat.le_of_ble_eq_true rfl) ?_
            refine ⟨_, i, rfl, rfl, rfl, hat, by omega, fun hs => pop y r' hr' ((hTK.sg hr h8 hi 41).mp hs) hw, fun hs => ?_⟩
            rw [hTK.wr hr h8 hi]
            exact bad y r' hr' (fun q => hs ((hTK.sg hr h8 hi 41).mpr q)) hw
          · refine V_iconst (v := 0) g eX4_goesOnBehind_256 (by decide) ?_
            refine V_zret g eX4_goesOnBehind_257 rfl ?_
            have hr0 : r.length = 0 := nI_eq' (b := 0) (by omega) (by decide) c_253
            rw [e1] at hrm
            exact hk4 _ m _ (by omega) hrm rfl (by show r.length + 1 = 1; omega) (PS_mode hPS (by decide)) hr
        · refine V_aload_0 g eX4_goesOnBehind_226 ?_
          refine V_getR g eX4_goesOnBehind_227 flX4_81 rfl rfl rfl ?_
          refine V_aload_0 g eX4_goesOnBehind_230 ?_
          refine V_getI g eX4_goesOnBehind_231 flX4_228 rfl rfl ?_
          refine V_top (y := nI r.length) t1 ?_
          refine V_bipush (v := 7) g eX4_goesOnBehind_234 (by decide) ?_
          refine V_iastN g eX4_goesOnBehind_236 rfl (by omega) (by decide) ?_
          refine V_aload_0 g eX4_goesOnBehind_237 ?_
          refine V_dup g eX4_goesOnBehind_238 rfl ?_
          refine V_getI g eX4_goesOnBehind_239 flX4_191 rfl rfl ?_
          refine V_top (y := nI i) (by simp [u2, hat]) ?_
          refine V_iconst (v := 1) g eX4_goesOnBehind_242 (by decide) ?_
          refine V_iaddN (b := 1) g eX4_goesOnBehind_243 ?_
          refine V_putI g eX4_goesOnBehind_244 pflX4_191 rfl rfl rfl rfl ?_
          refine V_iconst (v := 1) g eX4_goesOnBehind_247 (by decide) ?_
          refine V_zret g eX4_goesOnBehind_248 rfl ?_
          have hw := (hTK.wd hr h8 hi (by decide)).mp c_223
          have hlt : i < nt := hTK.lt hi (by rw [hw.1]; decide)
          have e1 : stp S v (3, i, (0, 0, 0) :: r, cs, b, ls) = (0, i + 1, (0, 0, 7) :: r, cs, b, ls) := by show (if _ then _ else _) = _; rw [if_pos hw, e0, List.append_nil]
          rw [e1] at hrm
          exact hk0 _ m _ (by omega) hrm rfl (PS_set (c := 7) hPS (by decide) hlt (by decide) (Or.inr (Or.inr ⟨rfl, rfl, rfl⟩)) (by decide)) ((hr.u2 (by unfold tch; omega)).u2 (by unfold tch; omega))
      have h189 : ∀ (I : It) (an : Nat) (cs : List Cd) (m : Nat), m < n1 + 1 → rdF H I0 I → PS nt H (3, i, (0, 0, an) :: r, cs, b, ls) I → rn S v m (stp S v (3, i, (0, 0, an) :: r, cs, b, ls)) = F → V X TM I L RM uc us 189 [some (.ref 0)] [] := by
        intro I an cs m hm hr hPS hrm
        obtain ⟨t1, t2, t3, t4, t5, t6, t7, t8, t9⟩ := PS_top hPS (by decide)
        have h17 : I 0 17 = nI ((enc ls).length + cs.length) := hPS.2.2.2.1
        refine V_aload_0 g eX4_goesOnBehind_189 ?_
        refine V_getR g eX4_goesOnBehind_190 flX4_81 rfl rfl rfl ?_
        refine V_aload_0 g eX4_goesOnBehind_193 ?_
        refine V_getI g eX4_goesOnBehind_194 flX4_228 rfl rfl ?_
        refine V_top (y := nI r.length) t1 ?_
        refine V_ialdN g eX4_goesOnBehind_197 rfl (by omega) (by decide) ?_
        refine V_top (y := nI an) t5 ?_
        refine V_if_eq g eX4_goesOnBehind_198 (fun c_198 => ?_) (fun c_198 => ?_)
        · obtain rfl : an = 0 := nI_eq' (b := 0) (by omega) (by decide) c_198
          exact h218 I cs m hm hr hPS hrm
        · have han : an = 7 := t8.resolve_left (fun q => c_198 (by rw [q]; rfl))
          refine V_aload_0 g eX4_goesOnBehind_201 ?_
          refine V_bipush (v := 7) g eX4_goesOnBehind_202 (by decide) ?_
          refine V_iconst (v := 0) g eX4_goesOnBehind_204 (by decide) ?_
          refine V_cv2 g (ctX4_emit _) eX4_goesOnBehind_205 pkX4_241 rfl rfl (by decide) (by decide) (Nat.le_of_ble_eq_true rfl) ?_
          refine ⟨_, _, H, (enc ls).length + cs.length, rfl, rfl, rfl, h16 I hr, hH, h17, by omega, ?_⟩
          refine V_aload_0 g eX4_goesOnBehind_208 ?_
          refine V_getR g eX4_goesOnBehind_209 flX4_81 rfl rfl rfl ?_
          refine V_aload_0 g eX4_goesOnBehind_212 ?_
          refine V_getI g eX4_goesOnBehind_213 flX4_228 rfl rfl ?_
          refine V_top (y := nI r.length) (by simp [emI, u2, t1]) ?_
          refine V_iconst (v := 0) g eX4_goesOnBehind_216 (by decide) ?_
          refine V_iastN g eX4_goesOnBehind_217 rfl (by omega) (by decide) ?_
          rw [stp3 han] at hrm
          exact h218 _ (cs ++ [(7, 0)]) m hm ((hr.em (by omega)).u2 (by unfold tch; omega)) (PS_emw (c := 7) hPS (by decide) (Or.inr (Or.inr ⟨rfl, rfl, by omega⟩))) hrm
      have h96 : ∀ (I : It) (cs : List Cd) (m : Nat), m < n1 + 1 → rdF H I0 I → PS nt H (2, i, (0, sg, an) :: r, cs, b, ls) I → rn S v m (2, i, (0, sg, an) :: r, cs, b, ls) = F → V X TM I L RM uc us 96 [some (.ref 0)] [] := by
        intro I cs m hm hr hPS hrm
        obtain ⟨m1, rfl, hrm1⟩ := rn_pos hrm hF (by show 2 < 8; decide)
        obtain ⟨t1, t2, t3, t4, t5, t6, t7, t8, t9⟩ := PS_top hPS (by decide)
        have hat : I 0 7 = nI i := hPS.2.1
        have h8 : I 0 8 = 0 := hPS.2.2.1
        have h17 : I 0 17 = nI ((enc ls).length + cs.length) := hPS.2.2.2.1
        have go3 : ∀ (I' : It) (cs' : List Cd), stp S v (2, i, (0, sg, an) :: r, cs, b, ls) = (3, i, (0, 0, an) :: r, cs', b, ls) → rdF H I0 I' → PS nt H (3, i, (0, 0, an) :: r, cs', b, ls) I' → V X TM I' L RM uc us 189 [some (.ref 0)] [] := by
          intro I' cs' e hr' hPS'
          rw [e] at hrm1
          obtain ⟨m2, rfl, hrm2⟩ := rn_pos hrm1 hF (by show 3 < 8; decide)
          exact h189 I' an cs' m2 (by omega) hr' hPS' hrm2
        refine V_aload_0 g eX4_goesOnBehind_96 ?_
        refine V_getR g eX4_goesOnBehind_97 flX4_78 rfl rfl rfl ?_
        refine V_aload_0 g eX4_goesOnBehind_100 ?_
        refine V_getI g eX4_goesOnBehind_101 flX4_228 rfl rfl ?_
        refine V_top (y := nI r.length) t1 ?_
        refine V_ialdN g eX4_goesOnBehind_104 rfl (by omega) (by decide) ?_
        refine V_top (y := nI sg) t4 ?_
        refine V_if_eq g eX4_goesOnBehind_105 (fun c_105 => ?_) (fun c_105 => ?_)
        · obtain rfl : sg = 0 := nI_eq' (b := 0) (by omega) (by decide) c_105
          refine V_aload_0 g eX4_goesOnBehind_135 ?_
          refine V_bipush (v := 60) g eX4_goesOnBehind_136 (by decide) ?_
          refine V_cv1 g (ctX4_isSign _) eX4_goesOnBehind_138 pkX4_197 rfl rfl (by decide) (by decide) (Nat.le_of_ble_eq_true rfl) ?_
          refine ⟨_, i, rfl, rfl, rfl, hat, by omega, ?_⟩
          refine V_if_neB g eX4_goesOnBehind_141 (fun c_141 => ?_) (fun c_141 => ?_)
          · refine V_aload_0 g eX4_goesOnBehind_153 ?_
            refine V_getR g eX4_goesOnBehind_154 flX4_78 rfl rfl rfl ?_
            refine V_aload_0 g eX4_goesOnBehind_157 ?_
            refine V_getI g eX4_goesOnBehind_158 flX4_228 rfl rfl ?_
            refine V_top (y := nI r.length) t1 ?_
            refine V_aload_0 g eX4_goesOnBehind_161 ?_
            refine V_bipush (v := 60) g eX4_goesOnBehind_162 (by decide) ?_
            refine V_cv1 g (ctX4_isSign _) eX4_goesOnBehind_164 pkX4_197 rfl rfl (by decide) (by decide) (Nat.le_of_ble_eq_true rfl) ?_
            refine ⟨_, i, rfl, rfl, rfl, hat, by omega, ?_⟩
            refine V_if_eqB g eX4_goesOnBehind_167 (fun c_167 => ?_) (fun c_167 => ?_)
            · exact absurd c_141 c_167
            · refine V_iconst (v := 5) g eX4_goesOnBehind_170 (by decide) ?_
              refine V_goto g eX4_goesOnBehind_171 ?_
              refine V_iastN g eX4_goesOnBehind_176 rfl (by omega) (by decide) ?_
              refine V_aload_0 g eX4_goesOnBehind_177 ?_
              refine V_dup g eX4_goesOnBehind_178 rfl ?_
              refine V_getI g eX4_goesOnBehind_179 flX4_191 rfl rfl ?_
              refine V_top (y := nI i) (by simp [u2, hat]) ?_
              refine V_iconst (v := 1) g eX4_goesOnBehind_182 (by decide) ?_
              refine V_iaddN (b := 1) g eX4_goesOnBehind_183 ?_
              refine V_putI g eX4_goesOnBehind_184 pflX4_191 rfl rfl rfl rfl ?_
              refine V_iconst (v := 1) g eX4_goesOnBehind_187 (by decide) ?_
              refine V_zret g eX4_goesOnBehind_188 rfl ?_
              have hs := (hTK.sg hr h8 hi 60).mp c_141
              have hlt : i < nt := hTK.lt hi (by rw [hs.1]; decide)
              have e1 : stp S v (2, i, (0, 0, an) :: r, cs, b, ls) = (0, i + 1, (0, 5, an) :: r, cs, b, ls) := by show (if _ then _ else _) = _; rw [if_pos hs]
              rw [e1] at hrm1
              exact hk0 _ m1 _ (by omega) hrm1 rfl (PS_set (c := 5) hPS (by decide) hlt (by decide) (Or.inr (Or.inl ⟨rfl, rfl⟩)) ⟨by omega, by omega, by omega⟩) ((hr.u2 (by unfold tch; omega)).u2 (by unfold tch; omega))
          · refine V_aload_0 g eX4_goesOnBehind_144 ?_
            refine V_bipush (v := 61) g eX4_goesOnBehind_145 (by decide) ?_
            refine V_cv1 g (ctX4_isSign _) eX4_goesOnBehind_147 pkX4_197 rfl rfl (by decide) (by decide) (Nat.le_of_ble_eq_true rfl) ?_
            refine ⟨_, i, rfl, rfl, rfl, hat, by omega, ?_⟩
            refine V_if_eqB g eX4_goesOnBehind_150 (fun c_150 => ?_) (fun c_150 => ?_)
            · exact go3 I cs (by show (if _ then _ else _) = _; rw [if_neg (fun q => c_141 ((hTK.sg hr h8 hi 60).mpr q)), if_neg (fun q => c_150 ((hTK.sg hr h8 hi 61).mpr q))]) hr (PS_mode hPS (by decide))
            · refine V_aload_0 g eX4_goesOnBehind_153 ?_
              refine V_getR g eX4_goesOnBehind_154 flX4_78 rfl rfl rfl ?_
              refine V_aload_0 g eX4_goesOnBehind_157 ?_
              refine V_getI g eX4_goesOnBehind_158 flX4_228 rfl rfl ?_
              refine V_top (y := nI r.length) t1 ?_
              refine V_aload_0 g eX4_goesOnBehind_161 ?_
              refine V_bipush (v := 60) g eX4_goesOnBehind_162 (by decide) ?_
              refine V_cv1 g (ctX4_isSign _) eX4_goesOnBehind_164 pkX4_197 rfl rfl (by decide) (by decide) (Nat.le_of_ble_eq_true rfl) ?_
              refine ⟨_, i, rfl, rfl, rfl, hat, by omega, ?_⟩
              refine V_if_eqB g eX4_goesOnBehind_167 (fun c_167 => ?_) (fun c_167 => ?_)
              · refine V_bipush (v := 6) g eX4_goesOnBehind_174 (by decide) ?_
                refine V_iastN g eX4_goesOnBehind_176 rfl (by omega) (by decide) ?_
                refine V_aload_0 g eX4_goesOnBehind_177 ?_
                refine V_dup g eX4_goesOnBehind_178 rfl ?_
                refine V_getI g eX4_goesOnBehind_179 flX4_191 rfl rfl ?_
                refine V_top (y := nI i) (by simp [u2, hat]) ?_
                refine V_iconst (v := 1) g eX4_goesOnBehind_182 (by decide) ?_
                refine V_iaddN (b := 1) g eX4_goesOnBehind_183 ?_
                refine V_putI g eX4_goesOnBehind_184 pflX4_191 rfl rfl rfl rfl ?_
                refine V_iconst (v := 1) g eX4_goesOnBehind_187 (by decide) ?_
                refine V_zret g eX4_goesOnBehind_188 rfl ?_
                have hs := (hTK.sg hr h8 hi 61).mp c_150
                have hlt : i < nt := hTK.lt hi (by rw [hs.1]; decide)
                have e1 : stp S v (2, i, (0, 0, an) :: r, cs, b, ls) = (0, i + 1, (0, 6, an) :: r, cs, b, ls) := by show (if _ then _ else _) = _; rw [if_neg (fun q => c_141 ((hTK.sg hr h8 hi 60).mpr q)), if_pos hs]
                rw [e1] at hrm1
                exact hk0 _ m1 _ (by omega) hrm1 rfl (PS_set (c := 6) hPS (by decide) hlt (by decide) (Or.inr (Or.inl ⟨rfl, rfl⟩)) ⟨by omega, by omega, by omega⟩) ((hr.u2 (by unfold tch; omega)).u2 (by unfold tch; omega))
              · exact absurd c_167 c_141
        · have hsg : ¬ sg = 0 := fun q => c_105 (by rw [q]; rfl)
          refine V_aload_0 g eX4_goesOnBehind_108 ?_
          refine V_aload_0 g eX4_goesOnBehind_109 ?_
          refine V_getR g eX4_goesOnBehind_110 flX4_78 rfl rfl rfl ?_
          refine V_aload_0 g eX4_goesOnBehind_113 ?_
          refine V_getI g eX4_goesOnBehind_114 flX4_228 rfl rfl ?_
          refine V_top (y := nI r.length) t1 ?_
          refine V_ialdN g eX4_goesOnBehind_117 rfl (by omega) (by decide) ?_
          refine V_top (y := nI sg) t4 ?_
          refine V_iconst (v := 0) g eX4_goesOnBehind_118 (by decide) ?_
          refine V_cv2 g (ctX4_emit _) eX4_goesOnBehind_119 pkX4_241 rfl rfl (by decide) (by decide) (Nat.le_of_ble_eq_true rfl) ?_
          refine ⟨_, _, H, (enc ls).length + cs.length, rfl, rfl, rfl, h16 I hr, hH, h17, by omega, ?_⟩
          refine V_aload_0 g eX4_goesOnBehind_122 ?_
          refine V_getR g eX4_goesOnBehind_123 flX4_78 rfl rfl rfl ?_
          refine V_aload_0 g eX4_goesOnBehind_126 ?_
          refine V_getI g eX4_goesOnBehind_127 flX4_228 rfl rfl ?_
          refine V_top (y := nI r.length) (by simp [emI, u2, t1]) ?_
          refine V_iconst (v := 0) g eX4_goesOnBehind_130 (by decide) ?_
          refine V_iastN g eX4_goesOnBehind_131 rfl (by omega) (by decide) ?_
          refine V_goto g eX4_goesOnBehind_132 ?_
          exact go3 _ (cs ++ [(sg, 0)]) (by show (if _ then _ else _) = _; rw [if_pos hsg]) ((hr.em (by omega)).u2 (by unfold tch; omega)) (PS_emw (c := sg) hPS (by decide) (Or.inr (Or.inl ⟨rfl, rfl, hsg⟩)))
      have h43 : ∀ (I : It) (cs : List Cd), rdF H I0 I → PS nt H (1, i, (0, sg, an) :: r, cs, b, ls) I → rn S v n1 (stp S v (1, i, (0, sg, an) :: r, cs, b, ls)) = F → V X TM I L RM uc us 43 [some (.ref 0)] [] := by
        intro I cs hr hPS hrm1
        obtain ⟨t1, t2, t3, t4, t5, t6, t7, t8, t9⟩ := PS_top hPS (by decide)
        have hat : I 0 7 = nI i := hPS.2.1
        have h8 : I 0 8 = 0 := hPS.2.2.1
        have e0 : pn 0 = [] := rfl
        refine V_aload_0 g eX4_goesOnBehind_43 ?_
        refine V_bipush (v := 43) g eX4_goesOnBehind_44 (by decide) ?_
        refine V_cv1 g (ctX4_isSign _) eX4_goesOnBehind_46 pkX4_197 rfl rfl (by decide) (by decide) (Nat.le_of_ble_eq_true rfl) ?_
        refine ⟨_, i, rfl, rfl, rfl, hat, by omega, ?_⟩
        refine V_if_neB g eX4_goesOnBehind_49 (fun c_49 => ?_) (fun c_49 => ?_)
        · refine V_aload_0 g eX4_goesOnBehind_61 ?_
          refine V_getR g eX4_goesOnBehind_62 flX4_75 rfl rfl rfl ?_
          refine V_aload_0 g eX4_goesOnBehind_65 ?_
          refine V_getI g eX4_goesOnBehind_66 flX4_228 rfl rfl ?_
          refine V_top (y := nI r.length) t1 ?_
          refine V_aload_0 g eX4_goesOnBehind_69 ?_
          refine V_bipush (v := 43) g eX4_goesOnBehind_70 (by decide) ?_
          refine V_cv1 g (ctX4_isSign _) eX4_goesOnBehind_72 pkX4_197 rfl rfl (by decide) (by decide) (Nat.le_of_ble_eq_true rfl) ?_
          refine ⟨_, i, rfl, rfl, rfl, hat, by omega, ?_⟩
          refine V_if_eqB g eX4_goesOnBehind_75 (fun c_75 => ?_) (fun c_75 => ?_)
          · exact absurd c_49 c_75
          · refine V_iconst (v := 3) g eX4_goesOnBehind_78 (by decide) ?_
            refine V_goto g eX4_goesOnBehind_79 ?_
            refine V_iastN g eX4_goesOnBehind_83 rfl (by omega) (by decide) ?_
            refine V_aload_0 g eX4_goesOnBehind_84 ?_
            refine V_dup g eX4_goesOnBehind_85 rfl ?_
            refine V_getI g eX4_goesOnBehind_86 flX4_191 rfl rfl ?_
            refine V_top (y := nI i) (by simp [u2, hat]) ?_
            refine V_iconst (v := 1) g eX4_goesOnBehind_89 (by decide) ?_
            refine V_iaddN (b := 1) g eX4_goesOnBehind_90 ?_
            refine V_putI g eX4_goesOnBehind_91 pflX4_191 rfl rfl rfl rfl ?_
            refine V_iconst (v := 1) g eX4_goesOnBehind_94 (by decide) ?_
            refine V_zret g eX4_goesOnBehind_95 rfl ?_
            have hs := (hTK.sg hr h8 hi 43).mp c_49
            have hlt : i < nt := hTK.lt hi (by rw [hs.1]; decide)
            have e1 : stp S v (1, i, (0, sg, an) :: r, cs, b, ls) = (0, i + 1, (3, sg, an) :: r, cs, b, ls) := by show (if _ then _ else _) = _; rw [if_pos hs, e0, List.append_nil]
            rw [e1] at hrm1
            exact hk0 _ n1 _ (by omega) hrm1 rfl (PS_set (c := 3) hPS (by decide) hlt (by decide) (Or.inl ⟨rfl, rfl⟩) ⟨by omega, by omega, by omega⟩) ((hr.u2 (by unfold tch; omega)).u2 (by unfold tch; omega))
        · refine V_aload_0 g eX4_goesOnBehind_52 ?_
          refine V_bipush (v := 45) g eX4_goesOnBehind_53 (by decide) ?_
          refine V_cv1 g (ctX4_isSign _) eX4_goesOnBehind_55 pkX4_197 rfl rfl (by decide) (by decide) (Nat.le_of_ble_eq_true rfl) ?_
          refine ⟨_, i, rfl, rfl, rfl, hat, by omega, ?_⟩
          refine V_if_eqB g eX4_goesOnBehind_58 (fun c_58 => ?_) (fun c_58 => ?_)
          · have e1 : stp S v (1, i, (0, sg, an) :: r, cs, b, ls) = (2, i, (0, sg, an) :: r, cs, b, ls) := by show (if _ then _ else _) = _; rw [if_neg (fun q => c_49 ((hTK.sg hr h8 hi 43).mpr q)), if_neg (fun q => c_58 ((hTK.sg hr h8 hi 45).mpr q)), e0, List.append_nil]
            rw [e1] at hrm1
            exact h96 I cs n1 (by omega) hr (PS_mode hPS (by decide)) hrm1
          · refine V_aload_0 g eX4_goesOnBehind_61 ?_
            refine V_getR g eX4_goesOnBehind_62 flX4_75 rfl rfl rfl ?_
            refine V_aload_0 g eX4_goesOnBehind_65 ?_
            refine V_getI g eX4_goesOnBehind_66 flX4_228 rfl rfl ?_
            refine V_top (y := nI r.length) t1 ?_
            refine V_aload_0 g eX4_goesOnBehind_69 ?_
            refine V_bipush (v := 43) g eX4_goesOnBehind_70 (by decide) ?_
            refine V_cv1 g (ctX4_isSign _) eX4_goesOnBehind_72 pkX4_197 rfl rfl (by decide) (by decide) (Nat.le_of_ble_eq_true rfl) ?_
            refine ⟨_, i, rfl, rfl, rfl, hat, by omega, ?_⟩
            refine V_if_eqB g eX4_goesOnBehind_75 (fun c_75 => ?_) (fun c_75 => ?_)
            · refine V_iconst (v := 4) g eX4_goesOnBehind_82 (by decide) ?_
              refine V_iastN g eX4_goesOnBehind_83 rfl (by omega) (by decide) ?_
              refine V_aload_0 g eX4_goesOnBehind_84 ?_
              refine V_dup g eX4_goesOnBehind_85 rfl ?_
              refine V_getI g eX4_goesOnBehind_86 flX4_191 rfl rfl ?_
              refine V_top (y := nI i) (by simp [u2, hat]) ?_
              refine V_iconst (v := 1) g eX4_goesOnBehind_89 (by decide) ?_
              refine V_iaddN (b := 1) g eX4_goesOnBehind_90 ?_
              refine V_putI g eX4_goesOnBehind_91 pflX4_191 rfl rfl rfl rfl ?_
              refine V_iconst (v := 1) g eX4_goesOnBehind_94 (by decide) ?_
              refine V_zret g eX4_goesOnBehind_95 rfl ?_
              have hs := (hTK.sg hr h8 hi 45).mp c_58
              have hlt : i < nt := hTK.lt hi (by rw [hs.1]; decide)
              have e1 : stp S v (1, i, (0, sg, an) :: r, cs, b, ls) = (0, i + 1, (4, sg, an) :: r, cs, b, ls) := by show (if _ then _ else _) = _; rw [if_neg (fun q => c_49 ((hTK.sg hr h8 hi 43).mpr q)), if_pos hs, e0, List.append_nil]
              rw [e1] at hrm1
              exact hk0 _ n1 _ (by omega) hrm1 rfl (PS_set (c := 4) hPS (by decide) hlt (by decide) (Or.inl ⟨rfl, rfl⟩) ⟨by omega, by omega, by omega⟩) ((hr.u2 (by unfold tch; omega)).u2 (by unfold tch; omega))
            · exact absurd c_75 c_49
      obtain ⟨t1, t2, t3, t4, t5, t6, t7, t8, t9⟩ := PS_top hPS (by decide)
      have h8 : I 0 8 = 0 := hPS.2.2.1
      have h17 : I 0 17 = nI ((enc ls).length + cs.length) := hPS.2.2.2.1
      refine V_aload_0 g eX4_goesOnBehind_0 ?_
      refine V_getI g eX4_goesOnBehind_1 flX4_194 rfl rfl ?_
      refine V_top (y := 0) h8 ?_
      refine V_if_ne g eX4_goesOnBehind_4 (fun c_4 => absurd c_4 (by decide)) (fun _ => ?_)
      refine V_aload_0 g eX4_goesOnBehind_7 ?_
      refine V_getR g eX4_goesOnBehind_8 flX4_75 rfl rfl rfl ?_
      refine V_aload_0 g eX4_goesOnBehind_11 ?_
      refine V_getI g eX4_goesOnBehind_12 flX4_228 rfl rfl ?_
      refine V_top (y := nI r.length) t1 ?_
      refine V_ialdN g eX4_goesOnBehind_15 rfl (by omega) (by decide) ?_
      refine V_top (y := nI su) t3 ?_
      refine V_if_eq g eX4_goesOnBehind_16 (fun c_16 => ?_) (fun c_16 => ?_)
      · obtain rfl : su = 0 := nI_eq' (b := 0) (by omega) (by decide) c_16
        exact h43 I cs hr hPS hrn1
      · have hsu : ¬ su = 0 := fun q => c_16 (by rw [q]; rfl)
        refine V_aload_0 g eX4_goesOnBehind_19 ?_
        refine V_aload_0 g eX4_goesOnBehind_20 ?_
        refine V_getR g eX4_goesOnBehind_21 flX4_75 rfl rfl rfl ?_
        refine V_aload_0 g eX4_goesOnBehind_24 ?_
        refine V_getI g eX4_goesOnBehind_25 flX4_228 rfl rfl ?_
        refine V_top (y := nI r.length) t1 ?_
        refine V_ialdN g eX4_goesOnBehind_28 rfl (by omega) (by decide) ?_
        refine V_top (y := nI su) t3 ?_
        refine V_iconst (v := 0) g eX4_goesOnBehind_29 (by decide) ?_
        refine V_cv2 g (ctX4_emit _) eX4_goesOnBehind_30 pkX4_241 rfl rfl (by decide) (by decide) (Nat.le_of_ble_eq_true rfl) ?_
        refine ⟨_, _, H, (enc ls).length + cs.length, rfl, rfl, rfl, h16 I hr, hH, h17, by omega, ?_⟩
        refine V_aload_0 g eX4_goesOnBehind_33 ?_
        refine V_getR g eX4_goesOnBehind_34 flX4_75 rfl rfl rfl ?_
        refine V_aload_0 g eX4_goesOnBehind_37 ?_
        refine V_getI g eX4_goesOnBehind_38 flX4_228 rfl rfl ?_
        refine V_top (y := nI r.length) (by simp [emI, u2, t1]) ?_
        refine V_iconst (v := 0) g eX4_goesOnBehind_41 (by decide) ?_
        refine V_iastN g eX4_goesOnBehind_42 rfl (by omega) (by decide) ?_
        rw [stp1 hsu] at hrn1
        exact h43 _ (cs ++ [(su, 0)]) ((hr.em (by omega)).u2 (by unfold tch; omega)) (PS_emw (c := su) hPS (by decide) (Or.inl ⟨rfl, rfl, hsu⟩)) hrn1
  exact loop n n (Nat.le_refl _) (Nat.le_refl _) I i su sg an r cs hr hPS hrn

