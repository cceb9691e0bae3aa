/-! rows of V, an instruction each (printed by tools/gen_rows.py) -/
set_option maxRecDepth 100000
def dj (cc : ByteArray) (pc : Nat) (i : Instr) (off : Int) (tgt pc' : Nat) : Prop := decode cc pc = .ok (i, 3) ∧ (pc : Int) + off = (tgt : Int) ∧ pc' = pc + 3
def bI (c : Prop) [Decidable c] : Int32 := if c then 1 else 0
theorem bI_t {c : Prop} [Decidable c] (h : c) : bI c = 1 := if_pos h
theorem bI_f {c : Prop} [Decidable c] (h : ¬ c) : bI c = 0 := if_neg h
theorem bI_0 {c : Prop} [Decidable c] : bI c = 0 ↔ ¬ c := by unfold bI; split <;> simp_all
theorem bI_n {c : Prop} [Decidable c] (h : ¬ bI c = 0) : c := by by_cases q : c; exact q; exact absurd (bI_f q) h
theorem lvl_mem {ad : Nat → Nat} : ∀ (ls : List (Option Value)) (i k : Nat) (v : Value), ls[k]? = some (some v) → (i + k, cv ad v) ∈ lvl ad i ls := by
  intro ls
  induction ls with
  | nil => intro i k v h; simp at h
  | cons x t ih =>
    intro i k v h
    cases k with
    | zero =>
      simp only [List.getElem?_cons_zero, Option.some.injEq] at h
      subst h
      exact List.mem_cons_self
    | succ k =>
      simp only [List.getElem?_cons_succ] at h
      have h2 := ih (i + 1) k v h
      rw [show i + 1 + k = i + (k + 1) by omega] at h2
      cases x with
      | none => exact h2
      | some u => exact List.mem_cons_of_mem _ h2
theorem lvl_of {ad : Nat → Nat} : ∀ (ls : List (Option Value)) (i : Nat) (q : Nat × Value), q ∈ lvl ad i ls → ∃ (k : Nat) (v : Value), q = (i + k, cv ad v) ∧ ls[k]? = some (some v) := by
  intro ls
  induction ls with
  | nil => intro i q h; cases h
  | cons x t ih =>
    intro i q h
    cases x with
    | none =>
      obtain ⟨k, v, e, h2⟩ := ih (i + 1) q h
      exact ⟨k + 1, v, by rw [e, show i + 1 + k = i + (k + 1) by omega], by simpa using h2⟩
    | some u =>
      rcases List.mem_cons.mp h with e | h
      · exact ⟨0, u, e, by simp⟩
      · obtain ⟨k, v, e, h2⟩ := ih (i + 1) q h
        exact ⟨k + 1, v, by rw [e, show i + 1 + k = i + (k + 1) by omega], by simpa using h2⟩
theorem lvl_get {ad : Nat → Nat} {la : Array Slot} {n : Nat} {ls : List (Option Value)} (h : lv_has la n (lvl ad 0 ls)) {k : Nat} {v : Value} (hk : ls[k]? = some (some v)) : la[k]? = some (.val (cv ad v)) := by
  have := h.2.2 _ (lvl_mem ls 0 k v hk)
  simpa using this
def lok : Option Value → Bool
  | none => true
  | some v => v.category == 1
theorem lvl_set1 {ad : Nat → Nat} {la : Array Slot} {n : Nat} {ls : List (Option Value)} {k : Nat} {v : Value} (h : lv_has la n ((k, cv ad v) :: (lvl ad 0 ls).filter (fun q => !(q.1 == k) && !(q.1 + 1 == k && q.2.category == 2)))) (hp : ∀ j u, j + 1 = k → ls[j]? = some u → lok u = true) : lv_has la n (lvl ad 0 (ls.set k (some v))) := by
  refine ⟨h.1, h.2.1, fun q hq => ?_⟩
  obtain ⟨j, u, e, hj⟩ := lvl_of _ _ _ hq
  rw [Nat.zero_add] at e
  subst e
  by_cases e : j = k
  · subst e
    rw [List.getElem?_set] at hj
    simp only [if_true] at hj
    split at hj
    · cases hj
      exact h.2.2 _ List.mem_cons_self
    · cases hj
  · rw [List.getElem?_set_ne (fun q => e q.symm)] at hj
    refine h.2.2 _ (List.mem_cons_of_mem _ (List.mem_filter.mpr ⟨?_, ?_⟩))
    · have := lvl_mem (ad := ad) ls 0 j u hj
      simpa using this
    · have h1 : (j == k) = false := by simpa using e
      by_cases e2 : j + 1 = k
      · have h2 := hp j _ e2 hj
        simp only [lok, beq_iff_eq] at h2
        simp [h1, cv_cat, h2]
      · have h3 : (j + 1 == k) = false := by simpa using e2
        simp [h1, h3]
theorem lvl_set2 {ad : Nat → Nat} {la : Array Slot} {n : Nat} {ls : List (Option Value)} {k : Nat} {v : Value} (h : lv_has la n ((k, cv ad v) :: (lvl ad 0 ls).filter (fun q => !(q.1 == k) && (!(q.1 == k + 1) && !(q.1 + 1 == k && q.2.category == 2))))) (hp : ∀ j u, j + 1 = k → ls[j]? = some u → lok u = true) : lv_has la n (lvl ad 0 ((ls.set k (some v)).set (k + 1) none)) := by
  refine ⟨h.1, h.2.1, fun q hq => ?_⟩
  obtain ⟨j, u, e, hj⟩ := lvl_of _ _ _ hq
  rw [Nat.zero_add] at e
  subst e
  by_cases e0 : j = k + 1
  · subst e0
    rw [List.getElem?_set] at hj
    simp only [if_true] at hj
    split at hj <;> cases hj
  rw [List.getElem?_set_ne (fun q => e0 q.symm)] at hj
  by_cases e : j = k
  · subst e
    rw [List.getElem?_set] at hj
    simp only [if_true] at hj
    split at hj
    · cases hj
      exact h.2.2 _ List.mem_cons_self
    · cases hj
  · rw [List.getElem?_set_ne (fun q => e q.symm)] at hj
    refine h.2.2 _ (List.mem_cons_of_mem _ (List.mem_filter.mpr ⟨?_, ?_⟩))
    · have := lvl_mem (ad := ad) ls 0 j u hj
      simpa using this
    · have h1 : (j == k) = false := by simpa using e
      have h0 : (j == k + 1) = false := by simpa using e0
      by_cases e2 : j + 1 = k
      · have h2 := hp j _ e2 hj
        simp only [lok, beq_iff_eq] at h2
        simp [h1, h0, cv_cat, h2]
      · have h3 : (j + 1 == k) = false := by simpa using e2
        simp [h1, h0, h3]
theorem W.mono {p : Program} {l : Launch} {e : Env} {R : Room} {s : State} {m : MethodId} {args : Array Value} {below : List Frame} {meth : Method} {c : Code} {H : Heap} {locs : List Loc} {cells slots : Nat} {Q Q' : State → Prop} {g : JFrame} (h : W p l e R s m args below meth c H locs cells slots Q g) (hm : ∀ t, Q t → Q' t) : W p l e R s m args below meth c H locs cells slots Q' g := by
  intro T hT X
  obtain ⟨t, a, b⟩ := h T hT X
  exact ⟨t, a, hm t b⟩
section RowsV
variable {X : CX} {T : Tt} {I : It} {L : Lt} {R : Rt} {uc us pc pc' tgt : Nat} {ls : List (Option Value)} {st : List Value} {cc : ByteArray} {own : String} {ret : Option FieldType} {nL lev : Nat} {nm : String}

theorem V_iconst {n : Int} {v : Int32} (g : Gd X cc own ret nL lev nm) (d : dc cc pc (.iconst n) 1 pc') (hv : Int32.ofInt n = v) (k : V X T I L R uc us pc' ls (.int v :: st)) : V X T I L R uc us pc ls (st) := by
  intro H locs la h1 h2 h3 h4
  obtain ⟨hd, rfl⟩ := d
  exact lv_iconst g.1 g.2.1 hd hv (k H locs la h1 h2 h3 h4)
theorem V_bipush {n : Int} {v : Int32} (g : Gd X cc own ret nL lev nm) (d : dc cc pc (.bipush n) 2 pc') (hv : (Int8.ofInt n).toInt32 = v) (k : V X T I L R uc us pc' ls (.int v :: st)) : V X T I L R uc us pc ls (st) := by
  intro H locs la h1 h2 h3 h4
  obtain ⟨hd, rfl⟩ := d
  exact lv_bipush g.1 g.2.1 hd hv (k H locs la h1 h2 h3 h4)
theorem V_sipush {n : Int} {v : Int32} (g : Gd X cc own ret nL lev nm) (d : dc cc pc (.sipush n) 3 pc') (hv : (Int16.ofInt n).toInt32 = v) (k : V X T I L R uc us pc' ls (.int v :: st)) : V X T I L R uc us pc ls (st) := by
  intro H locs la h1 h2 h3 h4
  obtain ⟨hd, rfl⟩ := d
  exact lv_sipush g.1 g.2.1 hd hv (k H locs la h1 h2 h3 h4)
theorem V_lconst {n : Fin 2} {v : Int64} (g : Gd X cc own ret nL lev nm) (d : dc cc pc (.lconst n) 1 pc') (hv : Int64.ofNat (n : Nat) = v) (k : V X T I L R uc us pc' ls (.long v :: st)) : V X T I L R uc us pc ls (st) := by
  intro H locs la h1 h2 h3 h4
  obtain ⟨hd, rfl⟩ := d
  exact lv_lconst g.1 g.2.1 hd hv (k H locs la h1 h2 h3 h4)
theorem V_null  (g : Gd X cc own ret nL lev nm) (d : dc cc pc (.aconst_null) 1 pc')  (k : V X T I L R uc us pc' ls (.null :: st)) : V X T I L R uc us pc ls (st) := by
  intro H locs la h1 h2 h3 h4
  obtain ⟨hd, rfl⟩ := d
  exact lv_null g.1 g.2.1 hd  (k H locs la h1 h2 h3 h4)
theorem V_iadd {x y : Int32} (g : Gd X cc own ret nL lev nm) (d : dc cc pc (.iadd) 1 pc')  (k : V X T I L R uc us pc' ls (.int (x + y) :: st)) : V X T I L R uc us pc ls (.int y :: .int x :: st) := by
  intro H locs la h1 h2 h3 h4
  obtain ⟨hd, rfl⟩ := d
  exact lv_iadd g.1 g.2.1 hd  (k H locs la h1 h2 h3 h4)
theorem V_isub {x y : Int32} (g : Gd X cc own ret nL lev nm) (d : dc cc pc (.isub) 1 pc')  (k : V X T I L R uc us pc' ls (.int (x - y) :: st)) : V X T I L R uc us pc ls (.int y :: .int x :: st) := by
  intro H locs la h1 h2 h3 h4
  obtain ⟨hd, rfl⟩ := d
  exact lv_isub g.1 g.2.1 hd  (k H locs la h1 h2 h3 h4)
theorem V_imul {x y : Int32} (g : Gd X cc own ret nL lev nm) (d : dc cc pc (.imul) 1 pc')  (k : V X T I L R uc us pc' ls (.int (x * y) :: st)) : V X T I L R uc us pc ls (.int y :: .int x :: st) := by
  intro H locs la h1 h2 h3 h4
  obtain ⟨hd, rfl⟩ := d
  exact lv_imul g.1 g.2.1 hd  (k H locs la h1 h2 h3 h4)
theorem V_iand {x y : Int32} (g : Gd X cc own ret nL lev nm) (d : dc cc pc (.iand) 1 pc')  (k : V X T I L R uc us pc' ls (.int (x &&& y) :: st)) : V X T I L R uc us pc ls (.int y :: .int x :: st) := by
  intro H locs la h1 h2 h3 h4
  obtain ⟨hd, rfl⟩ := d
  exact lv_iand g.1 g.2.1 hd  (k H locs la h1 h2 h3 h4)
theorem V_ior {x y : Int32} (g : Gd X cc own ret nL lev nm) (d : dc cc pc (.ior) 1 pc')  (k : V X T I L R uc us pc' ls (.int (x ||| y) :: st)) : V X T I L R uc us pc ls (.int y :: .int x :: st) := by
  intro H locs la h1 h2 h3 h4
  obtain ⟨hd, rfl⟩ := d
  exact lv_ior g.1 g.2.1 hd  (k H locs la h1 h2 h3 h4)
theorem V_ixor {x y : Int32} (g : Gd X cc own ret nL lev nm) (d : dc cc pc (.ixor) 1 pc')  (k : V X T I L R uc us pc' ls (.int (x ^^^ y) :: st)) : V X T I L R uc us pc ls (.int y :: .int x :: st) := by
  intro H locs la h1 h2 h3 h4
  obtain ⟨hd, rfl⟩ := d
  exact lv_ixor g.1 g.2.1 hd  (k H locs la h1 h2 h3 h4)
theorem V_idiv {x y : Int32} (g : Gd X cc own ret nL lev nm) (d : dc cc pc (.idiv) 1 pc') (hne : ¬ y = 0) (k : V X T I L R uc us pc' ls (.int (x / y) :: st)) : V X T I L R uc us pc ls (.int y :: .int x :: st) := by
  intro H locs la h1 h2 h3 h4
  obtain ⟨hd, rfl⟩ := d
  exact lv_idiv g.1 g.2.1 hd hne (k H locs la h1 h2 h3 h4)
theorem V_irem {x y : Int32} (g : Gd X cc own ret nL lev nm) (d : dc cc pc (.irem) 1 pc') (hne : ¬ y = 0) (k : V X T I L R uc us pc' ls (.int (x - x / y * y) :: st)) : V X T I L R uc us pc ls (.int y :: .int x :: st) := by
  intro H locs la h1 h2 h3 h4
  obtain ⟨hd, rfl⟩ := d
  exact lv_irem g.1 g.2.1 hd hne (k H locs la h1 h2 h3 h4)
theorem V_ineg {x : Int32} (g : Gd X cc own ret nL lev nm) (d : dc cc pc (.ineg) 1 pc')  (k : V X T I L R uc us pc' ls (.int (-x) :: st)) : V X T I L R uc us pc ls (.int x :: st) := by
  intro H locs la h1 h2 h3 h4
  obtain ⟨hd, rfl⟩ := d
  exact lv_ineg g.1 g.2.1 hd  (k H locs la h1 h2 h3 h4)
theorem V_ishr {x y : Int32} (g : Gd X cc own ret nL lev nm) (d : dc cc pc (.ishr) 1 pc')  (k : V X T I L R uc us pc' ls (.int (x >>> (y &&& 31)) :: st)) : V X T I L R uc us pc ls (.int y :: .int x :: st) := by
  intro H locs la h1 h2 h3 h4
  obtain ⟨hd, rfl⟩ := d
  exact lv_ishr g.1 g.2.1 hd  (k H locs la h1 h2 h3 h4)
theorem V_ishl {x y : Int32} (g : Gd X cc own ret nL lev nm) (d : dc cc pc (.ishl) 1 pc')  (k : V X T I L R uc us pc' ls (.int (x <<< (y &&& 31)) :: st)) : V X T I L R uc us pc ls (.int y :: .int x :: st) := by
  intro H locs la h1 h2 h3 h4
  obtain ⟨hd, rfl⟩ := d
  exact lv_ishl g.1 g.2.1 hd  (k H locs la h1 h2 h3 h4)
theorem V_ladd {x y : Int64} (g : Gd X cc own ret nL lev nm) (d : dc cc pc (.ladd) 1 pc')  (k : V X T I L R uc us pc' ls (.long (x + y) :: st)) : V X T I L R uc us pc ls (.long y :: .long x :: st) := by
  intro H locs la h1 h2 h3 h4
  obtain ⟨hd, rfl⟩ := d
  exact lv_ladd g.1 g.2.1 hd  (k H locs la h1 h2 h3 h4)
theorem V_lsub {x y : Int64} (g : Gd X cc own ret nL lev nm) (d : dc cc pc (.lsub) 1 pc')  (k : V X T I L R uc us pc' ls (.long (x - y) :: st)) : V X T I L R uc us pc ls (.long y :: .long x :: st) := by
  intro H locs la h1 h2 h3 h4
  obtain ⟨hd, rfl⟩ := d
  exact lv_lsub g.1 g.2.1 hd  (k H locs la h1 h2 h3 h4)
theorem V_lmul {x y : Int64} (g : Gd X cc own ret nL lev nm) (d : dc cc pc (.lmul) 1 pc')  (k : V X T I L R uc us pc' ls (.long (x * y) :: st)) : V X T I L R uc us pc ls (.long y :: .long x :: st) := by
  intro H locs la h1 h2 h3 h4
  obtain ⟨hd, rfl⟩ := d
  exact lv_lmul g.1 g.2.1 hd  (k H locs la h1 h2 h3 h4)
theorem V_land {x y : Int64} (g : Gd X cc own ret nL lev nm) (d : dc cc pc (.land) 1 pc')  (k : V X T I L R uc us pc' ls (.long (x &&& y) :: st)) : V X T I L R uc us pc ls (.long y :: .long x :: st) := by
  intro H locs la h1 h2 h3 h4
  obtain ⟨hd, rfl⟩ := d
  exact lv_land g.1 g.2.1 hd  (k H locs la h1 h2 h3 h4)
theorem V_lor {x y : Int64} (g : Gd X cc own ret nL lev nm) (d : dc cc pc (.lor) 1 pc')  (k : V X T I L R uc us pc' ls (.long (x ||| y) :: st)) : V X T I L R uc us pc ls (.long y :: .long x :: st) := by
  intro H locs la h1 h2 h3 h4
  obtain ⟨hd, rfl⟩ := d
  exact lv_lor g.1 g.2.1 hd  (k H locs la h1 h2 h3 h4)
theorem V_i2l {x : Int32} (g : Gd X cc own ret nL lev nm) (d : dc cc pc (.i2l) 1 pc')  (k : V X T I L R uc us pc' ls (.long x.toInt64 :: st)) : V X T I L R uc us pc ls (.int x :: st) := by
  intro H locs la h1 h2 h3 h4
  obtain ⟨hd, rfl⟩ := d
  exact lv_i2l g.1 g.2.1 hd rfl (k H locs la h1 h2 h3 h4)
theorem V_l2i {x : Int64} (g : Gd X cc own ret nL lev nm) (d : dc cc pc (.l2i) 1 pc')  (k : V X T I L R uc us pc' ls (.int x.toInt32 :: st)) : V X T I L R uc us pc ls (.long x :: st) := by
  intro H locs la h1 h2 h3 h4
  obtain ⟨hd, rfl⟩ := d
  exact lv_l2i g.1 g.2.1 hd rfl (k H locs la h1 h2 h3 h4)
theorem V_i2b {x : Int32} (g : Gd X cc own ret nL lev nm) (d : dc cc pc (.i2b) 1 pc')  (k : V X T I L R uc us pc' ls (.int x.toInt8.toInt32 :: st)) : V X T I L R uc us pc ls (.int x :: st) := by
  intro H locs la h1 h2 h3 h4
  obtain ⟨hd, rfl⟩ := d
  exact lv_i2b g.1 g.2.1 hd rfl (k H locs la h1 h2 h3 h4)
theorem V_i2c {x : Int32} (g : Gd X cc own ret nL lev nm) (d : dc cc pc (.i2c) 1 pc')  (k : V X T I L R uc us pc' ls (.int (x.toUInt32 % 65536).toInt32 :: st)) : V X T I L R uc us pc ls (.int x :: st) := by
  intro H locs la h1 h2 h3 h4
  obtain ⟨hd, rfl⟩ := d
  exact lv_i2c g.1 g.2.1 hd rfl (k H locs la h1 h2 h3 h4)
theorem V_lshl {x : Int64} {y : Int32} (g : Gd X cc own ret nL lev nm) (d : dc cc pc (.lshl) 1 pc')  (k : V X T I L R uc us pc' ls (.long (x <<< (y.toInt64 &&& 63)) :: st)) : V X T I L R uc us pc ls (.int y :: .long x :: st) := by
  intro H locs la h1 h2 h3 h4
  obtain ⟨hd, rfl⟩ := d
  exact lv_lshl g.1 g.2.1 hd rfl (k H locs la h1 h2 h3 h4)
theorem V_lshr {x : Int64} {y : Int32} (g : Gd X cc own ret nL lev nm) (d : dc cc pc (.lshr) 1 pc')  (k : V X T I L R uc us pc' ls (.long (x >>> (y.toInt64 &&& 63)) :: st)) : V X T I L R uc us pc ls (.int y :: .long x :: st) := by
  intro H locs la h1 h2 h3 h4
  obtain ⟨hd, rfl⟩ := d
  exact lv_lshr g.1 g.2.1 hd rfl (k H locs la h1 h2 h3 h4)
theorem V_lcmp {x y : Int64} (g : Gd X cc own ret nL lev nm) (d : dc cc pc (.lcmp) 1 pc')  (k : V X T I L R uc us pc' ls (.int (lg_cmp x y) :: st)) : V X T I L R uc us pc ls (.long y :: .long x :: st) := by
  intro H locs la h1 h2 h3 h4
  obtain ⟨hd, rfl⟩ := d
  exact W.lcmp g.1 g.2.1 hd  (k H locs la h1 h2 h3 h4)
theorem V_dup {va : Value} (g : Gd X cc own ret nL lev nm) (d : dc cc pc (.dup) 1 pc') (ha : va.category = 1) (k : V X T I L R uc us pc' ls (va :: va :: st)) : V X T I L R uc us pc ls (va :: st) := by
  intro H locs la h1 h2 h3 h4
  obtain ⟨hd, rfl⟩ := d
  exact lv_dup g.1 g.2.1 hd ((cv_cat _ _).trans ha) (k H locs la h1 h2 h3 h4)
theorem V_pop {va : Value} (g : Gd X cc own ret nL lev nm) (d : dc cc pc (.pop) 1 pc') (ha : va.category = 1) (k : V X T I L R uc us pc' ls (st)) : V X T I L R uc us pc ls (va :: st) := by
  intro H locs la h1 h2 h3 h4
  obtain ⟨hd, rfl⟩ := d
  exact lv_pop g.1 g.2.1 hd ((cv_cat _ _).trans ha) (k H locs la h1 h2 h3 h4)
theorem V_dup_x1 {va vb : Value} (g : Gd X cc own ret nL lev nm) (d : dc cc pc (.dup_x1) 1 pc') (ha : va.category = 1) (hb : vb.category = 1) (k : V X T I L R uc us pc' ls (va :: vb :: va :: st)) : V X T I L R uc us pc ls (va :: vb :: st) := by
  intro H locs la h1 h2 h3 h4
  obtain ⟨hd, rfl⟩ := d
  exact lv_dup_x1 g.1 g.2.1 hd ((cv_cat _ _).trans ha) ((cv_cat _ _).trans hb) (k H locs la h1 h2 h3 h4)
theorem V_dup_x2 {va vb vc : Value} (g : Gd X cc own ret nL lev nm) (d : dc cc pc (.dup_x2) 1 pc') (ha : va.category = 1) (hb : vb.category = 1) (hc : vc.category = 1) (k : V X T I L R uc us pc' ls (va :: vb :: vc :: va :: st)) : V X T I L R uc us pc ls (va :: vb :: vc :: st) := by
  intro H locs la h1 h2 h3 h4
  obtain ⟨hd, rfl⟩ := d
  exact lv_dup_x2 g.1 g.2.1 hd ((cv_cat _ _).trans ha) ((cv_cat _ _).trans hb) ((cv_cat _ _).trans hc) (k H locs la h1 h2 h3 h4)
theorem V_dup2 {va vb : Value} (g : Gd X cc own ret nL lev nm) (d : dc cc pc (.dup2) 1 pc') (ha : va.category = 1) (hb : vb.category = 1) (k : V X T I L R uc us pc' ls (va :: vb :: va :: vb :: st)) : V X T I L R uc us pc ls (va :: vb :: st) := by
  intro H locs la h1 h2 h3 h4
  obtain ⟨hd, rfl⟩ := d
  exact lv_dup2_11 g.1 g.2.1 hd ((cv_cat _ _).trans ha) ((cv_cat _ _).trans hb) (k H locs la h1 h2 h3 h4)
theorem V_ldc {idx : Nat} {v : Int32} (g : Gd X cc own ret nL lev nm) (d : dc cc pc (.ldc idx) 2 pc') (hw : Cond.constant own idx v ∈ lw_k) (k : V X T I L R uc us pc' ls (.int v :: st)) : V X T I L R uc us pc ls st := by
  intro H locs la h1 h2 h3 h4
  obtain ⟨hd, rfl⟩ := d
  obtain ⟨e1, e2, e3, e4, e5, e6, e7, e8, e9, e10⟩ := g
  exact lv_ldc e1 e2 e6 (e10.at hw _) hd (k H locs la h1 h2 h3 h4)
theorem V_ldcw {idx : Nat} {v : Int32} (g : Gd X cc own ret nL lev nm) (d : dc cc pc (.ldc_w idx) 3 pc') (hw : Cond.constant own idx v ∈ lw_k) (k : V X T I L R uc us pc' ls (.int v :: st)) : V X T I L R uc us pc ls st := by
  intro H locs la h1 h2 h3 h4
  obtain ⟨hd, rfl⟩ := d
  obtain ⟨e1, e2, e3, e4, e5, e6, e7, e8, e9, e10⟩ := g
  exact lv_ldcw e1 e2 e6 (e10.at hw _) hd (k H locs la h1 h2 h3 h4)
theorem V_ldc2 {idx : Nat} {v : Int64} (g : Gd X cc own ret nL lev nm) (d : dc cc pc (.ldc2_w idx) 3 pc') (hw : Cond.constantLong own idx v ∈ lw_k) (k : V X T I L R uc us pc' ls (.long v :: st)) : V X T I L R uc us pc ls st := by
  intro H locs la h1 h2 h3 h4
  obtain ⟨hd, rfl⟩ := d
  obtain ⟨e1, e2, e3, e4, e5, e6, e7, e8, e9, e10⟩ := g
  exact lv_ldc2 e1 e2 e6 (e10.at hw _) hd (k H locs la h1 h2 h3 h4)
theorem V_iload_0 {tl : List (Option Value)} {x : Int32} (g : Gd X cc own ret nL lev nm) (d : dc cc pc (.iload_n 0) 1 pc') (k : V X T I L R uc us pc' (some (.int x) :: tl) (.int x :: st)) : V X T I L R uc us pc (some (.int x) :: tl) st := by
  intro H locs la h1 h2 h3 h4
  obtain ⟨hd, rfl⟩ := d
  exact lv_iload_n g.1 g.2.1 hd rfl (lvl_get (k := 0) h4 rfl) (k H locs la h1 h2 h3 h4)
theorem V_lload_0 {tl : List (Option Value)} {x : Int64} (g : Gd X cc own ret nL lev nm) (d : dc cc pc (.lload_n 0) 1 pc') (k : V X T I L R uc us pc' (some (.long x) :: tl) (.long x :: st)) : V X T I L R uc us pc (some (.long x) :: tl) st := by
  intro H locs la h1 h2 h3 h4
  obtain ⟨hd, rfl⟩ := d
  exact lv_lload_n g.1 g.2.1 hd rfl (lvl_get (k := 0) h4 rfl) (k H locs la h1 h2 h3 h4)
theorem V_aload_0 {tl : List (Option Value)} {x : Nat} (g : Gd X cc own ret nL lev nm) (d : dc cc pc (.aload_n 0) 1 pc') (k : V X T I L R uc us pc' (some (.ref x) :: tl) (.ref x :: st)) : V X T I L R uc us pc (some (.ref x) :: tl) st := by
  intro H locs la h1 h2 h3 h4
  obtain ⟨hd, rfl⟩ := d
  exact lv_aload_n g.1 g.2.1 hd rfl (lvl_get (k := 0) h4 rfl) (k H locs la h1 h2 h3 h4)
theorem V_aloadN_0 {tl : List (Option Value)} (g : Gd X cc own ret nL lev nm) (d : dc cc pc (.aload_n 0) 1 pc') (k : V X T I L R uc us pc' (some .null :: tl) (.null :: st)) : V X T I L R uc us pc (some .null :: tl) st := by
  intro H locs la h1 h2 h3 h4
  obtain ⟨hd, rfl⟩ := d
  exact lv_aload_nN g.1 g.2.1 hd rfl (lvl_get (k := 0) h4 rfl) (k H locs la h1 h2 h3 h4)
theorem V_istore_0 {l0 : Option Value} {tl : List (Option Value)} {x : Int32} (g : Gd X cc own ret nL lev nm) (d : dc cc pc (.istore_n 0) 1 pc') (hn : 0 < nL) (k : V X T I L R uc us pc' (some (.int x) :: tl) st) : V X T I L R uc us pc (l0 :: tl) (.int x :: st) := by
  intro H locs la h1 h2 h3 h4
  obtain ⟨hd, rfl⟩ := d
  refine lv_istore_n g.1 g.2.1 hd rfl h4 (by rw [g.2.2.2.1]; exact hn) rfl (fun la' h' => k H locs la' h1 h2 h3 ?_)
  exact lvl_set1 (k := 0) (v := .int x) (ls := l0 :: tl) h' (fun j u e _ => by omega)
theorem V_astore_0 {l0 : Option Value} {tl : List (Option Value)} {x : Nat} (g : Gd X cc own ret nL lev nm) (d : dc cc pc (.astore_n 0) 1 pc') (hn : 0 < nL) (k : V X T I L R uc us pc' (some (.ref x) :: tl) st) : V X T I L R uc us pc (l0 :: tl) (.ref x :: st) := by
  intro H locs la h1 h2 h3 h4
  obtain ⟨hd, rfl⟩ := d
  refine lv_astore_n g.1 g.2.1 hd rfl h4 (by rw [g.2.2.2.1]; exact hn) rfl (fun la' h' => k H locs la' h1 h2 h3 ?_)
  exact lvl_set1 (k := 0) (v := .ref x) (ls := l0 :: tl) h' (fun j u e _ => by omega)
theorem V_astoreN_0 {l0 : Option Value} {tl : List (Option Value)}  (g : Gd X cc own ret nL lev nm) (d : dc cc pc (.astore_n 0) 1 pc') (hn : 0 < nL) (k : V X T I L R uc us pc' (some (.null) :: tl) st) : V X T I L R uc us pc (l0 :: tl) (.null :: st) := by
  intro H locs la h1 h2 h3 h4
  obtain ⟨hd, rfl⟩ := d
  refine lv_astore_nN g.1 g.2.1 hd rfl h4 (by rw [g.2.2.2.1]; exact hn) rfl (fun la' h' => k H locs la' h1 h2 h3 ?_)
  exact lvl_set1 (k := 0) (v := .null) (ls := l0 :: tl) h' (fun j u e _ => by omega)
theorem V_lstore_0 {l0 l1 : Option Value} {tl : List (Option Value)} {x : Int64} (g : Gd X cc own ret nL lev nm) (d : dc cc pc (.lstore_n 0) 1 pc') (hn : 0 + 1 < nL) (k : V X T I L R uc us pc' (some (.long x) :: none :: tl) st) : V X T I L R uc us pc (l0 :: l1 :: tl) (.long x :: st) := by
  intro H locs la h1 h2 h3 h4
  obtain ⟨hd, rfl⟩ := d
  refine lv_lstore_n g.1 g.2.1 hd rfl h4 (by rw [g.2.2.2.1]; exact hn) rfl (fun la' h' => k H locs la' h1 h2 h3 ?_)
  exact lvl_set2 (k := 0) (v := .long x) (ls := l0 :: l1 :: tl) h' (fun j u e _ => by omega)
theorem V_iinc_0 {tl : List (Option Value)} {x v : Int32} {n : Int} (g : Gd X cc own ret nL lev nm) (d : dc cc pc (.iinc 0 n) 3 pc') (hn : 0 < nL) (hv : Int32.ofInt n = v) (k : V X T I L R uc us pc' (some (.int (x + v)) :: tl) st) : V X T I L R uc us pc (some (.int x) :: tl) st := by
  intro H locs la h1 h2 h3 h4
  obtain ⟨hd, rfl⟩ := d
  obtain ⟨j, hj⟩ := List.getElem?_of_mem (lvl_mem (ad := w_ad (x_w X)) (some (.int x) :: tl) 0 0 (.int x) rfl)
  rw [Nat.zero_add] at hj
  refine lv_iinc (v := x + v) g.1 g.2.1 hd h4 hj (by rw [hv]) (by rw [g.2.2.2.1]; exact hn) rfl (fun la' h' => k H locs la' h1 h2 h3 ?_)
  exact lvl_set1 (k := 0) (v := .int (x + v)) (ls := some (.int x) :: tl) h' (fun j u e _ => by omega)
theorem V_iload_1 {l0 : Option Value} {tl : List (Option Value)} {x : Int32} (g : Gd X cc own ret nL lev nm) (d : dc cc pc (.iload_n 1) 1 pc') (k : V X T I L R uc us pc' (l0 :: some (.int x) :: tl) (.int x :: st)) : V X T I L R uc us pc (l0 :: some (.int x) :: tl) st := by
  intro H locs la h1 h2 h3 h4
  obtain ⟨hd, rfl⟩ := d
  exact lv_iload_n g.1 g.2.1 hd rfl (lvl_get (k := 1) h4 rfl) (k H locs la h1 h2 h3 h4)
theorem V_lload_1 {l0 : Option Value} {tl : List (Option Value)} {x : Int64} (g : Gd X cc own ret nL lev nm) (d : dc cc pc (.lload_n 1) 1 pc') (k : V X T I L R uc us pc' (l0 :: some (.long x) :: tl) (.long x :: st)) : V X T I L R uc us pc (l0 :: some (.long x) :: tl) st := by
  intro H locs la h1 h2 h3 h4
  obtain ⟨hd, rfl⟩ := d
  exact lv_lload_n g.1 g.2.1 hd rfl (lvl_get (k := 1) h4 rfl) (k H locs la h1 h2 h3 h4)
theorem V_aload_1 {l0 : Option Value} {tl : List (Option Value)} {x : Nat} (g : Gd X cc own ret nL lev nm) (d : dc cc pc (.aload_n 1) 1 pc') (k : V X T I L R uc us pc' (l0 :: some (.ref x) :: tl) (.ref x :: st)) : V X T I L R uc us pc (l0 :: some (.ref x) :: tl) st := by
  intro H locs la h1 h2 h3 h4
  obtain ⟨hd, rfl⟩ := d
  exact lv_aload_n g.1 g.2.1 hd rfl (lvl_get (k := 1) h4 rfl) (k H locs la h1 h2 h3 h4)
theorem V_aloadN_1 {l0 : Option Value} {tl : List (Option Value)} (g : Gd X cc own ret nL lev nm) (d : dc cc pc (.aload_n 1) 1 pc') (k : V X T I L R uc us pc' (l0 :: some .null :: tl) (.null :: st)) : V X T I L R uc us pc (l0 :: some .null :: tl) st := by
  intro H locs la h1 h2 h3 h4
  obtain ⟨hd, rfl⟩ := d
  exact lv_aload_nN g.1 g.2.1 hd rfl (lvl_get (k := 1) h4 rfl) (k H locs la h1 h2 h3 h4)
theorem V_istore_1 {l0 l1 : Option Value} {tl : List (Option Value)} {x : Int32} (g : Gd X cc own ret nL lev nm) (d : dc cc pc (.istore_n 1) 1 pc') (hn : 1 < nL) (hc : lok l0 = true) (k : V X T I L R uc us pc' (l0 :: some (.int x) :: tl) st) : V X T I L R uc us pc (l0 :: l1 :: tl) (.int x :: st) := by
  intro H locs la h1 h2 h3 h4
  obtain ⟨hd, rfl⟩ := d
  refine lv_istore_n g.1 g.2.1 hd rfl h4 (by rw [g.2.2.2.1]; exact hn) rfl (fun la' h' => k H locs la' h1 h2 h3 ?_)
  exact lvl_set1 (k := 1) (v := .int x) (ls := l0 :: l1 :: tl) h' (fun j u e q => by have e2 : j = 0 := (by omega); subst e2; cases q; exact hc)
theorem V_astore_1 {l0 l1 : Option Value} {tl : List (Option Value)} {x : Nat} (g : Gd X cc own ret nL lev nm) (d : dc cc pc (.astore_n 1) 1 pc') (hn : 1 < nL) (hc : lok l0 = true) (k : V X T I L R uc us pc' (l0 :: some (.ref x) :: tl) st) : V X T I L R uc us pc (l0 :: l1 :: tl) (.ref x :: st) := by
  intro H locs la h1 h2 h3 h4
  obtain ⟨hd, rfl⟩ := d
  refine lv_astore_n g.1 g.2.1 hd rfl h4 (by rw [g.2.2.2.1]; exact hn) rfl (fun la' h' => k H locs la' h1 h2 h3 ?_)
  exact lvl_set1 (k := 1) (v := .ref x) (ls := l0 :: l1 :: tl) h' (fun j u e q => by have e2 : j = 0 := (by omega); subst e2; cases q; exact hc)
theorem V_astoreN_1 {l0 l1 : Option Value} {tl : List (Option Value)}  (g : Gd X cc own ret nL lev nm) (d : dc cc pc (.astore_n 1) 1 pc') (hn : 1 < nL) (hc : lok l0 = true) (k : V X T I L R uc us pc' (l0 :: some (.null) :: tl) st) : V X T I L R uc us pc (l0 :: l1 :: tl) (.null :: st) := by
  intro H locs la h1 h2 h3 h4
  obtain ⟨hd, rfl⟩ := d
  refine lv_astore_nN g.1 g.2.1 hd rfl h4 (by rw [g.2.2.2.1]; exact hn) rfl (fun la' h' => k H locs la' h1 h2 h3 ?_)
  exact lvl_set1 (k := 1) (v := .null) (ls := l0 :: l1 :: tl) h' (fun j u e q => by have e2 : j = 0 := (by omega); subst e2; cases q; exact hc)
theorem V_lstore_1 {l0 l1 l2 : Option Value} {tl : List (Option Value)} {x : Int64} (g : Gd X cc own ret nL lev nm) (d : dc cc pc (.lstore_n 1) 1 pc') (hn : 1 + 1 < nL) (hc : lok l0 = true) (k : V X T I L R uc us pc' (l0 :: some (.long x) :: none :: tl) st) : V X T I L R uc us pc (l0 :: l1 :: l2 :: tl) (.long x :: st) := by
  intro H locs la h1 h2 h3 h4
  obtain ⟨hd, rfl⟩ := d
  refine lv_lstore_n g.1 g.2.1 hd rfl h4 (by rw [g.2.2.2.1]; exact hn) rfl (fun la' h' => k H locs la' h1 h2 h3 ?_)
  exact lvl_set2 (k := 1) (v := .long x) (ls := l0 :: l1 :: l2 :: tl) h' (fun j u e q => by have e2 : j = 0 := (by omega); subst e2; cases q; exact hc)
theorem V_iinc_1 {l0 : Option Value} {tl : List (Option Value)} {x v : Int32} {n : Int} (g : Gd X cc own ret nL lev nm) (d : dc cc pc (.iinc 1 n) 3 pc') (hn : 1 < nL) (hv : Int32.ofInt n = v) (hc : lok l0 = true) (k : V X T I L R uc us pc' (l0 :: some (.int (x + v)) :: tl) st) : V X T I L R uc us pc (l0 :: some (.int x) :: tl) st := by
  intro H locs la h1 h2 h3 h4
  obtain ⟨hd, rfl⟩ := d
  obtain ⟨j, hj⟩ := List.getElem?_of_mem (lvl_mem (ad := w_ad (x_w X)) (l0 :: some (.int x) :: tl) 0 1 (.int x) rfl)
  rw [Nat.zero_add] at hj
  refine lv_iinc (v := x + v) g.1 g.2.1 hd h4 hj (by rw [hv]) (by rw [g.2.2.2.1]; exact hn) rfl (fun la' h' => k H locs la' h1 h2 h3 ?_)
  exact lvl_set1 (k := 1) (v := .int (x + v)) (ls := l0 :: some (.int x) :: tl) h' (fun j u e q => by have e2 : j = 0 := (by omega); subst e2; cases q; exact hc)
theorem V_iload_2 {l0 l1 : Option Value} {tl : List (Option Value)} {x : Int32} (g : Gd X cc own ret nL lev nm) (d : dc cc pc (.iload_n 2) 1 pc') (k : V X T I L R uc us pc' (l0 :: l1 :: some (.int x) :: tl) (.int x :: st)) : V X T I L R uc us pc (l0 :: l1 :: some (.int x) :: tl) st := by
  intro H locs la h1 h2 h3 h4
  obtain ⟨hd, rfl⟩ := d
  exact lv_iload_n g.1 g.2.1 hd rfl (lvl_get (k := 2) h4 rfl) (k H locs la h1 h2 h3 h4)
theorem V_lload_2 {l0 l1 : Option Value} {tl : List (Option Value)} {x : Int64} (g : Gd X cc own ret nL lev nm) (d : dc cc pc (.lload_n 2) 1 pc') (k : V X T I L R uc us pc' (l0 :: l1 :: some (.long x) :: tl) (.long x :: st)) : V X T I L R uc us pc (l0 :: l1 :: some (.long x) :: tl) st := by
  intro H locs la h1 h2 h3 h4
  obtain ⟨hd, rfl⟩ := d
  exact lv_lload_n g.1 g.2.1 hd rfl (lvl_get (k := 2) h4 rfl) (k H locs la h1 h2 h3 h4)
theorem V_aload_2 {l0 l1 : Option Value} {tl : List (Option Value)} {x : Nat} (g : Gd X cc own ret nL lev nm) (d : dc cc pc (.aload_n 2) 1 pc') (k : V X T I L R uc us pc' (l0 :: l1 :: some (.ref x) :: tl) (.ref x :: st)) : V X T I L R uc us pc (l0 :: l1 :: some (.ref x) :: tl) st := by
  intro H locs la h1 h2 h3 h4
  obtain ⟨hd, rfl⟩ := d
  exact lv_aload_n g.1 g.2.1 hd rfl (lvl_get (k := 2) h4 rfl) (k H locs la h1 h2 h3 h4)
theorem V_aloadN_2 {l0 l1 : Option Value} {tl : List (Option Value)} (g : Gd X cc own ret nL lev nm) (d : dc cc pc (.aload_n 2) 1 pc') (k : V X T I L R uc us pc' (l0 :: l1 :: some .null :: tl) (.null :: st)) : V X T I L R uc us pc (l0 :: l1 :: some .null :: tl) st := by
  intro H locs la h1 h2 h3 h4
  obtain ⟨hd, rfl⟩ := d
  exact lv_aload_nN g.1 g.2.1 hd rfl (lvl_get (k := 2) h4 rfl) (k H locs la h1 h2 h3 h4)
theorem V_istore_2 {l0 l1 l2 : Option Value} {tl : List (Option Value)} {x : Int32} (g : Gd X cc own ret nL lev nm) (d : dc cc pc (.istore_n 2) 1 pc') (hn : 2 < nL) (hc : lok l1 = true) (k : V X T I L R uc us pc' (l0 :: l1 :: some (.int x) :: tl) st) : V X T I L R uc us pc (l0 :: l1 :: l2 :: tl) (.int x :: st) := by
  intro H locs la h1 h2 h3 h4
  obtain ⟨hd, rfl⟩ := d
  refine lv_istore_n g.1 g.2.1 hd rfl h4 (by rw [g.2.2.2.1]; exact hn) rfl (fun la' h' => k H locs la' h1 h2 h3 ?_)
  exact lvl_set1 (k := 2) (v := .int x) (ls := l0 :: l1 :: l2 :: tl) h' (fun j u e q => by have e2 : j = 1 := (by omega); subst e2; cases q; exact hc)
theorem V_astore_2 {l0 l1 l2 : Option Value} {tl : List (Option Value)} {x : Nat} (g : Gd X cc own ret nL lev nm) (d : dc cc pc (.astore_n 2) 1 pc') (hn : 2 < nL) (hc : lok l1 = true) (k : V X T I L R uc us pc' (l0 :: l1 :: some (.ref x) :: tl) st) : V X T I L R uc us pc (l0 :: l1 :: l2 :: tl) (.ref x :: st) := by
  intro H locs la h1 h2 h3 h4
  obtain ⟨hd, rfl⟩ := d
  refine lv_astore_n g.1 g.2.1 hd rfl h4 (by rw [g.2.2.2.1]; exact hn) rfl (fun la' h' => k H locs la' h1 h2 h3 ?_)
  exact lvl_set1 (k := 2) (v := .ref x) (ls := l0 :: l1 :: l2 :: tl) h' (fun j u e q => by have e2 : j = 1 := (by omega); subst e2; cases q; exact hc)
theorem V_astoreN_2 {l0 l1 l2 : Option Value} {tl : List (Option Value)}  (g : Gd X cc own ret nL lev nm) (d : dc cc pc (.astore_n 2) 1 pc') (hn : 2 < nL) (hc : lok l1 = true) (k : V X T I L R uc us pc' (l0 :: l1 :: some (.null) :: tl) st) : V X T I L R uc us pc (l0 :: l1 :: l2 :: tl) (.null :: st) := by
  intro H locs la h1 h2 h3 h4
  obtain ⟨hd, rfl⟩ := d
  refine lv_astore_nN g.1 g.2.1 hd rfl h4 (by rw [g.2.2.2.1]; exact hn) rfl (fun la' h' => k H locs la' h1 h2 h3 ?_)
  exact lvl_set1 (k := 2) (v := .null) (ls := l0 :: l1 :: l2 :: tl) h' (fun j u e q => by have e2 : j = 1 := (by omega); subst e2; cases q; exact hc)
theorem V_lstore_2 {l0 l1 l2 l3 : Option Value} {tl : List (Option Value)} {x : Int64} (g : Gd X cc own ret nL lev nm) (d : dc cc pc (.lstore_n 2) 1 pc') (hn : 2 + 1 < nL) (hc : lok l1 = true) (k : V X T I L R uc us pc' (l0 :: l1 :: some (.long x) :: none :: tl) st) : V X T I L R uc us pc (l0 :: l1 :: l2 :: l3 :: tl) (.long x :: st) := by
  intro H locs la h1 h2 h3 h4
  obtain ⟨hd, rfl⟩ := d
  refine lv_lstore_n g.1 g.2.1 hd rfl h4 (by rw [g.2.2.2.1]; exact hn) rfl (fun la' h' => k H locs la' h1 h2 h3 ?_)
  exact lvl_set2 (k := 2) (v := .long x) (ls := l0 :: l1 :: l2 :: l3 :: tl) h' (fun j u e q => by have e2 : j = 1 := (by omega); subst e2; cases q; exact hc)
theorem V_iinc_2 {l0 l1 : Option Value} {tl : List (Option Value)} {x v : Int32} {n : Int} (g : Gd X cc own ret nL lev nm) (d : dc cc pc (.iinc 2 n) 3 pc') (hn : 2 < nL) (hv : Int32.ofInt n = v) (hc : lok l1 = true) (k : V X T I L R uc us pc' (l0 :: l1 :: some (.int (x + v)) :: tl) st) : V X T I L R uc us pc (l0 :: l1 :: some (.int x) :: tl) st := by
  intro H locs la h1 h2 h3 h4
  obtain ⟨hd, rfl⟩ := d
  obtain ⟨j, hj⟩ := List.getElem?_of_mem (lvl_mem (ad := w_ad (x_w X)) (l0 :: l1 :: some (.int x) :: tl) 0 2 (.int x) rfl)
  rw [Nat.zero_add] at hj
  refine lv_iinc (v := x + v) g.1 g.2.1 hd h4 hj (by rw [hv]) (by rw [g.2.2.2.1]; exact hn) rfl (fun la' h' => k H locs la' h1 h2 h3 ?_)
  exact lvl_set1 (k := 2) (v := .int (x + v)) (ls := l0 :: l1 :: some (.int x) :: tl) h' (fun j u e q => by have e2 : j = 1 := (by omega); subst e2; cases q; exact hc)
theorem V_iload_3 {l0 l1 l2 : Option Value} {tl : List (Option Value)} {x : Int32} (g : Gd X cc own ret nL lev nm) (d : dc cc pc (.iload_n 3) 1 pc') (k : V X T I L R uc us pc' (l0 :: l1 :: l2 :: some (.int x) :: tl) (.int x :: st)) : V X T I L R uc us pc (l0 :: l1 :: l2 :: some (.int x) :: tl) st := by
  intro H locs la h1 h2 h3 h4
  obtain ⟨hd, rfl⟩ := d
  exact lv_iload_n g.1 g.2.1 hd rfl (lvl_get (k := 3) h4 rfl) (k H locs la h1 h2 h3 h4)
theorem V_lload_3 {l0 l1 l2 : Option Value} {tl : List (Option Value)} {x : Int64} (g : Gd X cc own ret nL lev nm) (d : dc cc pc (.lload_n 3) 1 pc') (k : V X T I L R uc us pc' (l0 :: l1 :: l2 :: some (.long x) :: tl) (.long x :: st)) : V X T I L R uc us pc (l0 :: l1 :: l2 :: some (.long x) :: tl) st := by
  intro H locs la h1 h2 h3 h4
  obtain ⟨hd, rfl⟩ := d
  exact lv_lload_n g.1 g.2.1 hd rfl (lvl_get (k := 3) h4 rfl) (k H locs la h1 h2 h3 h4)
theorem V_aload_3 {l0 l1 l2 : Option Value} {tl : List (Option Value)} {x : Nat} (g : Gd X cc own ret nL lev nm) (d : dc cc pc (.aload_n 3) 1 pc') (k : V X T I L R uc us pc' (l0 :: l1 :: l2 :: some (.ref x) :: tl) (.ref x :: st)) : V X T I L R uc us pc (l0 :: l1 :: l2 :: some (.ref x) :: tl) st := by
  intro H locs la h1 h2 h3 h4
  obtain ⟨hd, rfl⟩ := d
  exact lv_aload_n g.1 g.2.1 hd rfl (lvl_get (k := 3) h4 rfl) (k H locs la h1 h2 h3 h4)
theorem V_aloadN_3 {l0 l1 l2 : Option Value} {tl : List (Option Value)} (g : Gd X cc own ret nL lev nm) (d : dc cc pc (.aload_n 3) 1 pc') (k : V X T I L R uc us pc' (l0 :: l1 :: l2 :: some .null :: tl) (.null :: st)) : V X T I L R uc us pc (l0 :: l1 :: l2 :: some .null :: tl) st := by
  intro H locs la h1 h2 h3 h4
  obtain ⟨hd, rfl⟩ := d
  exact lv_aload_nN g.1 g.2.1 hd rfl (lvl_get (k := 3) h4 rfl) (k H locs la h1 h2 h3 h4)
theorem V_istore_3 {l0 l1 l2 l3 : Option Value} {tl : List (Option Value)} {x : Int32} (g : Gd X cc own ret nL lev nm) (d : dc cc pc (.istore_n 3) 1 pc') (hn : 3 < nL) (hc : lok l2 = true) (k : V X T I L R uc us pc' (l0 :: l1 :: l2 :: some (.int x) :: tl) st) : V X T I L R uc us pc (l0 :: l1 :: l2 :: l3 :: tl) (.int x :: st) := by
  intro H locs la h1 h2 h3 h4
  obtain ⟨hd, rfl⟩ := d
  refine lv_istore_n g.1 g.2.1 hd rfl h4 (by rw [g.2.2.2.1]; exact hn) rfl (fun la' h' => k H locs la' h1 h2 h3 ?_)
  exact lvl_set1 (k := 3) (v := .int x) (ls := l0 :: l1 :: l2 :: l3 :: tl) h' (fun j u e q => by have e2 : j = 2 := (by omega); subst e2; cases q; exact hc)
theorem V_astore_3 {l0 l1 l2 l3 : Option Value} {tl : List (Option Value)} {x : Nat} (g : Gd X cc own ret nL lev nm) (d : dc cc pc (.astore_n 3) 1 pc') (hn : 3 < nL) (hc : lok l2 = true) (k : V X T I L R uc us pc' (l0 :: l1 :: l2 :: some (.ref x) :: tl) st) : V X T I L R uc us pc (l0 :: l1 :: l2 :: l3 :: tl) (.ref x :: st) := by
  intro H locs la h1 h2 h3 h4
  obtain ⟨hd, rfl⟩ := d
  refine lv_astore_n g.1 g.2.1 hd rfl h4 (by rw [g.2.2.2.1]; exact hn) rfl (fun la' h' => k H locs la' h1 h2 h3 ?_)
  exact lvl_set1 (k := 3) (v := .ref x) (ls := l0 :: l1 :: l2 :: l3 :: tl) h' (fun j u e q => by have e2 : j = 2 := (by omega); subst e2; cases q; exact hc)
theorem V_astoreN_3 {l0 l1 l2 l3 : Option Value} {tl : List (Option Value)}  (g : Gd X cc own ret nL lev nm) (d : dc cc pc (.astore_n 3) 1 pc') (hn : 3 < nL) (hc : lok l2 = true) (k : V X T I L R uc us pc' (l0 :: l1 :: l2 :: some (.null) :: tl) st) : V X T I L R uc us pc (l0 :: l1 :: l2 :: l3 :: tl) (.null :: st) := by
  intro H locs la h1 h2 h3 h4
  obtain ⟨hd, rfl⟩ := d
  refine lv_astore_nN g.1 g.2.1 hd rfl h4 (by rw [g.2.2.2.1]; exact hn) rfl (fun la' h' => k H locs la' h1 h2 h3 ?_)
  exact lvl_set1 (k := 3) (v := .null) (ls := l0 :: l1 :: l2 :: l3 :: tl) h' (fun j u e q => by have e2 : j = 2 := (by omega); subst e2; cases q; exact hc)
theorem V_lstore_3 {l0 l1 l2 l3 l4 : Option Value} {tl : List (Option Value)} {x : Int64} (g : Gd X cc own ret nL lev nm) (d : dc cc pc (.lstore_n 3) 1 pc') (hn : 3 + 1 < nL) (hc : lok l2 = true) (k : V X T I L R uc us pc' (l0 :: l1 :: l2 :: some (.long x) :: none :: tl) st) : V X T I L R uc us pc (l0 :: l1 :: l2 :: l3 :: l4 :: tl) (.long x :: st) := by
  intro H locs la h1 h2 h3 h4
  obtain ⟨hd, rfl⟩ := d
  refine lv_lstore_n g.1 g.2.1 hd rfl h4 (by rw [g.2.2.2.1]; exact hn) rfl (fun la' h' => k H locs la' h1 h2 h3 ?_)
  exact lvl_set2 (k := 3) (v := .long x) (ls := l0 :: l1 :: l2 :: l3 :: l4 :: tl) h' (fun j u e q => by have e2 : j = 2 := (by omega); subst e2; cases q; exact hc)
theorem V_iinc_3 {l0 l1 l2 : Option Value} {tl : List (Option Value)} {x v : Int32} {n : Int} (g : Gd X cc own ret nL lev nm) (d : dc cc pc (.iinc 3 n) 3 pc') (hn : 3 < nL) (hv : Int32.ofInt n = v) (hc : lok l2 = true) (k : V X T I L R uc us pc' (l0 :: l1 :: l2 :: some (.int (x + v)) :: tl) st) : V X T I L R uc us pc (l0 :: l1 :: l2 :: some (.int x) :: tl) st := by
  intro H locs la h1 h2 h3 h4
  obtain ⟨hd, rfl⟩ := d
  obtain ⟨j, hj⟩ := List.getElem?_of_mem (lvl_mem (ad := w_ad (x_w X)) (l0 :: l1 :: l2 :: some (.int x) :: tl) 0 3 (.int x) rfl)
  rw [Nat.zero_add] at hj
  refine lv_iinc (v := x + v) g.1 g.2.1 hd h4 hj (by rw [hv]) (by rw [g.2.2.2.1]; exact hn) rfl (fun la' h' => k H locs la' h1 h2 h3 ?_)
  exact lvl_set1 (k := 3) (v := .int (x + v)) (ls := l0 :: l1 :: l2 :: some (.int x) :: tl) h' (fun j u e q => by have e2 : j = 2 := (by omega); subst e2; cases q; exact hc)
theorem V_iload_4 {l0 l1 l2 l3 : Option Value} {tl : List (Option Value)} {x : Int32} (g : Gd X cc own ret nL lev nm) (d : dc cc pc (.iload 4) 2 pc') (k : V X T I L R uc us pc' (l0 :: l1 :: l2 :: l3 :: some (.int x) :: tl) (.int x :: st)) : V X T I L R uc us pc (l0 :: l1 :: l2 :: l3 :: some (.int x) :: tl) st := by
  intro H locs la h1 h2 h3 h4
  obtain ⟨hd, rfl⟩ := d
  exact lv_iload g.1 g.2.1 hd (lvl_get (k := 4) h4 rfl) (k H locs la h1 h2 h3 h4)
theorem V_lload_4 {l0 l1 l2 l3 : Option Value} {tl : List (Option Value)} {x : Int64} (g : Gd X cc own ret nL lev nm) (d : dc cc pc (.lload 4) 2 pc') (k : V X T I L R uc us pc' (l0 :: l1 :: l2 :: l3 :: some (.long x) :: tl) (.long x :: st)) : V X T I L R uc us pc (l0 :: l1 :: l2 :: l3 :: some (.long x) :: tl) st := by
  intro H locs la h1 h2 h3 h4
  obtain ⟨hd, rfl⟩ := d
  exact lv_lload g.1 g.2.1 hd (lvl_get (k := 4) h4 rfl) (k H locs la h1 h2 h3 h4)
theorem V_aload_4 {l0 l1 l2 l3 : Option Value} {tl : List (Option Value)} {x : Nat} (g : Gd X cc own ret nL lev nm) (d : dc cc pc (.aload 4) 2 pc') (k : V X T I L R uc us pc' (l0 :: l1 :: l2 :: l3 :: some (.ref x) :: tl) (.ref x :: st)) : V X T I L R uc us pc (l0 :: l1 :: l2 :: l3 :: some (.ref x) :: tl) st := by
  intro H locs la h1 h2 h3 h4
  obtain ⟨hd, rfl⟩ := d
  exact lv_aload g.1 g.2.1 hd (lvl_get (k := 4) h4 rfl) (k H locs la h1 h2 h3 h4)
theorem V_aloadN_4 {l0 l1 l2 l3 : Option Value} {tl : List (Option Value)} (g : Gd X cc own ret nL lev nm) (d : dc cc pc (.aload 4) 2 pc') (k : V X T I L R uc us pc' (l0 :: l1 :: l2 :: l3 :: some .null :: tl) (.null :: st)) : V X T I L R uc us pc (l0 :: l1 :: l2 :: l3 :: some .null :: tl) st := by
  intro H locs la h1 h2 h3 h4
  obtain ⟨hd, rfl⟩ := d
  exact lv_aloadN g.1 g.2.1 hd (lvl_get (k := 4) h4 rfl) (k H locs la h1 h2 h3 h4)
theorem V_istore_4 {l0 l1 l2 l3 l4 : Option Value} {tl : List (Option Value)} {x : Int32} (g : Gd X cc own ret nL lev nm) (d : dc cc pc (.istore 4) 2 pc') (hn : 4 < nL) (hc : lok l3 = true) (k : V X T I L R uc us pc' (l0 :: l1 :: l2 :: l3 :: some (.int x) :: tl) st) : V X T I L R uc us pc (l0 :: l1 :: l2 :: l3 :: l4 :: tl) (.int x :: st) := by
  intro H locs la h1 h2 h3 h4
  obtain ⟨hd, rfl⟩ := d
  refine lv_istore g.1 g.2.1 hd h4 (by rw [g.2.2.2.1]; exact hn) rfl (fun la' h' => k H locs la' h1 h2 h3 ?_)
  exact lvl_set1 (k := 4) (v := .int x) (ls := l0 :: l1 :: l2 :: l3 :: l4 :: tl) h' (fun j u e q => by have e2 : j = 3 := (by omega); subst e2; cases q; exact hc)
theorem V_astore_4 {l0 l1 l2 l3 l4 : Option Value} {tl : List (Option Value)} {x : Nat} (g : Gd X cc own ret nL lev nm) (d : dc cc pc (.astore 4) 2 pc') (hn : 4 < nL) (hc : lok l3 = true) (k : V X T I L R uc us pc' (l0 :: l1 :: l2 :: l3 :: some (.ref x) :: tl) st) : V X T I L R uc us pc (l0 :: l1 :: l2 :: l3 :: l4 :: tl) (.ref x :: st) := by
  intro H locs la h1 h2 h3 h4
  obtain ⟨hd, rfl⟩ := d
  refine lv_astore g.1 g.2.1 hd h4 (by rw [g.2.2.2.1]; exact hn) rfl (fun la' h' => k H locs la' h1 h2 h3 ?_)
  exact lvl_set1 (k := 4) (v := .ref x) (ls := l0 :: l1 :: l2 :: l3 :: l4 :: tl) h' (fun j u e q => by have e2 : j = 3 := (by omega); subst e2; cases q; exact hc)
theorem V_astoreN_4 {l0 l1 l2 l3 l4 : Option Value} {tl : List (Option Value)}  (g : Gd X cc own ret nL lev nm) (d : dc cc pc (.astore 4) 2 pc') (hn : 4 < nL) (hc : lok l3 = true) (k : V X T I L R uc us pc' (l0 :: l1 :: l2 :: l3 :: some (.null) :: tl) st) : V X T I L R uc us pc (l0 :: l1 :: l2 :: l3 :: l4 :: tl) (.null :: st) := by
  intro H locs la h1 h2 h3 h4
  obtain ⟨hd, rfl⟩ := d
  refine lv_astoreN g.1 g.2.1 hd h4 (by rw [g.2.2.2.1]; exact hn) rfl (fun la' h' => k H locs la' h1 h2 h3 ?_)
  exact lvl_set1 (k := 4) (v := .null) (ls := l0 :: l1 :: l2 :: l3 :: l4 :: tl) h' (fun j u e q => by have e2 : j = 3 := (by omega); subst e2; cases q; exact hc)
theorem V_lstore_4 {l0 l1 l2 l3 l4 l5 : Option Value} {tl : List (Option Value)} {x : Int64} (g : Gd X cc own ret nL lev nm) (d : dc cc pc (.lstore 4) 2 pc') (hn : 4 + 1 < nL) (hc : lok l3 = true) (k : V X T I L R uc us pc' (l0 :: l1 :: l2 :: l3 :: some (.long x) :: none :: tl) st) : V X T I L R uc us pc (l0 :: l1 :: l2 :: l3 :: l4 :: l5 :: tl) (.long x :: st) := by
  intro H locs la h1 h2 h3 h4
  obtain ⟨hd, rfl⟩ := d
  refine lv_lstore g.1 g.2.1 hd h4 (by rw [g.2.2.2.1]; exact hn) rfl (fun la' h' => k H locs la' h1 h2 h3 ?_)
  exact lvl_set2 (k := 4) (v := .long x) (ls := l0 :: l1 :: l2 :: l3 :: l4 :: l5 :: tl) h' (fun j u e q => by have e2 : j = 3 := (by omega); subst e2; cases q; exact hc)
theorem V_iinc_4 {l0 l1 l2 l3 : Option Value} {tl : List (Option Value)} {x v : Int32} {n : Int} (g : Gd X cc own ret nL lev nm) (d : dc cc pc (.iinc 4 n) 3 pc') (hn : 4 < nL) (hv : Int32.ofInt n = v) (hc : lok l3 = true) (k : V X T I L R uc us pc' (l0 :: l1 :: l2 :: l3 :: some (.int (x + v)) :: tl) st) : V X T I L R uc us pc (l0 :: l1 :: l2 :: l3 :: some (.int x) :: tl) st := by
  intro H locs la h1 h2 h3 h4
  obtain ⟨hd, rfl⟩ := d
  obtain ⟨j, hj⟩ := List.getElem?_of_mem (lvl_mem (ad := w_ad (x_w X)) (l0 :: l1 :: l2 :: l3 :: some (.int x) :: tl) 0 4 (.int x) rfl)
  rw [Nat.zero_add] at hj
  refine lv_iinc (v := x + v) g.1 g.2.1 hd h4 hj (by rw [hv]) (by rw [g.2.2.2.1]; exact hn) rfl (fun la' h' => k H locs la' h1 h2 h3 ?_)
  exact lvl_set1 (k := 4) (v := .int (x + v)) (ls := l0 :: l1 :: l2 :: l3 :: some (.int x) :: tl) h' (fun j u e q => by have e2 : j = 3 := (by omega); subst e2; cases q; exact hc)
theorem V_iload_5 {l0 l1 l2 l3 l4 : Option Value} {tl : List (Option Value)} {x : Int32} (g : Gd X cc own ret nL lev nm) (d : dc cc pc (.iload 5) 2 pc') (k : V X T I L R uc us pc' (l0 :: l1 :: l2 :: l3 :: l4 :: some (.int x) :: tl) (.int x :: st)) : V X T I L R uc us pc (l0 :: l1 :: l2 :: l3 :: l4 :: some (.int x) :: tl) st := by
  intro H locs la h1 h2 h3 h4
  obtain ⟨hd, rfl⟩ := d
  exact lv_iload g.1 g.2.1 hd (lvl_get (k := 5) h4 rfl) (k H locs la h1 h2 h3 h4)
theorem V_lload_5 {l0 l1 l2 l3 l4 : Option Value} {tl : List (Option Value)} {x : Int64} (g : Gd X cc own ret nL lev nm) (d : dc cc pc (.lload 5) 2 pc') (k : V X T I L R uc us pc' (l0 :: l1 :: l2 :: l3 :: l4 :: some (.long x) :: tl) (.long x :: st)) : V X T I L R uc us pc (l0 :: l1 :: l2 :: l3 :: l4 :: some (.long x) :: tl) st := by
  intro H locs la h1 h2 h3 h4
  obtain ⟨hd, rfl⟩ := d
  exact lv_lload g.1 g.2.1 hd (lvl_get (k := 5) h4 rfl) (k H locs la h1 h2 h3 h4)
theorem V_aload_5 {l0 l1 l2 l3 l4 : Option Value} {tl : List (Option Value)} {x : Nat} (g : Gd X cc own ret nL lev nm) (d : dc cc pc (.aload 5) 2 pc') (k : V X T I L R uc us pc' (l0 :: l1 :: l2 :: l3 :: l4 :: some (.ref x) :: tl) (.ref x :: st)) : V X T I L R uc us pc (l0 :: l1 :: l2 :: l3 :: l4 :: some (.ref x) :: tl) st := by
  intro H locs la h1 h2 h3 h4
  obtain ⟨hd, rfl⟩ := d
  exact lv_aload g.1 g.2.1 hd (lvl_get (k := 5) h4 rfl) (k H locs la h1 h2 h3 h4)
theorem V_aloadN_5 {l0 l1 l2 l3 l4 : Option Value} {tl : List (Option Value)} (g : Gd X cc own ret nL lev nm) (d : dc cc pc (.aload 5) 2 pc') (k : V X T I L R uc us pc' (l0 :: l1 :: l2 :: l3 :: l4 :: some .null :: tl) (.null :: st)) : V X T I L R uc us pc (l0 :: l1 :: l2 :: l3 :: l4 :: some .null :: tl) st := by
  intro H locs la h1 h2 h3 h4
  obtain ⟨hd, rfl⟩ := d
  exact lv_aloadN g.1 g.2.1 hd (lvl_get (k := 5) h4 rfl) (k H locs la h1 h2 h3 h4)
theorem V_istore_5 {l0 l1 l2 l3 l4 l5 : Option Value} {tl : List (Option Value)} {x : Int32} (g : Gd X cc own ret nL lev nm) (d : dc cc pc (.istore 5) 2 pc') (hn : 5 < nL) (hc : lok l4 = true) (k : V X T I L R uc us pc' (l0 :: l1 :: l2 :: l3 :: l4 :: some (.int x) :: tl) st) : V X T I L R uc us pc (l0 :: l1 :: l2 :: l3 :: l4 :: l5 :: tl) (.int x :: st) := by
  intro H locs la h1 h2 h3 h4
  obtain ⟨hd, rfl⟩ := d
  refine lv_istore g.1 g.2.1 hd h4 (by rw [g.2.2.2.1]; exact hn) rfl (fun la' h' => k H locs la' h1 h2 h3 ?_)
  exact lvl_set1 (k := 5) (v := .int x) (ls := l0 :: l1 :: l2 :: l3 :: l4 :: l5 :: tl) h' (fun j u e q => by have e2 : j = 4 := (by omega); subst e2; cases q; exact hc)
theorem V_astore_5 {l0 l1 l2 l3 l4 l5 : Option Value} {tl : List (Option Value)} {x : Nat} (g : Gd X cc own ret nL lev nm) (d : dc cc pc (.astore 5) 2 pc') (hn : 5 < nL) (hc : lok l4 = true) (k : V X T I L R uc us pc' (l0 :: l1 :: l2 :: l3 :: l4 :: some (.ref x) :: tl) st) : V X T I L R uc us pc (l0 :: l1 :: l2 :: l3 :: l4 :: l5 :: tl) (.ref x :: st) := by
  intro H locs la h1 h2 h3 h4
  obtain ⟨hd, rfl⟩ := d
  refine lv_astore g.1 g.2.1 hd h4 (by rw [g.2.2.2.1]; exact hn) rfl (fun la' h' => k H locs la' h1 h2 h3 ?_)
  exact lvl_set1 (k := 5) (v := .ref x) (ls := l0 :: l1 :: l2 :: l3 :: l4 :: l5 :: tl) h' (fun j u e q => by have e2 : j = 4 := (by omega); subst e2; cases q; exact hc)
theorem V_astoreN_5 {l0 l1 l2 l3 l4 l5 : Option Value} {tl : List (Option Value)}  (g : Gd X cc own ret nL lev nm) (d : dc cc pc (.astore 5) 2 pc') (hn : 5 < nL) (hc : lok l4 = true) (k : V X T I L R uc us pc' (l0 :: l1 :: l2 :: l3 :: l4 :: some (.null) :: tl) st) : V X T I L R uc us pc (l0 :: l1 :: l2 :: l3 :: l4 :: l5 :: tl) (.null :: st) := by
  intro H locs la h1 h2 h3 h4
  obtain ⟨hd, rfl⟩ := d
  refine lv_astoreN g.1 g.2.1 hd h4 (by rw [g.2.2.2.1]; exact hn) rfl (fun la' h' => k H locs la' h1 h2 h3 ?_)
  exact lvl_set1 (k := 5) (v := .null) (ls := l0 :: l1 :: l2 :: l3 :: l4 :: l5 :: tl) h' (fun j u e q => by have e2 : j = 4 := (by omega); subst e2; cases q; exact hc)
theorem V_lstore_5 {l0 l1 l2 l3 l4 l5 l6 : Option Value} {tl : List (Option Value)} {x : Int64} (g : Gd X cc own ret nL lev nm) (d : dc cc pc (.lstore 5) 2 pc') (hn : 5 + 1 < nL) (hc : lok l4 = true) (k : V X T I L R uc us pc' (l0 :: l1 :: l2 :: l3 :: l4 :: some (.long x) :: none :: tl) st) : V X T I L R uc us pc (l0 :: l1 :: l2 :: l3 :: l4 :: l5 :: l6 :: tl) (.long x :: st) := by
  intro H locs la h1 h2 h3 h4
  obtain ⟨hd, rfl⟩ := d
  refine lv_lstore g.1 g.2.1 hd h4 (by rw [g.2.2.2.1]; exact hn) rfl (fun la' h' => k H locs la' h1 h2 h3 ?_)
  exact lvl_set2 (k := 5) (v := .long x) (ls := l0 :: l1 :: l2 :: l3 :: l4 :: l5 :: l6 :: tl) h' (fun j u e q => by have e2 : j = 4 := (by omega); subst e2; cases q; exact hc)
theorem V_iinc_5 {l0 l1 l2 l3 l4 : Option Value} {tl : List (Option Value)} {x v : Int32} {n : Int} (g : Gd X cc own ret nL lev nm) (d : dc cc pc (.iinc 5 n) 3 pc') (hn : 5 < nL) (hv : Int32.ofInt n = v) (hc : lok l4 = true) (k : V X T I L R uc us pc' (l0 :: l1 :: l2 :: l3 :: l4 :: some (.int (x + v)) :: tl) st) : V X T I L R uc us pc (l0 :: l1 :: l2 :: l3 :: l4 :: some (.int x) :: tl) st := by
  intro H locs la h1 h2 h3 h4
  obtain ⟨hd, rfl⟩ := d
  obtain ⟨j, hj⟩ := List.getElem?_of_mem (lvl_mem (ad := w_ad (x_w X)) (l0 :: l1 :: l2 :: l3 :: l4 :: some (.int x) :: tl) 0 5 (.int x) rfl)
  rw [Nat.zero_add] at hj
  refine lv_iinc (v := x + v) g.1 g.2.1 hd h4 hj (by rw [hv]) (by rw [g.2.2.2.1]; exact hn) rfl (fun la' h' => k H locs la' h1 h2 h3 ?_)
  exact lvl_set1 (k := 5) (v := .int (x + v)) (ls := l0 :: l1 :: l2 :: l3 :: l4 :: some (.int x) :: tl) h' (fun j u e q => by have e2 : j = 4 := (by omega); subst e2; cases q; exact hc)
theorem V_iload_6 {l0 l1 l2 l3 l4 l5 : Option Value} {tl : List (Option Value)} {x : Int32} (g : Gd X cc own ret nL lev nm) (d : dc cc pc (.iload 6) 2 pc') (k : V X T I L R uc us pc' (l0 :: l1 :: l2 :: l3 :: l4 :: l5 :: some (.int x) :: tl) (.int x :: st)) : V X T I L R uc us pc (l0 :: l1 :: l2 :: l3 :: l4 :: l5 :: some (.int x) :: tl) st := by
  intro H locs la h1 h2 h3 h4
  obtain ⟨hd, rfl⟩ := d
  exact lv_iload g.1 g.2.1 hd (lvl_get (k := 6) h4 rfl) (k H locs la h1 h2 h3 h4)
theorem V_lload_6 {l0 l1 l2 l3 l4 l5 : Option Value} {tl : List (Option Value)} {x : Int64} (g : Gd X cc own ret nL lev nm) (d : dc cc pc (.lload 6) 2 pc') (k : V X T I L R uc us pc' (l0 :: l1 :: l2 :: l3 :: l4 :: l5 :: some (.long x) :: tl) (.long x :: st)) : V X T I L R uc us pc (l0 :: l1 :: l2 :: l3 :: l4 :: l5 :: some (.long x) :: tl) st := by
  intro H locs la h1 h2 h3 h4
  obtain ⟨hd, rfl⟩ := d
  exact lv_lload g.1 g.2.1 hd (lvl_get (k := 6) h4 rfl) (k H locs la h1 h2 h3 h4)
theorem V_aload_6 {l0 l1 l2 l3 l4 l5 : Option Value} {tl : List (Option Value)} {x : Nat} (g : Gd X cc own ret nL lev nm) (d : dc cc pc (.aload 6) 2 pc') (k : V X T I L R uc us pc' (l0 :: l1 :: l2 :: l3 :: l4 :: l5 :: some (.ref x) :: tl) (.ref x :: st)) : V X T I L R uc us pc (l0 :: l1 :: l2 :: l3 :: l4 :: l5 :: some (.ref x) :: tl) st := by
  intro H locs la h1 h2 h3 h4
  obtain ⟨hd, rfl⟩ := d
  exact lv_aload g.1 g.2.1 hd (lvl_get (k := 6) h4 rfl) (k H locs la h1 h2 h3 h4)
theorem V_aloadN_6 {l0 l1 l2 l3 l4 l5 : Option Value} {tl : List (Option Value)} (g : Gd X cc own ret nL lev nm) (d : dc cc pc (.aload 6) 2 pc') (k : V X T I L R uc us pc' (l0 :: l1 :: l2 :: l3 :: l4 :: l5 :: some .null :: tl) (.null :: st)) : V X T I L R uc us pc (l0 :: l1 :: l2 :: l3 :: l4 :: l5 :: some .null :: tl) st := by
  intro H locs la h1 h2 h3 h4
  obtain ⟨hd, rfl⟩ := d
  exact lv_aloadN g.1 g.2.1 hd (lvl_get (k := 6) h4 rfl) (k H locs la h1 h2 h3 h4)
theorem V_istore_6 {l0 l1 l2 l3 l4 l5 l6 : Option Value} {tl : List (Option Value)} {x : Int32} (g : Gd X cc own ret nL lev nm) (d : dc cc pc (.istore 6) 2 pc') (hn : 6 < nL) (hc : lok l5 = true) (k : V X T I L R uc us pc' (l0 :: l1 :: l2 :: l3 :: l4 :: l5 :: some (.int x) :: tl) st) : V X T I L R uc us pc (l0 :: l1 :: l2 :: l3 :: l4 :: l5 :: l6 :: tl) (.int x :: st) := by
  intro H locs la h1 h2 h3 h4
  obtain ⟨hd, rfl⟩ := d
  refine lv_istore g.1 g.2.1 hd h4 (by rw [g.2.2.2.1]; exact hn) rfl (fun la' h' => k H locs la' h1 h2 h3 ?_)
  exact lvl_set1 (k := 6) (v := .int x) (ls := l0 :: l1 :: l2 :: l3 :: l4 :: l5 :: l6 :: tl) h' (fun j u e q => by have e2 : j = 5 := (by omega); subst e2; cases q; exact hc)
theorem V_astore_6 {l0 l1 l2 l3 l4 l5 l6 : Option Value} {tl : List (Option Value)} {x : Nat} (g : Gd X cc own ret nL lev nm) (d : dc cc pc (.astore 6) 2 pc') (hn : 6 < nL) (hc : lok l5 = true) (k : V X T I L R uc us pc' (l0 :: l1 :: l2 :: l3 :: l4 :: l5 :: some (.ref x) :: tl) st) : V X T I L R uc us pc (l0 :: l1 :: l2 :: l3 :: l4 :: l5 :: l6 :: tl) (.ref x :: st) := by
  intro H locs la h1 h2 h3 h4
  obtain ⟨hd, rfl⟩ := d
  refine lv_astore g.1 g.2.1 hd h4 (by rw [g.2.2.2.1]; exact hn) rfl (fun la' h' => k H locs la' h1 h2 h3 ?_)
  exact lvl_set1 (k := 6) (v := .ref x) (ls := l0 :: l1 :: l2 :: l3 :: l4 :: l5 :: l6 :: tl) h' (fun j u e q => by have e2 : j = 5 := (by omega); subst e2; cases q; exact hc)
theorem V_astoreN_6 {l0 l1 l2 l3 l4 l5 l6 : Option Value} {tl : List (Option Value)}  (g : Gd X cc own ret nL lev nm) (d : dc cc pc (.astore 6) 2 pc') (hn : 6 < nL) (hc : lok l5 = true) (k : V X T I L R uc us pc' (l0 :: l1 :: l2 :: l3 :: l4 :: l5 :: some (.null) :: tl) st) : V X T I L R uc us pc (l0 :: l1 :: l2 :: l3 :: l4 :: l5 :: l6 :: tl) (.null :: st) := by
  intro H locs la h1 h2 h3 h4
  obtain ⟨hd, rfl⟩ := d
  refine lv_astoreN g.1 g.2.1 hd h4 (by rw [g.2.2.2.1]; exact hn) rfl (fun la' h' => k H locs la' h1 h2 h3 ?_)
  exact lvl_set1 (k := 6) (v := .null) (ls := l0 :: l1 :: l2 :: l3 :: l4 :: l5 :: l6 :: tl) h' (fun j u e q => by have e2 : j = 5 := (by omega); subst e2; cases q; exact hc)
theorem V_lstore_6 {l0 l1 l2 l3 l4 l5 l6 l7 : Option Value} {tl : List (Option Value)} {x : Int64} (g : Gd X cc own ret nL lev nm) (d : dc cc pc (.lstore 6) 2 pc') (hn : 6 + 1 < nL) (hc : lok l5 = true) (k : V X T I L R uc us pc' (l0 :: l1 :: l2 :: l3 :: l4 :: l5 :: some (.long x) :: none :: tl) st) : V X T I L R uc us pc (l0 :: l1 :: l2 :: l3 :: l4 :: l5 :: l6 :: l7 :: tl) (.long x :: st) := by
  intro H locs la h1 h2 h3 h4
  obtain ⟨hd, rfl⟩ := d
  refine lv_lstore g.1 g.2.1 hd h4 (by rw [g.2.2.2.1]; exact hn) rfl (fun la' h' => k H locs la' h1 h2 h3 ?_)
  exact lvl_set2 (k := 6) (v := .long x) (ls := l0 :: l1 :: l2 :: l3 :: l4 :: l5 :: l6 :: l7 :: tl) h' (fun j u e q => by have e2 : j = 5 := (by omega); subst e2; cases q; exact hc)
theorem V_iinc_6 {l0 l1 l2 l3 l4 l5 : Option Value} {tl : List (Option Value)} {x v : Int32} {n : Int} (g : Gd X cc own ret nL lev nm) (d : dc cc pc (.iinc 6 n) 3 pc') (hn : 6 < nL) (hv : Int32.ofInt n = v) (hc : lok l5 = true) (k : V X T I L R uc us pc' (l0 :: l1 :: l2 :: l3 :: l4 :: l5 :: some (.int (x + v)) :: tl) st) : V X T I L R uc us pc (l0 :: l1 :: l2 :: l3 :: l4 :: l5 :: some (.int x) :: tl) st := by
  intro H locs la h1 h2 h3 h4
  obtain ⟨hd, rfl⟩ := d
  obtain ⟨j, hj⟩ := List.getElem?_of_mem (lvl_mem (ad := w_ad (x_w X)) (l0 :: l1 :: l2 :: l3 :: l4 :: l5 :: some (.int x) :: tl) 0 6 (.int x) rfl)
  rw [Nat.zero_add] at hj
  refine lv_iinc (v := x + v) g.1 g.2.1 hd h4 hj (by rw [hv]) (by rw [g.2.2.2.1]; exact hn) rfl (fun la' h' => k H locs la' h1 h2 h3 ?_)
  exact lvl_set1 (k := 6) (v := .int (x + v)) (ls := l0 :: l1 :: l2 :: l3 :: l4 :: l5 :: some (.int x) :: tl) h' (fun j u e q => by have e2 : j = 5 := (by omega); subst e2; cases q; exact hc)
theorem V_iload_7 {l0 l1 l2 l3 l4 l5 l6 : Option Value} {tl : List (Option Value)} {x : Int32} (g : Gd X cc own ret nL lev nm) (d : dc cc pc (.iload 7) 2 pc') (k : V X T I L R uc us pc' (l0 :: l1 :: l2 :: l3 :: l4 :: l5 :: l6 :: some (.int x) :: tl) (.int x :: st)) : V X T I L R uc us pc (l0 :: l1 :: l2 :: l3 :: l4 :: l5 :: l6 :: some (.int x) :: tl) st := by
  intro H locs la h1 h2 h3 h4
  obtain ⟨hd, rfl⟩ := d
  exact lv_iload g.1 g.2.1 hd (lvl_get (k := 7) h4 rfl) (k H locs la h1 h2 h3 h4)
theorem V_lload_7 {l0 l1 l2 l3 l4 l5 l6 : Option Value} {tl : List (Option Value)} {x : Int64} (g : Gd X cc own ret nL lev nm) (d : dc cc pc (.lload 7) 2 pc') (k : V X T I L R uc us pc' (l0 :: l1 :: l2 :: l3 :: l4 :: l5 :: l6 :: some (.long x) :: tl) (.long x :: st)) : V X T I L R uc us pc (l0 :: l1 :: l2 :: l3 :: l4 :: l5 :: l6 :: some (.long x) :: tl) st := by
  intro H locs la h1 h2 h3 h4
  obtain ⟨hd, rfl⟩ := d
  exact lv_lload g.1 g.2.1 hd (lvl_get (k := 7) h4 rfl) (k H locs la h1 h2 h3 h4)
theorem V_aload_7 {l0 l1 l2 l3 l4 l5 l6 : Option Value} {tl : List (Option Value)} {x : Nat} (g : Gd X cc own ret nL lev nm) (d : dc cc pc (.aload 7) 2 pc') (k : V X T I L R uc us pc' (l0 :: l1 :: l2 :: l3 :: l4 :: l5 :: l6 :: some (.ref x) :: tl) (.ref x :: st)) : V X T I L R uc us pc (l0 :: l1 :: l2 :: l3 :: l4 :: l5 :: l6 :: some (.ref x) :: tl) st := by
  intro H locs la h1 h2 h3 h4
  obtain ⟨hd, rfl⟩ := d
  exact lv_aload g.1 g.2.1 hd (lvl_get (k := 7) h4 rfl) (k H locs la h1 h2 h3 h4)
theorem V_aloadN_7 {l0 l1 l2 l3 l4 l5 l6 : Option Value} {tl : List (Option Value)} (g : Gd X cc own ret nL lev nm) (d : dc cc pc (.aload 7) 2 pc') (k : V X T I L R uc us pc' (l0 :: l1 :: l2 :: l3 :: l4 :: l5 :: l6 :: some .null :: tl) (.null :: st)) : V X T I L R uc us pc (l0 :: l1 :: l2 :: l3 :: l4 :: l5 :: l6 :: some .null :: tl) st := by
  intro H locs la h1 h2 h3 h4
  obtain ⟨hd, rfl⟩ := d
  exact lv_aloadN g.1 g.2.1 hd (lvl_get (k := 7) h4 rfl) (k H locs la h1 h2 h3 h4)
theorem V_istore_7 {l0 l1 l2 l3 l4 l5 l6 l7 : Option Value} {tl : List (Option Value)} {x : Int32} (g : Gd X cc own ret nL lev nm) (d : dc cc pc (.istore 7) 2 pc') (hn : 7 < nL) (hc : lok l6 = true) (k : V X T I L R uc us pc' (l0 :: l1 :: l2 :: l3 :: l4 :: l5 :: l6 :: some (.int x) :: tl) st) : V X T I L R uc us pc (l0 :: l1 :: l2 :: l3 :: l4 :: l5 :: l6 :: l7 :: tl) (.int x :: st) := by
  intro H locs la h1 h2 h3 h4
  obtain ⟨hd, rfl⟩ := d
  refine lv_istore g.1 g.2.1 hd h4 (by rw [g.2.2.2.1]; exact hn) rfl (fun la' h' => k H locs la' h1 h2 h3 ?_)
  exact lvl_set1 (k := 7) (v := .int x) (ls := l0 :: l1 :: l2 :: l3 :: l4 :: l5 :: l6 :: l7 :: tl) h' (fun j u e q => by have e2 : j = 6 := (by omega); subst e2; cases q; exact hc)
theorem V_astore_7 {l0 l1 l2 l3 l4 l5 l6 l7 : Option Value} {tl : List (Option Value)} {x : Nat} (g : Gd X cc own ret nL lev nm) (d : dc cc pc (.astore 7) 2 pc') (hn : 7 < nL) (hc : lok l6 = true) (k : V X T I L R uc us pc' (l0 :: l1 :: l2 :: l3 :: l4 :: l5 :: l6 :: some (.ref x) :: tl) st) : V X T I L R uc us pc (l0 :: l1 :: l2 :: l3 :: l4 :: l5 :: l6 :: l7 :: tl) (.ref x :: st) := by
  intro H locs la h1 h2 h3 h4
  obtain ⟨hd, rfl⟩ := d
  refine lv_astore g.1 g.2.1 hd h4 (by rw [g.2.2.2.1]; exact hn) rfl (fun la' h' => k H locs la' h1 h2 h3 ?_)
  exact lvl_set1 (k := 7) (v := .ref x) (ls := l0 :: l1 :: l2 :: l3 :: l4 :: l5 :: l6 :: l7 :: tl) h' (fun j u e q => by have e2 : j = 6 := (by omega); subst e2; cases q; exact hc)
theorem V_astoreN_7 {l0 l1 l2 l3 l4 l5 l6 l7 : Option Value} {tl : List (Option Value)}  (g : Gd X cc own ret nL lev nm) (d : dc cc pc (.astore 7) 2 pc') (hn : 7 < nL) (hc : lok l6 = true) (k : V X T I L R uc us pc' (l0 :: l1 :: l2 :: l3 :: l4 :: l5 :: l6 :: some (.null) :: tl) st) : V X T I L R uc us pc (l0 :: l1 :: l2 :: l3 :: l4 :: l5 :: l6 :: l7 :: tl) (.null :: st) := by
  intro H locs la h1 h2 h3 h4
  obtain ⟨hd, rfl⟩ := d
  refine lv_astoreN g.1 g.2.1 hd h4 (by rw [g.2.2.2.1]; exact hn) rfl (fun la' h' => k H locs la' h1 h2 h3 ?_)
  exact lvl_set1 (k := 7) (v := .null) (ls := l0 :: l1 :: l2 :: l3 :: l4 :: l5 :: l6 :: l7 :: tl) h' (fun j u e q => by have e2 : j = 6 := (by omega); subst e2; cases q; exact hc)
theorem V_lstore_7 {l0 l1 l2 l3 l4 l5 l6 l7 l8 : Option Value} {tl : List (Option Value)} {x : Int64} (g : Gd X cc own ret nL lev nm) (d : dc cc pc (.lstore 7) 2 pc') (hn : 7 + 1 < nL) (hc : lok l6 = true) (k : V X T I L R uc us pc' (l0 :: l1 :: l2 :: l3 :: l4 :: l5 :: l6 :: some (.long x) :: none :: tl) st) : V X T I L R uc us pc (l0 :: l1 :: l2 :: l3 :: l4 :: l5 :: l6 :: l7 :: l8 :: tl) (.long x :: st) := by
  intro H locs la h1 h2 h3 h4
  obtain ⟨hd, rfl⟩ := d
  refine lv_lstore g.1 g.2.1 hd h4 (by rw [g.2.2.2.1]; exact hn) rfl (fun la' h' => k H locs la' h1 h2 h3 ?_)
  exact lvl_set2 (k := 7) (v := .long x) (ls := l0 :: l1 :: l2 :: l3 :: l4 :: l5 :: l6 :: l7 :: l8 :: tl) h' (fun j u e q => by have e2 : j = 6 := (by omega); subst e2; cases q; exact hc)
theorem V_iinc_7 {l0 l1 l2 l3 l4 l5 l6 : Option Value} {tl : List (Option Value)} {x v : Int32} {n : Int} (g : Gd X cc own ret nL lev nm) (d : dc cc pc (.iinc 7 n) 3 pc') (hn : 7 < nL) (hv : Int32.ofInt n = v) (hc : lok l6 = true) (k : V X T I L R uc us pc' (l0 :: l1 :: l2 :: l3 :: l4 :: l5 :: l6 :: some (.int (x + v)) :: tl) st) : V X T I L R uc us pc (l0 :: l1 :: l2 :: l3 :: l4 :: l5 :: l6 :: some (.int x) :: tl) st := by
  intro H locs la h1 h2 h3 h4
  obtain ⟨hd, rfl⟩ := d
  obtain ⟨j, hj⟩ := List.getElem?_of_mem (lvl_mem (ad := w_ad (x_w X)) (l0 :: l1 :: l2 :: l3 :: l4 :: l5 :: l6 :: some (.int x) :: tl) 0 7 (.int x) rfl)
  rw [Nat.zero_add] at hj
  refine lv_iinc (v := x + v) g.1 g.2.1 hd h4 hj (by rw [hv]) (by rw [g.2.2.2.1]; exact hn) rfl (fun la' h' => k H locs la' h1 h2 h3 ?_)
  exact lvl_set1 (k := 7) (v := .int (x + v)) (ls := l0 :: l1 :: l2 :: l3 :: l4 :: l5 :: l6 :: some (.int x) :: tl) h' (fun j u e q => by have e2 : j = 6 := (by omega); subst e2; cases q; exact hc)
theorem V_iload_8 {l0 l1 l2 l3 l4 l5 l6 l7 : Option Value} {tl : List (Option Value)} {x : Int32} (g : Gd X cc own ret nL lev nm) (d : dc cc pc (.iload 8) 2 pc') (k : V X T I L R uc us pc' (l0 :: l1 :: l2 :: l3 :: l4 :: l5 :: l6 :: l7 :: some (.int x) :: tl) (.int x :: st)) : V X T I L R uc us pc (l0 :: l1 :: l2 :: l3 :: l4 :: l5 :: l6 :: l7 :: some (.int x) :: tl) st := by
  intro H locs la h1 h2 h3 h4
  obtain ⟨hd, rfl⟩ := d
  exact lv_iload g.1 g.2.1 hd (lvl_get (k := 8) h4 rfl) (k H locs la h1 h2 h3 h4)
theorem V_lload_8 {l0 l1 l2 l3 l4 l5 l6 l7 : Option Value} {tl : List (Option Value)} {x : Int64} (g : Gd X cc own ret nL lev nm) (d : dc cc pc (.lload 8) 2 pc') (k : V X T I L R uc us pc' (l0 :: l1 :: l2 :: l3 :: l4 :: l5 :: l6 :: l7 :: some (.long x) :: tl) (.long x :: st)) : V X T I L R uc us pc (l0 :: l1 :: l2 :: l3 :: l4 :: l5 :: l6 :: l7 :: some (.long x) :: tl) st := by
  intro H locs la h1 h2 h3 h4
  obtain ⟨hd, rfl⟩ := d
  exact lv_lload g.1 g.2.1 hd (lvl_get (k := 8) h4 rfl) (k H locs la h1 h2 h3 h4)
theorem V_aload_8 {l0 l1 l2 l3 l4 l5 l6 l7 : Option Value} {tl : List (Option Value)} {x : Nat} (g : Gd X cc own ret nL lev nm) (d : dc cc pc (.aload 8) 2 pc') (k : V X T I L R uc us pc' (l0 :: l1 :: l2 :: l3 :: l4 :: l5 :: l6 :: l7 :: some (.ref x) :: tl) (.ref x :: st)) : V X T I L R uc us pc (l0 :: l1 :: l2 :: l3 :: l4 :: l5 :: l6 :: l7 :: some (.ref x) :: tl) st := by
  intro H locs la h1 h2 h3 h4
  obtain ⟨hd, rfl⟩ := d
  exact lv_aload g.1 g.2.1 hd (lvl_get (k := 8) h4 rfl) (k H locs la h1 h2 h3 h4)
theorem V_aloadN_8 {l0 l1 l2 l3 l4 l5 l6 l7 : Option Value} {tl : List (Option Value)} (g : Gd X cc own ret nL lev nm) (d : dc cc pc (.aload 8) 2 pc') (k : V X T I L R uc us pc' (l0 :: l1 :: l2 :: l3 :: l4 :: l5 :: l6 :: l7 :: some .null :: tl) (.null :: st)) : V X T I L R uc us pc (l0 :: l1 :: l2 :: l3 :: l4 :: l5 :: l6 :: l7 :: some .null :: tl) st := by
  intro H locs la h1 h2 h3 h4
  obtain ⟨hd, rfl⟩ := d
  exact lv_aloadN g.1 g.2.1 hd (lvl_get (k := 8) h4 rfl) (k H locs la h1 h2 h3 h4)
theorem V_istore_8 {l0 l1 l2 l3 l4 l5 l6 l7 l8 : Option Value} {tl : List (Option Value)} {x : Int32} (g : Gd X cc own ret nL lev nm) (d : dc cc pc (.istore 8) 2 pc') (hn : 8 < nL) (hc : lok l7 = true) (k : V X T I L R uc us pc' (l0 :: l1 :: l2 :: l3 :: l4 :: l5 :: l6 :: l7 :: some (.int x) :: tl) st) : V X T I L R uc us pc (l0 :: l1 :: l2 :: l3 :: l4 :: l5 :: l6 :: l7 :: l8 :: tl) (.int x :: st) := by
  intro H locs la h1 h2 h3 h4
  obtain ⟨hd, rfl⟩ := d
  refine lv_istore g.1 g.2.1 hd h4 (by rw [g.2.2.2.1]; exact hn) rfl (fun la' h' => k H locs la' h1 h2 h3 ?_)
  exact lvl_set1 (k := 8) (v := .int x) (ls := l0 :: l1 :: l2 :: l3 :: l4 :: l5 :: l6 :: l7 :: l8 :: tl) h' (fun j u e q => by have e2 : j = 7 := (by omega); subst e2; cases q; exact hc)
theorem V_astore_8 {l0 l1 l2 l3 l4 l5 l6 l7 l8 : Option Value} {tl : List (Option Value)} {x : Nat} (g : Gd X cc own ret nL lev nm) (d : dc cc pc (.astore 8) 2 pc') (hn : 8 < nL) (hc : lok l7 = true) (k : V X T I L R uc us pc' (l0 :: l1 :: l2 :: l3 :: l4 :: l5 :: l6 :: l7 :: some (.ref x) :: tl) st) : V X T I L R uc us pc (l0 :: l1 :: l2 :: l3 :: l4 :: l5 :: l6 :: l7 :: l8 :: tl) (.ref x :: st) := by
  intro H locs la h1 h2 h3 h4
  obtain ⟨hd, rfl⟩ := d
  refine lv_astore g.1 g.2.1 hd h4 (by rw [g.2.2.2.1]; exact hn) rfl (fun la' h' => k H locs la' h1 h2 h3 ?_)
  exact lvl_set1 (k := 8) (v := .ref x) (ls := l0 :: l1 :: l2 :: l3 :: l4 :: l5 :: l6 :: l7 :: l8 :: tl) h' (fun j u e q => by have e2 : j = 7 := (by omega); subst e2; cases q; exact hc)
theorem V_astoreN_8 {l0 l1 l2 l3 l4 l5 l6 l7 l8 : Option Value} {tl : List (Option Value)}  (g : Gd X cc own ret nL lev nm) (d : dc cc pc (.astore 8) 2 pc') (hn : 8 < nL) (hc : lok l7 = true) (k : V X T I L R uc us pc' (l0 :: l1 :: l2 :: l3 :: l4 :: l5 :: l6 :: l7 :: some (.null) :: tl) st) : V X T I L R uc us pc (l0 :: l1 :: l2 :: l3 :: l4 :: l5 :: l6 :: l7 :: l8 :: tl) (.null :: st) := by
  intro H locs la h1 h2 h3 h4
  obtain ⟨hd, rfl⟩ := d
  refine lv_astoreN g.1 g.2.1 hd h4 (by rw [g.2.2.2.1]; exact hn) rfl (fun la' h' => k H locs la' h1 h2 h3 ?_)
  exact lvl_set1 (k := 8) (v := .null) (ls := l0 :: l1 :: l2 :: l3 :: l4 :: l5 :: l6 :: l7 :: l8 :: tl) h' (fun j u e q => by have e2 : j = 7 := (by omega); subst e2; cases q; exact hc)
theorem V_lstore_8 {l0 l1 l2 l3 l4 l5 l6 l7 l8 l9 : Option Value} {tl : List (Option Value)} {x : Int64} (g : Gd X cc own ret nL lev nm) (d : dc cc pc (.lstore 8) 2 pc') (hn : 8 + 1 < nL) (hc : lok l7 = true) (k : V X T I L R uc us pc' (l0 :: l1 :: l2 :: l3 :: l4 :: l5 :: l6 :: l7 :: some (.long x) :: none :: tl) st) : V X T I L R uc us pc (l0 :: l1 :: l2 :: l3 :: l4 :: l5 :: l6 :: l7 :: l8 :: l9 :: tl) (.long x :: st) := by
  intro H locs la h1 h2 h3 h4
  obtain ⟨hd, rfl⟩ := d
  refine lv_lstore g.1 g.2.1 hd h4 (by rw [g.2.2.2.1]; exact hn) rfl (fun la' h' => k H locs la' h1 h2 h3 ?_)
  exact lvl_set2 (k := 8) (v := .long x) (ls := l0 :: l1 :: l2 :: l3 :: l4 :: l5 :: l6 :: l7 :: l8 :: l9 :: tl) h' (fun j u e q => by have e2 : j = 7 := (by omega); subst e2; cases q; exact hc)
theorem V_iinc_8 {l0 l1 l2 l3 l4 l5 l6 l7 : Option Value} {tl : List (Option Value)} {x v : Int32} {n : Int} (g : Gd X cc own ret nL lev nm) (d : dc cc pc (.iinc 8 n) 3 pc') (hn : 8 < nL) (hv : Int32.ofInt n = v) (hc : lok l7 = true) (k : V X T I L R uc us pc' (l0 :: l1 :: l2 :: l3 :: l4 :: l5 :: l6 :: l7 :: some (.int (x + v)) :: tl) st) : V X T I L R uc us pc (l0 :: l1 :: l2 :: l3 :: l4 :: l5 :: l6 :: l7 :: some (.int x) :: tl) st := by
  intro H locs la h1 h2 h3 h4
  obtain ⟨hd, rfl⟩ := d
  obtain ⟨j, hj⟩ := List.getElem?_of_mem (lvl_mem (ad := w_ad (x_w X)) (l0 :: l1 :: l2 :: l3 :: l4 :: l5 :: l6 :: l7 :: some (.int x) :: tl) 0 8 (.int x) rfl)
  rw [Nat.zero_add] at hj
  refine lv_iinc (v := x + v) g.1 g.2.1 hd h4 hj (by rw [hv]) (by rw [g.2.2.2.1]; exact hn) rfl (fun la' h' => k H locs la' h1 h2 h3 ?_)
  exact lvl_set1 (k := 8) (v := .int (x + v)) (ls := l0 :: l1 :: l2 :: l3 :: l4 :: l5 :: l6 :: l7 :: some (.int x) :: tl) h' (fun j u e q => by have e2 : j = 7 := (by omega); subst e2; cases q; exact hc)
theorem V_iload_9 {l0 l1 l2 l3 l4 l5 l6 l7 l8 : Option Value} {tl : List (Option Value)} {x : Int32} (g : Gd X cc own ret nL lev nm) (d : dc cc pc (.iload 9) 2 pc') (k : V X T I L R uc us pc' (l0 :: l1 :: l2 :: l3 :: l4 :: l5 :: l6 :: l7 :: l8 :: some (.int x) :: tl) (.int x :: st)) : V X T I L R uc us pc (l0 :: l1 :: l2 :: l3 :: l4 :: l5 :: l6 :: l7 :: l8 :: some (.int x) :: tl) st := by
  intro H locs la h1 h2 h3 h4
  obtain ⟨hd, rfl⟩ := d
  exact lv_iload g.1 g.2.1 hd (lvl_get (k := 9) h4 rfl) (k H locs la h1 h2 h3 h4)
theorem V_lload_9 {l0 l1 l2 l3 l4 l5 l6 l7 l8 : Option Value} {tl : List (Option Value)} {x : Int64} (g : Gd X cc own ret nL lev nm) (d : dc cc pc (.lload 9) 2 pc') (k : V X T I L R uc us pc' (l0 :: l1 :: l2 :: l3 :: l4 :: l5 :: l6 :: l7 :: l8 :: some (.long x) :: tl) (.long x :: st)) : V X T I L R uc us pc (l0 :: l1 :: l2 :: l3 :: l4 :: l5 :: l6 :: l7 :: l8 :: some (.long x) :: tl) st := by
  intro H locs la h1 h2 h3 h4
  obtain ⟨hd, rfl⟩ := d
  exact lv_lload g.1 g.2.1 hd (lvl_get (k := 9) h4 rfl) (k H locs la h1 h2 h3 h4)
theorem V_aload_9 {l0 l1 l2 l3 l4 l5 l6 l7 l8 : Option Value} {tl : List (Option Value)} {x : Nat} (g : Gd X cc own ret nL lev nm) (d : dc cc pc (.aload 9) 2 pc') (k : V X T I L R uc us pc' (l0 :: l1 :: l2 :: l3 :: l4 :: l5 :: l6 :: l7 :: l8 :: some (.ref x) :: tl) (.ref x :: st)) : V X T I L R uc us pc (l0 :: l1 :: l2 :: l3 :: l4 :: l5 :: l6 :: l7 :: l8 :: some (.ref x) :: tl) st := by
  intro H locs la h1 h2 h3 h4
  obtain ⟨hd, rfl⟩ := d
  exact lv_aload g.1 g.2.1 hd (lvl_get (k := 9) h4 rfl) (k H locs la h1 h2 h3 h4)
theorem V_aloadN_9 {l0 l1 l2 l3 l4 l5 l6 l7 l8 : Option Value} {tl : List (Option Value)} (g : Gd X cc own ret nL lev nm) (d : dc cc pc (.aload 9) 2 pc') (k : V X T I L R uc us pc' (l0 :: l1 :: l2 :: l3 :: l4 :: l5 :: l6 :: l7 :: l8 :: some .null :: tl) (.null :: st)) : V X T I L R uc us pc (l0 :: l1 :: l2 :: l3 :: l4 :: l5 :: l6 :: l7 :: l8 :: some .null :: tl) st := by
  intro H locs la h1 h2 h3 h4
  obtain ⟨hd, rfl⟩ := d
  exact lv_aloadN g.1 g.2.1 hd (lvl_get (k := 9) h4 rfl) (k H locs la h1 h2 h3 h4)
theorem V_istore_9 {l0 l1 l2 l3 l4 l5 l6 l7 l8 l9 : Option Value} {tl : List (Option Value)} {x : Int32} (g : Gd X cc own ret nL lev nm) (d : dc cc pc (.istore 9) 2 pc') (hn : 9 < nL) (hc : lok l8 = true) (k : V X T I L R uc us pc' (l0 :: l1 :: l2 :: l3 :: l4 :: l5 :: l6 :: l7 :: l8 :: some (.int x) :: tl) st) : V X T I L R uc us pc (l0 :: l1 :: l2 :: l3 :: l4 :: l5 :: l6 :: l7 :: l8 :: l9 :: tl) (.int x :: st) := by
  intro H locs la h1 h2 h3 h4
  obtain ⟨hd, rfl⟩ := d
  refine lv_istore g.1 g.2.1 hd h4 (by rw [g.2.2.2.1]; exact hn) rfl (fun la' h' => k H locs la' h1 h2 h3 ?_)
  exact lvl_set1 (k := 9) (v := .int x) (ls := l0 :: l1 :: l2 :: l3 :: l4 :: l5 :: l6 :: l7 :: l8 :: l9 :: tl) h' (fun j u e q => by have e2 : j = 8 := (by omega); subst e2; cases q; exact hc)
theorem V_astore_9 {l0 l1 l2 l3 l4 l5 l6 l7 l8 l9 : Option Value} {tl : List (Option Value)} {x : Nat} (g : Gd X cc own ret nL lev nm) (d : dc cc pc (.astore 9) 2 pc') (hn : 9 < nL) (hc : lok l8 = true) (k : V X T I L R uc us pc' (l0 :: l1 :: l2 :: l3 :: l4 :: l5 :: l6 :: l7 :: l8 :: some (.ref x) :: tl) st) : V X T I L R uc us pc (l0 :: l1 :: l2 :: l3 :: l4 :: l5 :: l6 :: l7 :: l8 :: l9 :: tl) (.ref x :: st) := by
  intro H locs la h1 h2 h3 h4
  obtain ⟨hd, rfl⟩ := d
  refine lv_astore g.1 g.2.1 hd h4 (by rw [g.2.2.2.1]; exact hn) rfl (fun la' h' => k H locs la' h1 h2 h3 ?_)
  exact lvl_set1 (k := 9) (v := .ref x) (ls := l0 :: l1 :: l2 :: l3 :: l4 :: l5 :: l6 :: l7 :: l8 :: l9 :: tl) h' (fun j u e q => by have e2 : j = 8 := (by omega); subst e2; cases q; exact hc)
theorem V_astoreN_9 {l0 l1 l2 l3 l4 l5 l6 l7 l8 l9 : Option Value} {tl : List (Option Value)}  (g : Gd X cc own ret nL lev nm) (d : dc cc pc (.astore 9) 2 pc') (hn : 9 < nL) (hc : lok l8 = true) (k : V X T I L R uc us pc' (l0 :: l1 :: l2 :: l3 :: l4 :: l5 :: l6 :: l7 :: l8 :: some (.null) :: tl) st) : V X T I L R uc us pc (l0 :: l1 :: l2 :: l3 :: l4 :: l5 :: l6 :: l7 :: l8 :: l9 :: tl) (.null :: st) := by
  intro H locs la h1 h2 h3 h4
  obtain ⟨hd, rfl⟩ := d
  refine lv_astoreN g.1 g.2.1 hd h4 (by rw [g.2.2.2.1]; exact hn) rfl (fun la' h' => k H locs la' h1 h2 h3 ?_)
  exact lvl_set1 (k := 9) (v := .null) (ls := l0 :: l1 :: l2 :: l3 :: l4 :: l5 :: l6 :: l7 :: l8 :: l9 :: tl) h' (fun j u e q => by have e2 : j = 8 := (by omega); subst e2; cases q; exact hc)
theorem V_lstore_9 {l0 l1 l2 l3 l4 l5 l6 l7 l8 l9 l10 : Option Value} {tl : List (Option Value)} {x : Int64} (g : Gd X cc own ret nL lev nm) (d : dc cc pc (.lstore 9) 2 pc') (hn : 9 + 1 < nL) (hc : lok l8 = true) (k : V X T I L R uc us pc' (l0 :: l1 :: l2 :: l3 :: l4 :: l5 :: l6 :: l7 :: l8 :: some (.long x) :: none :: tl) st) : V X T I L R uc us pc (l0 :: l1 :: l2 :: l3 :: l4 :: l5 :: l6 :: l7 :: l8 :: l9 :: l10 :: tl) (.long x :: st) := by
  intro H locs la h1 h2 h3 h4
  obtain ⟨hd, rfl⟩ := d
  refine lv_lstore g.1 g.2.1 hd h4 (by rw [g.2.2.2.1]; exact hn) rfl (fun la' h' => k H locs la' h1 h2 h3 ?_)
  exact lvl_set2 (k := 9) (v := .long x) (ls := l0 :: l1 :: l2 :: l3 :: l4 :: l5 :: l6 :: l7 :: l8 :: l9 :: l10 :: tl) h' (fun j u e q => by have e2 : j = 8 := (by omega); subst e2; cases q; exact hc)
theorem V_iinc_9 {l0 l1 l2 l3 l4 l5 l6 l7 l8 : Option Value} {tl : List (Option Value)} {x v : Int32} {n : Int} (g : Gd X cc own ret nL lev nm) (d : dc cc pc (.iinc 9 n) 3 pc') (hn : 9 < nL) (hv : Int32.ofInt n = v) (hc : lok l8 = true) (k : V X T I L R uc us pc' (l0 :: l1 :: l2 :: l3 :: l4 :: l5 :: l6 :: l7 :: l8 :: some (.int (x + v)) :: tl) st) : V X T I L R uc us pc (l0 :: l1 :: l2 :: l3 :: l4 :: l5 :: l6 :: l7 :: l8 :: some (.int x) :: tl) st := by
  intro H locs la h1 h2 h3 h4
  obtain ⟨hd, rfl⟩ := d
  obtain ⟨j, hj⟩ := List.getElem?_of_mem (lvl_mem (ad := w_ad (x_w X)) (l0 :: l1 :: l2 :: l3 :: l4 :: l5 :: l6 :: l7 :: l8 :: some (.int x) :: tl) 0 9 (.int x) rfl)
  rw [Nat.zero_add] at hj
  refine lv_iinc (v := x + v) g.1 g.2.1 hd h4 hj (by rw [hv]) (by rw [g.2.2.2.1]; exact hn) rfl (fun la' h' => k H locs la' h1 h2 h3 ?_)
  exact lvl_set1 (k := 9) (v := .int (x + v)) (ls := l0 :: l1 :: l2 :: l3 :: l4 :: l5 :: l6 :: l7 :: l8 :: some (.int x) :: tl) h' (fun j u e q => by have e2 : j = 8 := (by omega); subst e2; cases q; exact hc)
theorem V_iload_10 {l0 l1 l2 l3 l4 l5 l6 l7 l8 l9 : Option Value} {tl : List (Option Value)} {x : Int32} (g : Gd X cc own ret nL lev nm) (d : dc cc pc (.iload 10) 2 pc') (k : V X T I L R uc us pc' (l0 :: l1 :: l2 :: l3 :: l4 :: l5 :: l6 :: l7 :: l8 :: l9 :: some (.int x) :: tl) (.int x :: st)) : V X T I L R uc us pc (l0 :: l1 :: l2 :: l3 :: l4 :: l5 :: l6 :: l7 :: l8 :: l9 :: some (.int x) :: tl) st := by
  intro H locs la h1 h2 h3 h4
  obtain ⟨hd, rfl⟩ := d
  exact lv_iload g.1 g.2.1 hd (lvl_get (k := 10) h4 rfl) (k H locs la h1 h2 h3 h4)
theorem V_lload_10 {l0 l1 l2 l3 l4 l5 l6 l7 l8 l9 : Option Value} {tl : List (Option Value)} {x : Int64} (g : Gd X cc own ret nL lev nm) (d : dc cc pc (.lload 10) 2 pc') (k : V X T I L R uc us pc' (l0 :: l1 :: l2 :: l3 :: l4 :: l5 :: l6 :: l7 :: l8 :: l9 :: some (.long x) :: tl) (.long x :: st)) : V X T I L R uc us pc (l0 :: l1 :: l2 :: l3 :: l4 :: l5 :: l6 :: l7 :: l8 :: l9 :: some (.long x) :: tl) st := by
  intro H locs la h1 h2 h3 h4
  obtain ⟨hd, rfl⟩ := d
  exact lv_lload g.1 g.2.1 hd (lvl_get (k := 10) h4 rfl) (k H locs la h1 h2 h3 h4)
theorem V_aload_10 {l0 l1 l2 l3 l4 l5 l6 l7 l8 l9 : Option Value} {tl : List (Option Value)} {x : Nat} (g : Gd X cc own ret nL lev nm) (d : dc cc pc (.aload 10) 2 pc') (k : V X T I L R uc us pc' (l0 :: l1 :: l2 :: l3 :: l4 :: l5 :: l6 :: l7 :: l8 :: l9 :: some (.ref x) :: tl) (.ref x :: st)) : V X T I L R uc us pc (l0 :: l1 :: l2 :: l3 :: l4 :: l5 :: l6 :: l7 :: l8 :: l9 :: some (.ref x) :: tl) st := by
  intro H locs la h1 h2 h3 h4
  obtain ⟨hd, rfl⟩ := d
  exact lv_aload g.1 g.2.1 hd (lvl_get (k := 10) h4 rfl) (k H locs la h1 h2 h3 h4)
theorem V_aloadN_10 {l0 l1 l2 l3 l4 l5 l6 l7 l8 l9 : Option Value} {tl : List (Option Value)} (g : Gd X cc own ret nL lev nm) (d : dc cc pc (.aload 10) 2 pc') (k : V X T I L R uc us pc' (l0 :: l1 :: l2 :: l3 :: l4 :: l5 :: l6 :: l7 :: l8 :: l9 :: some .null :: tl) (.null :: st)) : V X T I L R uc us pc (l0 :: l1 :: l2 :: l3 :: l4 :: l5 :: l6 :: l7 :: l8 :: l9 :: some .null :: tl) st := by
  intro H locs la h1 h2 h3 h4
  obtain ⟨hd, rfl⟩ := d
  exact lv_aloadN g.1 g.2.1 hd (lvl_get (k := 10) h4 rfl) (k H locs la h1 h2 h3 h4)
theorem V_istore_10 {l0 l1 l2 l3 l4 l5 l6 l7 l8 l9 l10 : Option Value} {tl : List (Option Value)} {x : Int32} (g : Gd X cc own ret nL lev nm) (d : dc cc pc (.istore 10) 2 pc') (hn : 10 < nL) (hc : lok l9 = true) (k : V X T I L R uc us pc' (l0 :: l1 :: l2 :: l3 :: l4 :: l5 :: l6 :: l7 :: l8 :: l9 :: some (.int x) :: tl) st) : V X T I L R uc us pc (l0 :: l1 :: l2 :: l3 :: l4 :: l5 :: l6 :: l7 :: l8 :: l9 :: l10 :: tl) (.int x :: st) := by
  intro H locs la h1 h2 h3 h4
  obtain ⟨hd, rfl⟩ := d
  refine lv_istore g.1 g.2.1 hd h4 (by rw [g.2.2.2.1]; exact hn) rfl (fun la' h' => k H locs la' h1 h2 h3 ?_)
  exact lvl_set1 (k := 10) (v := .int x) (ls := l0 :: l1 :: l2 :: l3 :: l4 :: l5 :: l6 :: l7 :: l8 :: l9 :: l10 :: tl) h' (fun j u e q => by have e2 : j = 9 := (by omega); subst e2; cases q; exact hc)
theorem V_astore_10 {l0 l1 l2 l3 l4 l5 l6 l7 l8 l9 l10 : Option Value} {tl : List (Option Value)} {x : Nat} (g : Gd X cc own ret nL lev nm) (d : dc cc pc (.astore 10) 2 pc') (hn : 10 < nL) (hc : lok l9 = true) (k : V X T I L R uc us pc' (l0 :: l1 :: l2 :: l3 :: l4 :: l5 :: l6 :: l7 :: l8 :: l9 :: some (.ref x) :: tl) st) : V X T I L R uc us pc (l0 :: l1 :: l2 :: l3 :: l4 :: l5 :: l6 :: l7 :: l8 :: l9 :: l10 :: tl) (.ref x :: st) := by
  intro H locs la h1 h2 h3 h4
  obtain ⟨hd, rfl⟩ := d
  refine lv_astore g.1 g.2.1 hd h4 (by rw [g.2.2.2.1]; exact hn) rfl (fun la' h' => k H locs la' h1 h2 h3 ?_)
  exact lvl_set1 (k := 10) (v := .ref x) (ls := l0 :: l1 :: l2 :: l3 :: l4 :: l5 :: l6 :: l7 :: l8 :: l9 :: l10 :: tl) h' (fun j u e q => by have e2 : j = 9 := (by omega); subst e2; cases q; exact hc)
theorem V_astoreN_10 {l0 l1 l2 l3 l4 l5 l6 l7 l8 l9 l10 : Option Value} {tl : List (Option Value)}  (g : Gd X cc own ret nL lev nm) (d : dc cc pc (.astore 10) 2 pc') (hn : 10 < nL) (hc : lok l9 = true) (k : V X T I L R uc us pc' (l0 :: l1 :: l2 :: l3 :: l4 :: l5 :: l6 :: l7 :: l8 :: l9 :: some (.null) :: tl) st) : V X T I L R uc us pc (l0 :: l1 :: l2 :: l3 :: l4 :: l5 :: l6 :: l7 :: l8 :: l9 :: l10 :: tl) (.null :: st) := by
  intro H locs la h1 h2 h3 h4
  obtain ⟨hd, rfl⟩ := d
  refine lv_astoreN g.1 g.2.1 hd h4 (by rw [g.2.2.2.1]; exact hn) rfl (fun la' h' => k H locs la' h1 h2 h3 ?_)
  exact lvl_set1 (k := 10) (v := .null) (ls := l0 :: l1 :: l2 :: l3 :: l4 :: l5 :: l6 :: l7 :: l8 :: l9 :: l10 :: tl) h' (fun j u e q => by have e2 : j = 9 := (by omega); subst e2; cases q; exact hc)
theorem V_lstore_10 {l0 l1 l2 l3 l4 l5 l6 l7 l8 l9 l10 l11 : Option Value} {tl : List (Option Value)} {x : Int64} (g : Gd X cc own ret nL lev nm) (d : dc cc pc (.lstore 10) 2 pc') (hn : 10 + 1 < nL) (hc : lok l9 = true) (k : V X T I L R uc us pc' (l0 :: l1 :: l2 :: l3 :: l4 :: l5 :: l6 :: l7 :: l8 :: l9 :: some (.long x) :: none :: tl) st) : V X T I L R uc us pc (l0 :: l1 :: l2 :: l3 :: l4 :: l5 :: l6 :: l7 :: l8 :: l9 :: l10 :: l11 :: tl) (.long x :: st) := by
  intro H locs la h1 h2 h3 h4
  obtain ⟨hd, rfl⟩ := d
  refine lv_lstore g.1 g.2.1 hd h4 (by rw [g.2.2.2.1]; exact hn) rfl (fun la' h' => k H locs la' h1 h2 h3 ?_)
  exact lvl_set2 (k := 10) (v := .long x) (ls := l0 :: l1 :: l2 :: l3 :: l4 :: l5 :: l6 :: l7 :: l8 :: l9 :: l10 :: l11 :: tl) h' (fun j u e q => by have e2 : j = 9 := (by omega); subst e2; cases q; exact hc)
theorem V_iinc_10 {l0 l1 l2 l3 l4 l5 l6 l7 l8 l9 : Option Value} {tl : List (Option Value)} {x v : Int32} {n : Int} (g : Gd X cc own ret nL lev nm) (d : dc cc pc (.iinc 10 n) 3 pc') (hn : 10 < nL) (hv : Int32.ofInt n = v) (hc : lok l9 = true) (k : V X T I L R uc us pc' (l0 :: l1 :: l2 :: l3 :: l4 :: l5 :: l6 :: l7 :: l8 :: l9 :: some (.int (x + v)) :: tl) st) : V X T I L R uc us pc (l0 :: l1 :: l2 :: l3 :: l4 :: l5 :: l6 :: l7 :: l8 :: l9 :: some (.int x) :: tl) st := by
  intro H locs la h1 h2 h3 h4
  obtain ⟨hd, rfl⟩ := d
  obtain ⟨j, hj⟩ := List.getElem?_of_mem (lvl_mem (ad := w_ad (x_w X)) (l0 :: l1 :: l2 :: l3 :: l4 :: l5 :: l6 :: l7 :: l8 :: l9 :: some (.int x) :: tl) 0 10 (.int x) rfl)
  rw [Nat.zero_add] at hj
  refine lv_iinc (v := x + v) g.1 g.2.1 hd h4 hj (by rw [hv]) (by rw [g.2.2.2.1]; exact hn) rfl (fun la' h' => k H locs la' h1 h2 h3 ?_)
  exact lvl_set1 (k := 10) (v := .int (x + v)) (ls := l0 :: l1 :: l2 :: l3 :: l4 :: l5 :: l6 :: l7 :: l8 :: l9 :: some (.int x) :: tl) h' (fun j u e q => by have e2 : j = 9 := (by omega); subst e2; cases q; exact hc)
theorem V_iload_11 {l0 l1 l2 l3 l4 l5 l6 l7 l8 l9 l10 : Option Value} {tl : List (Option Value)} {x : Int32} (g : Gd X cc own ret nL lev nm) (d : dc cc pc (.iload 11) 2 pc') (k : V X T I L R uc us pc' (l0 :: l1 :: l2 :: l3 :: l4 :: l5 :: l6 :: l7 :: l8 :: l9 :: l10 :: some (.int x) :: tl) (.int x :: st)) : V X T I L R uc us pc (l0 :: l1 :: l2 :: l3 :: l4 :: l5 :: l6 :: l7 :: l8 :: l9 :: l10 :: some (.int x) :: tl) st := by
  intro H locs la h1 h2 h3 h4
  obtain ⟨hd, rfl⟩ := d
  exact lv_iload g.1 g.2.1 hd (lvl_get (k := 11) h4 rfl) (k H locs la h1 h2 h3 h4)
theorem V_lload_11 {l0 l1 l2 l3 l4 l5 l6 l7 l8 l9 l10 : Option Value} {tl : List (Option Value)} {x : Int64} (g : Gd X cc own ret nL lev nm) (d : dc cc pc (.lload 11) 2 pc') (k : V X T I L R uc us pc' (l0 :: l1 :: l2 :: l3 :: l4 :: l5 :: l6 :: l7 :: l8 :: l9 :: l10 :: some (.long x) :: tl) (.long x :: st)) : V X T I L R uc us pc (l0 :: l1 :: l2 :: l3 :: l4 :: l5 :: l6 :: l7 :: l8 :: l9 :: l10 :: some (.long x) :: tl) st := by
  intro H locs la h1 h2 h3 h4
  obtain ⟨hd, rfl⟩ := d
  exact lv_lload g.1 g.2.1 hd (lvl_get (k := 11) h4 rfl) (k H locs la h1 h2 h3 h4)
theorem V_aload_11 {l0 l1 l2 l3 l4 l5 l6 l7 l8 l9 l10 : Option Value} {tl : List (Option Value)} {x : Nat} (g : Gd X cc own ret nL lev nm) (d : dc cc pc (.aload 11) 2 pc') (k : V X T I L R uc us pc' (l0 :: l1 :: l2 :: l3 :: l4 :: l5 :: l6 :: l7 :: l8 :: l9 :: l10 :: some (.ref x) :: tl) (.ref x :: st)) : V X T I L R uc us pc (l0 :: l1 :: l2 :: l3 :: l4 :: l5 :: l6 :: l7 :: l8 :: l9 :: l10 :: some (.ref x) :: tl) st := by
  intro H locs la h1 h2 h3 h4
  obtain ⟨hd, rfl⟩ := d
  exact lv_aload g.1 g.2.1 hd (lvl_get (k := 11) h4 rfl) (k H locs la h1 h2 h3 h4)
theorem V_aloadN_11 {l0 l1 l2 l3 l4 l5 l6 l7 l8 l9 l10 : Option Value} {tl : List (Option Value)} (g : Gd X cc own ret nL lev nm) (d : dc cc pc (.aload 11) 2 pc') (k : V X T I L R uc us pc' (l0 :: l1 :: l2 :: l3 :: l4 :: l5 :: l6 :: l7 :: l8 :: l9 :: l10 :: some .null :: tl) (.null :: st)) : V X T I L R uc us pc (l0 :: l1 :: l2 :: l3 :: l4 :: l5 :: l6 :: l7 :: l8 :: l9 :: l10 :: some .null :: tl) st := by
  intro H locs la h1 h2 h3 h4
  obtain ⟨hd, rfl⟩ := d
  exact lv_aloadN g.1 g.2.1 hd (lvl_get (k := 11) h4 rfl) (k H locs la h1 h2 h3 h4)
theorem V_istore_11 {l0 l1 l2 l3 l4 l5 l6 l7 l8 l9 l10 l11 : Option Value} {tl : List (Option Value)} {x : Int32} (g : Gd X cc own ret nL lev nm) (d : dc cc pc (.istore 11) 2 pc') (hn : 11 < nL) (hc : lok l10 = true) (k : V X T I L R uc us pc' (l0 :: l1 :: l2 :: l3 :: l4 :: l5 :: l6 :: l7 :: l8 :: l9 :: l10 :: some (.int x) :: tl) st) : V X T I L R uc us pc (l0 :: l1 :: l2 :: l3 :: l4 :: l5 :: l6 :: l7 :: l8 :: l9 :: l10 :: l11 :: tl) (.int x :: st) := by
  intro H locs la h1 h2 h3 h4
  obtain ⟨hd, rfl⟩ := d
  refine lv_istore g.1 g.2.1 hd h4 (by rw [g.2.2.2.1]; exact hn) rfl (fun la' h' => k H locs la' h1 h2 h3 ?_)
  exact lvl_set1 (k := 11) (v := .int x) (ls := l0 :: l1 :: l2 :: l3 :: l4 :: l5 :: l6 :: l7 :: l8 :: l9 :: l10 :: l11 :: tl) h' (fun j u e q => by have e2 : j = 10 := (by omega); subst e2; cases q; exact hc)
theorem V_astore_11 {l0 l1 l2 l3 l4 l5 l6 l7 l8 l9 l10 l11 : Option Value} {tl : List (Option Value)} {x : Nat} (g : Gd X cc own ret nL lev nm) (d : dc cc pc (.astore 11) 2 pc') (hn : 11 < nL) (hc : lok l10 = true) (k : V X T I L R uc us pc' (l0 :: l1 :: l2 :: l3 :: l4 :: l5 :: l6 :: l7 :: l8 :: l9 :: l10 :: some (.ref x) :: tl) st) : V X T I L R uc us pc (l0 :: l1 :: l2 :: l3 :: l4 :: l5 :: l6 :: l7 :: l8 :: l9 :: l10 :: l11 :: tl) (.ref x :: st) := by
  intro H locs la h1 h2 h3 h4
  obtain ⟨hd, rfl⟩ := d
  refine lv_astore g.1 g.2.1 hd h4 (by rw [g.2.2.2.1]; exact hn) rfl (fun la' h' => k H locs la' h1 h2 h3 ?_)
  exact lvl_set1 (k := 11) (v := .ref x) (ls := l0 :: l1 :: l2 :: l3 :: l4 :: l5 :: l6 :: l7 :: l8 :: l9 :: l10 :: l11 :: tl) h' (fun j u e q => by have e2 : j = 10 := (by omega); subst e2; cases q; exact hc)
theorem V_astoreN_11 {l0 l1 l2 l3 l4 l5 l6 l7 l8 l9 l10 l11 : Option Value} {tl : List (Option Value)}  (g : Gd X cc own ret nL lev nm) (d : dc cc pc (.astore 11) 2 pc') (hn : 11 < nL) (hc : lok l10 = true) (k : V X T I L R uc us pc' (l0 :: l1 :: l2 :: l3 :: l4 :: l5 :: l6 :: l7 :: l8 :: l9 :: l10 :: some (.null) :: tl) st) : V X T I L R uc us pc (l0 :: l1 :: l2 :: l3 :: l4 :: l5 :: l6 :: l7 :: l8 :: l9 :: l10 :: l11 :: tl) (.null :: st) := by
  intro H locs la h1 h2 h3 h4
  obtain ⟨hd, rfl⟩ := d
  refine lv_astoreN g.1 g.2.1 hd h4 (by rw [g.2.2.2.1]; exact hn) rfl (fun la' h' => k H locs la' h1 h2 h3 ?_)
  exact lvl_set1 (k := 11) (v := .null) (ls := l0 :: l1 :: l2 :: l3 :: l4 :: l5 :: l6 :: l7 :: l8 :: l9 :: l10 :: l11 :: tl) h' (fun j u e q => by have e2 : j = 10 := (by omega); subst e2; cases q; exact hc)
theorem V_lstore_11 {l0 l1 l2 l3 l4 l5 l6 l7 l8 l9 l10 l11 l12 : Option Value} {tl : List (Option Value)} {x : Int64} (g : Gd X cc own ret nL lev nm) (d : dc cc pc (.lstore 11) 2 pc') (hn : 11 + 1 < nL) (hc : lok l10 = true) (k : V X T I L R uc us pc' (l0 :: l1 :: l2 :: l3 :: l4 :: l5 :: l6 :: l7 :: l8 :: l9 :: l10 :: some (.long x) :: none :: tl) st) : V X T I L R uc us pc (l0 :: l1 :: l2 :: l3 :: l4 :: l5 :: l6 :: l7 :: l8 :: l9 :: l10 :: l11 :: l12 :: tl) (.long x :: st) := by
  intro H locs la h1 h2 h3 h4
  obtain ⟨hd, rfl⟩ := d
  refine lv_lstore g.1 g.2.1 hd h4 (by rw [g.2.2.2.1]; exact hn) rfl (fun la' h' => k H locs la' h1 h2 h3 ?_)
  exact lvl_set2 (k := 11) (v := .long x) (ls := l0 :: l1 :: l2 :: l3 :: l4 :: l5 :: l6 :: l7 :: l8 :: l9 :: l10 :: l11 :: l12 :: tl) h' (fun j u e q => by have e2 : j = 10 := (by omega); subst e2; cases q; exact hc)
theorem V_iinc_11 {l0 l1 l2 l3 l4 l5 l6 l7 l8 l9 l10 : Option Value} {tl : List (Option Value)} {x v : Int32} {n : Int} (g : Gd X cc own ret nL lev nm) (d : dc cc pc (.iinc 11 n) 3 pc') (hn : 11 < nL) (hv : Int32.ofInt n = v) (hc : lok l10 = true) (k : V X T I L R uc us pc' (l0 :: l1 :: l2 :: l3 :: l4 :: l5 :: l6 :: l7 :: l8 :: l9 :: l10 :: some (.int (x + v)) :: tl) st) : V X T I L R uc us pc (l0 :: l1 :: l2 :: l3 :: l4 :: l5 :: l6 :: l7 :: l8 :: l9 :: l10 :: some (.int x) :: tl) st := by
  intro H locs la h1 h2 h3 h4
  obtain ⟨hd, rfl⟩ := d
  obtain ⟨j, hj⟩ := List.getElem?_of_mem (lvl_mem (ad := w_ad (x_w X)) (l0 :: l1 :: l2 :: l3 :: l4 :: l5 :: l6 :: l7 :: l8 :: l9 :: l10 :: some (.int x) :: tl) 0 11 (.int x) rfl)
  rw [Nat.zero_add] at hj
  refine lv_iinc (v := x + v) g.1 g.2.1 hd h4 hj (by rw [hv]) (by rw [g.2.2.2.1]; exact hn) rfl (fun la' h' => k H locs la' h1 h2 h3 ?_)
  exact lvl_set1 (k := 11) (v := .int (x + v)) (ls := l0 :: l1 :: l2 :: l3 :: l4 :: l5 :: l6 :: l7 :: l8 :: l9 :: l10 :: some (.int x) :: tl) h' (fun j u e q => by have e2 : j = 10 := (by omega); subst e2; cases q; exact hc)
theorem V_iload_12 {l0 l1 l2 l3 l4 l5 l6 l7 l8 l9 l10 l11 : Option Value} {tl : List (Option Value)} {x : Int32} (g : Gd X cc own ret nL lev nm) (d : dc cc pc (.iload 12) 2 pc') (k : V X T I L R uc us pc' (l0 :: l1 :: l2 :: l3 :: l4 :: l5 :: l6 :: l7 :: l8 :: l9 :: l10 :: l11 :: some (.int x) :: tl) (.int x :: st)) : V X T I L R uc us pc (l0 :: l1 :: l2 :: l3 :: l4 :: l5 :: l6 :: l7 :: l8 :: l9 :: l10 :: l11 :: some (.int x) :: tl) st := by
  intro H locs la h1 h2 h3 h4
  obtain ⟨hd, rfl⟩ := d
  exact lv_iload g.1 g.2.1 hd (lvl_get (k := 12) h4 rfl) (k H locs la h1 h2 h3 h4)
theorem V_lload_12 {l0 l1 l2 l3 l4 l5 l6 l7 l8 l9 l10 l11 : Option Value} {tl : List (Option Value)} {x : Int64} (g : Gd X cc own ret nL lev nm) (d : dc cc pc (.lload 12) 2 pc') (k : V X T I L R uc us pc' (l0 :: l1 :: l2 :: l3 :: l4 :: l5 :: l6 :: l7 :: l8 :: l9 :: l10 :: l11 :: some (.long x) :: tl) (.long x :: st)) : V X T I L R uc us pc (l0 :: l1 :: l2 :: l3 :: l4 :: l5 :: l6 :: l7 :: l8 :: l9 :: l10 :: l11 :: some (.long x) :: tl) st := by
  intro H locs la h1 h2 h3 h4
  obtain ⟨hd, rfl⟩ := d
  exact lv_lload g.1 g.2.1 hd (lvl_get (k := 12) h4 rfl) (k H locs la h1 h2 h3 h4)
theorem V_aload_12 {l0 l1 l2 l3 l4 l5 l6 l7 l8 l9 l10 l11 : Option Value} {tl : List (Option Value)} {x : Nat} (g : Gd X cc own ret nL lev nm) (d : dc cc pc (.aload 12) 2 pc') (k : V X T I L R uc us pc' (l0 :: l1 :: l2 :: l3 :: l4 :: l5 :: l6 :: l7 :: l8 :: l9 :: l10 :: l11 :: some (.ref x) :: tl) (.ref x :: st)) : V X T I L R uc us pc (l0 :: l1 :: l2 :: l3 :: l4 :: l5 :: l6 :: l7 :: l8 :: l9 :: l10 :: l11 :: some (.ref x) :: tl) st := by
  intro H locs la h1 h2 h3 h4
  obtain ⟨hd, rfl⟩ := d
  exact lv_aload g.1 g.2.1 hd (lvl_get (k := 12) h4 rfl) (k H locs la h1 h2 h3 h4)
theorem V_aloadN_12 {l0 l1 l2 l3 l4 l5 l6 l7 l8 l9 l10 l11 : Option Value} {tl : List (Option Value)} (g : Gd X cc own ret nL lev nm) (d : dc cc pc (.aload 12) 2 pc') (k : V X T I L R uc us pc' (l0 :: l1 :: l2 :: l3 :: l4 :: l5 :: l6 :: l7 :: l8 :: l9 :: l10 :: l11 :: some .null :: tl) (.null :: st)) : V X T I L R uc us pc (l0 :: l1 :: l2 :: l3 :: l4 :: l5 :: l6 :: l7 :: l8 :: l9 :: l10 :: l11 :: some .null :: tl) st := by
  intro H locs la h1 h2 h3 h4
  obtain ⟨hd, rfl⟩ := d
  exact lv_aloadN g.1 g.2.1 hd (lvl_get (k := 12) h4 rfl) (k H locs la h1 h2 h3 h4)
theorem V_istore_12 {l0 l1 l2 l3 l4 l5 l6 l7 l8 l9 l10 l11 l12 : Option Value} {tl : List (Option Value)} {x : Int32} (g : Gd X cc own ret nL lev nm) (d : dc cc pc (.istore 12) 2 pc') (hn : 12 < nL) (hc : lok l11 = true) (k : V X T I L R uc us pc' (l0 :: l1 :: l2 :: l3 :: l4 :: l5 :: l6 :: l7 :: l8 :: l9 :: l10 :: l11 :: some (.int x) :: tl) st) : V X T I L R uc us pc (l0 :: l1 :: l2 :: l3 :: l4 :: l5 :: l6 :: l7 :: l8 :: l9 :: l10 :: l11 :: l12 :: tl) (.int x :: st) := by
  intro H locs la h1 h2 h3 h4
  obtain ⟨hd, rfl⟩ := d
  refine lv_istore g.1 g.2.1 hd h4 (by rw [g.2.2.2.1]; exact hn) rfl (fun la' h' => k H locs la' h1 h2 h3 ?_)
  exact lvl_set1 (k := 12) (v := .int x) (ls := l0 :: l1 :: l2 :: l3 :: l4 :: l5 :: l6 :: l7 :: l8 :: l9 :: l10 :: l11 :: l12 :: tl) h' (fun j u e q => by have e2 : j = 11 := (by omega); subst e2; cases q; exact hc)
theorem V_astore_12 {l0 l1 l2 l3 l4 l5 l6 l7 l8 l9 l10 l11 l12 : Option Value} {tl : List (Option Value)} {x : Nat} (g : Gd X cc own ret nL lev nm) (d : dc cc pc (.astore 12) 2 pc') (hn : 12 < nL) (hc : lok l11 = true) (k : V X T I L R uc us pc' (l0 :: l1 :: l2 :: l3 :: l4 :: l5 :: l6 :: l7 :: l8 :: l9 :: l10 :: l11 :: some (.ref x) :: tl) st) : V X T I L R uc us pc (l0 :: l1 :: l2 :: l3 :: l4 :: l5 :: l6 :: l7 :: l8 :: l9 :: l10 :: l11 :: l12 :: tl) (.ref x :: st) := by
  intro H locs la h1 h2 h3 h4
  obtain ⟨hd, rfl⟩ := d
  refine lv_astore g.1 g.2.1 hd h4 (by rw [g.2.2.2.1]; exact hn) rfl (fun la' h' => k H locs la' h1 h2 h3 ?_)
  exact lvl_set1 (k := 12) (v := .ref x) (ls := l0 :: l1 :: l2 :: l3 :: l4 :: l5 :: l6 :: l7 :: l8 :: l9 :: l10 :: l11 :: l12 :: tl) h' (fun j u e q => by have e2 : j = 11 := (by omega); subst e2; cases q; exact hc)
theorem V_astoreN_12 {l0 l1 l2 l3 l4 l5 l6 l7 l8 l9 l10 l11 l12 : Option Value} {tl : List (Option Value)}  (g : Gd X cc own ret nL lev nm) (d : dc cc pc (.astore 12) 2 pc') (hn : 12 < nL) (hc : lok l11 = true) (k : V X T I L R uc us pc' (l0 :: l1 :: l2 :: l3 :: l4 :: l5 :: l6 :: l7 :: l8 :: l9 :: l10 :: l11 :: some (.null) :: tl) st) : V X T I L R uc us pc (l0 :: l1 :: l2 :: l3 :: l4 :: l5 :: l6 :: l7 :: l8 :: l9 :: l10 :: l11 :: l12 :: tl) (.null :: st) := by
  intro H locs la h1 h2 h3 h4
  obtain ⟨hd, rfl⟩ := d
  refine lv_astoreN g.1 g.2.1 hd h4 (by rw [g.2.2.2.1]; exact hn) rfl (fun la' h' => k H locs la' h1 h2 h3 ?_)
  exact lvl_set1 (k := 12) (v := .null) (ls := l0 :: l1 :: l2 :: l3 :: l4 :: l5 :: l6 :: l7 :: l8 :: l9 :: l10 :: l11 :: l12 :: tl) h' (fun j u e q => by have e2 : j = 11 := (by omega); subst e2; cases q; exact hc)
theorem V_lstore_12 {l0 l1 l2 l3 l4 l5 l6 l7 l8 l9 l10 l11 l12 l13 : Option Value} {tl : List (Option Value)} {x : Int64} (g : Gd X cc own ret nL lev nm) (d : dc cc pc (.lstore 12) 2 pc') (hn : 12 + 1 < nL) (hc : lok l11 = true) (k : V X T I L R uc us pc' (l0 :: l1 :: l2 :: l3 :: l4 :: l5 :: l6 :: l7 :: l8 :: l9 :: l10 :: l11 :: some (.long x) :: none :: tl) st) : V X T I L R uc us pc (l0 :: l1 :: l2 :: l3 :: l4 :: l5 :: l6 :: l7 :: l8 :: l9 :: l10 :: l11 :: l12 :: l13 :: tl) (.long x :: st) := by
  intro H locs la h1 h2 h3 h4
  obtain ⟨hd, rfl⟩ := d
  refine lv_lstore g.1 g.2.1 hd h4 (by rw [g.2.2.2.1]; exact hn) rfl (fun la' h' => k H locs la' h1 h2 h3 ?_)
  exact lvl_set2 (k := 12) (v := .long x) (ls := l0 :: l1 :: l2 :: l3 :: l4 :: l5 :: l6 :: l7 :: l8 :: l9 :: l10 :: l11 :: l12 :: l13 :: tl) h' (fun j u e q => by have e2 : j = 11 := (by omega); subst e2; cases q; exact hc)
theorem V_iinc_12 {l0 l1 l2 l3 l4 l5 l6 l7 l8 l9 l10 l11 : Option Value} {tl : List (Option Value)} {x v : Int32} {n : Int} (g : Gd X cc own ret nL lev nm) (d : dc cc pc (.iinc 12 n) 3 pc') (hn : 12 < nL) (hv : Int32.ofInt n = v) (hc : lok l11 = true) (k : V X T I L R uc us pc' (l0 :: l1 :: l2 :: l3 :: l4 :: l5 :: l6 :: l7 :: l8 :: l9 :: l10 :: l11 :: some (.int (x + v)) :: tl) st) : V X T I L R uc us pc (l0 :: l1 :: l2 :: l3 :: l4 :: l5 :: l6 :: l7 :: l8 :: l9 :: l10 :: l11 :: some (.int x) :: tl) st := by
  intro H locs la h1 h2 h3 h4
  obtain ⟨hd, rfl⟩ := d
  obtain ⟨j, hj⟩ := List.getElem?_of_mem (lvl_mem (ad := w_ad (x_w X)) (l0 :: l1 :: l2 :: l3 :: l4 :: l5 :: l6 :: l7 :: l8 :: l9 :: l10 :: l11 :: some (.int x) :: tl) 0 12 (.int x) rfl)
  rw [Nat.zero_add] at hj
  refine lv_iinc (v := x + v) g.1 g.2.1 hd h4 hj (by rw [hv]) (by rw [g.2.2.2.1]; exact hn) rfl (fun la' h' => k H locs la' h1 h2 h3 ?_)
  exact lvl_set1 (k := 12) (v := .int (x + v)) (ls := l0 :: l1 :: l2 :: l3 :: l4 :: l5 :: l6 :: l7 :: l8 :: l9 :: l10 :: l11 :: some (.int x) :: tl) h' (fun j u e q => by have e2 : j = 11 := (by omega); subst e2; cases q; exact hc)
theorem V_iload_13 {l0 l1 l2 l3 l4 l5 l6 l7 l8 l9 l10 l11 l12 : Option Value} {tl : List (Option Value)} {x : Int32} (g : Gd X cc own ret nL lev nm) (d : dc cc pc (.iload 13) 2 pc') (k : V X T I L R uc us pc' (l0 :: l1 :: l2 :: l3 :: l4 :: l5 :: l6 :: l7 :: l8 :: l9 :: l10 :: l11 :: l12 :: some (.int x) :: tl) (.int x :: st)) : V X T I L R uc us pc (l0 :: l1 :: l2 :: l3 :: l4 :: l5 :: l6 :: l7 :: l8 :: l9 :: l10 :: l11 :: l12 :: some (.int x) :: tl) st := by
  intro H locs la h1 h2 h3 h4
  obtain ⟨hd, rfl⟩ := d
  exact lv_iload g.1 g.2.1 hd (lvl_get (k := 13) h4 rfl) (k H locs la h1 h2 h3 h4)
theorem V_lload_13 {l0 l1 l2 l3 l4 l5 l6 l7 l8 l9 l10 l11 l12 : Option Value} {tl : List (Option Value)} {x : Int64} (g : Gd X cc own ret nL lev nm) (d : dc cc pc (.lload 13) 2 pc') (k : V X T I L R uc us pc' (l0 :: l1 :: l2 :: l3 :: l4 :: l5 :: l6 :: l7 :: l8 :: l9 :: l10 :: l11 :: l12 :: some (.long x) :: tl) (.long x :: st)) : V X T I L R uc us pc (l0 :: l1 :: l2 :: l3 :: l4 :: l5 :: l6 :: l7 :: l8 :: l9 :: l10 :: l11 :: l12 :: some (.long x) :: tl) st := by
  intro H locs la h1 h2 h3 h4
  obtain ⟨hd, rfl⟩ := d
  exact lv_lload g.1 g.2.1 hd (lvl_get (k := 13) h4 rfl) (k H locs la h1 h2 h3 h4)
theorem V_aload_13 {l0 l1 l2 l3 l4 l5 l6 l7 l8 l9 l10 l11 l12 : Option Value} {tl : List (Option Value)} {x : Nat} (g : Gd X cc own ret nL lev nm) (d : dc cc pc (.aload 13) 2 pc') (k : V X T I L R uc us pc' (l0 :: l1 :: l2 :: l3 :: l4 :: l5 :: l6 :: l7 :: l8 :: l9 :: l10 :: l11 :: l12 :: some (.ref x) :: tl) (.ref x :: st)) : V X T I L R uc us pc (l0 :: l1 :: l2 :: l3 :: l4 :: l5 :: l6 :: l7 :: l8 :: l9 :: l10 :: l11 :: l12 :: some (.ref x) :: tl) st := by
  intro H locs la h1 h2 h3 h4
  obtain ⟨hd, rfl⟩ := d
  exact lv_aload g.1 g.2.1 hd (lvl_get (k := 13) h4 rfl) (k H locs la h1 h2 h3 h4)
theorem V_aloadN_13 {l0 l1 l2 l3 l4 l5 l6 l7 l8 l9 l10 l11 l12 : Option Value} {tl : List (Option Value)} (g : Gd X cc own ret nL lev nm) (d : dc cc pc (.aload 13) 2 pc') (k : V X T I L R uc us pc' (l0 :: l1 :: l2 :: l3 :: l4 :: l5 :: l6 :: l7 :: l8 :: l9 :: l10 :: l11 :: l12 :: some .null :: tl) (.null :: st)) : V X T I L R uc us pc (l0 :: l1 :: l2 :: l3 :: l4 :: l5 :: l6 :: l7 :: l8 :: l9 :: l10 :: l11 :: l12 :: some .null :: tl) st := by
  intro H locs la h1 h2 h3 h4
  obtain ⟨hd, rfl⟩ := d
  exact lv_aloadN g.1 g.2.1 hd (lvl_get (k := 13) h4 rfl) (k H locs la h1 h2 h3 h4)
theorem V_istore_13 {l0 l1 l2 l3 l4 l5 l6 l7 l8 l9 l10 l11 l12 l13 : Option Value} {tl : List (Option Value)} {x : Int32} (g : Gd X cc own ret nL lev nm) (d : dc cc pc (.istore 13) 2 pc') (hn : 13 < nL) (hc : lok l12 = true) (k : V X T I L R uc us pc' (l0 :: l1 :: l2 :: l3 :: l4 :: l5 :: l6 :: l7 :: l8 :: l9 :: l10 :: l11 :: l12 :: some (.int x) :: tl) st) : V X T I L R uc us pc (l0 :: l1 :: l2 :: l3 :: l4 :: l5 :: l6 :: l7 :: l8 :: l9 :: l10 :: l11 :: l12 :: l13 :: tl) (.int x :: st) := by
  intro H locs la h1 h2 h3 h4
  obtain ⟨hd, rfl⟩ := d
  refine lv_istore g.1 g.2.1 hd h4 (by rw [g.2.2.2.1]; exact hn) rfl (fun la' h' => k H locs la' h1 h2 h3 ?_)
  exact lvl_set1 (k := 13) (v := .int x) (ls := l0 :: l1 :: l2 :: l3 :: l4 :: l5 :: l6 :: l7 :: l8 :: l9 :: l10 :: l11 :: l12 :: l13 :: tl) h' (fun j u e q => by have e2 : j = 12 := (by omega); subst e2; cases q; exact hc)
theorem V_astore_13 {l0 l1 l2 l3 l4 l5 l6 l7 l8 l9 l10 l11 l12 l13 : Option Value} {tl : List (Option Value)} {x : Nat} (g : Gd X cc own ret nL lev nm) (d : dc cc pc (.astore 13) 2 pc') (hn : 13 < nL) (hc : lok l12 = true) (k : V X T I L R uc us pc' (l0 :: l1 :: l2 :: l3 :: l4 :: l5 :: l6 :: l7 :: l8 :: l9 :: l10 :: l11 :: l12 :: some (.ref x) :: tl) st) : V X T I L R uc us pc (l0 :: l1 :: l2 :: l3 :: l4 :: l5 :: l6 :: l7 :: l8 :: l9 :: l10 :: l11 :: l12 :: l13 :: tl) (.ref x :: st) := by
  intro H locs la h1 h2 h3 h4
  obtain ⟨hd, rfl⟩ := d
  refine lv_astore g.1 g.2.1 hd h4 (by rw [g.2.2.2.1]; exact hn) rfl (fun la' h' => k H locs la' h1 h2 h3 ?_)
  exact lvl_set1 (k := 13) (v := .ref x) (ls := l0 :: l1 :: l2 :: l3 :: l4 :: l5 :: l6 :: l7 :: l8 :: l9 :: l10 :: l11 :: l12 :: l13 :: tl) h' (fun j u e q => by have e2 : j = 12 := (by omega); subst e2; cases q; exact hc)
theorem V_astoreN_13 {l0 l1 l2 l3 l4 l5 l6 l7 l8 l9 l10 l11 l12 l13 : Option Value} {tl : List (Option Value)}  (g : Gd X cc own ret nL lev nm) (d : dc cc pc (.astore 13) 2 pc') (hn : 13 < nL) (hc : lok l12 = true) (k : V X T I L R uc us pc' (l0 :: l1 :: l2 :: l3 :: l4 :: l5 :: l6 :: l7 :: l8 :: l9 :: l10 :: l11 :: l12 :: some (.null) :: tl) st) : V X T I L R uc us pc (l0 :: l1 :: l2 :: l3 :: l4 :: l5 :: l6 :: l7 :: l8 :: l9 :: l10 :: l11 :: l12 :: l13 :: tl) (.null :: st) := by
  intro H locs la h1 h2 h3 h4
  obtain ⟨hd, rfl⟩ := d
  refine lv_astoreN g.1 g.2.1 hd h4 (by rw [g.2.2.2.1]; exact hn) rfl (fun la' h' => k H locs la' h1 h2 h3 ?_)
  exact lvl_set1 (k := 13) (v := .null) (ls := l0 :: l1 :: l2 :: l3 :: l4 :: l5 :: l6 :: l7 :: l8 :: l9 :: l10 :: l11 :: l12 :: l13 :: tl) h' (fun j u e q => by have e2 : j = 12 := (by omega); subst e2; cases q; exact hc)
theorem V_lstore_13 {l0 l1 l2 l3 l4 l5 l6 l7 l8 l9 l10 l11 l12 l13 l14 : Option Value} {tl : List (Option Value)} {x : Int64} (g : Gd X cc own ret nL lev nm) (d : dc cc pc (.lstore 13) 2 pc') (hn : 13 + 1 < nL) (hc : lok l12 = true) (k : V X T I L R uc us pc' (l0 :: l1 :: l2 :: l3 :: l4 :: l5 :: l6 :: l7 :: l8 :: l9 :: l10 :: l11 :: l12 :: some (.long x) :: none :: tl) st) : V X T I L R uc us pc (l0 :: l1 :: l2 :: l3 :: l4 :: l5 :: l6 :: l7 :: l8 :: l9 :: l10 :: l11 :: l12 :: l13 :: l14 :: tl) (.long x :: st) := by
  intro H locs la h1 h2 h3 h4
  obtain ⟨hd, rfl⟩ := d
  refine lv_lstore g.1 g.2.1 hd h4 (by rw [g.2.2.2.1]; exact hn) rfl (fun la' h' => k H locs la' h1 h2 h3 ?_)
  exact lvl_set2 (k := 13) (v := .long x) (ls := l0 :: l1 :: l2 :: l3 :: l4 :: l5 :: l6 :: l7 :: l8 :: l9 :: l10 :: l11 :: l12 :: l13 :: l14 :: tl) h' (fun j u e q => by have e2 : j = 12 := (by omega); subst e2; cases q; exact hc)
theorem V_iinc_13 {l0 l1 l2 l3 l4 l5 l6 l7 l8 l9 l10 l11 l12 : Option Value} {tl : List (Option Value)} {x v : Int32} {n : Int} (g : Gd X cc own ret nL lev nm) (d : dc cc pc (.iinc 13 n) 3 pc') (hn : 13 < nL) (hv : Int32.ofInt n = v) (hc : lok l12 = true) (k : V X T I L R uc us pc' (l0 :: l1 :: l2 :: l3 :: l4 :: l5 :: l6 :: l7 :: l8 :: l9 :: l10 :: l11 :: l12 :: some (.int (x + v)) :: tl) st) : V X T I L R uc us pc (l0 :: l1 :: l2 :: l3 :: l4 :: l5 :: l6 :: l7 :: l8 :: l9 :: l10 :: l11 :: l12 :: some (.int x) :: tl) st := by
  intro H locs la h1 h2 h3 h4
  obtain ⟨hd, rfl⟩ := d
  obtain ⟨j, hj⟩ := List.getElem?_of_mem (lvl_mem (ad := w_ad (x_w X)) (l0 :: l1 :: l2 :: l3 :: l4 :: l5 :: l6 :: l7 :: l8 :: l9 :: l10 :: l11 :: l12 :: some (.int x) :: tl) 0 13 (.int x) rfl)
  rw [Nat.zero_add] at hj
  refine lv_iinc (v := x + v) g.1 g.2.1 hd h4 hj (by rw [hv]) (by rw [g.2.2.2.1]; exact hn) rfl (fun la' h' => k H locs la' h1 h2 h3 ?_)
  exact lvl_set1 (k := 13) (v := .int (x + v)) (ls := l0 :: l1 :: l2 :: l3 :: l4 :: l5 :: l6 :: l7 :: l8 :: l9 :: l10 :: l11 :: l12 :: some (.int x) :: tl) h' (fun j u e q => by have e2 : j = 12 := (by omega); subst e2; cases q; exact hc)
theorem V_if_eq {x : Int32} {off : Int} (g : Gd X cc own ret nL lev nm) (d : dj cc pc (.ifCond .eq off) off tgt pc') (kt : x = 0 → V X T I L R uc us tgt ls st) (kf : ¬ x = 0 → V X T I L R uc us pc' ls st) : V X T I L R uc us pc ls (.int x :: st) := by
  intro H locs la h1 h2 h3 h4
  obtain ⟨hd, ht, rfl⟩ := d
  exact lv_if_eq g.1 g.2.1 hd ht (fun c => kt c H locs la h1 h2 h3 h4) (fun c => kf c H locs la h1 h2 h3 h4)
theorem V_if_ne {x : Int32} {off : Int} (g : Gd X cc own ret nL lev nm) (d : dj cc pc (.ifCond .ne off) off tgt pc') (kt : ¬ x = 0 → V X T I L R uc us tgt ls st) (kf : x = 0 → V X T I L R uc us pc' ls st) : V X T I L R uc us pc ls (.int x :: st) := by
  intro H locs la h1 h2 h3 h4
  obtain ⟨hd, ht, rfl⟩ := d
  exact lv_if_ne g.1 g.2.1 hd ht (fun c => kt c H locs la h1 h2 h3 h4) (fun c => kf c H locs la h1 h2 h3 h4)
theorem V_if_lt {x : Int32} {off : Int} (g : Gd X cc own ret nL lev nm) (d : dj cc pc (.ifCond .lt off) off tgt pc') (kt : x < 0 → V X T I L R uc us tgt ls st) (kf : ¬ x < 0 → V X T I L R uc us pc' ls st) : V X T I L R uc us pc ls (.int x :: st) := by
  intro H locs la h1 h2 h3 h4
  obtain ⟨hd, ht, rfl⟩ := d
  exact lv_if_lt g.1 g.2.1 hd ht (fun c => kt c H locs la h1 h2 h3 h4) (fun c => kf c H locs la h1 h2 h3 h4)
theorem V_if_ge {x : Int32} {off : Int} (g : Gd X cc own ret nL lev nm) (d : dj cc pc (.ifCond .ge off) off tgt pc') (kt : 0 ≤ x → V X T I L R uc us tgt ls st) (kf : ¬ 0 ≤ x → V X T I L R uc us pc' ls st) : V X T I L R uc us pc ls (.int x :: st) := by
  intro H locs la h1 h2 h3 h4
  obtain ⟨hd, ht, rfl⟩ := d
  exact lv_if_ge g.1 g.2.1 hd ht (fun c => kt c H locs la h1 h2 h3 h4) (fun c => kf c H locs la h1 h2 h3 h4)
theorem V_if_gt {x : Int32} {off : Int} (g : Gd X cc own ret nL lev nm) (d : dj cc pc (.ifCond .gt off) off tgt pc') (kt : 0 < x → V X T I L R uc us tgt ls st) (kf : ¬ 0 < x → V X T I L R uc us pc' ls st) : V X T I L R uc us pc ls (.int x :: st) := by
  intro H locs la h1 h2 h3 h4
  obtain ⟨hd, ht, rfl⟩ := d
  exact lv_if_gt g.1 g.2.1 hd ht (fun c => kt c H locs la h1 h2 h3 h4) (fun c => kf c H locs la h1 h2 h3 h4)
theorem V_if_le {x : Int32} {off : Int} (g : Gd X cc own ret nL lev nm) (d : dj cc pc (.ifCond .le off) off tgt pc') (kt : x ≤ 0 → V X T I L R uc us tgt ls st) (kf : ¬ x ≤ 0 → V X T I L R uc us pc' ls st) : V X T I L R uc us pc ls (.int x :: st) := by
  intro H locs la h1 h2 h3 h4
  obtain ⟨hd, ht, rfl⟩ := d
  exact lv_if_le g.1 g.2.1 hd ht (fun c => kt c H locs la h1 h2 h3 h4) (fun c => kf c H locs la h1 h2 h3 h4)
theorem V_icmp_eq {x y : Int32} {off : Int} (g : Gd X cc own ret nL lev nm) (d : dj cc pc (.if_icmp .eq off) off tgt pc') (kt : x = y → V X T I L R uc us tgt ls st) (kf : ¬ x = y → V X T I L R uc us pc' ls st) : V X T I L R uc us pc ls (.int y :: .int x :: st) := by
  intro H locs la h1 h2 h3 h4
  obtain ⟨hd, ht, rfl⟩ := d
  exact lv_icmp_eq g.1 g.2.1 hd ht (fun c => kt c H locs la h1 h2 h3 h4) (fun c => kf c H locs la h1 h2 h3 h4)
theorem V_icmp_ne {x y : Int32} {off : Int} (g : Gd X cc own ret nL lev nm) (d : dj cc pc (.if_icmp .ne off) off tgt pc') (kt : ¬ x = y → V X T I L R uc us tgt ls st) (kf : x = y → V X T I L R uc us pc' ls st) : V X T I L R uc us pc ls (.int y :: .int x :: st) := by
  intro H locs la h1 h2 h3 h4
  obtain ⟨hd, ht, rfl⟩ := d
  exact lv_icmp_ne g.1 g.2.1 hd ht (fun c => kt c H locs la h1 h2 h3 h4) (fun c => kf c H locs la h1 h2 h3 h4)
theorem V_icmp_lt {x y : Int32} {off : Int} (g : Gd X cc own ret nL lev nm) (d : dj cc pc (.if_icmp .lt off) off tgt pc') (kt : x < y → V X T I L R uc us tgt ls st) (kf : ¬ x < y → V X T I L R uc us pc' ls st) : V X T I L R uc us pc ls (.int y :: .int x :: st) := by
  intro H locs la h1 h2 h3 h4
  obtain ⟨hd, ht, rfl⟩ := d
  exact lv_icmp_lt g.1 g.2.1 hd ht (fun c => kt c H locs la h1 h2 h3 h4) (fun c => kf c H locs la h1 h2 h3 h4)
theorem V_icmp_ge {x y : Int32} {off : Int} (g : Gd X cc own ret nL lev nm) (d : dj cc pc (.if_icmp .ge off) off tgt pc') (kt : y ≤ x → V X T I L R uc us tgt ls st) (kf : ¬ y ≤ x → V X T I L R uc us pc' ls st) : V X T I L R uc us pc ls (.int y :: .int x :: st) := by
  intro H locs la h1 h2 h3 h4
  obtain ⟨hd, ht, rfl⟩ := d
  exact lv_icmp_ge g.1 g.2.1 hd ht (fun c => kt c H locs la h1 h2 h3 h4) (fun c => kf c H locs la h1 h2 h3 h4)
theorem V_icmp_gt {x y : Int32} {off : Int} (g : Gd X cc own ret nL lev nm) (d : dj cc pc (.if_icmp .gt off) off tgt pc') (kt : y < x → V X T I L R uc us tgt ls st) (kf : ¬ y < x → V X T I L R uc us pc' ls st) : V X T I L R uc us pc ls (.int y :: .int x :: st) := by
  intro H locs la h1 h2 h3 h4
  obtain ⟨hd, ht, rfl⟩ := d
  exact lv_icmp_gt g.1 g.2.1 hd ht (fun c => kt c H locs la h1 h2 h3 h4) (fun c => kf c H locs la h1 h2 h3 h4)
theorem V_icmp_le {x y : Int32} {off : Int} (g : Gd X cc own ret nL lev nm) (d : dj cc pc (.if_icmp .le off) off tgt pc') (kt : x ≤ y → V X T I L R uc us tgt ls st) (kf : ¬ x ≤ y → V X T I L R uc us pc' ls st) : V X T I L R uc us pc ls (.int y :: .int x :: st) := by
  intro H locs la h1 h2 h3 h4
  obtain ⟨hd, ht, rfl⟩ := d
  exact lv_icmp_le g.1 g.2.1 hd ht (fun c => kt c H locs la h1 h2 h3 h4) (fun c => kf c H locs la h1 h2 h3 h4)
theorem V_if_eqB {c : Prop} [Decidable c] {off : Int} (g : Gd X cc own ret nL lev nm) (d : dj cc pc (.ifCond .eq off) off tgt pc') (kt : ¬ c → V X T I L R uc us tgt ls st) (kf : c → V X T I L R uc us pc' ls st) : V X T I L R uc us pc ls (.int (bI c) :: st) :=
  V_if_eq g d (fun h => kt (bI_0.mp h)) (fun h => kf (bI_n h))
theorem V_if_neB {c : Prop} [Decidable c] {off : Int} (g : Gd X cc own ret nL lev nm) (d : dj cc pc (.ifCond .ne off) off tgt pc') (kt : c → V X T I L R uc us tgt ls st) (kf : ¬ c → V X T I L R uc us pc' ls st) : V X T I L R uc us pc ls (.int (bI c) :: st) :=
  V_if_ne g d (fun h => kt (bI_n h)) (fun h => kf (bI_0.mp h))
theorem V_goto {off : Int} (g : Gd X cc own ret nL lev nm) (d : dj cc pc (.goto off) off tgt pc') (k : V X T I L R uc us tgt ls st) : V X T I L R uc us pc ls st := by
  intro H locs la h1 h2 h3 h4
  obtain ⟨hd, ht, rfl⟩ := d
  exact lv_goto g.1 g.2.1 hd ht (k H locs la h1 h2 h3 h4)
theorem V_ifnull {x : Nat} {off : Int} (g : Gd X cc own ret nL lev nm) (d : dj cc pc (.ifnull off) off tgt pc') (k : V X T I L R uc us pc' ls st) : V X T I L R uc us pc ls (.ref x :: st) := by
  intro H locs la h1 h2 h3 h4
  obtain ⟨hd, ht, rfl⟩ := d
  exact lv_ifnull g.1 g.2.1 hd (k H locs la h1 h2 h3 h4)
theorem V_ifnullN {off : Int} (g : Gd X cc own ret nL lev nm) (d : dj cc pc (.ifnull off) off tgt pc') (k : V X T I L R uc us tgt ls st) : V X T I L R uc us pc ls (.null :: st) := by
  intro H locs la h1 h2 h3 h4
  obtain ⟨hd, ht, rfl⟩ := d
  exact lv_ifnullN g.1 g.2.1 hd ht (k H locs la h1 h2 h3 h4)
theorem V_ifnonnull {x : Nat} {off : Int} (g : Gd X cc own ret nL lev nm) (d : dj cc pc (.ifnonnull off) off tgt pc') (k : V X T I L R uc us tgt ls st) : V X T I L R uc us pc ls (.ref x :: st) := by
  intro H locs la h1 h2 h3 h4
  obtain ⟨hd, ht, rfl⟩ := d
  exact lv_ifnonnull g.1 g.2.1 hd ht (k H locs la h1 h2 h3 h4)
theorem V_ifnonnullN {off : Int} (g : Gd X cc own ret nL lev nm) (d : dj cc pc (.ifnonnull off) off tgt pc') (k : V X T I L R uc us pc' ls st) : V X T I L R uc us pc ls (.null :: st) := by
  intro H locs la h1 h2 h3 h4
  obtain ⟨hd, ht, rfl⟩ := d
  exact lv_ifnonnullN g.1 g.2.1 hd (k H locs la h1 h2 h3 h4)
theorem V_iret {v : Int32} (g : Gd X cc own (some .int) nL lev nm) (d : dc cc pc .ireturn 1 pc') (k : x_k X (.inl (some (.int v))) T I L R uc us) : V X T I L R uc us pc ls [.int v] := by
  intro H locs la h1 h2 h3 h4
  obtain ⟨hd, rfl⟩ := d
  obtain ⟨e1, e2, e3, e4, e5, e6, e7, e8, e9, e10⟩ := g
  refine W.mono (W.iret (Qc := fun _ _ o t => o = .returned (some (.int v)) ∧ t.heap = H) (free := w_F (x_w X)) e1 e2 e7 (fun t ht _ => ⟨rfl, ht⟩) h3 hd e8) ?_
  rintro t ⟨o, r1, r2, ⟨rfl, r3⟩, Lo, ⟨-, r4, r5⟩, r6⟩
  exact ⟨.inl (some (.int v)), T, I, L, R, uc, us, Lo, k, by rw [r3]; exact h1, h2, r1, r2, r4, r5, r6⟩
theorem V_zret {v : Int32} {ty : FieldType} (g : Gd X cc own (some ty) nL lev nm) (d : dc cc pc .ireturn 1 pc') (hn : narrow ty (.int v) = .int v) (k : x_k X (.inl (some (.int v))) T I L R uc us) : V X T I L R uc us pc ls [.int v] := by
  intro H locs la h1 h2 h3 h4
  obtain ⟨hd, rfl⟩ := d
  obtain ⟨e1, e2, e3, e4, e5, e6, e7, e8, e9, e10⟩ := g
  refine W.mono (W.zret (Qc := fun _ _ o t => o = .returned (some (.int v)) ∧ t.heap = H) (free := w_F (x_w X)) e1 e2 e7 hn (fun t ht _ => ⟨rfl, ht⟩) h3 hd e8) ?_
  rintro t ⟨o, r1, r2, ⟨rfl, r3⟩, Lo, ⟨-, r4, r5⟩, r6⟩
  exact ⟨.inl (some (.int v)), T, I, L, R, uc, us, Lo, k, by rw [r3]; exact h1, h2, r1, r2, r4, r5, r6⟩
theorem V_vret (g : Gd X cc own none nL lev nm) (d : dc cc pc .return_ 1 pc') (k : x_k X (.inl none) T I L R uc us) : V X T I L R uc us pc ls [] := by
  intro H locs la h1 h2 h3 h4
  obtain ⟨hd, rfl⟩ := d
  obtain ⟨e1, e2, e3, e4, e5, e6, e7, e8, e9, e10⟩ := g
  refine W.mono (W.vret (Qc := fun _ _ o t => o = .returned none ∧ t.heap = H) (free := w_F (x_w X)) e1 e2 e7 (fun t ht _ => ⟨rfl, ht⟩) h3 hd e8) ?_
  rintro t ⟨o, r1, r2, ⟨rfl, r3⟩, Lo, ⟨-, r4, r5⟩, r6⟩
  exact ⟨.inl none, T, I, L, R, uc, us, Lo, k, by rw [r3]; exact h1, h2, r1, r2, r4, r5, r6⟩
theorem V_aret {v : Value} {rt : FieldType} (g : Gd X cc own (some rt) nL lev nm) (d : dc cc pc .areturn 1 pc') (hrt : (∃ n, rt = .object n) ∨ ∃ t, rt = .array t) (hv : v = .null ∨ ∃ a, v = .ref a) (k : x_k X (.inl (some v)) T I L R uc us) : V X T I L R uc us pc ls [v] := by
  intro H locs la h1 h2 h3 h4
  obtain ⟨hd, rfl⟩ := d
  obtain ⟨e1, e2, e3, e4, e5, e6, e7, e8, e9, e10⟩ := g
  refine W.mono (W.aret (v := cv (w_ad (x_w X)) v) (Qc := fun _ _ o t => o = .returned (some (cv (w_ad (x_w X)) v)) ∧ t.heap = H) (free := w_F (x_w X)) e1 e2 e7 hrt ?_ (fun t ht _ => ⟨rfl, ht⟩) h3 hd e8) ?_
  · rcases hv with rfl | ⟨a, rfl⟩
    · exact Or.inl rfl
    · exact Or.inr ⟨_, rfl⟩
  · rintro t ⟨o, r1, r2, ⟨rfl, r3⟩, Lo, ⟨-, r4, r5⟩, r6⟩
    exact ⟨.inl (some v), T, I, L, R, uc, us, Lo, k, by rw [r3]; exact h1, h2, r1, r2, r4, r5, r6⟩
end RowsV
