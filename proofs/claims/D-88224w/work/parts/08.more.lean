/-! rows with indices as natural numbers; small laws -/
set_option maxRecDepth 100000
section MoreV
variable {X : CX} {T : Tt} {I : It} {L : Lt} {R : Rt} {uc us pc pc' tgt : Nat} {ls : List (Option Value)} {st : List Value} {cc : ByteArray} {own : String} {ret : Option FieldType} {nL lev : Nat} {nm : String} {idx tg k a n j : Nat}
theorem V_top {x y : Int32} (h : x = y) (k : V X T I L R uc us pc ls (.int y :: st)) : V X T I L R uc us pc ls (.int x :: st) := h ▸ k
theorem V_topL {x y : Int64} (h : x = y) (k : V X T I L R uc us pc ls (.long y :: st)) : V X T I L R uc us pc ls (.long x :: st) := h ▸ k
theorem V_I {I' : It} (h : I = I') (k : V X T I' L R uc us pc ls st) : V X T I L R uc us pc ls st := h ▸ k
theorem V_L {L' : Lt} (h : L = L') (k : V X T I L' R uc us pc ls st) : V X T I L R uc us pc ls st := h ▸ k
theorem V_ls {ls' : List (Option Value)} (h : ls = ls') (k : V X T I L R uc us pc ls' st) : V X T I L R uc us pc ls st := h ▸ k
theorem V_ialdN (g : Gd X cc own ret nL lev nm) (d : dc cc pc .iaload 1 pc') (hT : T a = (100, n)) (hj : j < n) (hn : n < 2 ^ 31) (kx : V X T I L R uc us pc' ls (.int (I a j) :: st)) : V X T I L R uc us pc ls (.int (nI j) :: .ref a :: st) :=
  V_iald g d hT (vp_in_nI hj hn) (by rw [nI_clamp (by omega)]; exact kx)
theorem V_baldN (g : Gd X cc own ret nL lev nm) (d : dc cc pc .baload 1 pc') (hT : T a = (101, n)) (hj : j < n) (hn : n < 2 ^ 31) (kx : V X T I L R uc us pc' ls (.int (I a j) :: st)) : V X T I L R uc us pc ls (.int (nI j) :: .ref a :: st) :=
  V_bald g d hT (vp_in_nI hj hn) (by rw [nI_clamp (by omega)]; exact kx)
theorem V_zaldN (g : Gd X cc own ret nL lev nm) (d : dc cc pc .baload 1 pc') (hT : T a = (103, n)) (hj : j < n) (hn : n < 2 ^ 31) (kx : V X T I L R uc us pc' ls (.int (I a j) :: st)) : V X T I L R uc us pc ls (.int (nI j) :: .ref a :: st) :=
  V_zald g d hT (vp_in_nI hj hn) (by rw [nI_clamp (by omega)]; exact kx)
theorem V_laldN (g : Gd X cc own ret nL lev nm) (d : dc cc pc .laload 1 pc') (hT : T a = (102, n)) (hj : j < n) (hn : n < 2 ^ 31) (kx : V X T I L R uc us pc' ls (.long (L a j) :: st)) : V X T I L R uc us pc ls (.int (nI j) :: .ref a :: st) :=
  V_lald g d hT (vp_in_nI hj hn) (by rw [nI_clamp (by omega)]; exact kx)
theorem V_aaldN {b : Nat} (g : Gd X cc own ret nL lev nm) (d : dc cc pc .aaload 1 pc') (hT : T a = (104, n)) (hj : j < n) (hn : n < 2 ^ 31) (hr : R a j = some b) (kx : V X T I L R uc us pc' ls (.ref b :: st)) : V X T I L R uc us pc ls (.int (nI j) :: .ref a :: st) :=
  V_aald g d hT (vp_in_nI hj hn) (by rw [nI_clamp (by omega)]; exact hr) kx
theorem V_iastN {x : Int32} (g : Gd X cc own ret nL lev nm) (d : dc cc pc .iastore 1 pc') (hT : T a = (100, n)) (hj : j < n) (hn : n < 2 ^ 31) (kx : V X T (u2 I a j x) L R uc us pc' ls st) : V X T I L R uc us pc ls (.int x :: .int (nI j) :: .ref a :: st) :=
  V_iast g d hT (vp_in_nI hj hn) (by rw [nI_clamp (by omega)]; exact kx)
theorem V_zastN {x : Int32} (g : Gd X cc own ret nL lev nm) (d : dc cc pc .bastore 1 pc') (hT : T a = (103, n)) (hj : j < n) (hn : n < 2 ^ 31) (hx : narrow .boolean (.int x) = .int x) (kx : V X T (u2 I a j x) L R uc us pc' ls st) : V X T I L R uc us pc ls (.int x :: .int (nI j) :: .ref a :: st) :=
  V_zast g d hT (vp_in_nI hj hn) hx (by rw [nI_clamp (by omega)]; exact kx)
theorem V_bastN {x : Int32} (g : Gd X cc own ret nL lev nm) (d : dc cc pc .bastore 1 pc') (hT : T a = (101, n)) (hj : j < n) (hn : n < 2 ^ 31) (hx : narrow .byte (.int x) = .int x) (kx : V X T (u2 I a j x) L R uc us pc' ls st) : V X T I L R uc us pc ls (.int x :: .int (nI j) :: .ref a :: st) :=
  V_bast g d hT (vp_in_nI hj hn) hx (by rw [nI_clamp (by omega)]; exact kx)
theorem V_lastN {x : Int64} (g : Gd X cc own ret nL lev nm) (d : dc cc pc .lastore 1 pc') (hT : T a = (102, n)) (hj : j < n) (hn : n < 2 ^ 31) (kx : V X T I (u2 L a j x) R uc us pc' ls st) : V X T I L R uc us pc ls (.long x :: .int (nI j) :: .ref a :: st) :=
  V_last g d hT (vp_in_nI hj hn) (by rw [nI_clamp (by omega)]; exact kx)
end MoreV
theorem bI_nar {c : Prop} [Decidable c] : narrow .boolean (.int (bI c)) = .int (bI c) := by by_cases h : c; rw [bI_t h]; rfl; rw [bI_f h]; rfl
theorem in_nI {p : Int32} {N : Nat} (hN : N < 2 ^ 31) (h0 : ¬ p < 0) (h1 : ¬ nI N ≤ p) : ∃ P : Nat, P < N ∧ p = nI P := by
  obtain ⟨j, hj, rfl⟩ := nI_of h0
  exact ⟨j, Nat.lt_of_not_le fun q => h1 (nI_le q hj), rfl⟩
theorem nI_lit (n : Nat) : Int32.ofNat n = nI n := rfl
theorem nI_cmul (c n : Nat) {x : Int32} (h : x = nI c) : x * nI n = nI (c * n) := by rw [h]; exact pk_mul c n
theorem nI_cadd (c n : Nat) {x : Int32} (h : x = nI c) : nI n + x = nI (n + c) := by rw [h]; exact nI_add n c
theorem nI_ne {a b : Nat} (ha : a < 2 ^ 31) (hb : b < 2 ^ 31) (h : a ≠ b) : nI a ≠ nI b := fun q => h ((nI_eq ha hb).mp q)
theorem nI_nm1 {n : Nat} (h : n < 2 ^ 31) : nI n ≠ -1 := fun q => by
  have h1 := nI_toInt h
  rw [q] at h1
  have : ((-1 : Int32)).toInt = -1 := by decide
  omega
section MoreN
variable {X : CX} {T : Tt} {I : It} {L : Lt} {R : Rt} {uc us pc pc' tgt : Nat} {ls : List (Option Value)} {st : List Value} {cc : ByteArray} {own : String} {ret : Option FieldType} {nL lev : Nat} {nm : String}
theorem V_iaddN {a b : Nat} (g : Gd X cc own ret nL lev nm) (d : dc cc pc (.iadd) 1 pc') (k : V X T I L R uc us pc' ls (.int (nI (a + b)) :: st)) : V X T I L R uc us pc ls (.int (nI b) :: .int (nI a) :: st) := V_iadd g d (by rw [nI_add]; exact k)
theorem V_imulN {a b : Nat} (g : Gd X cc own ret nL lev nm) (d : dc cc pc (.imul) 1 pc') (k : V X T I L R uc us pc' ls (.int (nI (a * b)) :: st)) : V X T I L R uc us pc ls (.int (nI b) :: .int (nI a) :: st) := V_imul g d (by rw [pk_mul]; exact k)
theorem V_isubN {a b : Nat} (g : Gd X cc own ret nL lev nm) (d : dc cc pc (.isub) 1 pc') (h : b ≤ a) (k : V X T I L R uc us pc' ls (.int (nI (a - b)) :: st)) : V X T I L R uc us pc ls (.int (nI b) :: .int (nI a) :: st) := V_isub g d (by rw [pk_sub h]; exact k)
end MoreN
theorem nI_le' {a b : Nat} (ha : a < 2 ^ 31) (hb : b < 2 ^ 31) (h : nI a ≤ nI b) : a ≤ b := (nI_leI ha hb).mp h
theorem nI_nle' {a b : Nat} (ha : a < 2 ^ 31) (hb : b < 2 ^ 31) (h : ¬ nI a ≤ nI b) : b < a := Nat.lt_of_not_le fun q => h ((nI_leI ha hb).mpr q)
theorem nI_lt' {a b : Nat} (ha : a < 2 ^ 31) (hb : b < 2 ^ 31) (h : nI a < nI b) : a < b := (nI_ltI ha hb).mp h
theorem nI_nlt' {a b : Nat} (ha : a < 2 ^ 31) (hb : b < 2 ^ 31) (h : ¬ nI a < nI b) : b ≤ a := Nat.le_of_not_lt fun q => h ((nI_ltI ha hb).mpr q)
theorem nI_eq' {a b : Nat} (ha : a < 2 ^ 31) (hb : b < 2 ^ 31) (h : nI a = nI b) : a = b := (nI_eq ha hb).mp h
theorem nI_neq' {a b : Nat} (h : ¬ nI a = nI b) : a ≠ b := fun q => h (by rw [q])
theorem nI_rem {a d : Nat} (ha : a < 2 ^ 31) (h0 : 0 < d) (hd : d < 2 ^ 31) {x : Int32} (hx : x = nI d) : nI a - nI a / x * x = nI (a % d) := by rw [hx]; exact pk_rem ha h0 hd
section Kill
variable {X : CX} {T : Tt} {I : It} {L : Lt} {R : Rt} {uc us pc : Nat} {st : List Value}
theorem V_weak {ls ls' : List (Option Value)} (h : ∀ (k : Nat) (v : Value), ls'[k]? = some (some v) → ls[k]? = some (some v)) (k : V X T I L R uc us pc ls' st) : V X T I L R uc us pc ls st := by
  intro H locs la h1 h2 h3 h4
  refine k H locs la h1 h2 h3 ⟨h4.1, h4.2.1, fun q hq => ?_⟩
  obtain ⟨j, v, e, hj⟩ := lvl_of _ _ _ hq
  subst e
  exact h4.2.2 _ (lvl_mem _ 0 j v (h j v hj))
theorem V_kill_0 {l0 : Option Value} {tl : List (Option Value)} (h : V X T I L R uc us pc (none :: tl) st) : V X T I L R uc us pc (l0 :: tl) st := by
  refine V_weak (fun j v q => ?_) h
  match j, q with
  | 0, q => cases q
  | j + 1, q => exact q
theorem V_kill_1 {l0 l1 : Option Value} {tl : List (Option Value)} (h : V X T I L R uc us pc (l0 :: none :: tl) st) : V X T I L R uc us pc (l0 :: l1 :: tl) st := by
  refine V_weak (fun j v q => ?_) h
  match j, q with
  | 0, q => exact q
  | 1, q => cases q
  | j + 2, q => exact q
theorem V_kill_2 {l0 l1 l2 : Option Value} {tl : List (Option Value)} (h : V X T I L R uc us pc (l0 :: l1 :: none :: tl) st) : V X T I L R uc us pc (l0 :: l1 :: l2 :: tl) st := by
  refine V_weak (fun j v q => ?_) h
  match j, q with
  | 0, q => exact q
  | 1, q => exact q
  | 2, q => cases q
  | j + 3, q => exact q
theorem V_kill_3 {l0 l1 l2 l3 : Option Value} {tl : List (Option Value)} (h : V X T I L R uc us pc (l0 :: l1 :: l2 :: none :: tl) st) : V X T I L R uc us pc (l0 :: l1 :: l2 :: l3 :: tl) st := by
  refine V_weak (fun j v q => ?_) h
  match j, q with
  | 0, q => exact q
  | 1, q => exact q
  | 2, q => exact q
  | 3, q => cases q
  | j + 4, q => exact q
theorem V_kill_4 {l0 l1 l2 l3 l4 : Option Value} {tl : List (Option Value)} (h : V X T I L R uc us pc (l0 :: l1 :: l2 :: l3 :: none :: tl) st) : V X T I L R uc us pc (l0 :: l1 :: l2 :: l3 :: l4 :: tl) st := by
  refine V_weak (fun j v q => ?_) h
  match j, q with
  | 0, q => exact q
  | 1, q => exact q
  | 2, q => exact q
  | 3, q => exact q
  | 4, q => cases q
  | j + 5, q => exact q
theorem V_kill_5 {l0 l1 l2 l3 l4 l5 : Option Value} {tl : List (Option Value)} (h : V X T I L R uc us pc (l0 :: l1 :: l2 :: l3 :: l4 :: none :: tl) st) : V X T I L R uc us pc (l0 :: l1 :: l2 :: l3 :: l4 :: l5 :: tl) st := by
  refine V_weak (fun j v q => ?_) h
  match j, q with
  | 0, q => exact q
  | 1, q => exact q
  | 2, q => exact q
  | 3, q => exact q
  | 4, q => exact q
  | 5, q => cases q
  | j + 6, q => exact q
theorem V_kill_6 {l0 l1 l2 l3 l4 l5 l6 : Option Value} {tl : List (Option Value)} (h : V X T I L R uc us pc (l0 :: l1 :: l2 :: l3 :: l4 :: l5 :: none :: tl) st) : V X T I L R uc us pc (l0 :: l1 :: l2 :: l3 :: l4 :: l5 :: l6 :: tl) st := by
  refine V_weak (fun j v q => ?_) h
  match j, q with
  | 0, q => exact q
  | 1, q => exact q
  | 2, q => exact q
  | 3, q => exact q
  | 4, q => exact q
  | 5, q => exact q
  | 6, q => cases q
  | j + 7, q => exact q
theorem V_kill_7 {l0 l1 l2 l3 l4 l5 l6 l7 : Option Value} {tl : List (Option Value)} (h : V X T I L R uc us pc (l0 :: l1 :: l2 :: l3 :: l4 :: l5 :: l6 :: none :: tl) st) : V X T I L R uc us pc (l0 :: l1 :: l2 :: l3 :: l4 :: l5 :: l6 :: l7 :: tl) st := by
  refine V_weak (fun j v q => ?_) h
  match j, q with
  | 0, q => exact q
  | 1, q => exact q
  | 2, q => exact q
  | 3, q => exact q
  | 4, q => exact q
  | 5, q => exact q
  | 6, q => exact q
  | 7, q => cases q
  | j + 8, q => exact q
theorem V_kill_8 {l0 l1 l2 l3 l4 l5 l6 l7 l8 : Option Value} {tl : List (Option Value)} (h : V X T I L R uc us pc (l0 :: l1 :: l2 :: l3 :: l4 :: l5 :: l6 :: l7 :: none :: tl) st) : V X T I L R uc us pc (l0 :: l1 :: l2 :: l3 :: l4 :: l5 :: l6 :: l7 :: l8 :: tl) st := by
  refine V_weak (fun j v q => ?_) h
  match j, q with
  | 0, q => exact q
  | 1, q => exact q
  | 2, q => exact q
  | 3, q => exact q
  | 4, q => exact q
  | 5, q => exact q
  | 6, q => exact q
  | 7, q => exact q
  | 8, q => cases q
  | j + 9, q => exact q
theorem V_kill_9 {l0 l1 l2 l3 l4 l5 l6 l7 l8 l9 : Option Value} {tl : List (Option Value)} (h : V X T I L R uc us pc (l0 :: l1 :: l2 :: l3 :: l4 :: l5 :: l6 :: l7 :: l8 :: none :: tl) st) : V X T I L R uc us pc (l0 :: l1 :: l2 :: l3 :: l4 :: l5 :: l6 :: l7 :: l8 :: l9 :: tl) st := by
  refine V_weak (fun j v q => ?_) h
  match j, q with
  | 0, q => exact q
  | 1, q => exact q
  | 2, q => exact q
  | 3, q => exact q
  | 4, q => exact q
  | 5, q => exact q
  | 6, q => exact q
  | 7, q => exact q
  | 8, q => exact q
  | 9, q => cases q
  | j + 10, q => exact q
theorem V_kill_10 {l0 l1 l2 l3 l4 l5 l6 l7 l8 l9 l10 : Option Value} {tl : List (Option Value)} (h : V X T I L R uc us pc (l0 :: l1 :: l2 :: l3 :: l4 :: l5 :: l6 :: l7 :: l8 :: l9 :: none :: tl) st) : V X T I L R uc us pc (l0 :: l1 :: l2 :: l3 :: l4 :: l5 :: l6 :: l7 :: l8 :: l9 :: l10 :: tl) st := by
  refine V_weak (fun j v q => ?_) h
  match j, q with
  | 0, q => exact q
  | 1, q => exact q
  | 2, q => exact q
  | 3, q => exact q
  | 4, q => exact q
  | 5, q => exact q
  | 6, q => exact q
  | 7, q => exact q
  | 8, q => exact q
  | 9, q => exact q
  | 10, q => cases q
  | j + 11, q => exact q
theorem V_kill_11 {l0 l1 l2 l3 l4 l5 l6 l7 l8 l9 l10 l11 : Option Value} {tl : List (Option Value)} (h : V X T I L R uc us pc (l0 :: l1 :: l2 :: l3 :: l4 :: l5 :: l6 :: l7 :: l8 :: l9 :: l10 :: none :: tl) st) : V X T I L R uc us pc (l0 :: l1 :: l2 :: l3 :: l4 :: l5 :: l6 :: l7 :: l8 :: l9 :: l10 :: l11 :: tl) st := by
  refine V_weak (fun j v q => ?_) h
  match j, q with
  | 0, q => exact q
  | 1, q => exact q
  | 2, q => exact q
  | 3, q => exact q
  | 4, q => exact q
  | 5, q => exact q
  | 6, q => exact q
  | 7, q => exact q
  | 8, q => exact q
  | 9, q => exact q
  | 10, q => exact q
  | 11, q => cases q
  | j + 12, q => exact q
theorem V_kill_12 {l0 l1 l2 l3 l4 l5 l6 l7 l8 l9 l10 l11 l12 : Option Value} {tl : List (Option Value)} (h : V X T I L R uc us pc (l0 :: l1 :: l2 :: l3 :: l4 :: l5 :: l6 :: l7 :: l8 :: l9 :: l10 :: l11 :: none :: tl) st) : V X T I L R uc us pc (l0 :: l1 :: l2 :: l3 :: l4 :: l5 :: l6 :: l7 :: l8 :: l9 :: l10 :: l11 :: l12 :: tl) st := by
  refine V_weak (fun j v q => ?_) h
  match j, q with
  | 0, q => exact q
  | 1, q => exact q
  | 2, q => exact q
  | 3, q => exact q
  | 4, q => exact q
  | 5, q => exact q
  | 6, q => exact q
  | 7, q => exact q
  | 8, q => exact q
  | 9, q => exact q
  | 10, q => exact q
  | 11, q => exact q
  | 12, q => cases q
  | j + 13, q => exact q
theorem V_kill_13 {l0 l1 l2 l3 l4 l5 l6 l7 l8 l9 l10 l11 l12 l13 : Option Value} {tl : List (Option Value)} (h : V X T I L R uc us pc (l0 :: l1 :: l2 :: l3 :: l4 :: l5 :: l6 :: l7 :: l8 :: l9 :: l10 :: l11 :: l12 :: none :: tl) st) : V X T I L R uc us pc (l0 :: l1 :: l2 :: l3 :: l4 :: l5 :: l6 :: l7 :: l8 :: l9 :: l10 :: l11 :: l12 :: l13 :: tl) st := by
  refine V_weak (fun j v q => ?_) h
  match j, q with
  | 0, q => exact q
  | 1, q => exact q
  | 2, q => exact q
  | 3, q => exact q
  | 4, q => exact q
  | 5, q => exact q
  | 6, q => exact q
  | 7, q => exact q
  | 8, q => exact q
  | 9, q => exact q
  | 10, q => exact q
  | 11, q => exact q
  | 12, q => exact q
  | 13, q => cases q
  | j + 14, q => exact q
end Kill
section Sw
variable {X : CX} {T : Tt} {I : It} {L : Lt} {R : Rt} {uc us pc pc' tgt : Nat} {ls : List (Option Value)} {st : List Value} {cc : ByteArray} {own : String} {ret : Option FieldType} {nL lev : Nat} {nm : String}
theorem V_tIn {dflt lo hi off : Int} {offs : Array Int} {len : Nat} {x : Int32} (g : Gd X cc own ret nL lev nm) (d : dc cc pc (.tableswitch dflt lo hi offs) len pc') (h1 : ¬ x.toInt < lo) (h2 : ¬ hi < x.toInt) (ho : offs[(x.toInt - lo).toNat]? = some off) (ht : (pc : Int) + off = (tgt : Int)) (k : V X T I L R uc us tgt ls st) : V X T I L R uc us pc ls (.int x :: st) := by
  intro H locs la q1 q2 q3 q4
  exact lv_tableIn g.1 g.2.1 d.1 h1 h2 ho ht (k H locs la q1 q2 q3 q4)
theorem V_tOut {dflt lo hi : Int} {offs : Array Int} {len : Nat} {x : Int32} (g : Gd X cc own ret nL lev nm) (d : dc cc pc (.tableswitch dflt lo hi offs) len pc') (h : x.toInt < lo ∨ hi < x.toInt) (ht : (pc : Int) + dflt = (tgt : Int)) (k : V X T I L R uc us tgt ls st) : V X T I L R uc us pc ls (.int x :: st) := by
  intro H locs la q1 q2 q3 q4
  exact lv_tableOut g.1 g.2.1 d.1 h ht (k H locs la q1 q2 q3 q4)
end Sw
theorem sw_0_3 (x : Int32) : x = 0 ∨ x = 1 ∨ x = 2 ∨ x = 3 ∨ (x.toInt < 0 ∨ 3 < x.toInt) := by
  by_cases h : x.toInt < 0 ∨ 3 < x.toInt
  · exact Or.inr <| Or.inr <| Or.inr <| Or.inr <| h
  · have hx : ∀ n : Nat, n ≤ 3 → x.toInt = (n : Int) → x = nI n := fun n hn e => Int32.toInt_inj.mp (by rw [e, nI_toInt (by omega)])
    obtain ⟨n, hn, e⟩ : ∃ n : Nat, n ≤ 3 ∧ x.toInt = (n : Int) := ⟨x.toInt.toNat, by omega, by omega⟩
    have := hx n hn e
    subst this
    match n, hn with
    | 0, _ => exact Or.inl rfl
    | 1, _ => exact Or.inr <| Or.inl rfl
    | 2, _ => exact Or.inr <| Or.inr <| Or.inl rfl
    | 3, _ => exact Or.inr <| Or.inr <| Or.inr <| Or.inl rfl
    | n + 4, hn => omega
theorem sw_0_5 (x : Int32) : x = 0 ∨ x = 1 ∨ x = 2 ∨ x = 3 ∨ x = 4 ∨ x = 5 ∨ (x.toInt < 0 ∨ 5 < x.toInt) := by
  by_cases h : x.toInt < 0 ∨ 5 < x.toInt
  · exact Or.inr <| Or.inr <| Or.inr <| Or.inr <| Or.inr <| Or.inr <| h
  · have hx : ∀ n : Nat, n ≤ 5 → x.toInt = (n : Int) → x = nI n := fun n hn e => Int32.toInt_inj.mp (by rw [e, nI_toInt (by omega)])
    obtain ⟨n, hn, e⟩ : ∃ n : Nat, n ≤ 5 ∧ x.toInt = (n : Int) := ⟨x.toInt.toNat, by omega, by omega⟩
    have := hx n hn e
    subst this
    match n, hn with
    | 0, _ => exact Or.inl rfl
    | 1, _ => exact Or.inr <| Or.inl rfl
    | 2, _ => exact Or.inr <| Or.inr <| Or.inl rfl
    | 3, _ => exact Or.inr <| Or.inr <| Or.inr <| Or.inl rfl
    | 4, _ => exact Or.inr <| Or.inr <| Or.inr <| Or.inr <| Or.inl rfl
    | 5, _ => exact Or.inr <| Or.inr <| Or.inr <| Or.inr <| Or.inr <| Or.inl rfl
    | n + 6, hn => omega
theorem sw_0_9 (x : Int32) : x = 0 ∨ x = 1 ∨ x = 2 ∨ x = 3 ∨ x = 4 ∨ x = 5 ∨ x = 6 ∨ x = 7 ∨ x = 8 ∨ x = 9 ∨ (x.toInt < 0 ∨ 9 < x.toInt) := by
  by_cases h : x.toInt < 0 ∨ 9 < x.toInt
  · exact Or.inr <| Or.inr <| Or.inr <| Or.inr <| Or.inr <| Or.inr <| Or.inr <| Or.inr <| Or.inr <| Or.inr <| h
  · have hx : ∀ n : Nat, n ≤ 9 → x.toInt = (n : Int) → x = nI n := fun n hn e => Int32.toInt_inj.mp (by rw [e, nI_toInt (by omega)])
    obtain ⟨n, hn, e⟩ : ∃ n : Nat, n ≤ 9 ∧ x.toInt = (n : Int) := ⟨x.toInt.toNat, by omega, by omega⟩
    have := hx n hn e
    subst this
    match n, hn with
    | 0, _ => exact Or.inl rfl
    | 1, _ => exact Or.inr <| Or.inl rfl
    | 2, _ => exact Or.inr <| Or.inr <| Or.inl rfl
    | 3, _ => exact Or.inr <| Or.inr <| Or.inr <| Or.inl rfl
    | 4, _ => exact Or.inr <| Or.inr <| Or.inr <| Or.inr <| Or.inl rfl
    | 5, _ => exact Or.inr <| Or.inr <| Or.inr <| Or.inr <| Or.inr <| Or.inl rfl
    | 6, _ => exact Or.inr <| Or.inr <| Or.inr <| Or.inr <| Or.inr <| Or.inr <| Or.inl rfl
    | 7, _ => exact Or.inr <| Or.inr <| Or.inr <| Or.inr <| Or.inr <| Or.inr <| Or.inr <| Or.inl rfl
    | 8, _ => exact Or.inr <| Or.inr <| Or.inr <| Or.inr <| Or.inr <| Or.inr <| Or.inr <| Or.inr <| Or.inl rfl
    | 9, _ => exact Or.inr <| Or.inr <| Or.inr <| Or.inr <| Or.inr <| Or.inr <| Or.inr <| Or.inr <| Or.inr <| Or.inl rfl
    | n + 10, hn => omega
theorem sw_0_24 (x : Int32) : x = 0 ∨ x = 1 ∨ x = 2 ∨ x = 3 ∨ x = 4 ∨ x = 5 ∨ x = 6 ∨ x = 7 ∨ x = 8 ∨ x = 9 ∨ x = 10 ∨ x = 11 ∨ x = 12 ∨ x = 13 ∨ x = 14 ∨ x = 15 ∨ x = 16 ∨ x = 17 ∨ x = 18 ∨ x = 19 ∨ x = 20 ∨ x = 21 ∨ x = 22 ∨ x = 23 ∨ x = 24 ∨ (x.toInt < 0 ∨ 24 < x.toInt) := by
  by_cases h : x.toInt < 0 ∨ 24 < x.toInt
  · exact Or.inr <| Or.inr <| Or.inr <| Or.inr <| Or.inr <| Or.inr <| Or.inr <| Or.inr <| Or.inr <| Or.inr <| Or.inr <| Or.inr <| Or.inr <| Or.inr <| Or.inr <| Or.inr <| Or.inr <| Or.inr <| Or.inr <| Or.inr <| Or.inr <| Or.inr <| Or.inr <| Or.inr <| Or.inr <| h
  · have hx : ∀ n : Nat, n ≤ 24 → x.toInt = (n : Int) → x = nI n := fun n hn e => Int32.toInt_inj.mp (by rw [e, nI_toInt (by omega)])
    obtain ⟨n, hn, e⟩ : ∃ n : Nat, n ≤ 24 ∧ x.toInt = (n : Int) := ⟨x.toInt.toNat, by omega, by omega⟩
    have := hx n hn e
    subst this
    match n, hn with
    | 0, _ => exact Or.inl rfl
    | 1, _ => exact Or.inr <| Or.inl rfl
    | 2, _ => exact Or.inr <| Or.inr <| Or.inl rfl
    | 3, _ => exact Or.inr <| Or.inr <| Or.inr <| Or.inl rfl
    | 4, _ => exact Or.inr <| Or.inr <| Or.inr <| Or.inr <| Or.inl rfl
    | 5, _ => exact Or.inr <| Or.inr <| Or.inr <| Or.inr <| Or.inr <| Or.inl rfl
    | 6, _ => exact Or.inr <| Or.inr <| Or.inr <| Or.inr <| Or.inr <| Or.inr <| Or.inl rfl
    | 7, _ => exact Or.inr <| Or.inr <| Or.inr <| Or.inr <| Or.inr <| Or.inr <| Or.inr <| Or.inl rfl
    | 8, _ => exact Or.inr <| Or.inr <| Or.inr <| Or.inr <| Or.inr <| Or.inr <| Or.inr <| Or.inr <| Or.inl rfl
    | 9, _ => exact Or.inr <| Or.inr <| Or.inr <| Or.inr <| Or.inr <| Or.inr <| Or.inr <| Or.inr <| Or.inr <| Or.inl rfl
    | 10, _ => exact Or.inr <| Or.inr <| Or.inr <| Or.inr <| Or.inr <| Or.inr <| Or.inr <| Or.inr <| Or.inr <| Or.inr <| Or.inl rfl
    | 11, _ => exact Or.inr <| Or.inr <| Or.inr <| Or.inr <| Or.inr <| Or.inr <| Or.inr <| Or.inr <| Or.inr <| Or.inr <| Or.inr <| Or.inl rfl
    | 12, _ => exact Or.inr <| Or.inr <| Or.inr <| Or.inr <| Or.inr <| Or.inr <| Or.inr <| Or.inr <| Or.inr <| Or.inr <| Or.inr <| Or.inr <| Or.inl rfl
    | 13, _ => exact Or.inr <| Or.inr <| Or.inr <| Or.inr <| Or.inr <| Or.inr <| Or.inr <| Or.inr <| Or.inr <| Or.inr <| Or.inr <| Or.inr <| Or.inr <| Or.inl rfl
    | 14, _ => exact Or.inr <| Or.inr <| Or.inr <| Or.inr <| Or.inr <| Or.inr <| Or.inr <| Or.inr <| Or.inr <| Or.inr <| Or.inr <| Or.inr <| Or.inr <| Or.inr <| Or.inl rfl
    | 15, _ => exact Or.inr <| Or.inr <| Or.inr <| Or.inr <| Or.inr <| Or.inr <| Or.inr <| Or.inr <| Or.inr <| Or.inr <| Or.inr <| Or.inr <| Or.inr <| Or.inr <| Or.inr <| Or.inl rfl
    | 16, _ => exact Or.inr <| Or.inr <| Or.inr <| Or.inr <| Or.inr <| Or.inr <| Or.inr <| Or.inr <| Or.inr <| Or.inr <| Or.inr <| Or.inr <| Or.inr <| Or.inr <| Or.inr <| Or.inr <| Or.inl rfl
    | 17, _ => exact Or.inr <| Or.inr <| Or.inr <| Or.inr <| Or.inr <| Or.inr <| Or.inr <| Or.inr <| Or.inr <| Or.inr <| Or.inr <| Or.inr <| Or.inr <| Or.inr <| Or.inr <| Or.inr <| Or.inr <| Or.inl rfl
    | 18, _ => exact Or.inr <| Or.inr <| Or.inr <| Or.inr <| Or.inr <| Or.inr <| Or.inr <| Or.inr <| Or.inr <| Or.inr <| Or.inr <| Or.inr <| Or.inr <| Or.inr <| Or.inr <| Or.inr <| Or.inr <| Or.inr <| Or.inl rfl
    | 19, _ => exact Or.inr <| Or.inr <| Or.inr <| Or.inr <| Or.inr <| Or.inr <| Or.inr <| Or.inr <| Or.inr <| Or.inr <| Or.inr <| Or.inr <| Or.inr <| Or.inr <| Or.inr <| Or.inr <| Or.inr <| Or.inr <| Or.inr <| Or.inl rfl
    | 20, _ => exact Or.inr <| Or.inr <| Or.inr <| Or.inr <| Or.inr <| Or.inr <| Or.inr <| Or.inr <| Or.inr <| Or.inr <| Or.inr <| Or.inr <| Or.inr <| Or.inr <| Or.inr <| Or.inr <| Or.inr <| Or.inr <| Or.inr <| Or.inr <| Or.inl rfl
    | 21, _ => exact Or.inr <| Or.inr <| Or.inr <| Or.inr <| Or.inr <| Or.inr <| Or.inr <| Or.inr <| Or.inr <| Or.inr <| Or.inr <| Or.inr <| Or.inr <| Or.inr <| Or.inr <| Or.inr <| Or.inr <| Or.inr <| Or.inr <| Or.inr <| Or.inr <| Or.inl rfl
    | 22, _ => exact Or.inr <| Or.inr <| Or.inr <| Or.inr <| Or.inr <| Or.inr <| Or.inr <| Or.inr <| Or.inr <| Or.inr <| Or.inr <| Or.inr <| Or.inr <| Or.inr <| Or.inr <| Or.inr <| Or.inr <| Or.inr <| Or.inr <| Or.inr <| Or.inr <| Or.inr <| Or.inl rfl
    | 23, _ => exact Or.inr <| Or.inr <| Or.inr <| Or.inr <| Or.inr <| Or.inr <| Or.inr <| Or.inr <| Or.inr <| Or.inr <| Or.inr <| Or.inr <| Or.inr <| Or.inr <| Or.inr <| Or.inr <| Or.inr <| Or.inr <| Or.inr <| Or.inr <| Or.inr <| Or.inr <| Or.inr <| Or.inl rfl
    | 24, _ => exact Or.inr <| Or.inr <| Or.inr <| Or.inr <| Or.inr <| Or.inr <| Or.inr <| Or.inr <| Or.inr <| Or.inr <| Or.inr <| Or.inr <| Or.inr <| Or.inr <| Or.inr <| Or.inr <| Or.inr <| Or.inr <| Or.inr <| Or.inr <| Or.inr <| Or.inr <| Or.inr <| Or.inr <| Or.inl rfl
    | n + 25, hn => omega
