/-! rows of V: objects and arrays are made; casts, references compared, statics, arraycopy, virtual calls, catches -/
set_option maxRecDepth 100000
def fdOK (ty : FieldType) : Bool := match ty with
  | .float => false
  | .double => false
  | _ => true
theorem fv_def {ad : Nat → Nat} {ty : FieldType} (h : fdOK ty = true) : defaultValue ty = fv ad ty 0 0 none := by
  cases ty <;> first | rfl | simp [fdOK] at h
/-- class t: its words for new, its link to Object -/
theorem k_new (t : Nat) (ht : t < 17) {C : String} {Tb : u_T} {N : Nat} (h : kt[t]? = some (C, Tb, N)) : Cond.instantiable C N ∈ lw_k ∧ Cond.initialized C ∈ lw_k ∧ Cond.castable C "java/lang/Object" ∈ lw_k ∧ ∀ k, k < N → fdOK (kft t k) = true := by
  match t, ht, h with
  | 0, _, h => cases h; exact ⟨(lk q98), (lk q61), (lt_k q1681 rfl), by decide⟩
  | 1, _, h => cases h; exact ⟨(lk q134), (lk q65), (lt_k q1683 rfl), by decide⟩
  | 2, _, h => cases h; exact ⟨(lk q164), (lk q66), (lt_k q1684 rfl), by decide⟩
  | 3, _, h => cases h; exact ⟨(lk q1221), (lk q67), (lt_k q1685 rfl), by decide⟩
  | 4, _, h => cases h; exact ⟨(lk q297), (lk q69), (lt_k q1686 rfl), by decide⟩
  | 5, _, h => cases h; exact ⟨(lk q438), (lk q74), (lt_k q1687 rfl), by decide⟩
  | 6, _, h => cases h; exact ⟨(lk q482), (lk q78), (lt_k q1688 rfl), by decide⟩
  | 7, _, h => cases h; exact ⟨(lk q525), (lk q79), (lt_k q1689 rfl), by decide⟩
  | 8, _, h => cases h; exact ⟨(lk q567), (lk q84), (lt_k q1691 rfl), by decide⟩
  | 9, _, h => cases h; exact ⟨(lk q777), (lk q89), (lt_k q1692 rfl), by decide⟩
  | 10, _, h => cases h; exact ⟨(lk q873), (lk q91), (lt_k q1693 rfl), by decide⟩
  | 11, _, h => cases h; exact ⟨(lk q886), (lk q92), (lt_k q1694 rfl), by decide⟩
  | 12, _, h => cases h; exact ⟨(lk q900), (lk q93), (lt_k q1695 rfl), by decide⟩
  | 13, _, h => cases h; exact ⟨(lk q1010), (lk q96), (lt_k q1697 rfl), by decide⟩
  | 14, _, h => cases h; exact ⟨(lk q106), (lk q64), (lt_k q1682 rfl), by decide⟩
  | 15, _, h => cases h; exact ⟨(lk q908), (lk q95), (lt_k q1696 rfl), by decide⟩
  | 16, _, h => cases h; exact ⟨(lk q1161), (lk q83), (lt_k q1690 rfl), by decide⟩
  | n + 17, ht, _ => omega
section ObjV
variable {X : CX} {T : Tt} {I : It} {L : Lt} {R : Rt} {uc us pc pc' tgt : Nat} {ls : List (Option Value)} {st : List Value} {cc : ByteArray} {own : String} {ret : Option FieldType} {nL lev : Nat} {nm : String} {idx tg a n : Nat}
theorem Rep.grow {w : Wd} {H H' : Heap} (h : Rep w T I L R H) (hb : H.size ≤ w_b w + 600000) (hz : H'.size = H.size + 1) (ho : ∀ q, q < H.size → H'[q]? = H[q]?) (h99 : tg ≠ 99) (hc : ∀ q, w_ad w q = H.size → cOK w (va_up T q (tg, n)) (va_up I q fun _ => 0) (va_up L q fun _ => 0) (va_up R q fun _ => none) q H') :
    ∃ q, q = H.size - w_b w ∧ (T q).1 = 99 ∧ w_ad w q = H.size ∧ Rep w (va_up T q (tg, n)) (va_up I q fun _ => 0) (va_up L q fun _ => 0) (va_up R q fun _ => none) H' := by
  obtain ⟨h1, h2, h3⟩ := h
  obtain ⟨hF, hq⟩ := h3 H.size (Nat.le_refl _) (by omega)
  generalize hqq : H.size - w_b w = q at hq
  have hdead : (T q).1 = 99 := by
    by_cases e : (T q).1 = 99
    · exact e
    · have := (h1 q e).1.lt
      omega
  refine ⟨q, rfl, hdead, hq, fun b hb => ?_, fun b c hb hc2 e => ?_, fun z hz2 hz3 => h3 z (by omega) hz3⟩
  · by_cases e : b = q
    · subst e
      exact ⟨hc b hq, by rw [hq]; exact hF⟩
    · rw [va_up_ne _ _ e] at hb
      refine ⟨?_, (h1 b hb).2⟩
      have hk := (h1 b hb).1
      have := hk.kept (I' := va_up I q fun _ => 0) (L' := va_up L q fun _ => 0) (R' := va_up R q fun _ => none) (ho _ hk.lt) (va_up_ne _ _ e) (va_up_ne _ _ e) (va_up_ne _ _ e)
      unfold cOK at this ⊢
      rw [va_up_ne _ _ e]
      exact this
  · by_cases eb : b = q
    · by_cases ec : c = q
      · rw [eb, ec]
      · rw [va_up_ne _ _ ec] at hc2
        have := (h1 c hc2).1.lt
        rw [eb, hq] at e
        omega
    · rw [va_up_ne _ _ eb] at hb
      by_cases ec : c = q
      · have := (h1 b hb).1.lt
        rw [ec, hq] at e
        omega
      · rw [va_up_ne _ _ ec] at hc2
        exact h2 b c hb hc2 e
theorem V_new {C : String} {Tb : u_T} {N : Nat} (g : Gd X cc own ret nL lev nm) (d : dc cc pc (.new idx) 3 pc') (hkt : kt[tg]? = some (C, Tb, N)) (h17 : tg < 17) (hcl : Cond.classLink own idx C ∈ lw_k) (huc : uc + 1 ≤ 600000) (hus : us + N ≤ 7293034)
    (k : (T uc).1 = 99 → V X (va_up T uc (tg, 0)) (va_up I uc fun _ => 0) (va_up L uc fun _ => 0) (va_up R uc fun _ => none) (uc + 1) (us + N) pc' ls (.ref uc :: st)) : V X T I L R uc us pc ls st := by
  intro H locs la h1 h2 h3 h4
  obtain ⟨hd, rfl⟩ := d
  obtain ⟨e1, e2, e3, e4, e5, e6, e7, e8, e9, e10⟩ := g
  have hts : ∀ w ∈ lw_k, w.before (x_a X) (x_s X) = true := fun w h => e10.at h _
  obtain ⟨hin, hty, hnm⟩ := k_ok tg hkt
  obtain ⟨q1, q2, q3, q4⟩ := k_new tg h17 hkt
  have h99 : tg < 99 := by omega
  have hKn := e10.2.1 tg _ hkt
  obtain ⟨b1, b2, b3, b4⟩ := h2
  have hsz : H.size ≤ w_b (x_w X) + 600000 := by
    rw [h1.2]
    omega
  refine W.newcK e1 e2 e6 (hts _ hcl) (hts _ q1) (hts _ q2) rfl hd ?_ ?_ hKn.2.1 rfl (fun H' kC hkC r1 r2 r3 => ?_)
  · show uc - x_u X + 1 ≤ 601024 - x_u X
    omega
  · show us - x_z X + N ≤ 7293034 - x_z X
    omega
  · obtain ⟨q, hqe, hq1, hq2, hq3⟩ := h1.1.grow (tg := tg) (n := 0) hsz r2 r3 (by omega) (fun q hq => by
      unfold cOK
      rw [va_up_self, va_up_self, va_up_self, va_up_self, if_pos h99]
      refine ⟨_, hkt, ?_⟩
      rw [hq]
      refine (u_born (kft tg) hts hin hKn hkC r1 hty).to (fun k hk => fv_def (q4 k hk)))
    have hqu : q = uc := by rw [hqe, h1.2]; omega
    rw [hqu] at hq1 hq2 hq3
    have kk := k hq1 H' locs la ⟨hq3, by rw [r2, h1.2]; omega⟩ ⟨by omega, by omega, by omega, hus⟩ h3 h4
    rw [show uc + 1 - x_u X = uc - x_u X + 1 by omega, show us + N - x_z X = us - x_z X + N by omega] at kk
    rw [← hq2]
    exact kk
theorem WK.arrC {w : Wd} {s : State} (h : WK w s) {t : Nat} (ht : t = 100 ∨ t = 101 ∨ t = 102 ∨ t = 103) : s.vm.findClass ("[" ++ (aft t).toString) = some (w_A w t) := by
  rcases ht with rfl | rfl | rfl | rfl
  · exact (h.2.2 0 _ rfl).2
  · exact (h.2.2 1 _ rfl).2
  · exact (h.2.2 2 _ rfl).2
  · exact (h.2.2 3 _ rfl).2
theorem V_newa {at0 : ArrayType} {N : Nat} (g : Gd X cc own ret nL lev nm) (d : dc cc pc (.newarray at0) 2 pc') (ht : tg = 100 ∨ tg = 101 ∨ tg = 102 ∨ tg = 103) (hty : newarray.typeOf at0 = aft tg) (hw : Cond.arrayClass (aft tg) ∈ lw_k) (hN : N < 100000) (huc : uc + 1 ≤ 600000) (hus : us + N ≤ 7293034)
    (k : (T uc).1 = 99 → V X (va_up T uc (tg, N)) (va_up I uc fun _ => 0) (va_up L uc fun _ => 0) (va_up R uc fun _ => none) (uc + 1) (us + N) pc' ls (.ref uc :: st)) : V X T I L R uc us pc ls (.int (nI N) :: st) := by
  intro H locs la h1 h2 h3 h4
  obtain ⟨hd, rfl⟩ := d
  obtain ⟨e1, e2, e3, e4, e5, e6, e7, e8, e9, e10⟩ := g
  have hts : ∀ w ∈ lw_k, w.before (x_a X) (x_s X) = true := fun w h => e10.at h _
  obtain ⟨b1, b2, b3, b4⟩ := h2
  have hsz : H.size ≤ w_b (x_w X) + 600000 := by
    rw [h1.2]
    omega
  have hcb : componentBytes (newarray.typeOf at0) ≤ 8 := by cases at0 <;> decide
  refine va_newaK (N := N) e1 e2 (by rw [hty]; exact hts _ hw) rfl hd rfl (nI_pos (by omega)) (nI_clamp (by omega)) ?_ ?_ ?_ rfl (fun H' cA r1 r2 r3 _ r5 => ?_)
  · have := Nat.mul_le_mul (show N ≤ 100000 by omega) hcb
    omega
  · show uc - x_u X + 1 ≤ 601024 - x_u X
    omega
  · show us - x_z X + N ≤ 7293034 - x_z X
    omega
  · rw [hty] at r1 r5
    cases r5.symm.trans (e10.arrC ht)
    obtain ⟨q, hqe, hq1, hq2, hq3⟩ := h1.1.grow (tg := tg) (n := N) hsz r2 r3 (by omega) (fun q hq => by
      unfold cOK
      rw [va_up_self, va_up_self, va_up_self, va_up_self, if_neg (by show ¬ tg < 99; omega), hq, r1]
      congr 2
      funext j
      exact fv_def (by rcases ht with rfl | rfl | rfl | rfl <;> rfl))
    have hqu : q = uc := by rw [hqe, h1.2]; omega
    rw [hqu] at hq1 hq2 hq3
    have kk := k hq1 H' locs la ⟨hq3, by rw [r2, h1.2]; omega⟩ ⟨by omega, by omega, by omega, hus⟩ h3 h4
    rw [show uc + 1 - x_u X = uc - x_u X + 1 by omega, show us + N - x_z X = us - x_z X + N by omega] at kk
    rw [← hq2]
    exact kk
theorem WK.objA {w : Wd} {s : State} (h : WK w s) : ∃ (kA : Class) (comp : ClassId), s.vm.classes[w_A w 104]? = some kA ∧ kA.kind = .array comp (.object "java/lang/Object") ∧ s.vm.findClass "java/lang/Object" = some comp ∧ s.vm.findClass ("[" ++ (FieldType.object "java/lang/Object").toString) = some (w_A w 104) := (h.2.2 4 _ rfl).2
theorem V_newq {N : Nat} (g : Gd X cc own ret nL lev nm) (d : dc cc pc (.anewarray idx) 3 pc') (hcl : Cond.classLink own idx "java/lang/Object" ∈ lw_k) (hN : N < 100000) (huc : uc + 1 ≤ 600000) (hus : us + N ≤ 7293034)
    (k : (T uc).1 = 99 → V X (va_up T uc (104, N)) (va_up I uc fun _ => 0) (va_up L uc fun _ => 0) (va_up R uc fun _ => none) (uc + 1) (us + N) pc' ls (.ref uc :: st)) : V X T I L R uc us pc ls (.int (nI N) :: st) := by
  intro H locs la h1 h2 h3 h4
  obtain ⟨hd, rfl⟩ := d
  obtain ⟨e1, e2, e3, e4, e5, e6, e7, e8, e9, e10⟩ := g
  have hts : ∀ w ∈ lw_k, w.before (x_a X) (x_s X) = true := fun w h => e10.at h _
  obtain ⟨b1, b2, b3, b4⟩ := h2
  have hsz : H.size ≤ w_b (x_w X) + 600000 := by
    rw [h1.2]
    omega
  have hc : (nI N).toNatClampNeg = N := nI_clamp (by omega)
  refine W.anew e1 e2 e6 (hts _ hcl) (hts _ (lt_k q118 rfl)) rfl hd rfl (nI_pos (by omega)) (by rw [hc]; omega) ?_ ?_ (fun cA kA comp f1 f2 f3 f4 => ?_)
  · show uc - x_u X + 1 ≤ 601024 - x_u X
    omega
  · show us - x_z X + (nI N).toNatClampNeg ≤ 7293034 - x_z X
    rw [hc]
    omega
  · obtain ⟨kA', comp', g1, g2, g3, g4⟩ := e10.objA
    cases f1.symm.trans g4
    rw [hc]
    generalize hH1 : H.push ({ cls := w_A (x_w X) 104, slots := Array.replicate N .null, vm := .none } : Cell) = H1
    have z1 : H1.size = H.size + 1 := by rw [← hH1, Array.size_push]
    have r1 : H1[H.size]? = some (arrV (w_A (x_w X) 104) N (fun _ => .null)) := by rw [← hH1, Array.getElem?_push_size, ← arrV_new]
    have o1 : ∀ q : Nat, q < H.size → H1[q]? = H[q]? := fun q hq => by rw [← hH1, Array.getElem?_push, if_neg (Nat.ne_of_lt hq)]
    obtain ⟨q, hqe, hq1, hq2, hq3⟩ := h1.1.grow (tg := 104) (n := N) hsz z1 o1 (by decide) (fun q hq => by
      unfold cOK
      rw [va_up_self, va_up_self, va_up_self, va_up_self, if_neg (by show ¬ 104 < 99; omega), hq, r1]
      rfl)
    have hqu : q = uc := by rw [hqe, h1.2]; omega
    rw [hqu] at hq1 hq2 hq3
    have kk := k hq1 H1 locs la ⟨hq3, by rw [z1, h1.2]; omega⟩ ⟨by omega, by omega, by omega, hus⟩ h3 h4
    rw [show uc + 1 - x_u X = uc - x_u X + 1 by omega, show us + N - x_z X = us - x_z X + N by omega] at kk
    rw [← hq2]
    exact kk
theorem V_objInit (g : Gd X cc own ret nL lev nm) (d : dc cc pc (.invokespecial idx) 3 pc') (hl : Cond.methodLink own idx Lib.objectInit ∈ lw_k) (hi : Cond.instanceMethod Lib.objectInit ∈ lw_k) (hc : Cond.code Lib.objectInit ⟨#[0xb1]⟩ 1 none ∈ lw_k) (hlev : 1 ≤ lev) (hroom : (st.map fun v => v.category).sum ≤ 8) (k : V X T I L R uc us pc' ls st) : V X T I L R uc us pc ls (.ref a :: st) := by
  intro H locs la h1 h2 h3 h4
  obtain ⟨hd, rfl⟩ := d
  obtain ⟨e1, e2, e3, e4, e5, e6, e7, e8, e9, e10⟩ := g
  have hts : ∀ w ∈ lw_k, w.before (x_a X) (x_s X) = true := fun w h => e10.at h _
  refine W.objInit e1 e2 e6 (hts _ hl) (hts _ hi) (hts _ hc) rfl (by rw [h4.1, e4, e3]) rfl hd ?_ ?_ (k H locs la h1 h2 h3 h4)
  · show 1 ≤ x_v X
    rw [e5]; exact hlev
  · show 2 * 0 + ((st.map (cv (w_ad (x_w X)))).map fun v => v.category).sum + 12 ≤ 40 * x_v X
    rw [sum_cat, e5]
    omega
theorem V_cast {C nm2 : String} {Tb : u_T} {N : Nat} (g : Gd X cc own ret nL lev nm) (d : dc cc pc (.checkcast idx) 3 pc') (hT : (T a).1 = tg) (hkt : kt[tg]? = some (C, Tb, N)) (h99 : tg < 99) (hcl : Cond.classLink own idx nm2 ∈ lw_k) (hc : C = nm2 ∨ Cond.castable C nm2 ∈ lw_k) (k : V X T I L R uc us pc' ls (.ref a :: st)) : V X T I L R uc us pc ls (.ref a :: st) := by
  intro H locs la h1 h2 h3 h4
  obtain ⟨hd, rfl⟩ := d
  obtain ⟨e1, e2, e3, e4, e5, e6, e7, e8, e9, e10⟩ := g
  have hts : ∀ w ∈ lw_k, w.before (x_a X) (x_s X) = true := fun w h => e10.at h _
  rcases hc with rfl | hc
  · exact va_castE e1 e2 e6 (hts _ hcl) (h1.1.recv e10 hT hkt h99) hd (k H locs la h1 h2 h3 h4)
  · exact va_castY e1 e2 e6 (hts _ hcl) (va_Nw.of rfl (hts _ hc)) (h1.1.recv e10 hT hkt h99) hd (k H locs la h1 h2 h3 h4)
theorem V_aast {i : Int32} {b : Nat} (g : Gd X cc own ret nL lev nm) (d : dc cc pc .aastore 1 pc') (hT : T a = (104, n)) (hi : vp_in i n) (hb : (T b).1 < 17) (kx : V X T I L (u2 R a i.toNatClampNeg (some b)) uc us pc' ls st) : V X T I L R uc us pc ls (.ref b :: .int i :: .ref a :: st) := by
  intro H locs la h1 h2 h3 h4
  obtain ⟨hd, rfl⟩ := d
  obtain ⟨e1, e2, e3, e4, e5, e6, e7, e8, e9, e10⟩ := g
  have hts : ∀ w ∈ lw_k, w.before (x_a X) (x_s X) = true := fun w h => e10.at h _
  obtain ⟨⟨C, Tb, N⟩, hkt⟩ : ∃ q, kt[(T b).1]? = some q := ⟨kt[(T b).1]'(by simp [kt]; omega), List.getElem?_eq_getElem _⟩
  obtain ⟨-, -, q3, -⟩ := k_new _ hb hkt
  obtain ⟨cellB, g1, g2, g3⟩ := h1.1.recv e10 rfl hkt (by omega)
  obtain ⟨kA, comp, k1, k2, k3, -⟩ := e10.objA
  obtain ⟨c0, t0, f1, f2, f3⟩ := Cond.castable_spec (hts _ q3)
  cases g3.symm.trans f1
  cases k3.symm.trans f2
  obtain ⟨kC, hkC, -⟩ := Vm.findClass_spec g3
  obtain ⟨kO, hkO, -⟩ := Vm.findClass_spec k3
  have hlt : i.toNatClampNeg < n := Nat.not_le.mp fun q => hi (Or.inr q)
  have h0 : ¬ i < 0 := fun q => hi (Or.inl q)
  refine W.aast e1 e2 (h1.arr hT (by decide)) (fun q h => by cases h) (fun h => by cases h) k1 k2 rfl hkO ⟨h0, by rw [arrV_size]; exact hlt⟩ g1 (fun q h => by rw [h] at g2; cases g2) hkC f3 rfl rfl hd fun H' r1 r2 r3 => ?_
  refine kx H' _ la (h1.sto hT (by decide) (fun _ _ => rfl) (fun _ _ => rfl) (fun b hb => u2_o _ _ hb) (fun j => ?_) r1 r2 r3) h2 (stoF h1.1 hT (by decide) h3) h4
  by_cases e : j = i.toNatClampNeg
  · subst e
    rw [if_pos rfl, u2_s]
    rfl
  · rw [if_neg e, u2_n _ _ (fun q => e q.2)]
theorem V_aastN {j b : Nat} (g : Gd X cc own ret nL lev nm) (d : dc cc pc .aastore 1 pc') (hT : T a = (104, n)) (hj : j < n) (hn : n < 2 ^ 31) (hb : (T b).1 < 17) (kx : V X T I L (u2 R a j (some b)) uc us pc' ls st) : V X T I L R uc us pc ls (.ref b :: .int (nI j) :: .ref a :: st) :=
  V_aast g d hT (vp_in_nI hj hn) hb (by rw [nI_clamp (by omega)]; exact kx)
/-- is it null, or of the memory -/
def lvr (T : Tt) : Option Nat → Prop
  | none => True
  | some a => (T a).1 ≠ 99
theorem lvr_inj {w : Wd} {H : Heap} (h : Rep w T I L R H) {r1 r2 : Option Nat} (h1 : lvr T r1) (h2 : lvr T r2) : r1.map (w_ad w) = r2.map (w_ad w) ↔ r1 = r2 := by
  cases r1 with
  | none => cases r2 <;> simp
  | some x =>
    cases r2 with
    | none => simp
    | some y =>
      simp only [Option.map_some, Option.some.injEq]
      exact ⟨fun e => h.2.1 x y h1 h2 e, fun e => by rw [e]⟩
theorem V_acmp_eq {r1 r2 : Option Nat} {v1 v2 : Value} {off : Int} (g : Gd X cc own ret nL lev nm) (d : dj cc pc (.if_acmp .eq off) off tgt pc') (h1 : v1 = rv r1) (h2 : v2 = rv r2) (l1 : lvr T r1) (l2 : lvr T r2) (kt : r1 = r2 → V X T I L R uc us tgt ls st) (kf : ¬ r1 = r2 → V X T I L R uc us pc' ls st) : V X T I L R uc us pc ls (v2 :: v1 :: st) := by
  subst h1 h2
  intro H locs la q1 q2 q3 q4
  obtain ⟨hd, ht, rfl⟩ := d
  have e := lvr_inj q1.1 l1 l2
  show W _ _ _ _ _ _ _ _ _ _ _ _ _ _ _ (F0 _ _ _ (cv _ (rv r2) :: cv _ (rv r1) :: _))
  rw [cv_rv, cv_rv]
  exact lv_acmp_eq g.1 g.2.1 hd ht (fun c => kt (e.mp c) H locs la q1 q2 q3 q4) (fun c => kf (fun z => c (e.mpr z)) H locs la q1 q2 q3 q4)
theorem V_acmp_ne {r1 r2 : Option Nat} {v1 v2 : Value} {off : Int} (g : Gd X cc own ret nL lev nm) (d : dj cc pc (.if_acmp .ne off) off tgt pc') (h1 : v1 = rv r1) (h2 : v2 = rv r2) (l1 : lvr T r1) (l2 : lvr T r2) (kt : ¬ r1 = r2 → V X T I L R uc us tgt ls st) (kf : r1 = r2 → V X T I L R uc us pc' ls st) : V X T I L R uc us pc ls (v2 :: v1 :: st) := by
  subst h1 h2
  intro H locs la q1 q2 q3 q4
  obtain ⟨hd, ht, rfl⟩ := d
  have e := lvr_inj q1.1 l1 l2
  show W _ _ _ _ _ _ _ _ _ _ _ _ _ _ _ (F0 _ _ _ (cv _ (rv r2) :: cv _ (rv r1) :: _))
  rw [cv_rv, cv_rv]
  exact lv_acmp_ne g.1 g.2.1 hd ht (fun c => kt (fun z => c (e.mpr z)) H locs la q1 q2 q3 q4) (fun c => kf (e.mp c) H locs la q1 q2 q3 q4)
end ObjV
