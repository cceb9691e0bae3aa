/-! rows of V: fields, arrays, new -/
set_option maxRecDepth 100000
def FL (own : String) (idx tg k : Nat) : Prop := ∃ (C : String) (Tb : u_T) (N : Nat) (ref : String), kt[tg]? = some (C, Tb, N) ∧ k < N ∧ tg < 99 ∧ (Cond.fieldLink own idx ref (Tb k).2.1 (Tb k).2.2.1 ∈ lw_k ∨ ∃ host, Cond.fieldLinkNest own idx ref (Tb k).2.1 (Tb k).2.2.1 host ∈ lw_k) ∧ (ref = (Tb k).1 ∨ Cond.sameField ref (Tb k).1 (Tb k).2.1 (Tb k).2.2.1 ∈ lw_k)
/-- it is no final field -/
def FN (tg k : Nat) : Prop := ∀ (C : String) (Tb : u_T) (N : Nat), kt[tg]? = some (C, Tb, N) → (Tb k).2.2.2 = false
/-- a final field, written by its own class's constructor -/
def FF (own : String) (idx tg k : Nat) : Prop := ∃ (C : String) (Tb : u_T) (N : Nat), kt[tg]? = some (C, Tb, N) ∧ k < N ∧ tg < 99 ∧ Cond.fieldLink own idx own (Tb k).2.1 (Tb k).2.2.1 ∈ lw_k ∧ (Tb k).1 = own ∧ (Tb k).2.2.2 = true
section MemV
variable {X : CX} {T : Tt} {I I' : It} {L L' : Lt} {R R' : Rt} {uc us pc pc' tgt : Nat} {ls : List (Option Value)} {st : List Value} {cc : ByteArray} {own : String} {ret : Option FieldType} {nL lev : Nat} {nm : String} {idx tg k a : Nat}
theorem Rep.obj {w : Wd} {H : Heap} (h : Rep w T I L R H) (hT : (T a).1 = tg) {C : String} {Tb : u_T} {N : Nat} (hkt : kt[tg]? = some (C, Tb, N)) (h99 : tg < 99) : ∃ cell : Cell, H[w_ad w a]? = some cell ∧ cell.cls = (w_D w).1 tg ∧ cell.vm = .none ∧ ∀ k, k < N → cell.slots[(w_D w).2 tg k]? = some (fv (w_ad w) (kft tg k) (I a k) (L a k) (R a k)) := by
  have hc := (h.1 a (by rw [hT]; omega)).1
  unfold cOK at hc
  rw [hT, if_pos h99] at hc
  obtain ⟨q, hq, cell, q1, q2, q3, q4⟩ := hc
  cases hkt.symm.trans hq
  exact ⟨cell, q1, q2, q3, q4⟩
theorem Rep.arr {w : Wd} {H : Heap} (h : Rep w T I L R H) {n : Nat} (hT : T a = (tg, n)) (h99 : 99 < tg) : H[w_ad w a]? = some (arrV (w_A w tg) n (fun j => fv (w_ad w) (aft tg) (I a j) (L a j) (R a j))) := by
  have hc := (h.1 a (by rw [hT]; show tg ≠ 99; omega)).1
  unfold cOK at hc
  rw [hT, if_neg (by show ¬ tg < 99; omega)] at hc
  exact hc
theorem RepU.obj {w : Wd} {uc : Nat} {H : Heap} (h : RepU w uc T I L R H) (hT : (T a).1 = tg) {C : String} {Tb : u_T} {N : Nat} (hkt : kt[tg]? = some (C, Tb, N)) (h99 : tg < 99) : ∃ cell : Cell, H[w_ad w a]? = some cell ∧ cell.cls = (w_D w).1 tg ∧ cell.vm = .none ∧ ∀ k, k < N → cell.slots[(w_D w).2 tg k]? = some (fv (w_ad w) (kft tg k) (I a k) (L a k) (R a k)) := h.1.obj hT hkt h99
theorem RepU.arr {w : Wd} {uc : Nat} {H : Heap} (h : RepU w uc T I L R H) {n : Nat} (hT : T a = (tg, n)) (h99 : 99 < tg) : H[w_ad w a]? = some (arrV (w_A w tg) n (fun j => fv (w_ad w) (aft tg) (I a j) (L a j) (R a j))) := h.1.arr hT h99
theorem V_getf {v : Value} (g : Gd X cc own ret nL lev nm) (d : dc cc pc (.getfield idx) 3 pc') (f : FL own idx tg k) (hT : (T a).1 = tg) (hv : ∀ ad, cv ad v = fv ad (kft tg k) (I a k) (L a k) (R a k)) (kx : V X T I L R uc us pc' ls (v :: st)) : V X T I L R uc us pc ls (.ref a :: st) := by
  intro H locs la h1 h2 h3 h4
  obtain ⟨hd, rfl⟩ := d
  obtain ⟨e1, e2, e3, e4, e5, e6, e7, e8, e9, e10⟩ := g
  obtain ⟨C, Tb, N, ref, hkt, hk, h99, hlink, hsame⟩ := f
  obtain ⟨cell, q1, q2, q3, q4⟩ := h1.obj hT hkt h99
  obtain ⟨hin, hty, hnm⟩ := k_ok tg hkt
  have hts : ∀ w ∈ lw_k, w.before (x_a X) (x_s X) = true := fun w h => e10.at h _
  obtain ⟨hS, hfc, kC, hkC, hkind⟩ := e10.2.1 tg _ hkt
  obtain ⟨cf, kf, fi, fd, hi, hsl⟩ := hS k hk
  have hst := (u_facts hfc hkC (u_lays hts hin hk) hi).1
  have hi' : (x_s X).fieldFound? ref (Tb k).2.1 (Tb k).2.2.1 = some (cf, kf, fi, fd) := by
    rcases hsame with rfl | h
    · exact hi
    · exact u_same (hts _ h) _ hi
  have hval : cell.slots[fd.slot]? = some (cv (w_ad (x_w X)) v) := by rw [hsl, q4 k hk, hv]
  have kk := kx H locs la h1 h2 h3 h4
  rcases hlink with hl | ⟨host, hl⟩
  · exact W.getf e1 e2 e6 (hts _ hl) hi' hst q1 (by rw [q3]; exact fun h => by cases h) hval rfl rfl hd kk
  · exact va_Wgetf e1 e2 e6 (hts _ hl) hi' hst q1 (by rw [q3]; exact fun h => by cases h) hval rfl rfl hd kk
theorem V_getI (g : Gd X cc own ret nL lev nm) (d : dc cc pc (.getfield idx) 3 pc') (f : FL own idx tg k) (hT : (T a).1 = tg) (hk : kd (kft tg k) = 0) (kx : V X T I L R uc us pc' ls (.int (I a k) :: st)) : V X T I L R uc us pc ls (.ref a :: st) :=
  V_getf (v := .int (I a k)) g d f hT (fun ad => (fv_i hk).symm) kx
theorem V_getR {b : Nat} (g : Gd X cc own ret nL lev nm) (d : dc cc pc (.getfield idx) 3 pc') (f : FL own idx tg k) (hT : (T a).1 = tg) (hk : kd (kft tg k) = 2) (hr : R a k = some b) (kx : V X T I L R uc us pc' ls (.ref b :: st)) : V X T I L R uc us pc ls (.ref a :: st) :=
  V_getf (v := .ref b) g d f hT (fun ad => by rw [fv_r hk, hr]; rfl) kx
theorem V_getN (g : Gd X cc own ret nL lev nm) (d : dc cc pc (.getfield idx) 3 pc') (f : FL own idx tg k) (hT : (T a).1 = tg) (hk : kd (kft tg k) = 2) (hr : R a k = none) (kx : V X T I L R uc us pc' ls (.null :: st)) : V X T I L R uc us pc ls (.ref a :: st) :=
  V_getf (v := .null) g d f hT (fun ad => by rw [fv_r hk, hr]; rfl) kx
theorem V_putf {v : Value} (g : Gd X cc own ret nL lev nm) (d : dc cc pc (.putfield idx) 3 pc') (f : (FL own idx tg k ∧ FN tg k) ∨ (FF own idx tg k ∧ nm = "<init>")) (hT : (T a).1 = tg) (hn : ∀ ad, narrow (kft tg k) (cv ad v) = cv ad v) (hf : ∀ ad, fits (kft tg k) (cv ad v) = true)
    (hI : ∀ b, b ≠ a → I' b = I b) (hL : ∀ b, b ≠ a → L' b = L b) (hR : ∀ b, b ≠ a → R' b = R b) (hval : ∀ ad j, fv ad (kft tg j) (I' a j) (L' a j) (R' a j) = if j = k then cv ad v else fv ad (kft tg j) (I a j) (L a j) (R a j))
    (kx : V X T I' L' R' uc us pc' ls st) : V X T I L R uc us pc ls (v :: .ref a :: st) := by
  intro H locs la h1 h2 h3 h4
  obtain ⟨hd, rfl⟩ := d
  obtain ⟨e1, e2, e3, e4, e5, e6, e7, e8, e9, e10⟩ := g
  have hts : ∀ w ∈ lw_k, w.before (x_a X) (x_s X) = true := fun w h => e10.at h _
  obtain ⟨C, Tb, N, hkt, hk, h99⟩ : ∃ (C : String) (Tb : u_T) (N : Nat), kt[tg]? = some (C, Tb, N) ∧ k < N ∧ tg < 99 := by
    rcases f with ⟨⟨C, Tb, N, ref, a1, a2, a3, -⟩, -⟩ | ⟨⟨C, Tb, N, a1, a2, a3, -⟩, -⟩
    · exact ⟨C, Tb, N, a1, a2, a3⟩
    · exact ⟨C, Tb, N, a1, a2, a3⟩
  obtain ⟨cell, q1, q2, q3, q4⟩ := h1.obj hT hkt h99
  obtain ⟨hin, hty, hnm⟩ := k_ok tg hkt
  have hap := va_apart (own := own) hts hin (kft tg) hty hnm e10.2 hkt
  obtain ⟨hS, hfc, kC, hkC, hkind⟩ := e10.2.1 tg _ hkt
  obtain ⟨cf, kf, fi, fd, hi, hsl⟩ := hS k hk
  have hst := (u_facts hfc hkC (u_lays hts hin hk) hi).1
  have ha99 : (T a).1 ≠ 99 := by rw [hT]; omega
  have go : ∀ H' : Heap, H'[w_ad (x_w X) a]? = some (cell.setSlot fd.slot (cv (w_ad (x_w X)) v)) → H'.size = H.size → (∀ q, q ≠ w_ad (x_w X) a → H'[q]? = H[q]?) →
      W (x_p X) (x_l X) (x_e X) (rmx (x_v X) (x_u X) (x_z X)) (x_s X) (x_m X) (x_a X) (x_b X) (x_h X) (x_c X) H' (locs ++ [⟨w_ad (x_w X) a, fd.slot⟩]) (uc - x_u X) (us - x_z X) (QQ X) (F0 (x_m X) (pc + 3) la (st.map (cv (w_ad (x_w X))))) := by
    intro H' r1 r2 r3
    refine kx H' _ la (h1.set ha99 r2 r3 hI hL hR ?_) h2 ?_ h4
    · unfold cOK
      rw [hT, if_pos h99]
      refine ⟨_, hkt, _, r1, q2, q3, fun j hj => ?_⟩
      have := t_set q4 hap hk (cv (w_ad (x_w X)) v) j hj
      rw [hsl, this]
      exact congrArg some (hval (w_ad (x_w X)) j).symm
    · intro q hq
      rcases List.mem_append.mp hq with h | h
      · exact h3 q h
      · rw [List.mem_singleton.mp h]
        exact (h1.1.1 a ha99).2
  rcases f with ⟨⟨C', Tb', N', ref, a1, a2, a3, hlink, hsame⟩, hfn⟩ | ⟨⟨C', Tb', N', a1, a2, a3, hl, hdecl, hfin⟩, hin2⟩
  · cases hkt.symm.trans a1
    have hi' : (x_s X).fieldFound? ref (Tb k).2.1 (Tb k).2.2.1 = some (cf, kf, fi, fd) := by
      rcases hsame with rfl | h
      · exact hi
      · exact u_same (hts _ h) _ hi
    have hlay := hts _ (hin _ (u_in_lay hk))
    unfold u_lay at hlay
    rw [if_neg (by rw [hfn _ _ _ hkt]; decide)] at hlay
    have h6 := u_store hfc hkC hkind hlay hi (hty k hk) (hn (w_ad (x_w X))) (hf (w_ad (x_w X)))
    rcases hlink with hl | ⟨host, hl⟩
    · exact W.putK e1 e2 (f := fd) ⟨e6, hts _ hl, ⟨_, _, _, hi'⟩, hst⟩ (by rw [q2]; exact h6) q1 q3 (by rw [hsl]; exact k2_hasslot (q4 k hk)) rfl rfl hd go
    · exact va_WputK e1 e2 (f := fd) e6 (hts _ hl) hi' hst (by rw [q2]; exact h6) q1 q3 (by rw [hsl]; exact k2_hasslot (q4 k hk)) rfl rfl hd go
  · cases hkt.symm.trans a1
    have hlay := hts _ (hin _ (u_in_lay hk))
    unfold u_lay at hlay
    rw [if_pos hfin] at hlay
    have hcf : (x_m X).cls = cf := by
      obtain ⟨_, _, c', _, _, _, -, -, hf', -, -, -, hown2, -⟩ := Cond.laysFinal_spec hlay
      have e1 : c' = cf := by have := hi.symm.trans hf'; simp at this; exact this.1.symm
      rw [hdecl] at hown2
      rw [← e1]; exact Option.some.inj (e6.symm.trans hown2)
    have h6 := u_fits hfc hkC hkind (Or.inr hlay) hi (hty k hk) (hn (w_ad (x_w X))) (hf (w_ad (x_w X)))
    have hi' : (x_s X).fieldFound? own (Tb k).2.1 (Tb k).2.2.1 = some (cf, kf, fi, fd) := by rw [← hdecl]; exact hi
    exact W.putFinK e1 e2 e6 (hts _ hl) hi' hst hcf (e9.1.trans hin2) (by rw [q2]; exact h6) q1 q3 (by rw [hsl]; exact k2_hasslot (q4 k hk)) rfl rfl hd go
theorem V_putI {x : Int32} (g : Gd X cc own ret nL lev nm) (d : dc cc pc (.putfield idx) 3 pc') (f : (FL own idx tg k ∧ FN tg k) ∨ (FF own idx tg k ∧ nm = "<init>")) (hT : (T a).1 = tg) (hk : kd (kft tg k) = 0) (hn : narrow (kft tg k) (.int x) = .int x) (hf : fits (kft tg k) (.int x) = true) (kx : V X T (u2 I a k x) L R uc us pc' ls st) : V X T I L R uc us pc ls (.int x :: .ref a :: st) := by
  refine V_putf g d f hT (fun _ => hn) (fun _ => hf) (fun b hb => u2_o _ _ hb) (fun _ _ => rfl) (fun _ _ => rfl) (fun ad j => ?_) kx
  by_cases e : j = k
  · subst e
    rw [if_pos rfl, fv_i hk, u2_s]
    rfl
  · rw [if_neg e, u2_n _ _ (fun q => e q.2)]
theorem V_putR {r : Option Nat} {v : Value} (g : Gd X cc own ret nL lev nm) (d : dc cc pc (.putfield idx) 3 pc') (f : (FL own idx tg k ∧ FN tg k) ∨ (FF own idx tg k ∧ nm = "<init>")) (hT : (T a).1 = tg) (hk : kd (kft tg k) = 2) (hv : v = rv r) (kx : V X T I L (u2 R a k r) uc us pc' ls st) : V X T I L R uc us pc ls (v :: .ref a :: st) := by
  subst hv
  have hz : ∀ (ty : FieldType) (ad : Nat → Nat), kd ty = 2 → narrow ty (cv ad (rv r)) = cv ad (rv r) ∧ fits ty (cv ad (rv r)) = true := by
    intro ty ad h
    cases ty <;> simp [kd] at h <;> cases r <;> exact ⟨rfl, rfl⟩
  refine V_putf g d f hT (fun ad => (hz _ ad hk).1) (fun ad => (hz _ ad hk).2) (fun _ _ => rfl) (fun _ _ => rfl) (fun b hb => u2_o _ _ hb) (fun ad j => ?_) kx
  by_cases e : j = k
  · subst e
    rw [if_pos rfl, fv_r hk, u2_s, cv_rv]
  · rw [if_neg e, u2_n _ _ (fun q => e q.2)]
/-- the array classes -/
theorem WK.arr {w : Wd} {s : State} (h : WK w s) : ArrOfT s (w_A w 100) .int ∧ ArrOfT s (w_A w 101) .byte ∧ ArrOfT s (w_A w 102) .long ∧ ArrOfT s (w_A w 103) .boolean ∧ ArrOfT s (w_A w 104) (.object "java/lang/Object") :=
  ⟨(h.2.2 0 _ rfl).1, (h.2.2 1 _ rfl).1, (h.2.2 2 _ rfl).1, (h.2.2 3 _ rfl).1, (h.2.2 4 _ rfl).1⟩
theorem V_iald {n : Nat} {i : Int32} (g : Gd X cc own ret nL lev nm) (d : dc cc pc .iaload 1 pc') (hT : T a = (100, n)) (hi : vp_in i n) (kx : V X T I L R uc us pc' ls (.int (I a i.toNatClampNeg) :: st)) : V X T I L R uc us pc ls (.int i :: .ref a :: st) := by
  intro H locs la h1 h2 h3 h4
  obtain ⟨hd, rfl⟩ := d
  obtain ⟨e1, e2, e3, e4, e5, e6, e7, e8, e9, e10⟩ := g
  have hc := h1.arr hT (by decide)
  have hlt : i.toNatClampNeg < n := Nat.not_le.mp fun q => hi (Or.inr q)
  exact W.iald (v := .int (I a i.toNatClampNeg)) e1 e2 hc (e10.arr.1 n _) (fun q => by cases q) (by rw [arrV_size]; exact hi) (by rw [arrV_read _ _ hlt]; rfl) rfl rfl hd (kx H locs la h1 h2 h3 h4)
theorem V_bald {n : Nat} {i : Int32} (g : Gd X cc own ret nL lev nm) (d : dc cc pc .baload 1 pc') (hT : T a = (101, n)) (hi : vp_in i n) (kx : V X T I L R uc us pc' ls (.int (I a i.toNatClampNeg) :: st)) : V X T I L R uc us pc ls (.int i :: .ref a :: st) := by
  intro H locs la h1 h2 h3 h4
  obtain ⟨hd, rfl⟩ := d
  obtain ⟨e1, e2, e3, e4, e5, e6, e7, e8, e9, e10⟩ := g
  have hc := h1.arr hT (by decide)
  have hlt : i.toNatClampNeg < n := Nat.not_le.mp fun q => hi (Or.inr q)
  exact W.bald (v := .int (I a i.toNatClampNeg)) e1 e2 hc (e10.arr.2.1 n _) (fun q => by cases q) (by rw [arrV_size]; exact hi) (by rw [arrV_read _ _ hlt]; rfl) rfl rfl hd (kx H locs la h1 h2 h3 h4)
theorem V_zald {n : Nat} {i : Int32} (g : Gd X cc own ret nL lev nm) (d : dc cc pc .baload 1 pc') (hT : T a = (103, n)) (hi : vp_in i n) (kx : V X T I L R uc us pc' ls (.int (I a i.toNatClampNeg) :: st)) : V X T I L R uc us pc ls (.int i :: .ref a :: st) := by
  intro H locs la h1 h2 h3 h4
  obtain ⟨hd, rfl⟩ := d
  obtain ⟨e1, e2, e3, e4, e5, e6, e7, e8, e9, e10⟩ := g
  have hc := h1.arr hT (by decide)
  have hlt : i.toNatClampNeg < n := Nat.not_le.mp fun q => hi (Or.inr q)
  exact W.zald (v := .int (I a i.toNatClampNeg)) e1 e2 hc (e10.arr.2.2.2.1 n _) (fun q => by cases q) (by rw [arrV_size]; exact hi) (by rw [arrV_read _ _ hlt]; rfl) rfl rfl hd (kx H locs la h1 h2 h3 h4)
theorem V_lald {n : Nat} {i : Int32} (g : Gd X cc own ret nL lev nm) (d : dc cc pc .laload 1 pc') (hT : T a = (102, n)) (hi : vp_in i n) (kx : V X T I L R uc us pc' ls (.long (L a i.toNatClampNeg) :: st)) : V X T I L R uc us pc ls (.int i :: .ref a :: st) := by
  intro H locs la h1 h2 h3 h4
  obtain ⟨hd, rfl⟩ := d
  obtain ⟨e1, e2, e3, e4, e5, e6, e7, e8, e9, e10⟩ := g
  have hc := h1.arr hT (by decide)
  have hlt : i.toNatClampNeg < n := Nat.not_le.mp fun q => hi (Or.inr q)
  exact W.lald (v := .long (L a i.toNatClampNeg)) e1 e2 hc (e10.arr.2.2.1 n _) (fun q => by cases q) (by rw [arrV_size]; exact hi) (by rw [arrV_read _ _ hlt]; rfl) rfl rfl hd (kx H locs la h1 h2 h3 h4)
theorem V_aald {n b : Nat} {i : Int32} (g : Gd X cc own ret nL lev nm) (d : dc cc pc .aaload 1 pc') (hT : T a = (104, n)) (hi : vp_in i n) (hr : R a i.toNatClampNeg = some b) (kx : V X T I L R uc us pc' ls (.ref b :: st)) : V X T I L R uc us pc ls (.int i :: .ref a :: st) := by
  intro H locs la h1 h2 h3 h4
  obtain ⟨hd, rfl⟩ := d
  obtain ⟨e1, e2, e3, e4, e5, e6, e7, e8, e9, e10⟩ := g
  have hc := h1.arr hT (by decide)
  have hlt : i.toNatClampNeg < n := Nat.not_le.mp fun q => hi (Or.inr q)
  exact W.aald (v := .ref (w_ad (x_w X) b)) e1 e2 hc (e10.arr.2.2.2.2 n _) rfl (fun q => by cases q) (by rw [arrV_size]; exact hi) (by rw [arrV_read _ _ hlt, hr]; rfl) rfl rfl hd (kx H locs la h1 h2 h3 h4)
theorem Rep.sto {w : Wd} {H H' : Heap} {n j : Nat} {v : Value} (h : Rep w T I L R H) (hT : T a = (tg, n)) (h99 : 99 < tg) (hI : ∀ b, b ≠ a → I' b = I b) (hL : ∀ b, b ≠ a → L' b = L b) (hR : ∀ b, b ≠ a → R' b = R b) (hval : ∀ i, fv (w_ad w) (aft tg) (I' a i) (L' a i) (R' a i) = if i = j then v else fv (w_ad w) (aft tg) (I a i) (L a i) (R a i))
    (r1 : H'[w_ad w a]? = some ((arrV (w_A w tg) n (fun j => fv (w_ad w) (aft tg) (I a j) (L a j) (R a j))).setSlot j v)) (r2 : H'.size = H.size) (r3 : ∀ q, q ≠ w_ad w a → H'[q]? = H[q]?) : Rep w T I' L' R' H' := by
  refine h.set (by rw [hT]; show tg ≠ 99; omega) r2 r3 hI hL hR ?_
  unfold cOK
  rw [hT, if_neg (by show ¬ tg < 99; omega)]
  rw [r1, arrV_store]
  congr 2
  funext i
  rw [hval]
  rfl
theorem RepU.sto {w : Wd} {uc : Nat} {H H' : Heap} {n j : Nat} {v : Value} (h : RepU w uc T I L R H) (hT : T a = (tg, n)) (h99 : 99 < tg) (hI : ∀ b, b ≠ a → I' b = I b) (hL : ∀ b, b ≠ a → L' b = L b) (hR : ∀ b, b ≠ a → R' b = R b) (hval : ∀ i, fv (w_ad w) (aft tg) (I' a i) (L' a i) (R' a i) = if i = j then v else fv (w_ad w) (aft tg) (I a i) (L a i) (R a i))
    (r1 : H'[w_ad w a]? = some ((arrV (w_A w tg) n (fun j => fv (w_ad w) (aft tg) (I a j) (L a j) (R a j))).setSlot j v)) (r2 : H'.size = H.size) (r3 : ∀ q, q ≠ w_ad w a → H'[q]? = H[q]?) : RepU w uc T I' L' R' H' := ⟨h.1.sto hT h99 hI hL hR hval r1 r2 r3, r2.trans h.2⟩
theorem stoF {w : Wd} {H : Heap} {locs : List Loc} {n j : Nat} (h : Rep w T I L R H) (hT : T a = (tg, n)) (h99 : 99 < tg) (h3 : ∀ q ∈ locs, w_F w q.base) : ∀ q ∈ locs ++ [⟨w_ad w a, j⟩], w_F w q.base := by
  intro q hq
  rcases List.mem_append.mp hq with h' | h'
  · exact h3 q h'
  · rw [List.mem_singleton.mp h']
    exact (h.1 a (by rw [hT]; show tg ≠ 99; omega)).2
theorem V_iast {n : Nat} {i x : Int32} (g : Gd X cc own ret nL lev nm) (d : dc cc pc .iastore 1 pc') (hT : T a = (100, n)) (hi : vp_in i n) (kx : V X T (u2 I a i.toNatClampNeg x) L R uc us pc' ls st) : V X T I L R uc us pc ls (.int x :: .int i :: .ref a :: st) := by
  intro H locs la h1 h2 h3 h4
  obtain ⟨hd, rfl⟩ := d
  obtain ⟨e1, e2, e3, e4, e5, e6, e7, e8, e9, e10⟩ := g
  refine W.iast e1 e2 (h1.arr hT (by decide)) (e10.arr.1 n _) (fun q => by cases q) (by rw [arrV_size]; exact hi) rfl rfl hd fun H' r1 r2 r3 => ?_
  refine kx H' _ la (h1.sto hT (by decide) (fun b hb => u2_o _ _ hb) (fun _ _ => rfl) (fun _ _ => rfl) (fun j => ?_) r1 r2 r3) h2 (stoF h1.1 hT (by decide) h3) h4
  by_cases e : j = i.toNatClampNeg
  · subst e
    rw [if_pos rfl, u2_s]
    rfl
  · rw [if_neg e, u2_n _ _ (fun q => e q.2)]
theorem V_zast {n : Nat} {i x : Int32} (g : Gd X cc own ret nL lev nm) (d : dc cc pc .bastore 1 pc') (hT : T a = (103, n)) (hi : vp_in i n) (hx : narrow .boolean (.int x) = .int x) (kx : V X T (u2 I a i.toNatClampNeg x) L R uc us pc' ls st) : V X T I L R uc us pc ls (.int x :: .int i :: .ref a :: st) := by
  intro H locs la h1 h2 h3 h4
  obtain ⟨hd, rfl⟩ := d
  obtain ⟨e1, e2, e3, e4, e5, e6, e7, e8, e9, e10⟩ := g
  refine W.zast e1 e2 (h1.arr hT (by decide)) (e10.arr.2.2.2.1 n _) (fun q => by cases q) (by rw [arrV_size]; exact hi) rfl rfl hd fun H' r1 r2 r3 => ?_
  rw [hx] at r1
  refine kx H' _ la (h1.sto hT (by decide) (fun b hb => u2_o _ _ hb) (fun _ _ => rfl) (fun _ _ => rfl) (fun j => ?_) r1 r2 r3) h2 (stoF h1.1 hT (by decide) h3) h4
  by_cases e : j = i.toNatClampNeg
  · subst e
    rw [if_pos rfl, u2_s]
    rfl
  · rw [if_neg e, u2_n _ _ (fun q => e q.2)]
theorem V_bast {n : Nat} {i x : Int32} (g : Gd X cc own ret nL lev nm) (d : dc cc pc .bastore 1 pc') (hT : T a = (101, n)) (hi : vp_in i n) (hx : narrow .byte (.int x) = .int x) (kx : V X T (u2 I a i.toNatClampNeg x) L R uc us pc' ls st) : V X T I L R uc us pc ls (.int x :: .int i :: .ref a :: st) := by
  intro H locs la h1 h2 h3 h4
  obtain ⟨hd, rfl⟩ := d
  obtain ⟨e1, e2, e3, e4, e5, e6, e7, e8, e9, e10⟩ := g
  refine W.bast e1 e2 (h1.arr hT (by decide)) (e10.arr.2.1 n _) (fun q => by cases q) (by rw [arrV_size]; exact hi) rfl rfl hd fun H' r1 r2 r3 => ?_
  rw [hx] at r1
  refine kx H' _ la (h1.sto hT (by decide) (fun b hb => u2_o _ _ hb) (fun _ _ => rfl) (fun _ _ => rfl) (fun j => ?_) r1 r2 r3) h2 (stoF h1.1 hT (by decide) h3) h4
  by_cases e : j = i.toNatClampNeg
  · subst e
    rw [if_pos rfl, u2_s]
    rfl
  · rw [if_neg e, u2_n _ _ (fun q => e q.2)]
theorem V_last {n : Nat} {i : Int32} {x : Int64} (g : Gd X cc own ret nL lev nm) (d : dc cc pc .lastore 1 pc') (hT : T a = (102, n)) (hi : vp_in i n) (kx : V X T I (u2 L a i.toNatClampNeg x) R uc us pc' ls st) : V X T I L R uc us pc ls (.long x :: .int i :: .ref a :: st) := by
  intro H locs la h1 h2 h3 h4
  obtain ⟨hd, rfl⟩ := d
  obtain ⟨e1, e2, e3, e4, e5, e6, e7, e8, e9, e10⟩ := g
  refine W.last e1 e2 (h1.arr hT (by decide)) (e10.arr.2.2.1 n _) (fun q => by cases q) (by rw [arrV_size]; exact hi) rfl rfl hd fun H' r1 r2 r3 => ?_
  refine kx H' _ la (h1.sto hT (by decide) (fun _ _ => rfl) (fun b hb => u2_o _ _ hb) (fun _ _ => rfl) (fun j => ?_) r1 r2 r3) h2 (stoF h1.1 hT (by decide) h3) h4
  by_cases e : j = i.toNatClampNeg
  · subst e
    rw [if_pos rfl, u2_s]
    rfl
  · rw [if_neg e, u2_n _ _ (fun q => e q.2)]
theorem V_alen {n : Nat} (g : Gd X cc own ret nL lev nm) (d : dc cc pc .arraylength 1 pc') (hT : T a = (tg, n)) (h99 : 99 < tg ∧ tg < 105) (kx : V X T I L R uc us pc' ls (.int (nI n) :: st)) : V X T I L R uc us pc ls (.ref a :: st) := by
  intro H locs la h1 h2 h3 h4
  obtain ⟨hd, rfl⟩ := d
  obtain ⟨e1, e2, e3, e4, e5, e6, e7, e8, e9, e10⟩ := g
  have hc := h1.arr hT h99.1
  have ha : ∃ ty, ArrOfT (x_s X) (w_A (x_w X) tg) ty := by
    obtain ⟨a1, a2, a3, a4, a5⟩ := e10.arr
    rcases (show tg = 100 ∨ tg = 101 ∨ tg = 102 ∨ tg = 103 ∨ tg = 104 by omega) with h | h | h | h | h <;> subst h
    · exact ⟨_, a1⟩
    · exact ⟨_, a2⟩
    · exact ⟨_, a3⟩
    · exact ⟨_, a4⟩
    · exact ⟨_, a5⟩
  obtain ⟨ty, ha⟩ := ha
  exact W.alen (n := nI n) e1 e2 hc (ha n _) (by rw [arrV_size]; rfl) rfl rfl hd (kx H locs la h1 h2 h3 h4)
end MemV
