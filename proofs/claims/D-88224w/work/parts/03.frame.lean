/-! THE FRAME. An abstract memory by ids: T a = (tag, length), I a k ints, L a k longs, R a k references (ids). A world w says where an id lies and what may be written.
V X T I L R uc us pc ls st: from pc, locals ls, stack st, memory T I L R, uc cells and us slots used so far, the walk of X comes to its end with (x_k X). -/
set_option maxRecDepth 100000
abbrev Tt : Type := Nat → Nat × Nat
abbrev It : Type := Nat → Nat → Int32
abbrev Lt : Type := Nat → Nat → Int64
abbrev Rt : Type := Nat → Nat → Option Nat
abbrev Rs : Type := Option Value ⊕ Nat
abbrev Kt : Type := Rs → Tt → It → Lt → Rt → Nat → Nat → Prop
abbrev Sp : Type := List Value → Tt → It → Lt → Rt → Nat → Nat → Kt → Prop
abbrev Wd : Type := va_G × (Nat → ClassId) × (Nat → Nat) × (Nat → Prop) × Nat
abbrev w_D (w : Wd) : va_G := w.1
abbrev w_A (w : Wd) : Nat → ClassId := w.2.1
abbrev w_ad (w : Wd) : Nat → Nat := w.2.2.1
abbrev w_F (w : Wd) : Nat → Prop := w.2.2.2.1
abbrev w_b (w : Wd) : Nat := w.2.2.2.2
def u2 {α : Type} (f : Nat → Nat → α) (a b : Nat) (v : α) : Nat → Nat → α := fun x y => if x = a ∧ y = b then v else f x y
theorem u2_s {α : Type} (f : Nat → Nat → α) (a b : Nat) (v : α) : u2 f a b v a b = v := by simp [u2]
theorem u2_n {α : Type} (f : Nat → Nat → α) {a b x y : Nat} (v : α) (h : ¬ (x = a ∧ y = b)) : u2 f a b v x y = f x y := by simp [u2, h]
theorem u2_o {α : Type} (f : Nat → Nat → α) {a b x : Nat} (v : α) (h : x ≠ a) : u2 f a b v x = f x := by funext y; simp [u2, h]
def cv (ad : Nat → Nat) : Value → Value
  | .ref a => .ref (ad a)
  | v => v
def rv : Option Nat → Value
  | none => .null
  | some a => .ref a
theorem cv_rv (ad : Nat → Nat) (r : Option Nat) : cv ad (rv r) = va_rf (r.map ad) := by cases r <;> rfl
theorem cv_cat (ad : Nat → Nat) (v : Value) : (cv ad v).category = v.category := by cases v <;> rfl
def fv (ad : Nat → Nat) (ty : FieldType) (i : Int32) (l : Int64) (r : Option Nat) : Value := match ty with
  | .long => .long l
  | .object _ => va_rf (r.map ad)
  | .array _ => va_rf (r.map ad)
  | _ => .int i
/-- the sort of a type: 0 an int, 1 a long, 2 a reference -/
def kd (ty : FieldType) : Nat := match ty with
  | .long => 1
  | .object _ => 2
  | .array _ => 2
  | _ => 0
theorem fv_i {ad : Nat → Nat} {ty : FieldType} {i : Int32} {l : Int64} {r : Option Nat} (h : kd ty = 0) : fv ad ty i l r = .int i := by cases ty <;> first | rfl | simp [kd] at h
theorem fv_l {ad : Nat → Nat} {ty : FieldType} {i : Int32} {l : Int64} {r : Option Nat} (h : kd ty = 1) : fv ad ty i l r = .long l := by cases ty <;> first | rfl | simp [kd] at h
theorem fv_r {ad : Nat → Nat} {ty : FieldType} {i : Int32} {l : Int64} {r : Option Nat} (h : kd ty = 2) : fv ad ty i l r = va_rf (r.map ad) := by cases ty <;> first | rfl | simp [kd] at h
/-- the classes of objects, by tag; 99: nothing is there; from 100 on arrays -/
def kt : List vw_C := [(RX1, TX1, 26), (RX2, TX2, 7), (RX3, TX3, 7), (RX4, TX4, 56), (RX6, TX6, 13), (RX7, TX7, 14), (RX9, TX9, 13), (RX10, TX10, 13), (RX11, TX11, 4), (RX12, TX12, 7), (RX14, TX14, 1), (RX15, TX15, 1), (RX16, TX16, 2), (RX17, TX17, 2), (RJ2, TJ2, 3), (RJ17, TJ17, 4), (RJ11, TJ11, 6), (RJ11, TJ11, 0)]
def kft (t : Nat) : Nat → FieldType := match t with
  | 0 => tyX1
  | 1 => tyX2
  | 2 => tyX3
  | 3 => tyX4
  | 4 => tyX6
  | 5 => tyX7
  | 6 => tyX9
  | 7 => tyX10
  | 8 => tyX11
  | 9 => tyX12
  | 10 => tyX14
  | 11 => tyX15
  | 12 => tyX16
  | 13 => tyX17
  | 14 => tyJ2
  | 15 => tyJ17
  | _ => tyJ11
def aft (t : Nat) : FieldType := match t with
  | 100 => .int
  | 101 => .byte
  | 102 => .long
  | 103 => .boolean
  | _ => .object "java/lang/Object"
/-- words that last a run -/
def kw (w : Cond) : Bool := goodWord w || (match w with
  | .fieldLinkNest .. => true
  | .methodLinkNest .. => true
  | .castable .. => true
  | .declares _ => true
  | .privateMethod _ => true
  | .arrayOver (.object _) => true
  | _ => false)
def lw_k : List Cond := lw_tbl.filter kw
theorem lk {w : Cond} (h : w ∈ lw_all) : w ∈ lw_k := List.mem_filter.mpr ⟨lw_all_tbl h, by simp [kw, (List.mem_filter.mp h).2]⟩
theorem lt_k {w : Cond} (h : w ∈ lw_tbl) (g : kw w = true) : w ∈ lw_k := List.mem_filter.mpr ⟨h, g⟩
theorem kw_warm {w : Cond} (hk : kw w = true) {a a' : Array Value} {s U : State} (hW : s.WarmedH U.vm) (h : w.before a s = true) : w.before a' U = true := by
  by_cases hg : goodWord w = true
  · exact word_at hW (good_of_word hg) h
  · have hk2 : kw w = true := hk
    unfold kw at hk2
    simp only [hg, Bool.false_or] at hk2
    cases w with
    | fieldLinkNest b i c n d e => exact va_Nw.use rfl (va_Nw.warmF hW (va_Nw.of rfl h))
    | methodLinkNest b i x e => exact va_Nw.use rfl (va_Nw.warmM hW (va_Nw.of rfl h))
    | castable b c => exact va_Nw.use rfl (va_Nw.warmC hW (va_Nw.of rfl h))
    | declares x => exact va_Nw.use rfl (va_Nw.warmD hW (va_Nw.of rfl h))
    | privateMethod x => exact va_Nw.use rfl (va_tabs rfl (rfl : (s.setVm U.vm).vm = U.vm) (by rw [Cond.privateMethod_setVm hW.alike]; exact va_Nw.of rfl h))
    | arrayOver ty =>
      cases ty with
      | object C => exact va_AO.use (va_AO.moved hW.alike (va_AO.of h))
      | _ => simp at hk2
    | _ => simp at hk2
/-- what a world knows of the tables at a state -/
def WK (w : Wd) (s : State) : Prop := (∀ q ∈ lw_k, ∀ (a : Array Value) (U : State), s.WarmedH U.vm → q.before a U = true) ∧ va_K (w_D w) kt [(w_A w 100, .int), (w_A w 101, .byte), (w_A w 102, .long), (w_A w 103, .boolean), (w_A w 104, .object "java/lang/Object")] s
theorem WK.warm {w : Wd} {s U : State} (h : WK w s) (hW : s.WarmedH U.vm) : WK w U := ⟨fun q hq a V hV => h.1 q hq a V (State.WarmedH.trans hW hV), va_K.moved hW.alike h.2⟩
theorem WK.at {w : Wd} {s : State} (h : WK w s) {q : Cond} (hq : q ∈ lw_k) (a : Array Value) : q.before a s = true := h.1 q hq a s (State.WarmedH.refl s)
theorem k_ok (t : Nat) {C : String} {Tb : u_T} {N : Nat} (h : kt[t]? = some (C, Tb, N)) : (∀ w ∈ u_ws C Tb N, w ∈ lw_k) ∧ (∀ k, k < N → parseFieldDescriptor (Tb k).2.2.1 = some (kft t k)) ∧ ∀ a, a < N → ∀ b, b < N → a ≠ b → (Tb a).2.1 ≠ (Tb b).2.1 := by
  match t, h with
  | 0, h => cases h; exact ⟨fun w h => lk (in_X1 w h), tyX1_ok, nmX1⟩
  | 1, h => cases h; exact ⟨fun w h => lk (in_X2 w h), tyX2_ok, nmX2⟩
  | 2, h => cases h; exact ⟨fun w h => lk (in_X3 w h), tyX3_ok, nmX3⟩
  | 3, h => cases h; exact ⟨fun w h => lk (in_X4 w h), tyX4_ok, nmX4⟩
  | 4, h => cases h; exact ⟨fun w h => lk (in_X6 w h), tyX6_ok, nmX6⟩
  | 5, h => cases h; exact ⟨fun w h => lk (in_X7 w h), tyX7_ok, nmX7⟩
  | 6, h => cases h; exact ⟨fun w h => lk (in_X9 w h), tyX9_ok, nmX9⟩
  | 7, h => cases h; exact ⟨fun w h => lk (in_X10 w h), tyX10_ok, nmX10⟩
  | 8, h => cases h; exact ⟨fun w h => lk (in_X11 w h), tyX11_ok, nmX11⟩
  | 9, h => cases h; exact ⟨fun w h => lk (in_X12 w h), tyX12_ok, nmX12⟩
  | 10, h => cases h; exact ⟨fun w h => lk (in_X14 w h), tyX14_ok, nmX14⟩
  | 11, h => cases h; exact ⟨fun w h => lk (in_X15 w h), tyX15_ok, nmX15⟩
  | 12, h => cases h; exact ⟨fun w h => lk (in_X16 w h), tyX16_ok, nmX16⟩
  | 13, h => cases h; exact ⟨fun w h => lk (in_X17 w h), tyX17_ok, nmX17⟩
  | 14, h => cases h; exact ⟨fun w h => lk (in_J2 w h), tyJ2_ok, nmJ2⟩
  | 15, h => cases h; exact ⟨fun w h => lk (in_J17 w h), tyJ17_ok, nmJ17⟩
  | 16, h => cases h; exact ⟨fun w h => lk (in_J11 w h), tyJ11_ok, nmJ11⟩
  | 17, h => cases h; exact ⟨fun w h => by simp [u_ws] at h, fun k hk => absurd hk (by omega), fun a ha => absurd ha (by omega)⟩
  | n + 18, h => simp [kt] at h
/-- the cell of the id a -/
def cOK (w : Wd) (T : Tt) (I : It) (L : Lt) (R : Rt) (a : Nat) (H : Heap) : Prop :=
  if (T a).1 < 99 then ∃ q : vw_C, kt[(T a).1]? = some q ∧ t_OB (w_ad w a) ((w_D w).1 (T a).1) q.2.2 ((w_D w).2 (T a).1) H (fun k => fv (w_ad w) (kft (T a).1 k) (I a k) (L a k) (R a k))
  else H[w_ad w a]? = some (arrV (w_A w (T a).1) (T a).2 (fun j => fv (w_ad w) (aft (T a).1) (I a j) (L a j) (R a j)))
/-- the heap holds the memory -/
def Rep (w : Wd) (T : Tt) (I : It) (L : Lt) (R : Rt) (H : Heap) : Prop :=
  (∀ a, (T a).1 ≠ 99 → cOK w T I L R a H ∧ w_F w (w_ad w a)) ∧ (∀ a b, (T a).1 ≠ 99 → (T b).1 ≠ 99 → w_ad w a = w_ad w b → a = b) ∧ ∀ q, H.size ≤ q → q ≤ w_b w + 700000 → w_F w q ∧ w_ad w (q - w_b w) = q
theorem cOK.kept {w : Wd} {T : Tt} {I I' : It} {L L' : Lt} {R R' : Rt} {a : Nat} {H H' : Heap} (h : cOK w T I L R a H) (hq : H'[w_ad w a]? = H[w_ad w a]?) (hI : I' a = I a) (hL : L' a = L a) (hR : R' a = R a) : cOK w T I' L' R' a H' := by
  unfold cOK at h ⊢
  rw [hI, hL, hR]
  split
  · rename_i c
    rw [if_pos c] at h
    obtain ⟨q, h1, h2⟩ := h
    exact ⟨q, h1, h2.kept hq⟩
  · rename_i c
    rw [if_neg c] at h
    rw [hq]; exact h
theorem cOK.lt {w : Wd} {T : Tt} {I : It} {L : Lt} {R : Rt} {a : Nat} {H : Heap} (h : cOK w T I L R a H) : w_ad w a < H.size := by
  unfold cOK at h
  split at h
  · obtain ⟨q, h1, cell, h2, -⟩ := h
    exact (Array.getElem?_eq_some_iff.mp h2).1
  · exact (Array.getElem?_eq_some_iff.mp h).1
theorem Rep.set {w : Wd} {T : Tt} {I I' : It} {L L' : Lt} {R R' : Rt} {a : Nat} {H H' : Heap} (h : Rep w T I L R H) (ha : (T a).1 ≠ 99) (hz : H'.size = H.size) (ho : ∀ q, q ≠ w_ad w a → H'[q]? = H[q]?) (hI : ∀ b, b ≠ a → I' b = I b) (hL : ∀ b, b ≠ a → L' b = L b) (hR : ∀ b, b ≠ a → R' b = R b) (hc : cOK w T I' L' R' a H') : Rep w T I' L' R' H' := by
  obtain ⟨h1, h2, h3⟩ := h
  refine ⟨fun b hb => ⟨?_, (h1 b hb).2⟩, h2, fun q hq => h3 q (by rw [← hz]; exact hq)⟩
  by_cases e : b = a
  · rw [e]; exact hc
  · exact (h1 b hb).1.kept (ho _ fun q => e (h2 b a hb ha q)) (hI b e) (hL b e) (hR b e)
/-- the heap holds the memory, and just uc cells are new since the world began: the next one's id is uc -/
def RepU (w : Wd) (uc : Nat) (T : Tt) (I : It) (L : Lt) (R : Rt) (H : Heap) : Prop := Rep w T I L R H ∧ H.size = w_b w + uc
theorem RepU.set {w : Wd} {uc : Nat} {T : Tt} {I I' : It} {L L' : Lt} {R R' : Rt} {a : Nat} {H H' : Heap} (h : RepU w uc T I L R H) (ha : (T a).1 ≠ 99) (hz : H'.size = H.size) (ho : ∀ q, q ≠ w_ad w a → H'[q]? = H[q]?) (hI : ∀ b, b ≠ a → I' b = I b) (hL : ∀ b, b ≠ a → L' b = L b) (hR : ∀ b, b ≠ a → R' b = R b) (hc : cOK w T I' L' R' a H') : RepU w uc T I' L' R' H' := ⟨h.1.set ha hz ho hI hL hR hc, hz.trans h.2⟩
/-- ids of what lies outside every world: the String constants, their bytes, the Class object of Object[] -/
def sK (i : Nat) : Nat := 1000000000 + i
def sV (i : Nat) : Nat := 1000000100 + i
def sM : Nat := 1000000200
def strL : List Nat := [7, 8, 5, 36, 4]
def strB : List (List Int32) := [[40, 41, 60, 61, 43, 45, 59], [108, 101, 116, 32, 98, 97, 114, 32], [119, 104, 101, 110, 32], [112, 108, 97, 99, 101, 32, 110, 97, 109, 101, 32, 104, 111, 117, 115, 101, 32, 97, 105, 109, 32, 99, 117, 116, 32, 112, 105, 101, 99, 101, 115, 32, 100, 97, 121, 32], [97, 110, 100, 32]]
def strI (i : Nat) : Nat × String := match i with
  | 0 => (48, "()<=+-;")
  | 1 => (88, "let bar ")
  | 2 => (92, "when ")
  | 3 => (134, "place name house aim cut pieces day ")
  | _ => (117, "and ")
def FZ (C n d : String) (F : Nat → Prop) (s : State) (H : Heap) : Prop := ∃ (c : ClassId) (k : Class) (i : Nat) (f : Field) (a : Nat) (cell : Cell) (v : Value), s.vm.findClass C = some c ∧ s.fieldFound? C n d = some (c, k, i, f) ∧ f.isStatic = true ∧ k.statics = some a ∧ H[a]? = some cell ∧ cell.vm.isStatics = true ∧ cell.cls = c ∧ f.slot < cell.slots.size ∧ k.staticTypes[f.slot]? = some f.type ∧ cell.slots[f.slot]? = some v ∧ v.isRef = true ∧ ¬ F a
theorem FZ.kept {C n d : String} {F : Nat → Prop} {U : State} {H H1 : Heap} (h : FZ C n d F U H) (hq : ∀ a : Nat, a < H.size → ¬ F a → H1[a]? = H[a]?) : FZ C n d F U H1 := by
  obtain ⟨c, k, i, f, a, cell, v, h1, h2, h3, h4, h5, h6, h7, h8, h9, h10, h11, h12⟩ := h
  exact ⟨c, k, i, f, a, cell, v, h1, h2, h3, h4, by rw [hq a (Array.getElem?_eq_some_iff.mp h5).1 h12]; exact h5, h6, h7, h8, h9, h10, h11, h12⟩
theorem FZ.moved {C n d : String} {F : Nat → Prop} {u U : State} {H : Heap} (hvm : u.vm.Alike U.vm) (h : FZ C n d F u H) : FZ C n d F U H := by
  obtain ⟨c, k, i, f, a, cell, v, h1, h2, h3, h4, h5, h6, h7, h8, h9, h10, h11, h12⟩ := h
  obtain ⟨k', hi', he⟩ := State.fieldFound?_setVm hvm h2
  exact ⟨c, k', i, f, a, cell, v, by rw [hvm.findClass]; exact h1, hi', h3, by rw [he]; exact h4, h5, h6, h7, h8, by rw [he]; exact h9, h10, h11, h12⟩
theorem FZ.narrow {C n d : String} {A B : Nat → Prop} {U : State} {H : Heap} (h : FZ C n d A U H) (hAB : ∀ q, B q → A q) : FZ C n d B U H := by
  obtain ⟨c, k, i, f, a, cell, v, h1, h2, h3, h4, h5, h6, h7, h8, h9, h10, h11, h12⟩ := h
  exact ⟨c, k, i, f, a, cell, v, h1, h2, h3, h4, h5, h6, h7, h8, h9, h10, h11, fun z => h12 (hAB a z)⟩
theorem FZ.lays {C n d : String} {F : Nat → Prop} {s : State} (h : FZ C n d F s s.heap) (args : Array Value) : (Cond.laysStatic C n d).before args s = true := by
  obtain ⟨c, k, i, f, a, cell, v, h1, h2, h3, h4, h5, h6, h7, h8, h9, h10, h11, h12⟩ := h
  simp [Cond.before, Cond.holds, Cond.value, h1, h2, h3, h4, h5, h6, h7, h8, h9]
theorem FZ.isR {C n d : String} {F : Nat → Prop} {s : State} (h : FZ C n d F s s.heap) (args : Array Value) : (Cond.isRef (.static C n d)).before args s = true := by
  obtain ⟨c, k, i, f, a, cell, v, h1, h2, h3, h4, h5, h6, h7, h8, h9, h10, h11, h12⟩ := h
  cases v <;> simp [Value.isRef] at h11 <;> simp [Cond.before, Cond.holds, Cond.value, Term.eval, State.fieldNamed?, h1, h2, h3, h4, h5, h6, h10]
theorem FZ.of {C n d : String} {F : Nat → Prop} {s : State} {args : Array Value} (h1 : (Cond.laysStatic C n d).before args s = true) (h2 : (Cond.isRef (.static C n d)).before args s = true) (hA : ∀ a : Nat, a < s.heap.size → ¬ F a) : FZ C n d F s s.heap := by
  obtain ⟨c, k, i, f, a, cell, hc, hi, hst, ha, hcell, hs, hcls, hlt, hty⟩ := Cond.laysStatic_spec h1
  obtain ⟨v, hv, hr⟩ := Cond.isRef_spec h2
  obtain ⟨hst', a', cell', ha', hcell', -, hslot⟩ := Term.static_spec hi hv
  cases ha.symm.trans ha'
  cases hcell.symm.trans hcell'
  exact ⟨c, k, i, f, a, cell, v, hc, hi, hst, ha, hcell, hs, hcls, hlt, hty, hslot, hr, hA a (Array.getElem?_eq_some_iff.mp hcell).1⟩
/-- what lies outside the world and is read: String constants, statics -/
def FG (w : Wd) (s : State) (H : Heap) : Prop := vk_S 5 strL strB (fun i => w_ad w (sK i)) (fun i => w_ad w (sV i)) (w_F w) s H ∧ (∀ i, i < 5 → vk_R "BedBook$Reader" (strI i).1 (strI i).2 (w_ad w (sK i)) s) ∧ va_Z "java/lang/String" "COMPACT_STRINGS" "Z" (.int 1) (w_F w) s H ∧
  (∃ r : Option Nat, va_Z "jdk/internal/util/Preconditions" "SIOOBE_FORMATTER" "Ljava/util/function/BiFunction;" (cv (w_ad w) (rv r)) (w_F w) s H) ∧ (∃ r : Option Nat, va_Z "java/lang/Throwable" "UNASSIGNED_STACK" "[Ljava/lang/StackTraceElement;" (cv (w_ad w) (rv r)) (w_F w) s H) ∧ (∃ r : Option Nat, va_Z "java/lang/Throwable" "SUPPRESSED_SENTINEL" "Ljava/util/List;" (cv (w_ad w) (rv r)) (w_F w) s H) ∧ va_Mi "[Ljava/lang/Object;" (w_ad w sM) s ∧ FZ "java/lang/Throwable" "UNASSIGNED_STACK" "[Ljava/lang/StackTraceElement;" (w_F w) s H ∧ FZ "java/lang/Throwable" "SUPPRESSED_SENTINEL" "Ljava/util/List;" (w_F w) s H
theorem FG.kept {w : Wd} {s U : State} {H H1 : Heap} (h : FG w s H) (hW : s.WarmedH U.vm) (hq : ∀ a : Nat, a < H.size → ¬ w_F w a → H1[a]? = H[a]?) : FG w U H1 := by
  obtain ⟨h1, h2, h3, ⟨r4, h4⟩, ⟨r5, h5⟩, ⟨r6, h6⟩, h7, h8, h9⟩ := h
  exact ⟨vk_S.moved hW.alike (h1.kept hq), fun i hi => vk_R.warm hW (h2 i hi), va_Z.moved hW.alike (h3.kept hq), ⟨r4, va_Z.moved hW.alike (h4.kept hq)⟩, ⟨r5, va_Z.moved hW.alike (h5.kept hq)⟩, ⟨r6, va_Z.moved hW.alike (h6.kept hq)⟩, va_Mi.moved hW.alike h7, FZ.moved hW.alike (h8.kept hq), FZ.moved hW.alike (h9.kept hq)⟩
/-- a walk's fixed things: program, launch, environment, first state, method, arguments, frames below, method, code, world, number of locals, level, cells and slots used at the start, what is to hold at the end -/
abbrev CX : Type := Program × Launch × Env × State × MethodId × Array Value × List Frame × Method × Code × Wd × Nat × Nat × Nat × Nat × Kt
abbrev x_p (X : CX) : Program := X.1
abbrev x_l (X : CX) : Launch := X.2.1
abbrev x_e (X : CX) : Env := X.2.2.1
abbrev x_s (X : CX) : State := X.2.2.2.1
abbrev x_m (X : CX) : MethodId := X.2.2.2.2.1
abbrev x_a (X : CX) : Array Value := X.2.2.2.2.2.1
abbrev x_b (X : CX) : List Frame := X.2.2.2.2.2.2.1
abbrev x_h (X : CX) : Method := X.2.2.2.2.2.2.2.1
abbrev x_c (X : CX) : Code := X.2.2.2.2.2.2.2.2.1
abbrev x_w (X : CX) : Wd := X.2.2.2.2.2.2.2.2.2.1
abbrev x_n (X : CX) : Nat := X.2.2.2.2.2.2.2.2.2.2.1
abbrev x_v (X : CX) : Nat := X.2.2.2.2.2.2.2.2.2.2.2.1
abbrev x_u (X : CX) : Nat := X.2.2.2.2.2.2.2.2.2.2.2.2.1
abbrev x_z (X : CX) : Nat := X.2.2.2.2.2.2.2.2.2.2.2.2.2.1
def x_k (X : CX) : Kt := X.2.2.2.2.2.2.2.2.2.2.2.2.2.2
def rmx (lev uc us : Nat) : Room := { frames := lev, cells := 601024 - uc, slots := 7293034 - us, locals := 40 * lev }
def oc (ad : Nat → Nat) : Rs → Outcome
  | .inl v => .returned (v.map (cv ad))
  | .inr x => .threw (ad x)
def Bd (u z uc us : Nat) : Prop := u ≤ uc ∧ z ≤ us ∧ uc ≤ 601024 ∧ us ≤ 7293034
/-- the end of a walk -/
def QQ (X : CX) (t : State) : Prop := ∃ (r : Rs) (T : Tt) (I : It) (L : Lt) (R : Rt) (uc us : Nat) (Lo : List Loc),
  x_k X r T I L R uc us ∧ RepU (x_w X) uc T I L R t.heap ∧ Bd (x_u X) (x_z X) uc us ∧ t.status = .running ∧ Ended t (x_b X) (oc (w_ad (x_w X)) r) ∧ (x_s X).WarmedH t.vm ∧ (x_s X).sameButNew ({ t with vm := (x_s X).vm } : State) Lo (uc - x_u X) (us - x_z X) ∧ ∀ q ∈ Lo, w_F (x_w X) q.base
/-- the locals, by places -/
def lvl (ad : Nat → Nat) : Nat → List (Option Value) → List (Nat × Value)
  | _, [] => []
  | i, none :: t => lvl ad (i + 1) t
  | i, some v :: t => (i, cv ad v) :: lvl ad (i + 1) t
def V (X : CX) (T : Tt) (I : It) (L : Lt) (R : Rt) (uc us pc : Nat) (ls : List (Option Value)) (st : List Value) : Prop :=
  ∀ (H : Heap) (locs : List Loc) (la : Array Slot), RepU (x_w X) uc T I L R H → Bd (x_u X) (x_z X) uc us → (∀ q ∈ locs, w_F (x_w X) q.base) → lv_has la (x_n X) (lvl (w_ad (x_w X)) 0 ls) →
    W (x_p X) (x_l X) (x_e X) (rmx (x_v X) (x_u X) (x_z X)) (x_s X) (x_m X) (x_a X) (x_b X) (x_h X) (x_c X) H locs (uc - x_u X) (us - x_z X) (QQ X) (F0 (x_m X) pc la (st.map (cv (w_ad (x_w X)))))
/-- the throwing of x at pc -/
def VT (X : CX) (T : Tt) (I : It) (L : Lt) (R : Rt) (uc us pc : Nat) (ls : List (Option Value)) (x : Nat) : Prop :=
  ∀ (H : Heap) (locs : List Loc) (la : Array Slot) (stk : List Value) (U : State), RepU (x_w X) uc T I L R H → Bd (x_u X) (x_z X) uc us → (∀ q ∈ locs, w_F (x_w X) q.base) → lv_has la (x_n X) (lvl (w_ad (x_w X)) 0 ls) → U.heap = H →
    Stand (x_p X) (x_l X) (x_e X) (rmx (x_v X) (x_u X) (x_z X)) (x_s X) (x_m X) (x_a X) (x_b X) (x_h X) (x_c X) U locs (uc - x_u X) (us - x_z X) →
    ∃ t, Steps (x_p X).tables (x_e X) (x_b X) ((U.setTop (F0 (x_m X) pc la stk)).pushFrame (.throwing (w_ad (x_w X) x))) t ∧ QQ X t
def dc (cc : ByteArray) (pc : Nat) (i : Instr) (n pc' : Nat) : Prop := decode cc pc = .ok (i, n) ∧ pc' = pc + n
def GF (X : CX) : Prop := FG (x_w X) (x_s X) (x_s X).heap ∧ (x_s X).heap.size ≤ w_b (x_w X) + x_u X
/-- the walk's fixed facts -/
def Gd (X : CX) (cc : ByteArray) (own : String) (ret : Option FieldType) (nL lev : Nat) (nm : String) : Prop :=
  (x_p X).tables.exec = Jvm.exec ∧ (x_c X).code = cc ∧ (x_c X).maxLocals = nL ∧ x_n X = nL ∧ x_v X = lev ∧ (x_s X).vm.findClass own = some (x_m X).cls ∧ (x_h X).sig.returnType = ret ∧ (x_h X).locks = false ∧ ((x_h X).name = nm ∧ GF X) ∧ WK (x_w X) (x_s X)
/-- it has no handlers -/
def NH (X : CX) : Prop := (x_c X).exceptionTable.isEmpty = true
/-- what follows a call -/
abbrev Cn (X : CX) (pc pc' : Nat) (ls : List (Option Value)) (st : List Value) : Kt := fun r T I L R uc us => match r with
  | .inl (some v) => V X T I L R uc us pc' ls (v :: st)
  | .inl none => V X T I L R uc us pc' ls st
  | .inr x => VT X T I L R uc us pc ls x
/-- a contract: y, whose code is the word cw, at a level (of frames), means S -/
def Ct (l : Launch) (y : MethodName) (cw : Cond) (lev : Nat) (S : Sp) : Prop :=
  ∀ (w : Wd) (av : List Value) (T : Tt) (I : It) (L : Lt) (R : Rt) (uc us : Nat) (k : Kt), uc ≤ 601024 → us ≤ 7293034 → S av T I L R uc us k →
    MetFree l y (headSpec [cw] (rmx lev uc us)) (fun a s => a = (av.map (cv (w_ad w))).toArray ∧ WK w s ∧ FG w s s.heap ∧ RepU w uc T I L R s.heap) (fun _ _ _ _ _ => True)
      (fun _ s o t => ∃ (r : Rs) (T' : Tt) (I' : It) (L' : Lt) (R' : Rt) (uc' us' : Nat) (Lo : List Loc), k r T' I' L' R' uc' us' ∧ RepU w uc' T' I' L' R' t.heap ∧ Bd uc us uc' us' ∧ o = oc (w_ad w) r ∧ s.WarmedH t.vm ∧ s.sameButNew ({ t with vm := s.vm } : State) Lo (uc' - uc) (us' - us) ∧ ∀ q ∈ Lo, w_F w q.base)
