/-! BedBook's Reader at a token (printed out of tmpl/t_rds.txt) -/
set_option maxRecDepth 100000
/-- the Reader is at token i of the text t of n letters, within w -/
def RdS (T : Tt) (I : It) (R : Rt) (rd tp n i w : Nat) (t : Nat → Int32) : Prop := RdA T I R rd tp n ∧ I tp = t ∧ (∀ j, j < n → ∃ q : Nat, q < 128 ∧ t j = nI q) ∧ I rd 2 = nI (pos t n (i + 1)) ∧ I rd 3 = nI (srt t n i) ∧ I rd 4 = nI (plc t n i) ∧ (srt t n i = 2 → I rd 5 = (vl t n i).toInt32) ∧ I rd 6 = nI w ∧ ∀ j, j < i → ¬ srt t n j = 0
theorem RdS.le {T : Tt} {I : It} {R : Rt} {rd tp n i w : Nat} {t : Nat → Int32} (h : RdS T I R rd tp n i w t) : i ≤ 600 := by
  obtain ⟨⟨_, _, _, _, h1⟩, _, _, _, _, _, _, _, h2⟩ := h
  have a := tok_le i h2
  have b := pos_le (t := t) (n := n) i
  omega
theorem RdS.kp {uc : Nat} {P : Nat → Prop} {T T' : Tt} {I I' : It} {L L' : Lt} {R R' : Rt} {rd tp n i w : Nat} {t : Nat → Int32} (h : RdS T I R rd tp n i w t) (hk : Kp uc P T T' I I' L L' R R') (h1 : rd < uc) (h2 : tp < uc) (h3 : ¬ P rd) (h4 : ¬ P tp) : RdS T' I' R' rd tp n i w t := by
  obtain ⟨⟨a1, a2, a3, a4, a5⟩, b1, b2, b3, b4, b5, b6, b7, b8⟩ := h
  obtain ⟨c1, c2⟩ := hk.2 rd h1 h3
  obtain ⟨d1, d2⟩ := hk.2 tp h2 h4
  exact ⟨⟨by rw [(hk.1 rd h1).1]; exact a1, by rw [c2]; exact a2, by rw [(hk.1 tp h2).1]; exact a3, by rw [c1]; exact a4, a5⟩, by rw [d1]; exact b1, b2, by rw [c1]; exact b3, by rw [c1]; exact b4, by rw [c1]; exact b5, by rw [c1]; exact b6, by rw [c1]; exact b7, b8⟩
theorem rdK.kp {I I' : It} {rd : Nat} (h : rdK I I' rd) (uc : Nat) (T : Tt) (L : Lt) (R : Rt) : Kp uc (fun x => x = rd) T T I I' L L R R := ⟨fun _ _ => ⟨rfl, rfl⟩, fun x _ hx => ⟨h.1 x hx, rfl⟩⟩
theorem bI_cg {c d : Prop} [Decidable c] [Decidable d] (h : c ↔ d) : bI c = bI d := by
  by_cases q : c
  · rw [bI_t q, bI_t (h.mp q)]
  · rw [bI_f q, bI_f fun z => q (h.mpr z)]
theorem spNext_of {T : Tt} {I : It} {L : Lt} {R : Rt} {uc us : Nat} {k : Kt} {rd tp n i w : Nat} {t : Nat → Int32} (h : RdS T I R rd tp n i w t) (hz : ¬ srt t n i = 0) (hk : ∀ I', RdS T I' R rd tp n (i + 1) w t → rdK I I' rd → k (.inl none) T I' L R uc us) : spX2_next [.ref rd] T I L R uc us k := by
  obtain ⟨hA, b1, b2, b3, b4, b5, b6, b7, b8⟩ := h
  refine ⟨rd, tp, n, pos t n (i + 1), rfl, hA, b3, pos_le _, by rw [b1]; exact b2, fun I' c1 c2 c3 c4 c5 => ?_⟩
  rw [b1] at c2 c3 c4 c5
  refine hk I' ⟨hA.keep c1, by rw [c1.1 tp hA.ne]; exact b1, b2, c2, c3, c4, c5, by rw [c1.2 6 (Or.inr rfl)]; exact b7, fun j hj => ?_⟩ c1
  by_cases e : j = i
  · rw [e]; exact hz
  · exact b8 j (by omega)
theorem spWhich_of {T : Tt} {I : It} {L : Lt} {R : Rt} {uc us : Nat} {k : Kt} {rd tp n i w : Nat} {t : Nat → Int32} (h : RdS T I R rd tp n i w t) (s : Nat) (hs1 : 1 ≤ s) (hs : s < 5) (hk : k (.inl (some (.int (whS (srt t n) (vl t n) i s)))) T I L R uc us) : spX2_which [.ref rd, .ref (sK s)] T I L R uc us k := by
  obtain ⟨hA, b1, b2, b3, b4, b5, b6, b7, b8⟩ := h
  have hb := tkE_b (t := t) (pos_le (t := t) (n := n) i)
  have e : plc t n i + (pos t n (i + 1) - plc t n i) = pos t n (i + 1) := Nat.add_sub_cancel' hb.1
  refine ⟨rd, tp, n, plc t n i, pos t n (i + 1) - plc t n i, s, rfl, hA, b5, by rw [e]; exact b3, by rw [e]; exact pos_le _, hs1, hs, ?_⟩
  rw [b1, b4, wh_n t n i s hs1 hs]
  exact hk
theorem spSign_of {T : Tt} {I : It} {L : Lt} {R : Rt} {uc us : Nat} {k : Kt} {rd tp n i w : Nat} {t : Nat → Int32} (h : RdS T I R rd tp n i w t) (q : Nat) (hk : k (.inl (some (.int (bI (tS (srt t n) (vl t n) i (nI q)))))) T I L R uc us) : spX2_isSign [.ref rd, .int (nI q)] T I L R uc us k := by
  obtain ⟨hA, b1, b2, b3, b4, b5, b6, b7, b8⟩ := h
  refine ⟨rd, tp, n, plc t n i, q, rfl, hA, b5, fun z => ?_, ?_⟩
  · rw [b4] at z
    have := (tk_3 ((nI_k (x := 3) srt_lt (c := 3) (by decide) rfl).mp z)).1
    have := hA.2.2.2.2
    omega
  · have e : bI (I rd 3 = 3 ∧ I tp (plc t n i) = nI q) = bI (tS (srt t n) (vl t n) i (nI q)) := bI_cg (by rw [b4, b1]; exact sg_iff (nI q))
    rw [e]
    exact hk
theorem whS_2 (S : Nat → Nat) (v : Nat → Int64) (i : Nat) : whS S v i 2 < 0 ↔ ¬ tW S v i 2 := by
  show (if tW S v i 2 then (0 : Int32) else -1) < 0 ↔ _
  by_cases h : tW S v i 2
  · rw [if_pos h]; exact ⟨fun z => absurd z (by decide), fun z => absurd h z⟩
  · rw [if_neg h]; exact ⟨fun _ => h, fun _ => by decide⟩
theorem whS_4 (S : Nat → Nat) (v : Nat → Int64) (i : Nat) : whS S v i 4 < 0 ↔ ¬ tW S v i 3 := by
  show (if tW S v i 3 then (0 : Int32) else -1) < 0 ↔ _
  by_cases h : tW S v i 3
  · rw [if_pos h]; exact ⟨fun z => absurd z (by decide), fun z => absurd h z⟩
  · rw [if_neg h]; exact ⟨fun _ => h, fun _ => by decide⟩
theorem aw_le (S : Nat → Nat) (v : Nat → Int64) (i : Nat) : aw S v i ≤ 7 := by
  unfold aw
  repeat' split
  all_goals decide
theorem whS_3 (S : Nat → Nat) (v : Nat → Int64) (i : Nat) : whS S v i 3 < 0 ↔ ¬ aw S v i < 7 := by
  show (if aw S v i < 7 then nI (aw S v i) else -1) < 0 ↔ _
  by_cases h : aw S v i < 7
  · rw [if_pos h]; exact ⟨fun z => absurd z (nI_pos (by omega)), fun z => absurd h z⟩
  · rw [if_neg h]; exact ⟨fun _ => h, fun _ => by decide⟩
theorem whS_1 (S : Nat → Nat) (v : Nat → Int64) (i : Nat) : whS S v i 1 < 0 ↔ ¬ tW S v i 1 ∧ ¬ tW S v i 0 := by
  show (if tW S v i 0 then (0 : Int32) else if tW S v i 1 then 1 else -1) < 0 ↔ _
  by_cases h : tW S v i 0
  · rw [if_pos h]; exact ⟨fun z => absurd z (by decide), fun z => absurd h z.2⟩
  · rw [if_neg h]
    by_cases h1 : tW S v i 1
    · rw [if_pos h1]; exact ⟨fun z => absurd z (by decide), fun z => absurd h1 z.1⟩
    · rw [if_neg h1]; exact ⟨fun _ => ⟨h1, h⟩, fun _ => by decide⟩
/-- how a fault leaves: the object x, its number from mode M and token j -/
def Flt (T' : Tt) (I' : It) (t : Nat → Int32) (n M j x : Nat) : Prop := (M = 11 ∨ M = 15) ∧ (T' x).1 = 9 ∧ I' x 6 = nI (M - 10) + 16 * nI (plc t n j)

