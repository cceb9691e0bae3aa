/-! plain: a token at hand: its letters, its word, its sign -/
set_option maxRecDepth 100000
theorem tk_1 {t : Nat → Int32} {n i : Nat} (h : srt t n i = 1) : plc t n i < pos t n (i + 1) ∧ pos t n (i + 1) - plc t n i ≤ 8 ∧ (∀ j, j < pos t n (i + 1) - plc t n i → isLt (t (plc t n i + j))) ∧ vl t n i = hsh t (plc t n i) (pos t n (i + 1) - plc t n i) := by
  have hb := tkE_b (t := t) (pos_le (t := t) (n := n) i)
  show tkF t n (pos t n i) < tkE t n (pos t n i) ∧ tkE t n (pos t n i) - tkF t n (pos t n i) ≤ 8 ∧ (∀ j, j < tkE t n (pos t n i) - tkF t n (pos t n i) → isLt (t (tkF t n (pos t n i) + j))) ∧ tkV t n (pos t n i) = hsh t (tkF t n (pos t n i)) (tkE t n (pos t n i) - tkF t n (pos t n i))
  have h : tkK t n (pos t n i) = 1 := h
  unfold tkK at h
  by_cases c1 : tkF t n (pos t n i) < n
  · rw [if_pos c1] at h
    by_cases c2 : isLt (t (tkF t n (pos t n i)))
    · rw [if_pos c2] at h
      by_cases c3 : 8 < tkE t n (pos t n i) - tkF t n (pos t n i)
      · rw [if_pos c3] at h; exact absurd h (by decide)
      · have hE : tkE t n (pos t n i) = sc bL t n (tkF t n (pos t n i)) := by
          rw [tkE, if_pos c1, if_pos c2]
        refine ⟨hb.2.2 c1, by omega, fun j hj => ?_, ?_⟩
        · exact bL_iff.mp (sc_all (p := bL) (Nat.le_of_lt c1) (Nat.le_add_right _ _) (by rw [← hE]; omega))
        · unfold tkV
          rw [if_pos c2, Nat.min_eq_left (by omega)]
    · rw [if_neg c2] at h
      by_cases c3 : isDg (t (tkF t n (pos t n i)))
      · rw [if_pos c3] at h; exfalso; split at h <;> cases h
      · rw [if_neg c3] at h; exfalso; split at h <;> cases h
  · rw [if_neg c1] at h; exact absurd h (by decide)
theorem tk_3 {t : Nat → Int32} {n i : Nat} (h : srt t n i = 3) : plc t n i < n ∧ isSg (t (plc t n i)) ∧ vl t n i = (t (plc t n i)).toInt64 := by
  show tkF t n (pos t n i) < n ∧ isSg (t (tkF t n (pos t n i))) ∧ tkV t n (pos t n i) = (t (tkF t n (pos t n i))).toInt64
  have h : tkK t n (pos t n i) = 3 := h
  unfold tkK at h
  by_cases c1 : tkF t n (pos t n i) < n
  · rw [if_pos c1] at h
    by_cases c2 : isLt (t (tkF t n (pos t n i)))
    · rw [if_pos c2] at h
      exfalso; split at h <;> cases h
    · rw [if_neg c2] at h
      by_cases c3 : isDg (t (tkF t n (pos t n i)))
      · rw [if_pos c3] at h; exfalso; split at h <;> cases h
      · rw [if_neg c3] at h
        by_cases c4 : isSg (t (tkF t n (pos t n i)))
        · refine ⟨c1, c4, ?_⟩
          unfold tkV
          rw [if_neg c2, if_neg c3]
        · rw [if_neg c4] at h; exact absurd h (by decide)
  · rw [if_neg c1] at h; exact absurd h (by decide)
theorem i64_32 {x y : Int32} : x.toInt64 = y.toInt64 ↔ x = y := by
  constructor
  · intro h
    have := congrArg Int64.toInt32 h
    rw [Int32.toInt32_toInt64, Int32.toInt32_toInt64] at this
    exact this
  · intro h; rw [h]
theorem nI_k {k c : Nat} (hk : k < 5) (hc : c < 5) {x : Int32} (hx : x = nI c) : nI k = x ↔ k = c := by rw [hx]; exact nI_eq (by omega) (by omega)
theorem sg_iff {t : Nat → Int32} {n i : Nat} (c : Int32) : (nI (srt t n i) = 3 ∧ t (plc t n i) = c) ↔ tS (srt t n) (vl t n) i c := by
  unfold tS
  rw [nI_k (x := 3) srt_lt (c := 3) (by decide) rfl]
  constructor
  · intro h
    refine ⟨h.1, ?_⟩
    rw [(tk_3 h.1).2.2, h.2]
  · intro h
    refine ⟨h.1, ?_⟩
    have := (tk_3 h.1).2.2
    rw [h.2] at this
    exact (i64_32.mp this).symm
theorem mt_iff {t : Nat → Int32} {n i s k : Nat} (h : srt t n i = 1) (hs1 : 1 ≤ s) (hs : s < 5) (hk : k < wcn s) : mt t (plc t n i) (pos t n (i + 1) - plc t n i) s k ↔ tW (srt t n) (vl t n) i (wno s k) := by
  obtain ⟨h1, h2, h3, h4⟩ := tk_1 h
  rw [mt_hsh h3 h2 hs1 hs hk, ← h4]
  exact ⟨fun q => ⟨h, q⟩, fun q => q.2⟩
/-- what which(..) answers -/
def whS (S : Nat → Nat) (v : Nat → Int64) (i s : Nat) : Int32 := if s = 1 then (if tW S v i 0 then 0 else if tW S v i 1 then 1 else -1) else if s = 2 then (if tW S v i 2 then 0 else -1) else if s = 4 then (if tW S v i 3 then 0 else -1) else (if aw S v i < 7 then nI (aw S v i) else -1)
theorem aw_7 (S : Nat → Nat) (v : Nat → Int64) (i : Nat) (h : ¬ S i = 1) : aw S v i = 7 := by
  unfold aw
  have : ∀ w, ¬ tW S v i w := fun w q => h q.1
  rw [if_neg (this 4), if_neg (this 5), if_neg (this 6), if_neg (this 7), if_neg (this 8), if_neg (this 9), if_neg (this 10)]
theorem wh_n (t : Nat → Int32) (n i s : Nat) (hs1 : 1 ≤ s) (hs : s < 5) : (if nI (srt t n i) = 1 then whF t (plc t n i) (pos t n (i + 1) - plc t n i) s (wcn s) 0 else -1) = whS (srt t n) (vl t n) i s := by
  have hs' : s = 1 ∨ s = 2 ∨ s = 3 ∨ s = 4 := by omega
  by_cases h : srt t n i = 1
  · rw [if_pos (by rw [h]; rfl)]
    have e : ∀ k, k < wcn s → (mt t (plc t n i) (pos t n (i + 1) - plc t n i) s k ↔ tW (srt t n) (vl t n) i (wno s k)) := fun k hk => mt_iff h hs1 hs hk
    rcases hs' with rfl | rfl | rfl | rfl
    · have e0 := e 0 (by decide)
      have e1 := e 1 (by decide)
      show (if mt t (plc t n i) (pos t n (i + 1) - plc t n i) 1 0 then nI 0 else if mt t (plc t n i) (pos t n (i + 1) - plc t n i) 1 1 then nI 1 else -1) = (if tW (srt t n) (vl t n) i 0 then (0 : Int32) else if tW (srt t n) (vl t n) i 1 then 1 else -1)
      by_cases c0 : tW (srt t n) (vl t n) i 0
      · rw [if_pos c0, if_pos (e0.mpr c0)]; rfl
      · rw [if_neg c0, if_neg fun q => c0 (e0.mp q)]
        by_cases c1 : tW (srt t n) (vl t n) i 1
        · rw [if_pos c1, if_pos (e1.mpr c1)]; rfl
        · rw [if_neg c1, if_neg fun q => c1 (e1.mp q)]
    · have e0 := e 0 (by decide)
      show (if mt t (plc t n i) (pos t n (i + 1) - plc t n i) 2 0 then nI 0 else -1) = (if tW (srt t n) (vl t n) i 2 then (0 : Int32) else -1)
      by_cases c0 : tW (srt t n) (vl t n) i 2
      · rw [if_pos c0, if_pos (e0.mpr c0)]; rfl
      · rw [if_neg c0, if_neg fun q => c0 (e0.mp q)]
    · have e0 := e 0 (by decide)
      have e1 := e 1 (by decide)
      have e2 := e 2 (by decide)
      have e3 := e 3 (by decide)
      have e4 := e 4 (by decide)
      have e5 := e 5 (by decide)
      have e6 := e 6 (by decide)
      show whF t (plc t n i) (pos t n (i + 1) - plc t n i) 3 7 0 = (if aw (srt t n) (vl t n) i < 7 then nI (aw (srt t n) (vl t n) i) else -1)
      simp only [whF, Nat.zero_add, Nat.reduceAdd]
      unfold aw
      by_cases c0 : tW (srt t n) (vl t n) i 4
      · rw [if_pos c0, if_pos (e0.mpr c0)]; rfl
      rw [if_neg c0, if_neg fun q => c0 (e0.mp q)]
      by_cases c1 : tW (srt t n) (vl t n) i 5
      · rw [if_pos c1, if_pos (e1.mpr c1)]; rfl
      rw [if_neg c1, if_neg fun q => c1 (e1.mp q)]
      by_cases c2 : tW (srt t n) (vl t n) i 6
      · rw [if_pos c2, if_pos (e2.mpr c2)]; rfl
      rw [if_neg c2, if_neg fun q => c2 (e2.mp q)]
      by_cases c3 : tW (srt t n) (vl t n) i 7
      · rw [if_pos c3, if_pos (e3.mpr c3)]; rfl
      rw [if_neg c3, if_neg fun q => c3 (e3.mp q)]
      by_cases c4 : tW (srt t n) (vl t n) i 8
      · rw [if_pos c4, if_pos (e4.mpr c4)]; rfl
      rw [if_neg c4, if_neg fun q => c4 (e4.mp q)]
      by_cases c5 : tW (srt t n) (vl t n) i 9
      · rw [if_pos c5, if_pos (e5.mpr c5)]; rfl
      rw [if_neg c5, if_neg fun q => c5 (e5.mp q)]
      by_cases c6 : tW (srt t n) (vl t n) i 10
      · rw [if_pos c6, if_pos (e6.mpr c6)]; rfl
      rw [if_neg c6, if_neg fun q => c6 (e6.mp q)]
      rfl
    · have e0 := e 0 (by decide)
      show (if mt t (plc t n i) (pos t n (i + 1) - plc t n i) 4 0 then nI 0 else -1) = (if tW (srt t n) (vl t n) i 3 then (0 : Int32) else -1)
      by_cases c0 : tW (srt t n) (vl t n) i 3
      · rw [if_pos c0, if_pos (e0.mpr c0)]; rfl
      · rw [if_neg c0, if_neg fun q => c0 (e0.mp q)]
  · rw [if_neg (fun q => h ((nI_k (x := 1) srt_lt (c := 1) (by decide) rfl).mp q))]
    have hn : ∀ w, ¬ tW (srt t n) (vl t n) i w := fun w q => h q.1
    rcases hs' with rfl | rfl | rfl | rfl
    · show _ = (if tW (srt t n) (vl t n) i 0 then (0 : Int32) else if tW (srt t n) (vl t n) i 1 then 1 else -1)
      rw [if_neg (hn 0), if_neg (hn 1)]
    · show _ = (if tW (srt t n) (vl t n) i 2 then (0 : Int32) else -1)
      rw [if_neg (hn 2)]
    · show _ = (if aw (srt t n) (vl t n) i < 7 then nI (aw (srt t n) (vl t n) i) else -1)
      rw [aw_7 _ _ _ h]
      rfl
    · show _ = (if tW (srt t n) (vl t n) i 3 then (0 : Int32) else -1)
      rw [if_neg (hn 3)]
