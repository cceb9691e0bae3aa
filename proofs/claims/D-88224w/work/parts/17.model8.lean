/-! BedBookModel: the tape, signs, words, codes (printed out of tmpl/t_model8.txt) -/
set_option maxRecDepth 100000
theorem cmp0 (x y : Int64) : lg_cmp x y = 0 ↔ x = y := by
  unfold lg_cmp
  constructor
  · intro h
    split at h
    · exact absurd h (by decide)
    · split at h
      · assumption
      · exact absurd h (by decide)
  · intro h
    subst h
    rw [if_neg (by exact Int64.lt_irrefl), if_pos rfl]
/-- the byte of v that s shifts down -/
def byt (v : Int64) (s : Int32) : Int32 := (v >>> (s.toInt64 &&& 63)).toInt32 &&& 255
abbrev okC (c : Int32) : Prop := c = 10 ∨ (¬ c < 32 ∧ ¬ 126 < c)
/-- c comes on the tape -/
def fdI (I : It) (c : Int32) : It := if okC c ∧ ¬ 600 ≤ I 0 2 then u2 (u2 I 1 (I 0 2).toNatClampNeg c) 0 2 (I 0 2 + 1) else I
def fdN (I : It) (v : Int64) : Nat → It
  | 0 => I
  | w + 1 => fdI (fdN I v w) (byt v (nI (56 - 8 * w)))
theorem fdI_N {I : It} {c : Int32} {N : Nat} (h : I 0 2 = nI N) (hN : N ≤ 600) : ∃ N', fdI I c 0 2 = nI N' ∧ N' ≤ 600 := by
  unfold fdI
  split
  · rename_i q
    refine ⟨N + 1, by rw [u2_s, h]; exact nI_1 N, ?_⟩
    have : ¬ nI 600 ≤ nI N := by rw [← h]; exact q.2
    have := nI_nle' (by decide) (by omega) this
    omega
  · exact ⟨N, h, hN⟩
theorem fdN_N {I : It} {v : Int64} {N : Nat} (h : I 0 2 = nI N) (hN : N ≤ 600) : ∀ w, ∃ N', fdN I v w 0 2 = nI N' ∧ N' ≤ 600 := by
  intro w
  induction w with
  | zero => exact ⟨N, h, hN⟩
  | succ w ih =>
    obtain ⟨N', h1, h2⟩ := ih
    exact fdI_N h1 h2
abbrev spX4_lay : Sp := fun av T I L R uc us k => ∃ v : Int64, ∃ N : Nat, av = [.ref 0, .long v] ∧ T = TM ∧ R = RM ∧ I 0 2 = nI N ∧ N ≤ 600 ∧ k (.inl none) T (fdN I v 8) L R uc us
theorem eX4_lay_69 : dc cX4_lay 69 (.iinc 3 (-8)) 3 72 := ⟨by decide +kernel, rfl⟩
theorem eX4_lay_72 : dj cX4_lay 72 (.goto (-69)) (-69) 3 75 := ⟨by decide +kernel, by decide, rfl⟩
theorem eX4_lay_3 : dc cX4_lay 3 (.iload_n 3) 1 4 := ⟨by decide +kernel, rfl⟩
theorem eX4_lay_4 : dj cX4_lay 4 (.ifCond .lt 71) 71 75 7 := ⟨by decide +kernel, by decide, rfl⟩
theorem eX4_lay_75 : dc cX4_lay 75 (.return_) 1 76 := ⟨by decide +kernel, rfl⟩
theorem eX4_lay_7 : dc cX4_lay 7 (.lload_n 1) 1 8 := ⟨by decide +kernel, rfl⟩
theorem eX4_lay_8 : dc cX4_lay 8 (.iload_n 3) 1 9 := ⟨by decide +kernel, rfl⟩
theorem eX4_lay_9 : dc cX4_lay 9 (.lshr) 1 10 := ⟨by decide +kernel, rfl⟩
theorem eX4_lay_10 : dc cX4_lay 10 (.l2i) 1 11 := ⟨by decide +kernel, rfl⟩
theorem eX4_lay_11 : dc cX4_lay 11 (.sipush 255) 3 14 := ⟨by decide +kernel, rfl⟩
theorem eX4_lay_14 : dc cX4_lay 14 (.iand) 1 15 := ⟨by decide +kernel, rfl⟩
theorem eX4_lay_15 : dc cX4_lay 15 (.istore 4) 2 17 := ⟨by decide +kernel, rfl⟩
theorem eX4_lay_17 : dc cX4_lay 17 (.iload 4) 2 19 := ⟨by decide +kernel, rfl⟩
theorem eX4_lay_19 : dc cX4_lay 19 (.bipush 10) 2 21 := ⟨by decide +kernel, rfl⟩
theorem eX4_lay_21 : dj cX4_lay 21 (.if_icmp .eq 17) 17 38 24 := ⟨by decide +kernel, by decide, rfl⟩
theorem eX4_lay_38 : dc cX4_lay 38 (.aload_n 0) 1 39 := ⟨by decide +kernel, rfl⟩
theorem eX4_lay_39 : dc cX4_lay 39 (.getfield 11) 3 42 := ⟨by decide +kernel, rfl⟩
theorem eX4_lay_42 : dc cX4_lay 42 (.sipush 600) 3 45 := ⟨by decide +kernel, rfl⟩
theorem eX4_lay_45 : dj cX4_lay 45 (.if_icmp .ge 24) 24 69 48 := ⟨by decide +kernel, by decide, rfl⟩
theorem eX4_lay_48 : dc cX4_lay 48 (.aload_n 0) 1 49 := ⟨by decide +kernel, rfl⟩
theorem eX4_lay_49 : dc cX4_lay 49 (.getfield 14) 3 52 := ⟨by decide +kernel, rfl⟩
theorem flX4_14 : FL RX4 14 3 1 := ⟨_, _, _, _, rfl, by decide, by decide, Or.inl (lk q1240), Or.inl rfl⟩
theorem eX4_lay_52 : dc cX4_lay 52 (.aload_n 0) 1 53 := ⟨by decide +kernel, rfl⟩
theorem eX4_lay_53 : dc cX4_lay 53 (.getfield 11) 3 56 := ⟨by decide +kernel, rfl⟩
theorem eX4_lay_56 : dc cX4_lay 56 (.iload 4) 2 58 := ⟨by decide +kernel, rfl⟩
theorem eX4_lay_58 : dc cX4_lay 58 (.iastore) 1 59 := ⟨by decide +kernel, rfl⟩
theorem eX4_lay_59 : dc cX4_lay 59 (.aload_n 0) 1 60 := ⟨by decide +kernel, rfl⟩
theorem eX4_lay_60 : dc cX4_lay 60 (.dup) 1 61 := ⟨by decide +kernel, rfl⟩
theorem eX4_lay_61 : dc cX4_lay 61 (.getfield 11) 3 64 := ⟨by decide +kernel, rfl⟩
theorem eX4_lay_64 : dc cX4_lay 64 (.iconst 1) 1 65 := ⟨by decide +kernel, rfl⟩
theorem eX4_lay_65 : dc cX4_lay 65 (.iadd) 1 66 := ⟨by decide +kernel, rfl⟩
theorem eX4_lay_66 : dc cX4_lay 66 (.putfield 11) 3 69 := ⟨by decide +kernel, rfl⟩
theorem pflX4_11 {nm : String} : (FL RX4 11 3 2 ∧ FN 3 2) ∨ (FF RX4 11 3 2 ∧ nm = "<init>") := Or.inl ⟨flX4_11, fun C Tb N h => by cases h; rfl⟩
theorem eX4_lay_24 : dc cX4_lay 24 (.iload 4) 2 26 := ⟨by decide +kernel, rfl⟩
theorem eX4_lay_26 : dc cX4_lay 26 (.bipush 32) 2 28 := ⟨by decide +kernel, rfl⟩
theorem eX4_lay_28 : dj cX4_lay 28 (.if_icmp .lt 41) 41 69 31 := ⟨by decide +kernel, by decide, rfl⟩
theorem eX4_lay_31 : dc cX4_lay 31 (.iload 4) 2 33 := ⟨by decide +kernel, rfl⟩
theorem eX4_lay_33 : dc cX4_lay 33 (.bipush 126) 2 35 := ⟨by decide +kernel, rfl⟩
theorem eX4_lay_35 : dj cX4_lay 35 (.if_icmp .gt 34) 34 69 38 := ⟨by decide +kernel, by decide, rfl⟩
theorem eX4_lay_0 : dc cX4_lay 0 (.bipush 56) 2 2 := ⟨by decide +kernel, rfl⟩
theorem eX4_lay_2 : dc cX4_lay 2 (.istore_n 3) 1 3 := ⟨by decide +kernel, rfl⟩
set_option maxHeartbeats 8000000 in
theorem ctX4_lay (l : Launch) : Ct l yX4_lay (.code yX4_lay cX4_lay 5 none) 1 spX4_lay := by
  refine Ct.of (own := RX4) (nm := "lay") (by decide) rfl rfl ?_
  rintro X av T I L R uc us rfl g hN hu hz ⟨v, N, rfl, rfl, rfl, hN, hN6, hk⟩
  refine VE.go (ls := [some (.ref 0), some (.long v), none, none, none]) g hu hz (fun _ => rfl) (fun _ => Nat.le_of_ble_eq_true rfl) ?_
  have loop : ∀ (n w : Nat) (x : Int32), w ≤ 8 → 9 ≤ w + n → (w < 8 → x = nI (56 - 8 * w)) → (w = 8 → x = -8) → V X TM (fdN I v w) L RM uc us 3 [some (.ref 0), some (.long v), none, some (.int x), none] [] := by
    intro n
    induction n with
    | zero => intro w x h1 h2; exact absurd h2 (by omega)
    | succ n ih =>
      intro w x h1 h2 hx hx8
      have nx : ∀ I' c, w < 8 → I' = fdI (fdN I v w) (byt v x) → V X TM I' L RM uc us 69 [some (.ref 0), some (.long v), none, some (.int x), some (.int c)] [] := by
        intro I' c hw hI
        refine V_iinc_3 (v := (-8)) g eX4_lay_69 (by decide) (by decide) rfl ?_
        refine V_goto g eX4_lay_72 ?_
        refine V_kill_4 ?_
        refine V_I (I' := fdN I v (w + 1)) (by rw [hI, hx hw]; rfl) ?_
        refine ih (w + 1) _ (by omega) (by omega) (fun q => ?_) (fun q => ?_)
        · rw [hx hw, show 56 - 8 * w = 56 - 8 * (w + 1) + 8 by omega, ← nI_add]
          show nI _ + 8 + (-8) = _
          rw [Int32.add_assoc, show (8 : Int32) + (-8) = 0 by decide, Int32.add_zero]
        · obtain rfl : w = 7 := by omega
          rw [hx hw]
          decide
      obtain ⟨N', hN', hN6'⟩ := fdN_N (v := v) hN hN6 w
      refine V_iload_3 g eX4_lay_3 ?_
      refine V_if_lt g eX4_lay_4 (fun c_4 => ?_) (fun c_4 => ?_)
      · refine V_vret g eX4_lay_75 ?_
        have hw : w = 8 := by rcases Nat.lt_or_ge w 8 with q | q; exact absurd c_4 (by rw [hx q]; exact nI_pos (by omega)); omega
        subst hw
        exact hk
      · have hw : w < 8 := Nat.lt_of_le_of_ne h1 (fun q => c_4 (by rw [hx8 q]; decide))
        refine V_lload_1 g eX4_lay_7 ?_
        refine V_iload_3 g eX4_lay_8 ?_
        refine V_lshr g eX4_lay_9 ?_
        refine V_l2i g eX4_lay_10 ?_
        refine V_sipush (v := 255) g eX4_lay_11 (by decide) ?_
        refine V_iand g eX4_lay_14 ?_
        refine V_istore_4 g eX4_lay_15 (by decide) rfl ?_
        refine V_ls (ls' := [some (.ref 0), some (.long v), none, some (.int x), some (.int (byt v x))]) rfl ?_
        refine V_iload_4 g eX4_lay_17 ?_
        refine V_bipush (v := 10) g eX4_lay_19 (by decide) ?_
        refine V_icmp_eq g eX4_lay_21 (fun c_21 => ?_) (fun c_21 => ?_)
        · refine V_aload_0 g eX4_lay_38 ?_
          refine V_getI g eX4_lay_39 flX4_11 rfl rfl ?_
          refine V_sipush (v := 600) g eX4_lay_42 (by decide) ?_
          refine V_icmp_ge g eX4_lay_45 (fun c_45 => ?_) (fun c_45 => ?_)
          · exact nx _ _ hw (by unfold fdI; rw [if_neg (fun q => q.2 c_45)])
          · have q_45 : N' < 600 := nI_nle' (a := 600) (by decide) (by omega) (by rw [← hN']; exact c_45)
            refine V_aload_0 g eX4_lay_48 ?_
            refine V_getR g eX4_lay_49 flX4_14 rfl rfl rfl ?_
            refine V_aload_0 g eX4_lay_52 ?_
            refine V_getI g eX4_lay_53 flX4_11 rfl rfl ?_
            refine V_top (y := nI N') hN' ?_
            refine V_iload_4 g eX4_lay_56 ?_
            refine V_iastN g eX4_lay_58 rfl (by omega) (by decide) ?_
            refine V_aload_0 g eX4_lay_59 ?_
            refine V_dup g eX4_lay_60 rfl ?_
            refine V_getI g eX4_lay_61 flX4_11 rfl rfl ?_
            refine V_top (y := nI N') (by simp [u2, hN']) ?_
            refine V_iconst (v := 1) g eX4_lay_64 (by decide) ?_
            refine V_iaddN (b := 1) g eX4_lay_65 ?_
            refine V_putI g eX4_lay_66 pflX4_11 rfl rfl rfl rfl ?_
            exact nx _ _ hw (by unfold fdI; rw [if_pos ⟨Or.inl c_21, c_45⟩, hN', nI_clamp (by omega), nI_1])
        · refine V_iload_4 g eX4_lay_24 ?_
          refine V_bipush (v := 32) g eX4_lay_26 (by decide) ?_
          refine V_icmp_lt g eX4_lay_28 (fun c_28 => ?_) (fun c_28 => ?_)
          · exact nx _ _ hw (by unfold fdI; rw [if_neg (fun q => by rcases q.1 with q | q; exact c_21 q; exact q.1 c_28)])
          · refine V_iload_4 g eX4_lay_31 ?_
            refine V_bipush (v := 126) g eX4_lay_33 (by decide) ?_
            refine V_icmp_gt g eX4_lay_35 (fun c_35 => ?_) (fun c_35 => ?_)
            · exact nx _ _ hw (by unfold fdI; rw [if_neg (fun q => by rcases q.1 with q | q; exact c_21 q; exact q.2 c_35)])
            · refine V_aload_0 g eX4_lay_38 ?_
              refine V_getI g eX4_lay_39 flX4_11 rfl rfl ?_
              refine V_sipush (v := 600) g eX4_lay_42 (by decide) ?_
              refine V_icmp_ge g eX4_lay_45 (fun c_45 => ?_) (fun c_45 => ?_)
              · exact nx _ _ hw (by unfold fdI; rw [if_neg (fun q => q.2 c_45)])
              · have q_45 : N' < 600 := nI_nle' (a := 600) (by decide) (by omega) (by rw [← hN']; exact c_45)
                refine V_aload_0 g eX4_lay_48 ?_
                refine V_getR g eX4_lay_49 flX4_14 rfl rfl rfl ?_
                refine V_aload_0 g eX4_lay_52 ?_
                refine V_getI g eX4_lay_53 flX4_11 rfl rfl ?_
                refine V_top (y := nI N') hN' ?_
                refine V_iload_4 g eX4_lay_56 ?_
                refine V_iastN g eX4_lay_58 rfl (by omega) (by decide) ?_
                refine V_aload_0 g eX4_lay_59 ?_
                refine V_dup g eX4_lay_60 rfl ?_
                refine V_getI g eX4_lay_61 flX4_11 rfl rfl ?_
                refine V_top (y := nI N') (by simp [u2, hN']) ?_
                refine V_iconst (v := 1) g eX4_lay_64 (by decide) ?_
                refine V_iaddN (b := 1) g eX4_lay_65 ?_
                refine V_putI g eX4_lay_66 pflX4_11 rfl rfl rfl rfl ?_
                exact nx _ _ hw (by unfold fdI; rw [if_pos ⟨Or.inr ⟨c_28, c_35⟩, c_45⟩, hN', nI_clamp (by omega), nI_1])
  refine V_bipush (v := 56) g eX4_lay_0 (by decide) ?_
  refine V_istore_3 g eX4_lay_2 (by decide) rfl ?_
  exact loop 9 0 56 (by omega) (by omega) (fun _ => rfl) (fun q => absurd q (by decide))
def feI (I : It) (a b c : Int64) : It := fdN (fdN (fdN I a 8) b 8) c 8
abbrev spX4_feed : Sp := fun av T I L R uc us k => ∃ a : Int64, ∃ b : Int64, ∃ c : Int64, ∃ N : Nat, av = [.ref 0, .long a, .long b, .long c] ∧ T = TM ∧ R = RM ∧ (fun J => J 0 2 = nI N ∧ N ≤ 600 ∧ k (.inl (some (.int (feI J a b c 0 2)))) T (feI J a b c) L R uc us) (u2 I 0 0 0)
theorem eX4_feed_0 : dc cX4_feed 0 (.aload_n 0) 1 1 := ⟨by decide +kernel, rfl⟩
theorem eX4_feed_1 : dc cX4_feed 1 (.iconst 0) 1 2 := ⟨by decide +kernel, rfl⟩
theorem eX4_feed_2 : dc cX4_feed 2 (.putfield 1) 3 5 := ⟨by decide +kernel, rfl⟩
theorem eX4_feed_5 : dc cX4_feed 5 (.aload_n 0) 1 6 := ⟨by decide +kernel, rfl⟩
theorem eX4_feed_6 : dc cX4_feed 6 (.lload_n 1) 1 7 := ⟨by decide +kernel, rfl⟩
theorem eX4_feed_7 : dc cX4_feed 7 (.invokevirtual 7) 3 10 := ⟨by decide +kernel, rfl⟩
theorem pkX4_7 : PkV RX4 7 yX4_lay (.code yX4_lay cX4_lay 5 none) 5 "BedBookModel" 1 := ⟨cwd_c, (lk q1222), Or.inl (lk q1218), (lk q1220), (lk qs25), ⟨⟨by decide, by decide⟩, by decide +kernel⟩, (lk q67), by decide⟩
theorem eX4_feed_10 : dc cX4_feed 10 (.aload_n 0) 1 11 := ⟨by decide +kernel, rfl⟩
theorem eX4_feed_11 : dc cX4_feed 11 (.lload_n 3) 1 12 := ⟨by decide +kernel, rfl⟩
theorem eX4_feed_12 : dc cX4_feed 12 (.invokevirtual 7) 3 15 := ⟨by decide +kernel, rfl⟩
theorem eX4_feed_15 : dc cX4_feed 15 (.aload_n 0) 1 16 := ⟨by decide +kernel, rfl⟩
theorem eX4_feed_16 : dc cX4_feed 16 (.lload 5) 2 18 := ⟨by decide +kernel, rfl⟩
theorem eX4_feed_18 : dc cX4_feed 18 (.invokevirtual 7) 3 21 := ⟨by decide +kernel, rfl⟩
theorem eX4_feed_21 : dc cX4_feed 21 (.aload_n 0) 1 22 := ⟨by decide +kernel, rfl⟩
theorem eX4_feed_22 : dc cX4_feed 22 (.getfield 11) 3 25 := ⟨by decide +kernel, rfl⟩
theorem eX4_feed_25 : dc cX4_feed 25 (.ireturn) 1 26 := ⟨by decide +kernel, rfl⟩
set_option maxHeartbeats 8000000 in
theorem ctX4_feed (l : Launch) : Ct l yX4_feed (.code yX4_feed cX4_feed 7 (some .int)) 2 spX4_feed := by
  refine Ct.of (own := RX4) (nm := "feed") (by decide) rfl rfl ?_
  rintro X av T I L R uc us rfl g hN hu hz ⟨a, b, c, N, rfl, rfl, rfl, hk⟩
  refine VE.go (ls := [some (.ref 0), some (.long a), none, some (.long b), none, some (.long c), none]) g hu hz (fun _ => rfl) (fun _ => Nat.le_of_ble_eq_true rfl) ?_
  refine V_aload_0 g eX4_feed_0 ?_
  refine V_iconst (v := 0) g eX4_feed_1 (by decide) ?_
  refine V_putI g eX4_feed_2 pflX4_1 rfl rfl rfl rfl ?_
  generalize u2 I 0 0 0 = J at hk ⊢
  obtain ⟨hN, hN6, hk⟩ := hk
  obtain ⟨N1, h1, h1'⟩ := fdN_N (v := a) hN hN6 8
  obtain ⟨N2, h2, h2'⟩ := fdN_N (v := b) h1 h1' 8
  refine V_aload_0 g eX4_feed_5 ?_
  refine V_lload_1 g eX4_feed_6 ?_
  refine V_cv1 g (ctX4_lay _) eX4_feed_7 pkX4_7 rfl rfl (by decide) (by decide) (Nat.le_of_ble_eq_true rfl) ?_
  refine ⟨_, N, rfl, rfl, rfl, hN, hN6, ?_⟩
  refine V_aload_0 g eX4_feed_10 ?_
  refine V_lload_3 g eX4_feed_11 ?_
  refine V_cv1 g (ctX4_lay _) eX4_feed_12 pkX4_7 rfl rfl (by decide) (by decide) (Nat.le_of_ble_eq_true rfl) ?_
  refine ⟨_, N1, rfl, rfl, rfl, h1, h1', ?_⟩
  refine V_aload_0 g eX4_feed_15 ?_
  refine V_lload_5 g eX4_feed_16 ?_
  refine V_cv1 g (ctX4_lay _) eX4_feed_18 pkX4_7 rfl rfl (by decide) (by decide) (Nat.le_of_ble_eq_true rfl) ?_
  refine ⟨_, N2, rfl, rfl, rfl, h2, h2', ?_⟩
  refine V_aload_0 g eX4_feed_21 ?_
  refine V_getI g eX4_feed_22 flX4_11 rfl rfl ?_
  refine V_iret g eX4_feed_25 ?_
  exact hk
abbrev isSg (c : Int32) : Prop := c = 40 ∨ c = 41 ∨ c = 59 ∨ c = 61 ∨ c = 60 ∨ c = 43 ∨ c = 45
abbrev spX4_isSignOf : Sp := fun av T I L R uc us k => ∃ c : Int32, av = [.int c] ∧ T = TM ∧ R = RM ∧ k (.inl (some (.int (bI (isSg c))))) T I L R uc us
theorem eX4_isSignOf_0 : dc cX4_isSignOf 0 (.iload_n 0) 1 1 := ⟨by decide +kernel, rfl⟩
theorem eX4_isSignOf_1 : dc cX4_isSignOf 1 (.bipush 40) 2 3 := ⟨by decide +kernel, rfl⟩
theorem eX4_isSignOf_3 : dj cX4_isSignOf 3 (.if_icmp .eq 39) 39 42 6 := ⟨by decide +kernel, by decide, rfl⟩
theorem eX4_isSignOf_42 : dc cX4_isSignOf 42 (.iconst 1) 1 43 := ⟨by decide +kernel, rfl⟩
theorem eX4_isSignOf_43 : dj cX4_isSignOf 43 (.goto 4) 4 47 46 := ⟨by decide +kernel, by decide, rfl⟩
theorem eX4_isSignOf_47 : dc cX4_isSignOf 47 (.ireturn) 1 48 := ⟨by decide +kernel, rfl⟩
theorem eX4_isSignOf_6 : dc cX4_isSignOf 6 (.iload_n 0) 1 7 := ⟨by decide +kernel, rfl⟩
theorem eX4_isSignOf_7 : dc cX4_isSignOf 7 (.bipush 41) 2 9 := ⟨by decide +kernel, rfl⟩
theorem eX4_isSignOf_9 : dj cX4_isSignOf 9 (.if_icmp .eq 33) 33 42 12 := ⟨by decide +kernel, by decide, rfl⟩
theorem eX4_isSignOf_12 : dc cX4_isSignOf 12 (.iload_n 0) 1 13 := ⟨by decide +kernel, rfl⟩
theorem eX4_isSignOf_13 : dc cX4_isSignOf 13 (.bipush 59) 2 15 := ⟨by decide +kernel, rfl⟩
theorem eX4_isSignOf_15 : dj cX4_isSignOf 15 (.if_icmp .eq 27) 27 42 18 := ⟨by decide +kernel, by decide, rfl⟩
theorem eX4_isSignOf_18 : dc cX4_isSignOf 18 (.iload_n 0) 1 19 := ⟨by decide +kernel, rfl⟩
theorem eX4_isSignOf_19 : dc cX4_isSignOf 19 (.bipush 61) 2 21 := ⟨by decide +kernel, rfl⟩
theorem eX4_isSignOf_21 : dj cX4_isSignOf 21 (.if_icmp .eq 21) 21 42 24 := ⟨by decide +kernel, by decide, rfl⟩
theorem eX4_isSignOf_24 : dc cX4_isSignOf 24 (.iload_n 0) 1 25 := ⟨by decide +kernel, rfl⟩
theorem eX4_isSignOf_25 : dc cX4_isSignOf 25 (.bipush 60) 2 27 := ⟨by decide +kernel, rfl⟩
theorem eX4_isSignOf_27 : dj cX4_isSignOf 27 (.if_icmp .eq 15) 15 42 30 := ⟨by decide +kernel, by decide, rfl⟩
theorem eX4_isSignOf_30 : dc cX4_isSignOf 30 (.iload_n 0) 1 31 := ⟨by decide +kernel, rfl⟩
theorem eX4_isSignOf_31 : dc cX4_isSignOf 31 (.bipush 43) 2 33 := ⟨by decide +kernel, rfl⟩
theorem eX4_isSignOf_33 : dj cX4_isSignOf 33 (.if_icmp .eq 9) 9 42 36 := ⟨by decide +kernel, by decide, rfl⟩
theorem eX4_isSignOf_36 : dc cX4_isSignOf 36 (.iload_n 0) 1 37 := ⟨by decide +kernel, rfl⟩
theorem eX4_isSignOf_37 : dc cX4_isSignOf 37 (.bipush 45) 2 39 := ⟨by decide +kernel, rfl⟩
theorem eX4_isSignOf_39 : dj cX4_isSignOf 39 (.if_icmp .ne 7) 7 46 42 := ⟨by decide +kernel, by decide, rfl⟩
theorem eX4_isSignOf_46 : dc cX4_isSignOf 46 (.iconst 0) 1 47 := ⟨by decide +kernel, rfl⟩
set_option maxHeartbeats 8000000 in
theorem ctX4_isSignOf (l : Launch) : Ct l yX4_isSignOf (.code yX4_isSignOf cX4_isSignOf 1 (some .boolean)) 1 spX4_isSignOf := by
  refine Ct.of (own := RX4) (nm := "isSignOf") (by decide) rfl rfl ?_
  rintro X av T I L R uc us rfl g hN hu hz ⟨c, rfl, rfl, rfl, hk⟩
  refine VE.go (ls := [some (.int c)]) g hu hz (fun _ => rfl) (fun _ => Nat.le_of_ble_eq_true rfl) ?_
  refine V_iload_0 g eX4_isSignOf_0 ?_
  refine V_bipush (v := 40) g eX4_isSignOf_1 (by decide) ?_
  refine V_icmp_eq g eX4_isSignOf_3 (fun c_3 => ?_) (fun c_3 => ?_)
  · refine V_iconst (v := 1) g eX4_isSignOf_42 (by decide) ?_
    refine V_goto g eX4_isSignOf_43 ?_
    refine V_zret g eX4_isSignOf_47 rfl ?_
    first | contradiction | exact kI hk (by first | (simp only [bI, c_3, or_false, false_or, true_or, or_true, and_true, true_and, and_false, false_and, if_true, if_false, not_true_eq_false, not_false_eq_true, and_self, or_self]; done) | (simp only [bI, isP, isBd, isLt, isDg, aMany, isNm, isD9, isSg, c_3, or_false, false_or, true_or, or_true, and_true, true_and, and_false, false_and, if_true, if_false, not_true_eq_false, not_false_eq_true, and_self, or_self]; done) | ((try simp only [isP, isBd, isLt, isDg, aMany, isNm, isD9, isSg, ← Int32.not_le, Decidable.not_not] at c_3 ⊢); simp only [bI, c_3, or_false, false_or, true_or, or_true, and_true, true_and, and_false, false_and, if_true, if_false, not_true_eq_false, not_false_eq_true, and_self, or_self]; done))
  · refine V_iload_0 g eX4_isSignOf_6 ?_
    refine V_bipush (v := 41) g eX4_isSignOf_7 (by decide) ?_
    refine V_icmp_eq g eX4_isSignOf_9 (fun c_9 => ?_) (fun c_9 => ?_)
    · refine V_iconst (v := 1) g eX4_isSignOf_42 (by decide) ?_
      refine V_goto g eX4_isSignOf_43 ?_
      refine V_zret g eX4_isSignOf_47 rfl ?_
      first | contradiction | exact kI hk (by first | (simp only [bI, c_3, c_9, or_false, false_or, true_or, or_true, and_true, true_and, and_false, false_and, if_true, if_false, not_true_eq_false, not_false_eq_true, and_self, or_self]; done) | (simp only [bI, isP, isBd, isLt, isDg, aMany, isNm, isD9, isSg, c_3, c_9, or_false, false_or, true_or, or_true, and_true, true_and, and_false, false_and, if_true, if_false, not_true_eq_false, not_false_eq_true, and_self, or_self]; done) | ((try simp only [isP, isBd, isLt, isDg, aMany, isNm, isD9, isSg, ← Int32.not_le, Decidable.not_not] at c_3 c_9 ⊢); simp only [bI, c_3, c_9, or_false, false_or, true_or, or_true, and_true, true_and, and_false, false_and, if_true, if_false, not_true_eq_false, not_false_eq_true, and_self, or_self]; done))
    · refine V_iload_0 g eX4_isSignOf_12 ?_
      refine V_bipush (v := 59) g eX4_isSignOf_13 (by decide) ?_
      refine V_icmp_eq g eX4_isSignOf_15 (fun c_15 => ?_) (fun c_15 => ?_)
      · refine V_iconst (v := 1) g eX4_isSignOf_42 (by decide) ?_
        refine V_goto g eX4_isSignOf_43 ?_
        refine V_zret g eX4_isSignOf_47 rfl ?_
        first | contradiction | exact kI hk (by first | (simp only [bI, c_3, c_9, c_15, or_false, false_or, true_or, or_true, and_true, true_and, and_false, false_and, if_true, if_false, not_true_eq_false, not_false_eq_true, and_self, or_self]; done) | (simp only [bI, isP, isBd, isLt, isDg, aMany, isNm, isD9, isSg, c_3, c_9, c_15, or_false, false_or, true_or, or_true, and_true, true_and, and_false, false_and, if_true, if_false, not_true_eq_false, not_false_eq_true, and_self, or_self]; done) | ((try simp only [isP, isBd, isLt, isDg, aMany, isNm, isD9, isSg, ← Int32.not_le, Decidable.not_not] at c_3 c_9 c_15 ⊢); simp only [bI, c_3, c_9, c_15, or_false, false_or, true_or, or_true, and_true, true_and, and_false, false_and, if_true, if_false, not_true_eq_false, not_false_eq_true, and_self, or_self]; done))
      · refine V_iload_0 g eX4_isSignOf_18 ?_
        refine V_bipush (v := 61) g eX4_isSignOf_19 (by decide) ?_
        refine V_icmp_eq g eX4_isSignOf_21 (fun c_21 => ?_) (fun c_21 => ?_)
        · refine V_iconst (v := 1) g eX4_isSignOf_42 (by decide) ?_
          refine V_goto g eX4_isSignOf_43 ?_
          refine V_zret g eX4_isSignOf_47 rfl ?_
          first | contradiction | exact kI hk (by first | (simp only [bI, c_3, c_9, c_15, c_21, or_false, false_or, true_or, or_true, and_true, true_and, and_false, false_and, if_true, if_false, not_true_eq_false, not_false_eq_true, and_self, or_self]; done) | (simp only [bI, isP, isBd, isLt, isDg, aMany, isNm, isD9, isSg, c_3, c_9, c_15, c_21, or_false, false_or, true_or, or_true, and_true, true_and, and_false, false_and, if_true, if_false, not_true_eq_false, not_false_eq_true, and_self, or_self]; done) | ((try simp only [isP, isBd, isLt, isDg, aMany, isNm, isD9, isSg, ← Int32.not_le, Decidable.not_not] at c_3 c_9 c_15 c_21 ⊢); simp only [bI, c_3, c_9, c_15, c_21, or_false, false_or, true_or, or_true, and_true, true_and, and_false, false_and, if_true, if_false, not_true_eq_false, not_false_eq_true, and_self, or_self]; done))
        · refine V_iload_0 g eX4_isSignOf_24 ?_
          refine V_bipush (v := 60) g eX4_isSignOf_25 (by decide) ?_
          refine V_icmp_eq g eX4_isSignOf_27 (fun c_27 => ?_) (fun c_27 => ?_)
          · refine V_iconst (v := 1) g eX4_isSignOf_42 (by decide) ?_
            refine V_goto g eX4_isSignOf_43 ?_
            refine V_zret g eX4_isSignOf_47 rfl ?_
            first | contradiction | exact kI hk (by first | (simp only [bI, c_3, c_9, c_15, c_21, c_27, or_false, false_or, true_or, or_true, and_true, true_and, and_false, false_and, if_true, if_false, not_true_eq_false, not_false_eq_true, and_self, or_self]; done) | (simp only [bI, isP, isBd, isLt, isDg, aMany, isNm, isD9, isSg, c_3, c_9, c_15, c_21, c_27, or_false, false_or, true_or, or_true, and_true, true_and, and_false, false_and, if_true, if_false, not_true_eq_false, not_false_eq_true, and_self, or_self]; done) | ((try simp only [isP, isBd, isLt, isDg, aMany, isNm, isD9, isSg, ← Int32.not_le, Decidable.not_not] at c_3 c_9 c_15 c_21 c_27 ⊢); simp only [bI, c_3, c_9, c_15, c_21, c_27, or_false, false_or, true_or, or_true, and_true, true_and, and_false, false_and, if_true, if_false, not_true_eq_false, not_false_eq_true, and_self, or_self]; done))
          · refine V_iload_0 g eX4_isSignOf_30 ?_
            refine V_bipush (v := 43) g eX4_isSignOf_31 (by decide) ?_
            refine V_icmp_eq g eX4_isSignOf_33 (fun c_33 => ?_) (fun c_33 => ?_)
            · refine V_iconst (v := 1) g eX4_isSignOf_42 (by decide) ?_
              refine V_goto g eX4_isSignOf_43 ?_
              refine V_zret g eX4_isSignOf_47 rfl ?_
              first | contradiction | exact kI hk (by first | (simp only [bI, c_3, c_9, c_15, c_21, c_27, c_33, or_false, false_or, true_or, or_true, and_true, true_and, and_false, false_and, if_true, if_false, not_true_eq_false, not_false_eq_true, and_self, or_self]; done) | (simp only [bI, isP, isBd, isLt, isDg, aMany, isNm, isD9, isSg, c_3, c_9, c_15, c_21, c_27, c_33, or_false, false_or, true_or, or_true, and_true, true_and, and_false, false_and, if_true, if_false, not_true_eq_false, not_false_eq_true, and_self, or_self]; done) | ((try simp only [isP, isBd, isLt, isDg, aMany, isNm, isD9, isSg, ← Int32.not_le, Decidable.not_not] at c_3 c_9 c_15 c_21 c_27 c_33 ⊢); simp only [bI, c_3, c_9, c_15, c_21, c_27, c_33, or_false, false_or, true_or, or_true, and_true, true_and, and_false, false_and, if_true, if_false, not_true_eq_false, not_false_eq_true, and_self, or_self]; done))
            · refine V_iload_0 g eX4_isSignOf_36 ?_
              refine V_bipush (v := 45) g eX4_isSignOf_37 (by decide) ?_
              refine V_icmp_ne g eX4_isSignOf_39 (fun c_39 => ?_) (fun c_39 => ?_)
              · refine V_iconst (v := 0) g eX4_isSignOf_46 (by decide) ?_
                refine V_zret g eX4_isSignOf_47 rfl ?_
                first | contradiction | exact kI hk (by first | (simp only [bI, c_3, c_9, c_15, c_21, c_27, c_33, c_39, or_false, false_or, true_or, or_true, and_true, true_and, and_false, false_and, if_true, if_false, not_true_eq_false, not_false_eq_true, and_self, or_self]; done) | (simp only [bI, isP, isBd, isLt, isDg, aMany, isNm, isD9, isSg, c_3, c_9, c_15, c_21, c_27, c_33, c_39, or_false, false_or, true_or, or_true, and_true, true_and, and_false, false_and, if_true, if_false, not_true_eq_false, not_false_eq_true, and_self, or_self]; done) | ((try simp only [isP, isBd, isLt, isDg, aMany, isNm, isD9, isSg, ← Int32.not_le, Decidable.not_not] at c_3 c_9 c_15 c_21 c_27 c_33 c_39 ⊢); simp only [bI, c_3, c_9, c_15, c_21, c_27, c_33, c_39, or_false, false_or, true_or, or_true, and_true, true_and, and_false, false_and, if_true, if_false, not_true_eq_false, not_false_eq_true, and_self, or_self]; done))
              · refine V_iconst (v := 1) g eX4_isSignOf_42 (by decide) ?_
                refine V_goto g eX4_isSignOf_43 ?_
                refine V_zret g eX4_isSignOf_47 rfl ?_
                first | contradiction | exact kI hk (by first | (simp only [bI, c_3, c_9, c_15, c_21, c_27, c_33, c_39, or_false, false_or, true_or, or_true, and_true, true_and, and_false, false_and, if_true, if_false, not_true_eq_false, not_false_eq_true, and_self, or_self]; done) | (simp only [bI, isP, isBd, isLt, isDg, aMany, isNm, isD9, isSg, c_3, c_9, c_15, c_21, c_27, c_33, c_39, or_false, false_or, true_or, or_true, and_true, true_and, and_false, false_and, if_true, if_false, not_true_eq_false, not_false_eq_true, and_self, or_self]; done) | ((try simp only [isP, isBd, isLt, isDg, aMany, isNm, isD9, isSg, ← Int32.not_le, Decidable.not_not] at c_3 c_9 c_15 c_21 c_27 c_33 c_39 ⊢); simp only [bI, c_3, c_9, c_15, c_21, c_27, c_33, c_39, or_false, false_or, true_or, or_true, and_true, true_and, and_false, false_and, if_true, if_false, not_true_eq_false, not_false_eq_true, and_self, or_self]; done))
def wrI (I : It) (A : Nat) (w : Int32) : It := if I 0 8 = 0 then u2 I 0 8 (w + 16 * I 5 A) else I
abbrev spX4_wrong : Sp := fun av T I L R uc us k => ∃ w : Int32, ∃ A : Nat, av = [.ref 0, .int w] ∧ T = TM ∧ R = RM ∧ I 0 7 = nI A ∧ A < 602 ∧ k (.inl none) T (wrI I A w) L R uc us
theorem eX4_wrong_0 : dc cX4_wrong 0 (.aload_n 0) 1 1 := ⟨by decide +kernel, rfl⟩
theorem eX4_wrong_1 : dc cX4_wrong 1 (.getfield 194) 3 4 := ⟨by decide +kernel, rfl⟩
theorem flX4_194 : FL RX4 194 3 8 := ⟨_, _, _, _, rfl, by decide, by decide, Or.inl (lk q1247), Or.inl rfl⟩
theorem eX4_wrong_4 : dj cX4_wrong 4 (.ifCond .ne 21) 21 25 7 := ⟨by decide +kernel, by decide, rfl⟩
theorem eX4_wrong_25 : dc cX4_wrong 25 (.return_) 1 26 := ⟨by decide +kernel, rfl⟩
theorem eX4_wrong_7 : dc cX4_wrong 7 (.aload_n 0) 1 8 := ⟨by decide +kernel, rfl⟩
theorem eX4_wrong_8 : dc cX4_wrong 8 (.iload_n 1) 1 9 := ⟨by decide +kernel, rfl⟩
theorem eX4_wrong_9 : dc cX4_wrong 9 (.bipush 16) 2 11 := ⟨by decide +kernel, rfl⟩
theorem eX4_wrong_11 : dc cX4_wrong 11 (.aload_n 0) 1 12 := ⟨by decide +kernel, rfl⟩
theorem eX4_wrong_12 : dc cX4_wrong 12 (.getfield 27) 3 15 := ⟨by decide +kernel, rfl⟩
theorem flX4_27 : FL RX4 27 3 5 := ⟨_, _, _, _, rfl, by decide, by decide, Or.inl (lk q1244), Or.inl rfl⟩
theorem eX4_wrong_15 : dc cX4_wrong 15 (.aload_n 0) 1 16 := ⟨by decide +kernel, rfl⟩
theorem eX4_wrong_16 : dc cX4_wrong 16 (.getfield 191) 3 19 := ⟨by decide +kernel, rfl⟩
theorem flX4_191 : FL RX4 191 3 7 := ⟨_, _, _, _, rfl, by decide, by decide, Or.inl (lk q1246), Or.inl rfl⟩
theorem eX4_wrong_19 : dc cX4_wrong 19 (.iaload) 1 20 := ⟨by decide +kernel, rfl⟩
theorem eX4_wrong_20 : dc cX4_wrong 20 (.imul) 1 21 := ⟨by decide +kernel, rfl⟩
theorem eX4_wrong_21 : dc cX4_wrong 21 (.iadd) 1 22 := ⟨by decide +kernel, rfl⟩
theorem eX4_wrong_22 : dc cX4_wrong 22 (.putfield 194) 3 25 := ⟨by decide +kernel, rfl⟩
theorem pflX4_194 {nm : String} : (FL RX4 194 3 8 ∧ FN 3 8) ∨ (FF RX4 194 3 8 ∧ nm = "<init>") := Or.inl ⟨flX4_194, fun C Tb N h => by cases h; rfl⟩
set_option maxHeartbeats 8000000 in
theorem ctX4_wrong (l : Launch) : Ct l yX4_wrong (.code yX4_wrong cX4_wrong 2 none) 1 spX4_wrong := by
  refine Ct.of (own := RX4) (nm := "wrong") (by decide) rfl rfl ?_
  rintro X av T I L R uc us rfl g hN hu hz ⟨w, A, rfl, rfl, rfl, hA, hA6, hk⟩
  refine VE.go (ls := [some (.ref 0), some (.int w)]) g hu hz (fun _ => rfl) (fun _ => Nat.le_of_ble_eq_true rfl) ?_
  unfold wrI at hk
  refine V_aload_0 g eX4_wrong_0 ?_
  refine V_getI g eX4_wrong_1 flX4_194 rfl rfl ?_
  refine V_if_ne g eX4_wrong_4 (fun c_4 => ?_) (fun c_4 => ?_)
  · refine V_vret g eX4_wrong_25 ?_
    rw [if_neg c_4] at hk
    exact hk
  · refine V_aload_0 g eX4_wrong_7 ?_
    refine V_iload_1 g eX4_wrong_8 ?_
    refine V_bipush (v := 16) g eX4_wrong_9 (by decide) ?_
    refine V_aload_0 g eX4_wrong_11 ?_
    refine V_getR g eX4_wrong_12 flX4_27 rfl rfl rfl ?_
    refine V_aload_0 g eX4_wrong_15 ?_
    refine V_getI g eX4_wrong_16 flX4_191 rfl rfl ?_
    refine V_top (y := nI A) hA ?_
    refine V_ialdN g eX4_wrong_19 rfl (by omega) (by decide) ?_
    refine V_imul g eX4_wrong_20 ?_
    refine V_iadd g eX4_wrong_21 ?_
    refine V_putI g eX4_wrong_22 pflX4_194 rfl rfl rfl rfl ?_
    refine V_vret g eX4_wrong_25 ?_
    rw [if_pos c_4] at hk
    exact hk
abbrev sgI (I : It) (L : Lt) (A : Nat) (c : Int32) : Prop := I 0 8 = 0 ∧ I 4 A = 3 ∧ L 6 A = c.toInt64
abbrev wdI (I : It) (L : Lt) (A W : Nat) : Prop := I 0 8 = 0 ∧ I 4 A = 1 ∧ L 6 A = L 9 W
abbrev spX4_isSign : Sp := fun av T I L R uc us k => ∃ c : Int32, ∃ A : Nat, av = [.ref 0, .int c] ∧ T = TM ∧ R = RM ∧ I 0 7 = nI A ∧ A < 602 ∧ k (.inl (some (.int (bI (sgI I L A c))))) T I L R uc us
theorem eX4_isSign_0 : dc cX4_isSign 0 (.aload_n 0) 1 1 := ⟨by decide +kernel, rfl⟩
theorem eX4_isSign_1 : dc cX4_isSign 1 (.getfield 194) 3 4 := ⟨by decide +kernel, rfl⟩
theorem eX4_isSign_4 : dj cX4_isSign 4 (.ifCond .ne 35) 35 39 7 := ⟨by decide +kernel, by decide, rfl⟩
theorem eX4_isSign_39 : dc cX4_isSign 39 (.iconst 0) 1 40 := ⟨by decide +kernel, rfl⟩
theorem eX4_isSign_40 : dc cX4_isSign 40 (.ireturn) 1 41 := ⟨by decide +kernel, rfl⟩
theorem eX4_isSign_7 : dc cX4_isSign 7 (.aload_n 0) 1 8 := ⟨by decide +kernel, rfl⟩
theorem eX4_isSign_8 : dc cX4_isSign 8 (.getfield 24) 3 11 := ⟨by decide +kernel, rfl⟩
theorem flX4_24 : FL RX4 24 3 4 := ⟨_, _, _, _, rfl, by decide, by decide, Or.inl (lk q1243), Or.inl rfl⟩
theorem eX4_isSign_11 : dc cX4_isSign 11 (.aload_n 0) 1 12 := ⟨by decide +kernel, rfl⟩
theorem eX4_isSign_12 : dc cX4_isSign 12 (.getfield 191) 3 15 := ⟨by decide +kernel, rfl⟩
theorem eX4_isSign_15 : dc cX4_isSign 15 (.iaload) 1 16 := ⟨by decide +kernel, rfl⟩
theorem eX4_isSign_16 : dc cX4_isSign 16 (.iconst 3) 1 17 := ⟨by decide +kernel, rfl⟩
theorem eX4_isSign_17 : dj cX4_isSign 17 (.if_icmp .ne 22) 22 39 20 := ⟨by decide +kernel, by decide, rfl⟩
theorem eX4_isSign_20 : dc cX4_isSign 20 (.aload_n 0) 1 21 := ⟨by decide +kernel, rfl⟩
theorem eX4_isSign_21 : dc cX4_isSign 21 (.getfield 30) 3 24 := ⟨by decide +kernel, rfl⟩
theorem flX4_30 : FL RX4 30 3 6 := ⟨_, _, _, _, rfl, by decide, by decide, Or.inl (lk q1245), Or.inl rfl⟩
theorem eX4_isSign_24 : dc cX4_isSign 24 (.aload_n 0) 1 25 := ⟨by decide +kernel, rfl⟩
theorem eX4_isSign_25 : dc cX4_isSign 25 (.getfield 191) 3 28 := ⟨by decide +kernel, rfl⟩
theorem eX4_isSign_28 : dc cX4_isSign 28 (.laload) 1 29 := ⟨by decide +kernel, rfl⟩
theorem eX4_isSign_29 : dc cX4_isSign 29 (.iload_n 1) 1 30 := ⟨by decide +kernel, rfl⟩
theorem eX4_isSign_30 : dc cX4_isSign 30 (.i2l) 1 31 := ⟨by decide +kernel, rfl⟩
theorem eX4_isSign_31 : dc cX4_isSign 31 (.lcmp) 1 32 := ⟨by decide +kernel, rfl⟩
theorem eX4_isSign_32 : dj cX4_isSign 32 (.ifCond .ne 7) 7 39 35 := ⟨by decide +kernel, by decide, rfl⟩
theorem eX4_isSign_35 : dc cX4_isSign 35 (.iconst 1) 1 36 := ⟨by decide +kernel, rfl⟩
theorem eX4_isSign_36 : dj cX4_isSign 36 (.goto 4) 4 40 39 := ⟨by decide +kernel, by decide, rfl⟩
set_option maxHeartbeats 8000000 in
theorem ctX4_isSign (l : Launch) : Ct l yX4_isSign (.code yX4_isSign cX4_isSign 2 (some .boolean)) 1 spX4_isSign := by
  refine Ct.of (own := RX4) (nm := "isSign") (by decide) rfl rfl ?_
  rintro X av T I L R uc us rfl g hN hu hz ⟨c, A, rfl, rfl, rfl, hA, hA6, hk⟩
  refine VE.go (ls := [some (.ref 0), some (.int c)]) g hu hz (fun _ => rfl) (fun _ => Nat.le_of_ble_eq_true rfl) ?_
  refine V_aload_0 g eX4_isSign_0 ?_
  refine V_getI g eX4_isSign_1 flX4_194 rfl rfl ?_
  refine V_if_ne g eX4_isSign_4 (fun c_4 => ?_) (fun c_4 => ?_)
  · refine V_iconst (v := 0) g eX4_isSign_39 (by decide) ?_
    refine V_zret g eX4_isSign_40 rfl ?_
    exact kI hk (bI_f (fun q => c_4 q.1))
  · refine V_aload_0 g eX4_isSign_7 ?_
    refine V_getR g eX4_isSign_8 flX4_24 rfl rfl rfl ?_
    refine V_aload_0 g eX4_isSign_11 ?_
    refine V_getI g eX4_isSign_12 flX4_191 rfl rfl ?_
    refine V_top (y := nI A) hA ?_
    refine V_ialdN g eX4_isSign_15 rfl (by omega) (by decide) ?_
    refine V_iconst (v := 3) g eX4_isSign_16 (by decide) ?_
    refine V_icmp_ne g eX4_isSign_17 (fun c_17 => ?_) (fun c_17 => ?_)
    · refine V_iconst (v := 0) g eX4_isSign_39 (by decide) ?_
      refine V_zret g eX4_isSign_40 rfl ?_
      exact kI hk (bI_f (fun q => c_17 q.2.1))
    · refine V_aload_0 g eX4_isSign_20 ?_
      refine V_getR g eX4_isSign_21 flX4_30 rfl rfl rfl ?_
      refine V_aload_0 g eX4_isSign_24 ?_
      refine V_getI g eX4_isSign_25 flX4_191 rfl rfl ?_
      refine V_top (y := nI A) hA ?_
      refine V_laldN g eX4_isSign_28 rfl (by omega) (by decide) ?_
      refine V_iload_1 g eX4_isSign_29 ?_
      refine V_i2l g eX4_isSign_30 ?_
      refine V_lcmp g eX4_isSign_31 ?_
      refine V_if_ne g eX4_isSign_32 (fun c_32 => ?_) (fun c_32 => ?_)
      · refine V_iconst (v := 0) g eX4_isSign_39 (by decide) ?_
        refine V_zret g eX4_isSign_40 rfl ?_
        rw [cmp0] at c_32
        exact kI hk (bI_f (fun q => c_32 q.2.2))
      · rw [cmp0] at c_32
        refine V_iconst (v := 1) g eX4_isSign_35 (by decide) ?_
        refine V_goto g eX4_isSign_36 ?_
        refine V_zret g eX4_isSign_40 rfl ?_
        exact kI hk (bI_t ⟨c_4, c_17, c_32⟩)
abbrev spX4_isWord : Sp := fun av T I L R uc us k => ∃ W : Nat, ∃ A : Nat, av = [.ref 0, .int (nI W)] ∧ T = TM ∧ R = RM ∧ I 0 7 = nI A ∧ A < 602 ∧ W < 11 ∧ k (.inl (some (.int (bI (wdI I L A W))))) T I L R uc us
theorem eX4_isWord_0 : dc cX4_isWord 0 (.aload_n 0) 1 1 := ⟨by decide +kernel, rfl⟩
theorem eX4_isWord_1 : dc cX4_isWord 1 (.getfield 194) 3 4 := ⟨by decide +kernel, rfl⟩
theorem eX4_isWord_4 : dj cX4_isWord 4 (.ifCond .ne 39) 39 43 7 := ⟨by decide +kernel, by decide, rfl⟩
theorem eX4_isWord_43 : dc cX4_isWord 43 (.iconst 0) 1 44 := ⟨by decide +kernel, rfl⟩
theorem eX4_isWord_44 : dc cX4_isWord 44 (.ireturn) 1 45 := ⟨by decide +kernel, rfl⟩
theorem eX4_isWord_7 : dc cX4_isWord 7 (.aload_n 0) 1 8 := ⟨by decide +kernel, rfl⟩
theorem eX4_isWord_8 : dc cX4_isWord 8 (.getfield 24) 3 11 := ⟨by decide +kernel, rfl⟩
theorem eX4_isWord_11 : dc cX4_isWord 11 (.aload_n 0) 1 12 := ⟨by decide +kernel, rfl⟩
theorem eX4_isWord_12 : dc cX4_isWord 12 (.getfield 191) 3 15 := ⟨by decide +kernel, rfl⟩
theorem eX4_isWord_15 : dc cX4_isWord 15 (.iaload) 1 16 := ⟨by decide +kernel, rfl⟩
theorem eX4_isWord_16 : dc cX4_isWord 16 (.iconst 1) 1 17 := ⟨by decide +kernel, rfl⟩
theorem eX4_isWord_17 : dj cX4_isWord 17 (.if_icmp .ne 26) 26 43 20 := ⟨by decide +kernel, by decide, rfl⟩
theorem eX4_isWord_20 : dc cX4_isWord 20 (.aload_n 0) 1 21 := ⟨by decide +kernel, rfl⟩
theorem eX4_isWord_21 : dc cX4_isWord 21 (.getfield 30) 3 24 := ⟨by decide +kernel, rfl⟩
theorem eX4_isWord_24 : dc cX4_isWord 24 (.aload_n 0) 1 25 := ⟨by decide +kernel, rfl⟩
theorem eX4_isWord_25 : dc cX4_isWord 25 (.getfield 191) 3 28 := ⟨by decide +kernel, rfl⟩
theorem eX4_isWord_28 : dc cX4_isWord 28 (.laload) 1 29 := ⟨by decide +kernel, rfl⟩
theorem eX4_isWord_29 : dc cX4_isWord 29 (.aload_n 0) 1 30 := ⟨by decide +kernel, rfl⟩
theorem eX4_isWord_30 : dc cX4_isWord 30 (.getfield 56) 3 33 := ⟨by decide +kernel, rfl⟩
theorem flX4_56 : FL RX4 56 3 9 := ⟨_, _, _, _, rfl, by decide, by decide, Or.inl (lk q1248), Or.inl rfl⟩
theorem eX4_isWord_33 : dc cX4_isWord 33 (.iload_n 1) 1 34 := ⟨by decide +kernel, rfl⟩
theorem eX4_isWord_34 : dc cX4_isWord 34 (.laload) 1 35 := ⟨by decide +kernel, rfl⟩
theorem eX4_isWord_35 : dc cX4_isWord 35 (.lcmp) 1 36 := ⟨by decide +kernel, rfl⟩
theorem eX4_isWord_36 : dj cX4_isWord 36 (.ifCond .ne 7) 7 43 39 := ⟨by decide +kernel, by decide, rfl⟩
theorem eX4_isWord_39 : dc cX4_isWord 39 (.iconst 1) 1 40 := ⟨by decide +kernel, rfl⟩
theorem eX4_isWord_40 : dj cX4_isWord 40 (.goto 4) 4 44 43 := ⟨by decide +kernel, by decide, rfl⟩
set_option maxHeartbeats 8000000 in
theorem ctX4_isWord (l : Launch) : Ct l yX4_isWord (.code yX4_isWord cX4_isWord 2 (some .boolean)) 1 spX4_isWord := by
  refine Ct.of (own := RX4) (nm := "isWord") (by decide) rfl rfl ?_
  rintro X av T I L R uc us rfl g hN hu hz ⟨W, A, rfl, rfl, rfl, hA, hA6, hW, hk⟩
  refine VE.go (ls := [some (.ref 0), some (.int (nI W))]) g hu hz (fun _ => rfl) (fun _ => Nat.le_of_ble_eq_true rfl) ?_
  refine V_aload_0 g eX4_isWord_0 ?_
  refine V_getI g eX4_isWord_1 flX4_194 rfl rfl ?_
  refine V_if_ne g eX4_isWord_4 (fun c_4 => ?_) (fun c_4 => ?_)
  · refine V_iconst (v := 0) g eX4_isWord_43 (by decide) ?_
    refine V_zret g eX4_isWord_44 rfl ?_
    exact kI hk (bI_f (fun q => c_4 q.1))
  · refine V_aload_0 g eX4_isWord_7 ?_
    refine V_getR g eX4_isWord_8 flX4_24 rfl rfl rfl ?_
    refine V_aload_0 g eX4_isWord_11 ?_
    refine V_getI g eX4_isWord_12 flX4_191 rfl rfl ?_
    refine V_top (y := nI A) hA ?_
    refine V_ialdN g eX4_isWord_15 rfl (by omega) (by decide) ?_
    refine V_iconst (v := 1) g eX4_isWord_16 (by decide) ?_
    refine V_icmp_ne g eX4_isWord_17 (fun c_17 => ?_) (fun c_17 => ?_)
    · refine V_iconst (v := 0) g eX4_isWord_43 (by decide) ?_
      refine V_zret g eX4_isWord_44 rfl ?_
      exact kI hk (bI_f (fun q => c_17 q.2.1))
    · refine V_aload_0 g eX4_isWord_20 ?_
      refine V_getR g eX4_isWord_21 flX4_30 rfl rfl rfl ?_
      refine V_aload_0 g eX4_isWord_24 ?_
      refine V_getI g eX4_isWord_25 flX4_191 rfl rfl ?_
      refine V_top (y := nI A) hA ?_
      refine V_laldN g eX4_isWord_28 rfl (by omega) (by decide) ?_
      refine V_aload_0 g eX4_isWord_29 ?_
      refine V_getR g eX4_isWord_30 flX4_56 rfl rfl rfl ?_
      refine V_iload_1 g eX4_isWord_33 ?_
      refine V_laldN g eX4_isWord_34 rfl (by omega) (by decide) ?_
      refine V_lcmp g eX4_isWord_35 ?_
      refine V_if_ne g eX4_isWord_36 (fun c_36 => ?_) (fun c_36 => ?_)
      · refine V_iconst (v := 0) g eX4_isWord_43 (by decide) ?_
        refine V_zret g eX4_isWord_44 rfl ?_
        rw [cmp0] at c_36
        exact kI hk (bI_f (fun q => c_36 q.2.2))
      · rw [cmp0] at c_36
        refine V_iconst (v := 1) g eX4_isWord_39 (by decide) ?_
        refine V_goto g eX4_isWord_40 ?_
        refine V_zret g eX4_isWord_44 rfl ?_
        exact kI hk (bI_t ⟨c_4, c_17, c_36⟩)
/-- one step on -/
def onI (I : It) (A : Nat) : It := u2 I 0 7 (nI (A + 1))
abbrev spX4_takeSign : Sp := fun av T I L R uc us k => ∃ c : Int32, ∃ A : Nat, av = [.ref 0, .int c] ∧ T = TM ∧ R = RM ∧ I 0 7 = nI A ∧ A < 602 ∧ (sgI I L A c → k (.inl none) T (onI I A) L R uc us) ∧ (¬ sgI I L A c → k (.inl none) T (wrI I A 1) L R uc us)
theorem eX4_takeSign_0 : dc cX4_takeSign 0 (.aload_n 0) 1 1 := ⟨by decide +kernel, rfl⟩
theorem eX4_takeSign_1 : dc cX4_takeSign 1 (.iload_n 1) 1 2 := ⟨by decide +kernel, rfl⟩
theorem eX4_takeSign_2 : dc cX4_takeSign 2 (.invokevirtual 197) 3 5 := ⟨by decide +kernel, rfl⟩
theorem pkX4_197 : PkV RX4 197 yX4_isSign (.code yX4_isSign cX4_isSign 2 (some .boolean)) 2 "BedBookModel" 1 := ⟨cwd_c, (lk q1468), Or.inl (lk q1465), (lk q1467), (lk qs35), ⟨⟨by decide, by decide⟩, by decide +kernel⟩, (lk q67), by decide⟩
theorem eX4_takeSign_5 : dj cX4_takeSign 5 (.ifCond .eq 16) 16 21 8 := ⟨by decide +kernel, by decide, rfl⟩
theorem eX4_takeSign_21 : dc cX4_takeSign 21 (.aload_n 0) 1 22 := ⟨by decide +kernel, rfl⟩
theorem eX4_takeSign_22 : dc cX4_takeSign 22 (.iconst 1) 1 23 := ⟨by decide +kernel, rfl⟩
theorem eX4_takeSign_23 : dc cX4_takeSign 23 (.invokevirtual 200) 3 26 := ⟨by decide +kernel, rfl⟩
theorem pkX4_200 : PkV RX4 200 yX4_wrong (.code yX4_wrong cX4_wrong 2 none) 2 "BedBookModel" 1 := ⟨cwd_c, (lk q1444), Or.inl (lk q1441), (lk q1443), (lk qs29), ⟨⟨by decide, by decide⟩, by decide +kernel⟩, (lk q67), by decide⟩
theorem eX4_takeSign_26 : dc cX4_takeSign 26 (.return_) 1 27 := ⟨by decide +kernel, rfl⟩
theorem eX4_takeSign_8 : dc cX4_takeSign 8 (.aload_n 0) 1 9 := ⟨by decide +kernel, rfl⟩
theorem eX4_takeSign_9 : dc cX4_takeSign 9 (.dup) 1 10 := ⟨by decide +kernel, rfl⟩
theorem eX4_takeSign_10 : dc cX4_takeSign 10 (.getfield 191) 3 13 := ⟨by decide +kernel, rfl⟩
theorem eX4_takeSign_13 : dc cX4_takeSign 13 (.iconst 1) 1 14 := ⟨by decide +kernel, rfl⟩
theorem eX4_takeSign_14 : dc cX4_takeSign 14 (.iadd) 1 15 := ⟨by decide +kernel, rfl⟩
theorem eX4_takeSign_15 : dc cX4_takeSign 15 (.putfield 191) 3 18 := ⟨by decide +kernel, rfl⟩
theorem pflX4_191 {nm : String} : (FL RX4 191 3 7 ∧ FN 3 7) ∨ (FF RX4 191 3 7 ∧ nm = "<init>") := Or.inl ⟨flX4_191, fun C Tb N h => by cases h; rfl⟩
theorem eX4_takeSign_18 : dj cX4_takeSign 18 (.goto 8) 8 26 21 := ⟨by decide +kernel, by decide, rfl⟩
set_option maxHeartbeats 8000000 in
theorem ctX4_takeSign (l : Launch) : Ct l yX4_takeSign (.code yX4_takeSign cX4_takeSign 2 none) 2 spX4_takeSign := by
  refine Ct.of (own := RX4) (nm := "takeSign") (by decide) rfl rfl ?_
  rintro X av T I L R uc us rfl g hN hu hz ⟨c, A, rfl, rfl, rfl, hA, hA6, hk1, hk2⟩
  refine VE.go (ls := [some (.ref 0), some (.int c)]) g hu hz (fun _ => rfl) (fun _ => Nat.le_of_ble_eq_true rfl) ?_
  refine V_aload_0 g eX4_takeSign_0 ?_
  refine V_iload_1 g eX4_takeSign_1 ?_
  refine V_cv1 g (ctX4_isSign _) eX4_takeSign_2 pkX4_197 rfl rfl (by decide) (by decide) (Nat.le_of_ble_eq_true rfl) ?_
  refine ⟨_, A, rfl, rfl, rfl, hA, hA6, ?_⟩
  refine V_if_eqB g eX4_takeSign_5 (fun c_5 => ?_) (fun c_5 => ?_)
  · refine V_aload_0 g eX4_takeSign_21 ?_
    refine V_iconst (v := 1) g eX4_takeSign_22 (by decide) ?_
    refine V_cv1 g (ctX4_wrong _) eX4_takeSign_23 pkX4_200 rfl rfl (by decide) (by decide) (Nat.le_of_ble_eq_true rfl) ?_
    refine ⟨_, A, rfl, rfl, rfl, hA, hA6, ?_⟩
    refine V_vret g eX4_takeSign_26 ?_
    exact hk2 c_5
  · refine V_aload_0 g eX4_takeSign_8 ?_
    refine V_dup g eX4_takeSign_9 rfl ?_
    refine V_getI g eX4_takeSign_10 flX4_191 rfl rfl ?_
    refine V_top (y := nI A) hA ?_
    refine V_iconst (v := 1) g eX4_takeSign_13 (by decide) ?_
    refine V_iaddN (b := 1) g eX4_takeSign_14 ?_
    refine V_putI g eX4_takeSign_15 pflX4_191 rfl rfl rfl rfl ?_
    refine V_goto g eX4_takeSign_18 ?_
    refine V_vret g eX4_takeSign_26 ?_
    exact hk1 c_5
abbrev spX4_hasSign : Sp := fun av T I L R uc us k => ∃ c : Int32, ∃ A : Nat, av = [.ref 0, .int c] ∧ T = TM ∧ R = RM ∧ I 0 7 = nI A ∧ A < 602 ∧ (sgI I L A c → k (.inl (some (.int 1))) T (onI I A) L R uc us) ∧ (¬ sgI I L A c → k (.inl (some (.int 0))) T I L R uc us)
theorem u2_id {α : Type} {f : Nat → Nat → α} {a b : Nat} {v : α} (h : f a b = v) : u2 f a b v = f := by
  funext x y
  unfold u2
  split
  · rename_i q; rw [q.1, q.2]; exact h.symm
  · rfl
theorem eX4_hasSign_0 : dc cX4_hasSign 0 (.aload_n 0) 1 1 := ⟨by decide +kernel, rfl⟩
theorem eX4_hasSign_1 : dc cX4_hasSign 1 (.iload_n 1) 1 2 := ⟨by decide +kernel, rfl⟩
theorem eX4_hasSign_2 : dc cX4_hasSign 2 (.invokevirtual 197) 3 5 := ⟨by decide +kernel, rfl⟩
theorem eX4_hasSign_5 : dc cX4_hasSign 5 (.istore_n 2) 1 6 := ⟨by decide +kernel, rfl⟩
theorem eX4_hasSign_6 : dc cX4_hasSign 6 (.aload_n 0) 1 7 := ⟨by decide +kernel, rfl⟩
theorem eX4_hasSign_7 : dc cX4_hasSign 7 (.dup) 1 8 := ⟨by decide +kernel, rfl⟩
theorem eX4_hasSign_8 : dc cX4_hasSign 8 (.getfield 191) 3 11 := ⟨by decide +kernel, rfl⟩
theorem eX4_hasSign_11 : dc cX4_hasSign 11 (.iload_n 2) 1 12 := ⟨by decide +kernel, rfl⟩
theorem eX4_hasSign_12 : dj cX4_hasSign 12 (.ifCond .eq 7) 7 19 15 := ⟨by decide +kernel, by decide, rfl⟩
theorem eX4_hasSign_19 : dc cX4_hasSign 19 (.iconst 0) 1 20 := ⟨by decide +kernel, rfl⟩
theorem eX4_hasSign_20 : dc cX4_hasSign 20 (.iadd) 1 21 := ⟨by decide +kernel, rfl⟩
theorem eX4_hasSign_21 : dc cX4_hasSign 21 (.putfield 191) 3 24 := ⟨by decide +kernel, rfl⟩
theorem eX4_hasSign_24 : dc cX4_hasSign 24 (.iload_n 2) 1 25 := ⟨by decide +kernel, rfl⟩
theorem eX4_hasSign_25 : dc cX4_hasSign 25 (.ireturn) 1 26 := ⟨by decide +kernel, rfl⟩
theorem eX4_hasSign_15 : dc cX4_hasSign 15 (.iconst 1) 1 16 := ⟨by decide +kernel, rfl⟩
theorem eX4_hasSign_16 : dj cX4_hasSign 16 (.goto 4) 4 20 19 := ⟨by decide +kernel, by decide, rfl⟩
set_option maxHeartbeats 8000000 in
theorem ctX4_hasSign (l : Launch) : Ct l yX4_hasSign (.code yX4_hasSign cX4_hasSign 3 (some .boolean)) 2 spX4_hasSign := by
  refine Ct.of (own := RX4) (nm := "hasSign") (by decide) rfl rfl ?_
  rintro X av T I L R uc us rfl g hN hu hz ⟨c, A, rfl, rfl, rfl, hA, hA6, hk1, hk2⟩
  refine VE.go (ls := [some (.ref 0), some (.int c), none]) g hu hz (fun _ => rfl) (fun _ => Nat.le_of_ble_eq_true rfl) ?_
  refine V_aload_0 g eX4_hasSign_0 ?_
  refine V_iload_1 g eX4_hasSign_1 ?_
  refine V_cv1 g (ctX4_isSign _) eX4_hasSign_2 pkX4_197 rfl rfl (by decide) (by decide) (Nat.le_of_ble_eq_true rfl) ?_
  refine ⟨_, A, rfl, rfl, rfl, hA, hA6, ?_⟩
  refine V_istore_2 g eX4_hasSign_5 (by decide) rfl ?_
  refine V_aload_0 g eX4_hasSign_6 ?_
  refine V_dup g eX4_hasSign_7 rfl ?_
  refine V_getI g eX4_hasSign_8 flX4_191 rfl rfl ?_
  refine V_top (y := nI A) hA ?_
  refine V_iload_2 g eX4_hasSign_11 ?_
  refine V_if_eqB g eX4_hasSign_12 (fun c_12 => ?_) (fun c_12 => ?_)
  · refine V_iconst (v := 0) g eX4_hasSign_19 (by decide) ?_
    refine V_iadd g eX4_hasSign_20 ?_
    refine V_putI g eX4_hasSign_21 pflX4_191 rfl rfl rfl rfl ?_
    refine V_iload_2 g eX4_hasSign_24 ?_
    refine V_zret g eX4_hasSign_25 bI_nar ?_
    rw [bI_f c_12, Int32.add_zero, u2_id hA]
    exact hk2 c_12
  · refine V_iconst (v := 1) g eX4_hasSign_15 (by decide) ?_
    refine V_goto g eX4_hasSign_16 ?_
    refine V_iadd g eX4_hasSign_20 ?_
    refine V_putI g eX4_hasSign_21 pflX4_191 rfl rfl rfl rfl ?_
    refine V_iload_2 g eX4_hasSign_24 ?_
    refine V_zret g eX4_hasSign_25 bI_nar ?_
    rw [bI_t c_12, nI_1]
    exact hk1 c_12
abbrev spX4_hasWord : Sp := fun av T I L R uc us k => ∃ W : Nat, ∃ A : Nat, av = [.ref 0, .int (nI W)] ∧ T = TM ∧ R = RM ∧ I 0 7 = nI A ∧ A < 602 ∧ W < 11 ∧ (wdI I L A W → k (.inl (some (.int 1))) T (onI I A) L R uc us) ∧ (¬ wdI I L A W → k (.inl (some (.int 0))) T I L R uc us)
theorem eX4_hasWord_0 : dc cX4_hasWord 0 (.aload_n 0) 1 1 := ⟨by decide +kernel, rfl⟩
theorem eX4_hasWord_1 : dc cX4_hasWord 1 (.iload_n 1) 1 2 := ⟨by decide +kernel, rfl⟩
theorem eX4_hasWord_2 : dc cX4_hasWord 2 (.invokevirtual 204) 3 5 := ⟨by decide +kernel, rfl⟩
theorem pkX4_204 : PkV RX4 204 yX4_isWord (.code yX4_isWord cX4_isWord 2 (some .boolean)) 2 "BedBookModel" 1 := ⟨cwd_c, (lk q1440), Or.inl (lk q1437), (lk q1439), (lk qs28), ⟨⟨by decide, by decide⟩, by decide +kernel⟩, (lk q67), by decide⟩
theorem eX4_hasWord_5 : dc cX4_hasWord 5 (.istore_n 2) 1 6 := ⟨by decide +kernel, rfl⟩
theorem eX4_hasWord_6 : dc cX4_hasWord 6 (.aload_n 0) 1 7 := ⟨by decide +kernel, rfl⟩
theorem eX4_hasWord_7 : dc cX4_hasWord 7 (.dup) 1 8 := ⟨by decide +kernel, rfl⟩
theorem eX4_hasWord_8 : dc cX4_hasWord 8 (.getfield 191) 3 11 := ⟨by decide +kernel, rfl⟩
theorem eX4_hasWord_11 : dc cX4_hasWord 11 (.iload_n 2) 1 12 := ⟨by decide +kernel, rfl⟩
theorem eX4_hasWord_12 : dj cX4_hasWord 12 (.ifCond .eq 7) 7 19 15 := ⟨by decide +kernel, by decide, rfl⟩
theorem eX4_hasWord_19 : dc cX4_hasWord 19 (.iconst 0) 1 20 := ⟨by decide +kernel, rfl⟩
theorem eX4_hasWord_20 : dc cX4_hasWord 20 (.iadd) 1 21 := ⟨by decide +kernel, rfl⟩
theorem eX4_hasWord_21 : dc cX4_hasWord 21 (.putfield 191) 3 24 := ⟨by decide +kernel, rfl⟩
theorem eX4_hasWord_24 : dc cX4_hasWord 24 (.iload_n 2) 1 25 := ⟨by decide +kernel, rfl⟩
theorem eX4_hasWord_25 : dc cX4_hasWord 25 (.ireturn) 1 26 := ⟨by decide +kernel, rfl⟩
theorem eX4_hasWord_15 : dc cX4_hasWord 15 (.iconst 1) 1 16 := ⟨by decide +kernel, rfl⟩
theorem eX4_hasWord_16 : dj cX4_hasWord 16 (.goto 4) 4 20 19 := ⟨by decide +kernel, by decide, rfl⟩
set_option maxHeartbeats 8000000 in
theorem ctX4_hasWord (l : Launch) : Ct l yX4_hasWord (.code yX4_hasWord cX4_hasWord 3 (some .boolean)) 2 spX4_hasWord := by
  refine Ct.of (own := RX4) (nm := "hasWord") (by decide) rfl rfl ?_
  rintro X av T I L R uc us rfl g hN hu hz ⟨W, A, rfl, rfl, rfl, hA, hA6, hW, hk1, hk2⟩
  refine VE.go (ls := [some (.ref 0), some (.int (nI W)), none]) g hu hz (fun _ => rfl) (fun _ => Nat.le_of_ble_eq_true rfl) ?_
  refine V_aload_0 g eX4_hasWord_0 ?_
  refine V_iload_1 g eX4_hasWord_1 ?_
  refine V_cv1 g (ctX4_isWord _) eX4_hasWord_2 pkX4_204 rfl rfl (by decide) (by decide) (Nat.le_of_ble_eq_true rfl) ?_
  refine ⟨W, A, rfl, rfl, rfl, hA, hA6, hW, ?_⟩
  refine V_istore_2 g eX4_hasWord_5 (by decide) rfl ?_
  refine V_aload_0 g eX4_hasWord_6 ?_
  refine V_dup g eX4_hasWord_7 rfl ?_
  refine V_getI g eX4_hasWord_8 flX4_191 rfl rfl ?_
  refine V_top (y := nI A) hA ?_
  refine V_iload_2 g eX4_hasWord_11 ?_
  refine V_if_eqB g eX4_hasWord_12 (fun c_12 => ?_) (fun c_12 => ?_)
  · refine V_iconst (v := 0) g eX4_hasWord_19 (by decide) ?_
    refine V_iadd g eX4_hasWord_20 ?_
    refine V_putI g eX4_hasWord_21 pflX4_191 rfl rfl rfl rfl ?_
    refine V_iload_2 g eX4_hasWord_24 ?_
    refine V_zret g eX4_hasWord_25 bI_nar ?_
    rw [bI_f c_12, Int32.add_zero, u2_id hA]
    exact hk2 c_12
  · refine V_iconst (v := 1) g eX4_hasWord_15 (by decide) ?_
    refine V_goto g eX4_hasWord_16 ?_
    refine V_iadd g eX4_hasWord_20 ?_
    refine V_putI g eX4_hasWord_21 pflX4_191 rfl rfl rfl rfl ?_
    refine V_iload_2 g eX4_hasWord_24 ?_
    refine V_zret g eX4_hasWord_25 bI_nar ?_
    rw [bI_t c_12, nI_1]
    exact hk1 c_12
abbrev spX4_takeWord : Sp := fun av T I L R uc us k => ∃ W : Nat, ∃ A : Nat, av = [.ref 0, .int (nI W)] ∧ T = TM ∧ R = RM ∧ I 0 7 = nI A ∧ A < 602 ∧ W < 11 ∧ (wdI I L A W → k (.inl none) T (onI I A) L R uc us) ∧ (¬ wdI I L A W → k (.inl none) T (wrI I A 1) L R uc us)
theorem eX4_takeWord_0 : dc cX4_takeWord 0 (.aload_n 0) 1 1 := ⟨by decide +kernel, rfl⟩
theorem eX4_takeWord_1 : dc cX4_takeWord 1 (.iload_n 1) 1 2 := ⟨by decide +kernel, rfl⟩
theorem eX4_takeWord_2 : dc cX4_takeWord 2 (.invokevirtual 207) 3 5 := ⟨by decide +kernel, rfl⟩
theorem pkX4_207 : PkV RX4 207 yX4_hasWord (.code yX4_hasWord cX4_hasWord 3 (some .boolean)) 3 "BedBookModel" 1 := ⟨cwd_c, (lk q1452), Or.inl (lk q1449), (lk q1451), (lk qs31), ⟨⟨by decide, by decide⟩, by decide +kernel⟩, (lk q67), by decide⟩
theorem eX4_takeWord_5 : dj cX4_takeWord 5 (.ifCond .ne 8) 8 13 8 := ⟨by decide +kernel, by decide, rfl⟩
theorem eX4_takeWord_8 : dc cX4_takeWord 8 (.aload_n 0) 1 9 := ⟨by decide +kernel, rfl⟩
theorem eX4_takeWord_9 : dc cX4_takeWord 9 (.iconst 1) 1 10 := ⟨by decide +kernel, rfl⟩
theorem eX4_takeWord_10 : dc cX4_takeWord 10 (.invokevirtual 200) 3 13 := ⟨by decide +kernel, rfl⟩
theorem eX4_takeWord_13 : dc cX4_takeWord 13 (.return_) 1 14 := ⟨by decide +kernel, rfl⟩
set_option maxHeartbeats 8000000 in
theorem ctX4_takeWord (l : Launch) : Ct l yX4_takeWord (.code yX4_takeWord cX4_takeWord 2 none) 3 spX4_takeWord := by
  refine Ct.of (own := RX4) (nm := "takeWord") (by decide) rfl rfl ?_
  rintro X av T I L R uc us rfl g hN hu hz ⟨W, A, rfl, rfl, rfl, hA, hA6, hW, hk1, hk2⟩
  refine VE.go (ls := [some (.ref 0), some (.int (nI W))]) g hu hz (fun _ => rfl) (fun _ => Nat.le_of_ble_eq_true rfl) ?_
  refine V_aload_0 g eX4_takeWord_0 ?_
  refine V_iload_1 g eX4_takeWord_1 ?_
  refine V_cv1 g (ctX4_hasWord _) eX4_takeWord_2 pkX4_207 rfl rfl (by decide) (by decide) (Nat.le_of_ble_eq_true rfl) ?_
  refine ⟨W, A, rfl, rfl, rfl, hA, hA6, hW, fun hs => ?_, fun hs => ?_⟩
  · refine V_if_ne g eX4_takeWord_5 (fun _ => ?_) (fun q => absurd q (by decide))
    refine V_vret g eX4_takeWord_13 ?_
    exact hk1 hs
  refine V_if_ne g eX4_takeWord_5 (fun c_5 => absurd c_5 (by decide)) (fun _ => ?_)
  refine V_aload_0 g eX4_takeWord_8 ?_
  refine V_iconst (v := 1) g eX4_takeWord_9 (by decide) ?_
  refine V_cv1 g (ctX4_wrong _) eX4_takeWord_10 pkX4_200 rfl rfl (by decide) (by decide) (Nat.le_of_ble_eq_true rfl) ?_
  refine ⟨_, A, rfl, rfl, rfl, hA, hA6, ?_⟩
  refine V_vret g eX4_takeWord_13 ?_
  exact hk2 hs
def emI (I : It) (H C : Nat) (c a : Int32) : It := u2 (u2 (u2 I 13 (660 * H + C) c) 14 (660 * H + C) a) 0 17 (nI (C + 1))
abbrev spX4_emit : Sp := fun av T I L R uc us k => ∃ c : Int32, ∃ a : Int32, ∃ H : Nat, ∃ C : Nat, av = [.ref 0, .int c, .int a] ∧ T = TM ∧ R = RM ∧ I 0 16 = nI H ∧ H < 2 ∧ I 0 17 = nI C ∧ C < 660 ∧ k (.inl none) T (emI I H C c a) L R uc us
theorem eX4_emit_0 : dc cX4_emit 0 (.aload_n 0) 1 1 := ⟨by decide +kernel, rfl⟩
theorem eX4_emit_1 : dc cX4_emit 1 (.getfield 69) 3 4 := ⟨by decide +kernel, rfl⟩
theorem flX4_69 : FL RX4 69 3 13 := ⟨_, _, _, _, rfl, by decide, by decide, Or.inl (lk q1252), Or.inl rfl⟩
theorem eX4_emit_4 : dc cX4_emit 4 (.sipush 660) 3 7 := ⟨by decide +kernel, rfl⟩
theorem eX4_emit_7 : dc cX4_emit 7 (.aload_n 0) 1 8 := ⟨by decide +kernel, rfl⟩
theorem eX4_emit_8 : dc cX4_emit 8 (.getfield 210) 3 11 := ⟨by decide +kernel, rfl⟩
theorem flX4_210 : FL RX4 210 3 16 := ⟨_, _, _, _, rfl, by decide, by decide, Or.inl (lk q1255), Or.inl rfl⟩
theorem eX4_emit_11 : dc cX4_emit 11 (.imul) 1 12 := ⟨by decide +kernel, rfl⟩
theorem eX4_emit_12 : dc cX4_emit 12 (.aload_n 0) 1 13 := ⟨by decide +kernel, rfl⟩
theorem eX4_emit_13 : dc cX4_emit 13 (.getfield 213) 3 16 := ⟨by decide +kernel, rfl⟩
theorem flX4_213 : FL RX4 213 3 17 := ⟨_, _, _, _, rfl, by decide, by decide, Or.inl (lk q1256), Or.inl rfl⟩
theorem eX4_emit_16 : dc cX4_emit 16 (.iadd) 1 17 := ⟨by decide +kernel, rfl⟩
theorem eX4_emit_17 : dc cX4_emit 17 (.iload_n 1) 1 18 := ⟨by decide +kernel, rfl⟩
theorem eX4_emit_18 : dc cX4_emit 18 (.iastore) 1 19 := ⟨by decide +kernel, rfl⟩
theorem eX4_emit_19 : dc cX4_emit 19 (.aload_n 0) 1 20 := ⟨by decide +kernel, rfl⟩
theorem eX4_emit_20 : dc cX4_emit 20 (.getfield 72) 3 23 := ⟨by decide +kernel, rfl⟩
theorem flX4_72 : FL RX4 72 3 14 := ⟨_, _, _, _, rfl, by decide, by decide, Or.inl (lk q1253), Or.inl rfl⟩
theorem eX4_emit_23 : dc cX4_emit 23 (.sipush 660) 3 26 := ⟨by decide +kernel, rfl⟩
theorem eX4_emit_26 : dc cX4_emit 26 (.aload_n 0) 1 27 := ⟨by decide +kernel, rfl⟩
theorem eX4_emit_27 : dc cX4_emit 27 (.getfield 210) 3 30 := ⟨by decide +kernel, rfl⟩
theorem eX4_emit_30 : dc cX4_emit 30 (.imul) 1 31 := ⟨by decide +kernel, rfl⟩
theorem eX4_emit_31 : dc cX4_emit 31 (.aload_n 0) 1 32 := ⟨by decide +kernel, rfl⟩
theorem eX4_emit_32 : dc cX4_emit 32 (.getfield 213) 3 35 := ⟨by decide +kernel, rfl⟩
theorem eX4_emit_35 : dc cX4_emit 35 (.iadd) 1 36 := ⟨by decide +kernel, rfl⟩
theorem eX4_emit_36 : dc cX4_emit 36 (.iload_n 2) 1 37 := ⟨by decide +kernel, rfl⟩
theorem eX4_emit_37 : dc cX4_emit 37 (.iastore) 1 38 := ⟨by decide +kernel, rfl⟩
theorem eX4_emit_38 : dc cX4_emit 38 (.aload_n 0) 1 39 := ⟨by decide +kernel, rfl⟩
theorem eX4_emit_39 : dc cX4_emit 39 (.dup) 1 40 := ⟨by decide +kernel, rfl⟩
theorem eX4_emit_40 : dc cX4_emit 40 (.getfield 213) 3 43 := ⟨by decide +kernel, rfl⟩
theorem eX4_emit_43 : dc cX4_emit 43 (.iconst 1) 1 44 := ⟨by decide +kernel, rfl⟩
theorem eX4_emit_44 : dc cX4_emit 44 (.iadd) 1 45 := ⟨by decide +kernel, rfl⟩
theorem eX4_emit_45 : dc cX4_emit 45 (.putfield 213) 3 48 := ⟨by decide +kernel, rfl⟩
theorem pflX4_213 {nm : String} : (FL RX4 213 3 17 ∧ FN 3 17) ∨ (FF RX4 213 3 17 ∧ nm = "<init>") := Or.inl ⟨flX4_213, fun C Tb N h => by cases h; rfl⟩
theorem eX4_emit_48 : dc cX4_emit 48 (.return_) 1 49 := ⟨by decide +kernel, rfl⟩
set_option maxHeartbeats 8000000 in
theorem ctX4_emit (l : Launch) : Ct l yX4_emit (.code yX4_emit cX4_emit 3 none) 1 spX4_emit := by
  refine Ct.of (own := RX4) (nm := "emit") (by decide) rfl rfl ?_
  rintro X av T I L R uc us rfl g hN hu hz ⟨c, a, H, C, rfl, rfl, rfl, hH, hH2, hC, hC6, hk⟩
  refine VE.go (ls := [some (.ref 0), some (.int c), some (.int a)]) g hu hz (fun _ => rfl) (fun _ => Nat.le_of_ble_eq_true rfl) ?_
  refine V_aload_0 g eX4_emit_0 ?_
  refine V_getR g eX4_emit_1 flX4_69 rfl rfl rfl ?_
  refine V_sipush (v := 660) g eX4_emit_4 (by decide) ?_
  refine V_aload_0 g eX4_emit_7 ?_
  refine V_getI g eX4_emit_8 flX4_210 rfl rfl ?_
  refine V_top (y := nI H) (by simp [u2, hH]) ?_
  refine V_imulN (a := 660) g eX4_emit_11 ?_
  refine V_aload_0 g eX4_emit_12 ?_
  refine V_getI g eX4_emit_13 flX4_213 rfl rfl ?_
  refine V_top (y := nI C) (by simp [u2, hC]) ?_
  refine V_iaddN g eX4_emit_16 ?_
  refine V_iload_1 g eX4_emit_17 ?_
  refine V_iastN g eX4_emit_18 rfl (by omega) (by decide) ?_
  refine V_aload_0 g eX4_emit_19 ?_
  refine V_getR g eX4_emit_20 flX4_72 rfl rfl rfl ?_
  refine V_sipush (v := 660) g eX4_emit_23 (by decide) ?_
  refine V_aload_0 g eX4_emit_26 ?_
  refine V_getI g eX4_emit_27 flX4_210 rfl rfl ?_
  refine V_top (y := nI H) (by simp [u2, hH]) ?_
  refine V_imulN (a := 660) g eX4_emit_30 ?_
  refine V_aload_0 g eX4_emit_31 ?_
  refine V_getI g eX4_emit_32 flX4_213 rfl rfl ?_
  refine V_top (y := nI C) (by simp [u2, hC]) ?_
  refine V_iaddN g eX4_emit_35 ?_
  refine V_iload_2 g eX4_emit_36 ?_
  refine V_iastN g eX4_emit_37 rfl (by omega) (by decide) ?_
  refine V_aload_0 g eX4_emit_38 ?_
  refine V_dup g eX4_emit_39 rfl ?_
  refine V_getI g eX4_emit_40 flX4_213 rfl rfl ?_
  refine V_top (y := nI C) (by simp [u2, hC]) ?_
  refine V_iconst (v := 1) g eX4_emit_43 (by decide) ?_
  refine V_iaddN (b := 1) g eX4_emit_44 ?_
  refine V_putI g eX4_emit_45 pflX4_213 rfl rfl rfl rfl ?_
  refine V_vret g eX4_emit_48 ?_
  exact hk
def opI (I : It) (D : Nat) : It := u2 (u2 (u2 I 19 D 0) 20 D 0) 21 D 0
abbrev spX4_opens : Sp := fun av T I L R uc us k => ∃ D : Nat, av = [.ref 0] ∧ T = TM ∧ R = RM ∧ I 0 18 = nI D ∧ D < 7 ∧ k (.inl none) T (opI I D) L R uc us
theorem eX4_opens_0 : dc cX4_opens 0 (.aload_n 0) 1 1 := ⟨by decide +kernel, rfl⟩
theorem eX4_opens_1 : dc cX4_opens 1 (.getfield 75) 3 4 := ⟨by decide +kernel, rfl⟩
theorem flX4_75 : FL RX4 75 3 19 := ⟨_, _, _, _, rfl, by decide, by decide, Or.inl (lk q1258), Or.inl rfl⟩
theorem eX4_opens_4 : dc cX4_opens 4 (.aload_n 0) 1 5 := ⟨by decide +kernel, rfl⟩
theorem eX4_opens_5 : dc cX4_opens 5 (.getfield 228) 3 8 := ⟨by decide +kernel, rfl⟩
theorem flX4_228 : FL RX4 228 3 18 := ⟨_, _, _, _, rfl, by decide, by decide, Or.inl (lk q1257), Or.inl rfl⟩
theorem eX4_opens_8 : dc cX4_opens 8 (.iconst 0) 1 9 := ⟨by decide +kernel, rfl⟩
theorem eX4_opens_9 : dc cX4_opens 9 (.iastore) 1 10 := ⟨by decide +kernel, rfl⟩
theorem eX4_opens_10 : dc cX4_opens 10 (.aload_n 0) 1 11 := ⟨by decide +kernel, rfl⟩
theorem eX4_opens_11 : dc cX4_opens 11 (.getfield 78) 3 14 := ⟨by decide +kernel, rfl⟩
theorem flX4_78 : FL RX4 78 3 20 := ⟨_, _, _, _, rfl, by decide, by decide, Or.inl (lk q1259), Or.inl rfl⟩
theorem eX4_opens_14 : dc cX4_opens 14 (.aload_n 0) 1 15 := ⟨by decide +kernel, rfl⟩
theorem eX4_opens_15 : dc cX4_opens 15 (.getfield 228) 3 18 := ⟨by decide +kernel, rfl⟩
theorem eX4_opens_18 : dc cX4_opens 18 (.iconst 0) 1 19 := ⟨by decide +kernel, rfl⟩
theorem eX4_opens_19 : dc cX4_opens 19 (.iastore) 1 20 := ⟨by decide +kernel, rfl⟩
theorem eX4_opens_20 : dc cX4_opens 20 (.aload_n 0) 1 21 := ⟨by decide +kernel, rfl⟩
theorem eX4_opens_21 : dc cX4_opens 21 (.getfield 81) 3 24 := ⟨by decide +kernel, rfl⟩
theorem flX4_81 : FL RX4 81 3 21 := ⟨_, _, _, _, rfl, by decide, by decide, Or.inl (lk q1260), Or.inl rfl⟩
theorem eX4_opens_24 : dc cX4_opens 24 (.aload_n 0) 1 25 := ⟨by decide +kernel, rfl⟩
theorem eX4_opens_25 : dc cX4_opens 25 (.getfield 228) 3 28 := ⟨by decide +kernel, rfl⟩
theorem eX4_opens_28 : dc cX4_opens 28 (.iconst 0) 1 29 := ⟨by decide +kernel, rfl⟩
theorem eX4_opens_29 : dc cX4_opens 29 (.iastore) 1 30 := ⟨by decide +kernel, rfl⟩
theorem eX4_opens_30 : dc cX4_opens 30 (.return_) 1 31 := ⟨by decide +kernel, rfl⟩
set_option maxHeartbeats 8000000 in
theorem ctX4_opens (l : Launch) : Ct l yX4_opens (.code yX4_opens cX4_opens 1 none) 1 spX4_opens := by
  refine Ct.of (own := RX4) (nm := "opens") (by decide) rfl rfl ?_
  rintro X av T I L R uc us rfl g hN hu hz ⟨D, rfl, rfl, rfl, hD, hD7, hk⟩
  refine VE.go (ls := [some (.ref 0)]) g hu hz (fun _ => rfl) (fun _ => Nat.le_of_ble_eq_true rfl) ?_
  refine V_aload_0 g eX4_opens_0 ?_
  refine V_getR g eX4_opens_1 flX4_75 rfl rfl rfl ?_
  refine V_aload_0 g eX4_opens_4 ?_
  refine V_getI g eX4_opens_5 flX4_228 rfl rfl ?_
  refine V_top (y := nI D) (by simp [u2, hD]) ?_
  refine V_iconst (v := 0) g eX4_opens_8 (by decide) ?_
  refine V_iastN g eX4_opens_9 rfl (by omega) (by decide) ?_
  refine V_aload_0 g eX4_opens_10 ?_
  refine V_getR g eX4_opens_11 flX4_78 rfl rfl rfl ?_
  refine V_aload_0 g eX4_opens_14 ?_
  refine V_getI g eX4_opens_15 flX4_228 rfl rfl ?_
  refine V_top (y := nI D) (by simp [u2, hD]) ?_
  refine V_iconst (v := 0) g eX4_opens_18 (by decide) ?_
  refine V_iastN g eX4_opens_19 rfl (by omega) (by decide) ?_
  refine V_aload_0 g eX4_opens_20 ?_
  refine V_getR g eX4_opens_21 flX4_81 rfl rfl rfl ?_
  refine V_aload_0 g eX4_opens_24 ?_
  refine V_getI g eX4_opens_25 flX4_228 rfl rfl ?_
  refine V_top (y := nI D) (by simp [u2, hD]) ?_
  refine V_iconst (v := 0) g eX4_opens_28 (by decide) ?_
  refine V_iastN g eX4_opens_29 rfl (by omega) (by decide) ?_
  refine V_vret g eX4_opens_30 ?_
  exact hk
/-- which of the seven words is at hand, from the m-th last on; -1 -/
def pwF (I : It) (L : Lt) (A : Nat) : Nat → Int32
  | 0 => -1
  | m + 1 => if wdI I L A (4 + (6 - m)) then nI (6 - m) else pwF I L A m
abbrev spX4_partWord : Sp := fun av T I L R uc us k => ∃ A : Nat, av = [.ref 0] ∧ T = TM ∧ R = RM ∧ I 0 7 = nI A ∧ A < 602 ∧ k (.inl (some (.int (pwF I L A 7)))) T I L R uc us
theorem eX4_partWord_2 : dc cX4_partWord 2 (.iload_n 1) 1 3 := ⟨by decide +kernel, rfl⟩
theorem eX4_partWord_3 : dc cX4_partWord 3 (.bipush 7) 2 5 := ⟨by decide +kernel, rfl⟩
theorem eX4_partWord_5 : dj cX4_partWord 5 (.if_icmp .ge 21) 21 26 8 := ⟨by decide +kernel, by decide, rfl⟩
theorem eX4_partWord_26 : dc cX4_partWord 26 (.iconst (-1)) 1 27 := ⟨by decide +kernel, rfl⟩
theorem eX4_partWord_27 : dc cX4_partWord 27 (.ireturn) 1 28 := ⟨by decide +kernel, rfl⟩
theorem eX4_partWord_8 : dc cX4_partWord 8 (.aload_n 0) 1 9 := ⟨by decide +kernel, rfl⟩
theorem eX4_partWord_9 : dc cX4_partWord 9 (.iconst 4) 1 10 := ⟨by decide +kernel, rfl⟩
theorem eX4_partWord_10 : dc cX4_partWord 10 (.iload_n 1) 1 11 := ⟨by decide +kernel, rfl⟩
theorem eX4_partWord_11 : dc cX4_partWord 11 (.iadd) 1 12 := ⟨by decide +kernel, rfl⟩
theorem eX4_partWord_12 : dc cX4_partWord 12 (.invokevirtual 204) 3 15 := ⟨by decide +kernel, rfl⟩
theorem eX4_partWord_15 : dj cX4_partWord 15 (.ifCond .eq 5) 5 20 18 := ⟨by decide +kernel, by decide, rfl⟩
theorem eX4_partWord_20 : dc cX4_partWord 20 (.iinc 1 1) 3 23 := ⟨by decide +kernel, rfl⟩
theorem eX4_partWord_23 : dj cX4_partWord 23 (.goto (-21)) (-21) 2 26 := ⟨by decide +kernel, by decide, rfl⟩
theorem eX4_partWord_18 : dc cX4_partWord 18 (.iload_n 1) 1 19 := ⟨by decide +kernel, rfl⟩
theorem eX4_partWord_19 : dc cX4_partWord 19 (.ireturn) 1 20 := ⟨by decide +kernel, rfl⟩
theorem eX4_partWord_0 : dc cX4_partWord 0 (.iconst 0) 1 1 := ⟨by decide +kernel, rfl⟩
theorem eX4_partWord_1 : dc cX4_partWord 1 (.istore_n 1) 1 2 := ⟨by decide +kernel, rfl⟩
set_option maxHeartbeats 8000000 in
theorem ctX4_partWord (l : Launch) : Ct l yX4_partWord (.code yX4_partWord cX4_partWord 2 (some .int)) 2 spX4_partWord := by
  refine Ct.of (own := RX4) (nm := "partWord") (by decide) rfl rfl ?_
  rintro X av T I L R uc us rfl g hN hu hz ⟨A, rfl, rfl, rfl, hA, hA6, hk⟩
  refine VE.go (ls := [some (.ref 0), none]) g hu hz (fun _ => rfl) (fun _ => Nat.le_of_ble_eq_true rfl) ?_
  have loop : ∀ (m w : Nat), w + m = 7 → pwF I L A m = pwF I L A 7 → V X TM I L RM uc us 2 [some (.ref 0), some (.int (nI w))] [] := by
    intro m
    induction m with
    | zero =>
      intro w h1 h2
      obtain rfl : w = 7 := by omega
      refine V_iload_1 g eX4_partWord_2 ?_
      refine V_bipush (v := 7) g eX4_partWord_3 (by decide) ?_
      refine V_icmp_ge g eX4_partWord_5 (fun _ => ?_) (fun c_5 => absurd c_5 (by decide))
      refine V_iconst (v := (-1)) g eX4_partWord_26 (by decide) ?_
      refine V_iret g eX4_partWord_27 ?_
      exact kI hk h2.symm
    | succ m ih =>
      intro w h1 h2
      refine V_iload_1 g eX4_partWord_2 ?_
      refine V_bipush (v := 7) g eX4_partWord_3 (by decide) ?_
      refine V_icmp_ge g eX4_partWord_5 (fun c_5 => ?_) (fun c_5 => ?_)
      · exact absurd (nI_le' (a := 7) (b := w) (by decide) (by omega) c_5) (by omega)
      · refine V_aload_0 g eX4_partWord_8 ?_
        refine V_iconst (v := 4) g eX4_partWord_9 (by decide) ?_
        refine V_iload_1 g eX4_partWord_10 ?_
        refine V_iaddN (a := 4) g eX4_partWord_11 ?_
        refine V_cv1 g (ctX4_isWord _) eX4_partWord_12 pkX4_204 rfl rfl (by decide) (by decide) (Nat.le_of_ble_eq_true rfl) ?_
        refine ⟨4 + w, A, rfl, rfl, rfl, hA, hA6, by omega, ?_⟩
        refine V_if_eqB g eX4_partWord_15 (fun c_15 => ?_) (fun c_15 => ?_)
        · refine V_iinc_1 (v := 1) g eX4_partWord_20 (by decide) (by decide) rfl ?_
          refine V_goto g eX4_partWord_23 ?_
          rw [nI_1]
          refine ih (w + 1) (by omega) ?_
          rw [← h2, pwF, if_neg (by rw [show 4 + (6 - m) = 4 + w by omega]; exact c_15)]
        · refine V_iload_1 g eX4_partWord_18 ?_
          refine V_iret g eX4_partWord_19 ?_
          refine kI hk ?_
          rw [← h2, pwF, if_pos (by rw [show 4 + (6 - m) = 4 + w by omega]; exact c_15)]
          congr 1
          omega
  refine V_iconst (v := 0) g eX4_partWord_0 (by decide) ?_
  refine V_istore_1 g eX4_partWord_1 (by decide) rfl ?_
  exact loop 7 0 rfl rfl

