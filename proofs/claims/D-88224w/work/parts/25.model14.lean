/-! BedBookModel: codes are worked; may, send (printed out of tmpl/t_model14.txt) -/
set_option maxRecDepth 100000
def opv (o : Nat) (x y : Int32) : Int32 := if o = 3 then x + y else if o = 4 then x - y else if o = 5 then (if y ≤ x then 0 else 1) else if o = 6 then (if x = y then 1 else 0) else (if x = 0 then 0 else if y = 0 then 0 else 1)
def op2 (o : Nat) : List Int32 → Option (List Int32)
  | y :: x :: s => some (opv o x y :: s)
  | _ => none
/-- codes worked over a pile -/
def ev (kn : Nat → Int32) : List Cd → List Int32 → Option (List Int32)
  | [], s => some s
  | q :: c, s => if q.1 = 1 then ev kn c (q.2 :: s) else if q.1 = 2 then ev kn c (kn q.2.toNatClampNeg :: s) else (op2 q.1 s).bind (ev kn c)
theorem ev_c (kn : Nat → Int32) (o : Nat) (a : Int32) (c : List Cd) (s : List Int32) : ev kn ((o, a) :: c) s = if o = 1 then ev kn c (a :: s) else if o = 2 then ev kn c (kn a.toNatClampNeg :: s) else (op2 o s).bind (ev kn c) := rfl
def wfb (c : List Cd) : Prop := ∀ o a, (o, a) ∈ c → 1 ≤ o ∧ o ≤ 7 ∧ (o = 2 → ∃ w : Nat, w < 7 ∧ a = nI w)
def plM (s : List Int32) (I : It) : Prop := ∀ p x, s[p]? = some x → I 23 (s.length - 1 - p) = x
theorem plM_push {s : List Int32} {I : It} {x : Int32} (h : plM s I) : plM (x :: s) (u2 I 23 s.length x) := by
  intro p y hp
  cases p with
  | zero =>
    cases hp
    have e : (x :: s).length - 1 - 0 = s.length := by simp
    rw [e, u2_s]
  | succ p =>
    have hp : s[p]? = some y := hp
    have hlt : p < s.length := by
      rcases Nat.lt_or_ge p s.length with z | z
      · exact z
      · rw [List.getElem?_eq_none z] at hp; cases hp
    have e : (x :: s).length - 1 - (p + 1) = s.length - 1 - p := by simp; omega
    rw [e, u2_n _ _ (by omega)]
    exact h p y hp
theorem plM_tail {s : List Int32} {I : It} {x : Int32} (h : plM (x :: s) I) : plM s I := by
  intro p y hp
  have hlt : p < s.length := by
    rcases Nat.lt_or_ge p s.length with z | z
    · exact z
    · rw [List.getElem?_eq_none z] at hp; cases hp
  have := h (p + 1) y hp
  have e : (x :: s).length - 1 - (p + 1) = s.length - 1 - p := by simp; omega
  rw [e] at this
  exact this
theorem plM_top {s : List Int32} {I : It} {x : Int32} (h : plM (x :: s) I) : I 23 s.length = x := by
  have := h 0 x rfl
  have e : (x :: s).length - 1 - 0 = s.length := by simp
  rw [e] at this
  exact this
/-- the codes stand at A -/
def cdA (A : Nat) (c : List Cd) (I : It) : Prop := ∀ j a b, c[j]? = some (a, b) → I 13 (A + j) = nI a ∧ I 14 (A + j) = b
abbrev spX4_worth : Sp := fun av T I L R uc us k => ∃ A : Nat, ∃ c : List Cd, ∃ z : Int32, av = [.ref 0, .int (nI A)] ∧ T = TM ∧ R = RM ∧ cdA A (c ++ [(0, 0)]) I ∧ A + c.length < 1320 ∧ c.length < 660 ∧ wfb c ∧ ev (I 22) c [] = some [z] ∧ (∀ I', (∀ a, a ≠ 23 → I' a = I a) → k (.inl (some (.int z))) T I' L R uc us)
theorem eX4_worth_186 : dc cX4_worth 186 (.iinc 2 1) 3 189 := ⟨by decide +kernel, rfl⟩
theorem eX4_worth_189 : dj cX4_worth 189 (.goto (-185)) (-185) 4 192 := ⟨by decide +kernel, by decide, rfl⟩
theorem eX4_worth_4 : dc cX4_worth 4 (.aload_n 0) 1 5 := ⟨by decide +kernel, rfl⟩
theorem eX4_worth_5 : dc cX4_worth 5 (.getfield 69) 3 8 := ⟨by decide +kernel, rfl⟩
theorem eX4_worth_8 : dc cX4_worth 8 (.iload_n 2) 1 9 := ⟨by decide +kernel, rfl⟩
theorem eX4_worth_9 : dc cX4_worth 9 (.iaload) 1 10 := ⟨by decide +kernel, rfl⟩
theorem eX4_worth_10 : dj cX4_worth 10 (.ifCond .eq 182) 182 192 13 := ⟨by decide +kernel, by decide, rfl⟩
theorem eX4_worth_13 : dc cX4_worth 13 (.aload_n 0) 1 14 := ⟨by decide +kernel, rfl⟩
theorem eX4_worth_14 : dc cX4_worth 14 (.getfield 69) 3 17 := ⟨by decide +kernel, rfl⟩
theorem eX4_worth_17 : dc cX4_worth 17 (.iload_n 2) 1 18 := ⟨by decide +kernel, rfl⟩
theorem eX4_worth_18 : dc cX4_worth 18 (.iaload) 1 19 := ⟨by decide +kernel, rfl⟩
theorem eX4_worth_19 : dc cX4_worth 19 (.istore 4) 2 21 := ⟨by decide +kernel, rfl⟩
theorem eX4_worth_21 : dc cX4_worth 21 (.iload 4) 2 23 := ⟨by decide +kernel, rfl⟩
theorem eX4_worth_23 : dc cX4_worth 23 (.iconst 1) 1 24 := ⟨by decide +kernel, rfl⟩
theorem eX4_worth_24 : dj cX4_worth 24 (.if_icmp .eq 9) 9 33 27 := ⟨by decide +kernel, by decide, rfl⟩
theorem eX4_worth_33 : dc cX4_worth 33 (.aload_n 0) 1 34 := ⟨by decide +kernel, rfl⟩
theorem eX4_worth_34 : dc cX4_worth 34 (.getfield 87) 3 37 := ⟨by decide +kernel, rfl⟩
theorem flX4_87 : FL RX4 87 3 23 := ⟨_, _, _, _, rfl, by decide, by decide, Or.inl (lk q1262), Or.inl rfl⟩
theorem eX4_worth_37 : dc cX4_worth 37 (.iload_n 3) 1 38 := ⟨by decide +kernel, rfl⟩
theorem eX4_worth_38 : dc cX4_worth 38 (.iload 4) 2 40 := ⟨by decide +kernel, rfl⟩
theorem eX4_worth_40 : dc cX4_worth 40 (.iconst 1) 1 41 := ⟨by decide +kernel, rfl⟩
theorem eX4_worth_41 : dj cX4_worth 41 (.if_icmp .ne 12) 12 53 44 := ⟨by decide +kernel, by decide, rfl⟩
theorem eX4_worth_44 : dc cX4_worth 44 (.aload_n 0) 1 45 := ⟨by decide +kernel, rfl⟩
theorem eX4_worth_45 : dc cX4_worth 45 (.getfield 72) 3 48 := ⟨by decide +kernel, rfl⟩
theorem eX4_worth_48 : dc cX4_worth 48 (.iload_n 2) 1 49 := ⟨by decide +kernel, rfl⟩
theorem eX4_worth_49 : dc cX4_worth 49 (.iaload) 1 50 := ⟨by decide +kernel, rfl⟩
theorem eX4_worth_50 : dj cX4_worth 50 (.goto 14) 14 64 53 := ⟨by decide +kernel, by decide, rfl⟩
theorem eX4_worth_64 : dc cX4_worth 64 (.iastore) 1 65 := ⟨by decide +kernel, rfl⟩
theorem eX4_worth_65 : dc cX4_worth 65 (.iinc 3 1) 3 68 := ⟨by decide +kernel, rfl⟩
theorem eX4_worth_68 : dj cX4_worth 68 (.goto 118) 118 186 71 := ⟨by decide +kernel, by decide, rfl⟩
theorem eX4_worth_27 : dc cX4_worth 27 (.iload 4) 2 29 := ⟨by decide +kernel, rfl⟩
theorem eX4_worth_29 : dc cX4_worth 29 (.iconst 2) 1 30 := ⟨by decide +kernel, rfl⟩
theorem eX4_worth_30 : dj cX4_worth 30 (.if_icmp .ne 41) 41 71 33 := ⟨by decide +kernel, by decide, rfl⟩
theorem eX4_worth_71 : dc cX4_worth 71 (.iinc 3 (-1)) 3 74 := ⟨by decide +kernel, rfl⟩
theorem eX4_worth_74 : dc cX4_worth 74 (.aload_n 0) 1 75 := ⟨by decide +kernel, rfl⟩
theorem eX4_worth_75 : dc cX4_worth 75 (.getfield 87) 3 78 := ⟨by decide +kernel, rfl⟩
theorem eX4_worth_78 : dc cX4_worth 78 (.iload_n 3) 1 79 := ⟨by decide +kernel, rfl⟩
theorem eX4_worth_79 : dc cX4_worth 79 (.iaload) 1 80 := ⟨by decide +kernel, rfl⟩
theorem eX4_worth_80 : dc cX4_worth 80 (.istore 5) 2 82 := ⟨by decide +kernel, rfl⟩
theorem eX4_worth_82 : dc cX4_worth 82 (.aload_n 0) 1 83 := ⟨by decide +kernel, rfl⟩
theorem eX4_worth_83 : dc cX4_worth 83 (.getfield 87) 3 86 := ⟨by decide +kernel, rfl⟩
theorem eX4_worth_86 : dc cX4_worth 86 (.iload_n 3) 1 87 := ⟨by decide +kernel, rfl⟩
theorem eX4_worth_87 : dc cX4_worth 87 (.iconst 1) 1 88 := ⟨by decide +kernel, rfl⟩
theorem eX4_worth_88 : dc cX4_worth 88 (.isub) 1 89 := ⟨by decide +kernel, rfl⟩
theorem eX4_worth_89 : dc cX4_worth 89 (.iaload) 1 90 := ⟨by decide +kernel, rfl⟩
theorem eX4_worth_90 : dc cX4_worth 90 (.istore 6) 2 92 := ⟨by decide +kernel, rfl⟩
theorem eX4_worth_92 : dc cX4_worth 92 (.aload_n 0) 1 93 := ⟨by decide +kernel, rfl⟩
theorem eX4_worth_93 : dc cX4_worth 93 (.getfield 87) 3 96 := ⟨by decide +kernel, rfl⟩
theorem eX4_worth_96 : dc cX4_worth 96 (.iload_n 3) 1 97 := ⟨by decide +kernel, rfl⟩
theorem eX4_worth_97 : dc cX4_worth 97 (.iconst 1) 1 98 := ⟨by decide +kernel, rfl⟩
theorem eX4_worth_98 : dc cX4_worth 98 (.isub) 1 99 := ⟨by decide +kernel, rfl⟩
theorem eX4_worth_99 : dc cX4_worth 99 (.iload 4) 2 101 := ⟨by decide +kernel, rfl⟩
theorem eX4_worth_101 : dc cX4_worth 101 (.iconst 3) 1 102 := ⟨by decide +kernel, rfl⟩
theorem eX4_worth_102 : dj cX4_worth 102 (.if_icmp .ne 11) 11 113 105 := ⟨by decide +kernel, by decide, rfl⟩
theorem eX4_worth_113 : dc cX4_worth 113 (.iload 4) 2 115 := ⟨by decide +kernel, rfl⟩
theorem eX4_worth_115 : dc cX4_worth 115 (.iconst 4) 1 116 := ⟨by decide +kernel, rfl⟩
theorem eX4_worth_116 : dj cX4_worth 116 (.if_icmp .ne 11) 11 127 119 := ⟨by decide +kernel, by decide, rfl⟩
theorem eX4_worth_127 : dc cX4_worth 127 (.iload 4) 2 129 := ⟨by decide +kernel, rfl⟩
theorem eX4_worth_129 : dc cX4_worth 129 (.iconst 5) 1 130 := ⟨by decide +kernel, rfl⟩
theorem eX4_worth_130 : dj cX4_worth 130 (.if_icmp .ne 18) 18 148 133 := ⟨by decide +kernel, by decide, rfl⟩
theorem eX4_worth_148 : dc cX4_worth 148 (.iload 4) 2 150 := ⟨by decide +kernel, rfl⟩
theorem eX4_worth_150 : dc cX4_worth 150 (.bipush 6) 2 152 := ⟨by decide +kernel, rfl⟩
theorem eX4_worth_152 : dj cX4_worth 152 (.if_icmp .ne 18) 18 170 155 := ⟨by decide +kernel, by decide, rfl⟩
theorem eX4_worth_170 : dc cX4_worth 170 (.iload 6) 2 172 := ⟨by decide +kernel, rfl⟩
theorem eX4_worth_172 : dj cX4_worth 172 (.ifCond .eq 12) 12 184 175 := ⟨by decide +kernel, by decide, rfl⟩
theorem eX4_worth_184 : dc cX4_worth 184 (.iconst 0) 1 185 := ⟨by decide +kernel, rfl⟩
theorem eX4_worth_185 : dc cX4_worth 185 (.iastore) 1 186 := ⟨by decide +kernel, rfl⟩
theorem eX4_worth_175 : dc cX4_worth 175 (.iload 5) 2 177 := ⟨by decide +kernel, rfl⟩
theorem eX4_worth_177 : dj cX4_worth 177 (.ifCond .eq 7) 7 184 180 := ⟨by decide +kernel, by decide, rfl⟩
theorem eX4_worth_180 : dc cX4_worth 180 (.iconst 1) 1 181 := ⟨by decide +kernel, rfl⟩
theorem eX4_worth_181 : dj cX4_worth 181 (.goto 4) 4 185 184 := ⟨by decide +kernel, by decide, rfl⟩
theorem eX4_worth_155 : dc cX4_worth 155 (.iload 6) 2 157 := ⟨by decide +kernel, rfl⟩
theorem eX4_worth_157 : dc cX4_worth 157 (.iload 5) 2 159 := ⟨by decide +kernel, rfl⟩
theorem eX4_worth_159 : dj cX4_worth 159 (.if_icmp .ne 7) 7 166 162 := ⟨by decide +kernel, by decide, rfl⟩
theorem eX4_worth_166 : dc cX4_worth 166 (.iconst 0) 1 167 := ⟨by decide +kernel, rfl⟩
theorem eX4_worth_167 : dj cX4_worth 167 (.goto 18) 18 185 170 := ⟨by decide +kernel, by decide, rfl⟩
theorem eX4_worth_162 : dc cX4_worth 162 (.iconst 1) 1 163 := ⟨by decide +kernel, rfl⟩
theorem eX4_worth_163 : dj cX4_worth 163 (.goto 22) 22 185 166 := ⟨by decide +kernel, by decide, rfl⟩
theorem eX4_worth_133 : dc cX4_worth 133 (.iload 6) 2 135 := ⟨by decide +kernel, rfl⟩
theorem eX4_worth_135 : dc cX4_worth 135 (.iload 5) 2 137 := ⟨by decide +kernel, rfl⟩
theorem eX4_worth_137 : dj cX4_worth 137 (.if_icmp .ge 7) 7 144 140 := ⟨by decide +kernel, by decide, rfl⟩
theorem eX4_worth_144 : dc cX4_worth 144 (.iconst 0) 1 145 := ⟨by decide +kernel, rfl⟩
theorem eX4_worth_145 : dj cX4_worth 145 (.goto 40) 40 185 148 := ⟨by decide +kernel, by decide, rfl⟩
theorem eX4_worth_140 : dc cX4_worth 140 (.iconst 1) 1 141 := ⟨by decide +kernel, rfl⟩
theorem eX4_worth_141 : dj cX4_worth 141 (.goto 44) 44 185 144 := ⟨by decide +kernel, by decide, rfl⟩
theorem eX4_worth_119 : dc cX4_worth 119 (.iload 6) 2 121 := ⟨by decide +kernel, rfl⟩
theorem eX4_worth_121 : dc cX4_worth 121 (.iload 5) 2 123 := ⟨by decide +kernel, rfl⟩
theorem eX4_worth_123 : dc cX4_worth 123 (.isub) 1 124 := ⟨by decide +kernel, rfl⟩
theorem eX4_worth_124 : dj cX4_worth 124 (.goto 61) 61 185 127 := ⟨by decide +kernel, by decide, rfl⟩
theorem eX4_worth_105 : dc cX4_worth 105 (.iload 6) 2 107 := ⟨by decide +kernel, rfl⟩
theorem eX4_worth_107 : dc cX4_worth 107 (.iload 5) 2 109 := ⟨by decide +kernel, rfl⟩
theorem eX4_worth_109 : dc cX4_worth 109 (.iadd) 1 110 := ⟨by decide +kernel, rfl⟩
theorem eX4_worth_110 : dj cX4_worth 110 (.goto 75) 75 185 113 := ⟨by decide +kernel, by decide, rfl⟩
theorem eX4_worth_53 : dc cX4_worth 53 (.aload_n 0) 1 54 := ⟨by decide +kernel, rfl⟩
theorem eX4_worth_54 : dc cX4_worth 54 (.getfield 84) 3 57 := ⟨by decide +kernel, rfl⟩
theorem flX4_84 : FL RX4 84 3 22 := ⟨_, _, _, _, rfl, by decide, by decide, Or.inl (lk q1261), Or.inl rfl⟩
theorem eX4_worth_57 : dc cX4_worth 57 (.aload_n 0) 1 58 := ⟨by decide +kernel, rfl⟩
theorem eX4_worth_58 : dc cX4_worth 58 (.getfield 72) 3 61 := ⟨by decide +kernel, rfl⟩
theorem eX4_worth_61 : dc cX4_worth 61 (.iload_n 2) 1 62 := ⟨by decide +kernel, rfl⟩
theorem eX4_worth_62 : dc cX4_worth 62 (.iaload) 1 63 := ⟨by decide +kernel, rfl⟩
theorem eX4_worth_63 : dc cX4_worth 63 (.iaload) 1 64 := ⟨by decide +kernel, rfl⟩
theorem eX4_worth_192 : dc cX4_worth 192 (.aload_n 0) 1 193 := ⟨by decide +kernel, rfl⟩
theorem eX4_worth_193 : dc cX4_worth 193 (.getfield 87) 3 196 := ⟨by decide +kernel, rfl⟩
theorem eX4_worth_196 : dc cX4_worth 196 (.iconst 0) 1 197 := ⟨by decide +kernel, rfl⟩
theorem eX4_worth_197 : dc cX4_worth 197 (.iaload) 1 198 := ⟨by decide +kernel, rfl⟩
theorem eX4_worth_198 : dc cX4_worth 198 (.ireturn) 1 199 := ⟨by decide +kernel, rfl⟩
theorem eX4_worth_0 : dc cX4_worth 0 (.iload_n 1) 1 1 := ⟨by decide +kernel, rfl⟩
theorem eX4_worth_1 : dc cX4_worth 1 (.istore_n 2) 1 2 := ⟨by decide +kernel, rfl⟩
theorem eX4_worth_2 : dc cX4_worth 2 (.iconst 0) 1 3 := ⟨by decide +kernel, rfl⟩
theorem eX4_worth_3 : dc cX4_worth 3 (.istore_n 3) 1 4 := ⟨by decide +kernel, rfl⟩
set_option maxHeartbeats 8000000 in
theorem ctX4_worth (l : Launch) : Ct l yX4_worth (.code yX4_worth cX4_worth 7 (some .int)) 1 spX4_worth := by
  refine Ct.of (own := RX4) (nm := "worth") (by decide) rfl rfl ?_
  rintro X av T I L R uc us rfl g hN hu hz ⟨A, c, z, rfl, rfl, rfl, hcd, hA, hc6, hwf, hev, hk⟩
  refine VE.go (ls := [some (.ref 0), some (.int (nI A)), none, none, none, none, none]) g hu hz (fun _ => rfl) (fun _ => Nat.le_of_ble_eq_true rfl) ?_
  have loop : ∀ (q j : Nat) (s : List Int32) (I' : It), j ≤ c.length → c.length + 1 ≤ j + q → s.length ≤ j → plM s I' → (∀ a, a ≠ 23 → I' a = I a) → ev (I 22) (c.drop j) s = some [z] → V X TM I' L RM uc us 4 [some (.ref 0), some (.int (nI A)), some (.int (nI (A + j))), some (.int (nI s.length)), none, none, none] [] := by
    intro q
    induction q with
    | zero => intro j s I' h1 h2; exact absurd h2 (by omega)
    | succ q ih =>
      intro j s I' h1 h2 h3 h4 h5 h6
      rcases Nat.lt_or_ge j c.length with hj | hj
      · obtain ⟨o, a, hoa⟩ : ∃ o a, c[j]? = some (o, a) := ⟨c[j].1, c[j].2, List.getElem?_eq_getElem hj⟩
        have hm : (o, a) ∈ c := List.mem_of_getElem? hoa
        obtain ⟨w1, w2, w3⟩ := hwf o a hm
        have hd : c.drop j = (o, a) :: c.drop (j + 1) := by
          rw [List.drop_eq_getElem_cons hj]
          congr 1
          rw [List.getElem?_eq_getElem hj] at hoa
          exact Option.some.inj hoa
        have h13 : I' 13 (A + j) = nI o := by rw [h5 13 (by decide)]; exact (hcd j o a (by rw [List.getElem?_append_left hj]; exact hoa)).1
        have h14 : I' 14 (A + j) = a := by rw [h5 14 (by decide)]; exact (hcd j o a (by rw [List.getElem?_append_left hj]; exact hoa)).2
        rw [hd, ev_c] at h6
        have nx : ∀ (s2 : List Int32) (I2 : It) (l4 l5 l6 : Option Value), s2.length ≤ j + 1 → plM s2 I2 → (∀ a, a ≠ 23 → I2 a = I a) → ev (I 22) (c.drop (j + 1)) s2 = some [z] → V X TM I2 L RM uc us 186 [some (.ref 0), some (.int (nI A)), some (.int (nI (A + j))), some (.int (nI s2.length)), l4, l5, l6] [] := by
          intro s2 I2 l4 l5 l6 g1 g2 g3 g4
          refine V_iinc_2 (v := 1) g eX4_worth_186 (by decide) (by decide) rfl ?_
          refine V_goto g eX4_worth_189 ?_
          rw [nI_1]
          refine V_kill_4 (V_kill_5 (V_kill_6 ?_))
          exact ih (j + 1) s2 I2 (by omega) (by omega) g1 g2 g3 g4
        have ku : ∀ (p : Nat) (x : Int32) (b : Nat), b ≠ 23 → u2 I' 23 p x b = I b := fun p x b hb => by rw [u2_o _ _ hb]; exact h5 b hb
        refine V_aload_0 g eX4_worth_4 ?_
        refine V_getR g eX4_worth_5 flX4_69 rfl rfl rfl ?_
        refine V_iload_2 g eX4_worth_8 ?_
        refine V_ialdN g eX4_worth_9 rfl (by omega) (by decide) ?_
        refine V_top (y := nI o) h13 ?_
        refine V_if_eq g eX4_worth_10 (fun c_10 => absurd c_10 (nI_ne0 (by omega) (by omega))) (fun _ => ?_)
        refine V_aload_0 g eX4_worth_13 ?_
        refine V_getR g eX4_worth_14 flX4_69 rfl rfl rfl ?_
        refine V_iload_2 g eX4_worth_17 ?_
        refine V_ialdN g eX4_worth_18 rfl (by omega) (by decide) ?_
        refine V_top (y := nI o) h13 ?_
        refine V_istore_4 g eX4_worth_19 (by decide) rfl ?_
        refine V_iload_4 g eX4_worth_21 ?_
        refine V_iconst (v := 1) g eX4_worth_23 (by decide) ?_
        refine V_icmp_eq g eX4_worth_24 (fun c_24 => ?_) (fun c_24 => ?_)
        · refine V_aload_0 g eX4_worth_33 ?_
          refine V_getR g eX4_worth_34 flX4_87 rfl rfl rfl ?_
          refine V_iload_3 g eX4_worth_37 ?_
          refine V_iload_4 g eX4_worth_38 ?_
          refine V_iconst (v := 1) g eX4_worth_40 (by decide) ?_
          refine V_icmp_ne g eX4_worth_41 (fun c_41 => ?_) (fun c_41 => ?_)
          · exact absurd c_24 c_41
          · refine V_aload_0 g eX4_worth_44 ?_
            refine V_getR g eX4_worth_45 flX4_72 rfl rfl rfl ?_
            refine V_iload_2 g eX4_worth_48 ?_
            refine V_ialdN g eX4_worth_49 rfl (by omega) (by decide) ?_
            refine V_top (y := a) h14 ?_
            refine V_goto g eX4_worth_50 ?_
            refine V_iastN g eX4_worth_64 rfl (by omega) (by decide) ?_
            refine V_iinc_3 (v := 1) g eX4_worth_65 (by decide) (by decide) rfl ?_
            refine V_goto g eX4_worth_68 ?_
            have ho : o = 1 := nI_eq' (b := 1) (by omega) (by decide) c_24
            rw [if_pos ho] at h6
            rw [nI_1]
            exact nx (a :: s) _ _ _ _ (by simp; omega) (plM_push h4) (ku _ _) h6
        · refine V_iload_4 g eX4_worth_27 ?_
          refine V_iconst (v := 2) g eX4_worth_29 (by decide) ?_
          refine V_icmp_ne g eX4_worth_30 (fun c_30 => ?_) (fun c_30 => ?_)
          · have ho1 : ¬ o = 1 := fun q => c_24 (by rw [q]; rfl)
            have ho2 : ¬ o = 2 := fun q => c_30 (by rw [q]; rfl)
            rw [if_neg ho1, if_neg ho2] at h6
            obtain ⟨y, x, s', rfl⟩ : ∃ y x s', s = y :: x :: s' := by match s, h6 with | [], h => cases h | [x], h => cases h | y :: x :: s', _ => exact ⟨y, x, s', rfl⟩
            have hy : I' 23 (s'.length + 1) = y := plM_top h4
            have hx : I' 23 s'.length = x := plM_top (plM_tail h4)
            have hs3 : s'.length + 2 ≤ j := h3
            have fin : ∀ v l4 l5 l6, v = opv o x y → V X TM (u2 I' 23 s'.length v) L RM uc us 186 [some (.ref 0), some (.int (nI A)), some (.int (nI (A + j))), some (.int (nI (s'.length + 1))), l4, l5, l6] [] := fun v l4 l5 l6 hv => nx (v :: s') _ l4 l5 l6 (by simp; omega) (plM_push (plM_tail (plM_tail h4))) (ku _ _) (by rw [hv]; exact h6)
            refine V_ls (ls' := [some (.ref 0), some (.int (nI A)), some (.int (nI (A + j))), some (.int (nI (s'.length + 1 + 1))), some (.int (nI o)), none, none]) rfl ?_
            refine V_iinc_3 (v := (-1)) g eX4_worth_71 (by decide) (by decide) rfl ?_
            rw [pk_m1]
            refine V_aload_0 g eX4_worth_74 ?_
            refine V_getR g eX4_worth_75 flX4_87 rfl rfl rfl ?_
            refine V_iload_3 g eX4_worth_78 ?_
            refine V_ialdN g eX4_worth_79 rfl (by omega) (by decide) ?_
            refine V_top (y := y) hy ?_
            refine V_istore_5 g eX4_worth_80 (by decide) rfl ?_
            refine V_aload_0 g eX4_worth_82 ?_
            refine V_getR g eX4_worth_83 flX4_87 rfl rfl rfl ?_
            refine V_iload_3 g eX4_worth_86 ?_
            refine V_iconst (v := 1) g eX4_worth_87 (by decide) ?_
            refine V_isubN (b := 1) g eX4_worth_88 (by omega) ?_
            refine V_ialdN g eX4_worth_89 rfl (by omega) (by decide) ?_
            refine V_top (y := x) hx ?_
            refine V_istore_6 g eX4_worth_90 (by decide) rfl ?_
            refine V_aload_0 g eX4_worth_92 ?_
            refine V_getR g eX4_worth_93 flX4_87 rfl rfl rfl ?_
            refine V_iload_3 g eX4_worth_96 ?_
            refine V_iconst (v := 1) g eX4_worth_97 (by decide) ?_
            refine V_isubN (b := 1) g eX4_worth_98 (by omega) ?_
            refine V_iload_4 g eX4_worth_99 ?_
            refine V_iconst (v := 3) g eX4_worth_101 (by decide) ?_
            refine V_icmp_ne g eX4_worth_102 (fun c_102 => ?_) (fun c_102 => ?_)
            · have o3 : ¬ o = 3 := fun q => c_102 (by rw [q]; rfl)
              refine V_iload_4 g eX4_worth_113 ?_
              refine V_iconst (v := 4) g eX4_worth_115 (by decide) ?_
              refine V_icmp_ne g eX4_worth_116 (fun c_116 => ?_) (fun c_116 => ?_)
              · have o4 : ¬ o = 4 := fun q => c_116 (by rw [q]; rfl)
                refine V_iload_4 g eX4_worth_127 ?_
                refine V_iconst (v := 5) g eX4_worth_129 (by decide) ?_
                refine V_icmp_ne g eX4_worth_130 (fun c_130 => ?_) (fun c_130 => ?_)
                · have o5 : ¬ o = 5 := fun q => c_130 (by rw [q]; rfl)
                  refine V_iload_4 g eX4_worth_148 ?_
                  refine V_bipush (v := 6) g eX4_worth_150 (by decide) ?_
                  refine V_icmp_ne g eX4_worth_152 (fun c_152 => ?_) (fun c_152 => ?_)
                  · have o6 : ¬ o = 6 := fun q => c_152 (by rw [q]; rfl)
                    refine V_iload_6 g eX4_worth_170 ?_
                    refine V_if_eq g eX4_worth_172 (fun c_172 => ?_) (fun c_172 => ?_)
                    · refine V_iconst (v := 0) g eX4_worth_184 (by decide) ?_
                      refine V_iastN g eX4_worth_185 rfl (by omega) (by decide) ?_
                      exact fin _ _ _ _ (by unfold opv; rw [if_neg o3, if_neg o4, if_neg o5, if_neg o6, if_pos c_172])
                    · refine V_iload_5 g eX4_worth_175 ?_
                      refine V_if_eq g eX4_worth_177 (fun c_177 => ?_) (fun c_177 => ?_)
                      · refine V_iconst (v := 0) g eX4_worth_184 (by decide) ?_
                        refine V_iastN g eX4_worth_185 rfl (by omega) (by decide) ?_
                        exact fin _ _ _ _ (by unfold opv; rw [if_neg o3, if_neg o4, if_neg o5, if_neg o6, if_neg c_172, if_pos c_177])
                      · refine V_iconst (v := 1) g eX4_worth_180 (by decide) ?_
                        refine V_goto g eX4_worth_181 ?_
                        refine V_iastN g eX4_worth_185 rfl (by omega) (by decide) ?_
                        exact fin _ _ _ _ (by unfold opv; rw [if_neg o3, if_neg o4, if_neg o5, if_neg o6, if_neg c_172, if_neg c_177])
                  · refine V_iload_6 g eX4_worth_155 ?_
                    refine V_iload_5 g eX4_worth_157 ?_
                    refine V_icmp_ne g eX4_worth_159 (fun c_159 => ?_) (fun c_159 => ?_)
                    · refine V_iconst (v := 0) g eX4_worth_166 (by decide) ?_
                      refine V_goto g eX4_worth_167 ?_
                      refine V_iastN g eX4_worth_185 rfl (by omega) (by decide) ?_
                      exact fin _ _ _ _ (by unfold opv; rw [if_neg o3, if_neg o4, if_neg o5, if_pos (nI_eq' (b := 6) (by omega) (by decide) c_152), if_neg c_159])
                    · refine V_iconst (v := 1) g eX4_worth_162 (by decide) ?_
                      refine V_goto g eX4_worth_163 ?_
                      refine V_iastN g eX4_worth_185 rfl (by omega) (by decide) ?_
                      exact fin _ _ _ _ (by unfold opv; rw [if_neg o3, if_neg o4, if_neg o5, if_pos (nI_eq' (b := 6) (by omega) (by decide) c_152), if_pos c_159])
                · refine V_iload_6 g eX4_worth_133 ?_
                  refine V_iload_5 g eX4_worth_135 ?_
                  refine V_icmp_ge g eX4_worth_137 (fun c_137 => ?_) (fun c_137 => ?_)
                  · refine V_iconst (v := 0) g eX4_worth_144 (by decide) ?_
                    refine V_goto g eX4_worth_145 ?_
                    refine V_iastN g eX4_worth_185 rfl (by omega) (by decide) ?_
                    exact fin _ _ _ _ (by unfold opv; rw [if_neg o3, if_neg o4, if_pos (nI_eq' (b := 5) (by omega) (by decide) c_130), if_pos c_137])
                  · refine V_iconst (v := 1) g eX4_worth_140 (by decide) ?_
                    refine V_goto g eX4_worth_141 ?_
                    refine V_iastN g eX4_worth_185 rfl (by omega) (by decide) ?_
                    exact fin _ _ _ _ (by unfold opv; rw [if_neg o3, if_neg o4, if_pos (nI_eq' (b := 5) (by omega) (by decide) c_130), if_neg c_137])
              · refine V_iload_6 g eX4_worth_119 ?_
                refine V_iload_5 g eX4_worth_121 ?_
                refine V_isub g eX4_worth_123 ?_
                refine V_goto g eX4_worth_124 ?_
                refine V_iastN g eX4_worth_185 rfl (by omega) (by decide) ?_
                exact fin _ _ _ _ (by unfold opv; rw [if_neg o3, if_pos (nI_eq' (b := 4) (by omega) (by decide) c_116)])
            · refine V_iload_6 g eX4_worth_105 ?_
              refine V_iload_5 g eX4_worth_107 ?_
              refine V_iadd g eX4_worth_109 ?_
              refine V_goto g eX4_worth_110 ?_
              refine V_iastN g eX4_worth_185 rfl (by omega) (by decide) ?_
              exact fin _ _ _ _ (by unfold opv; rw [if_pos (nI_eq' (b := 3) (by omega) (by decide) c_102)])
          · refine V_aload_0 g eX4_worth_33 ?_
            refine V_getR g eX4_worth_34 flX4_87 rfl rfl rfl ?_
            refine V_iload_3 g eX4_worth_37 ?_
            refine V_iload_4 g eX4_worth_38 ?_
            refine V_iconst (v := 1) g eX4_worth_40 (by decide) ?_
            refine V_icmp_ne g eX4_worth_41 (fun c_41 => ?_) (fun c_41 => ?_)
            · have ho : o = 2 := nI_eq' (b := 2) (by omega) (by decide) c_30
              obtain ⟨w, hw7, rfl⟩ := w3 ho
              refine V_aload_0 g eX4_worth_53 ?_
              refine V_getR g eX4_worth_54 flX4_84 rfl rfl rfl ?_
              refine V_aload_0 g eX4_worth_57 ?_
              refine V_getR g eX4_worth_58 flX4_72 rfl rfl rfl ?_
              refine V_iload_2 g eX4_worth_61 ?_
              refine V_ialdN g eX4_worth_62 rfl (by omega) (by decide) ?_
              refine V_top (y := nI w) h14 ?_
              refine V_ialdN g eX4_worth_63 rfl (by omega) (by decide) ?_
              refine V_top (y := I 22 w) (by rw [h5 22 (by decide)]) ?_
              refine V_iastN g eX4_worth_64 rfl (by omega) (by decide) ?_
              refine V_iinc_3 (v := 1) g eX4_worth_65 (by decide) (by decide) rfl ?_
              refine V_goto g eX4_worth_68 ?_
              rw [if_neg (by omega), if_pos ho, nI_clamp (by omega)] at h6
              rw [nI_1]
              exact nx (I 22 w :: s) _ _ _ _ (by simp; omega) (plM_push h4) (ku _ _) h6
            · exact absurd c_41 c_24
      · obtain rfl : j = c.length := by omega
        rw [List.drop_length] at h6
        have h6 : s = [z] := Option.some.inj h6
        subst h6
        have h13 : I' 13 (A + c.length) = nI 0 := by rw [h5 13 (by decide)]; exact (hcd c.length 0 0 (by simp)).1
        have hz : I' 23 0 = z := plM_top h4
        refine V_aload_0 g eX4_worth_4 ?_
        refine V_getR g eX4_worth_5 flX4_69 rfl rfl rfl ?_
        refine V_iload_2 g eX4_worth_8 ?_
        refine V_ialdN g eX4_worth_9 rfl (by omega) (by decide) ?_
        refine V_top (y := 0) h13 ?_
        refine V_if_eq g eX4_worth_10 (fun _ => ?_) (fun c_10 => absurd c_10 (fun q => q rfl))
        refine V_aload_0 g eX4_worth_192 ?_
        refine V_getR g eX4_worth_193 flX4_87 rfl rfl rfl ?_
        refine V_iconst (v := nI 0) g eX4_worth_196 (by decide) ?_
        refine V_ialdN g eX4_worth_197 rfl (by omega) (by decide) ?_
        refine V_iret g eX4_worth_198 ?_
        exact kI (hk I' h5) hz.symm
  refine V_iload_1 g eX4_worth_0 ?_
  refine V_istore_2 g eX4_worth_1 (by decide) rfl ?_
  refine V_iconst (v := 0) g eX4_worth_2 (by decide) ?_
  refine V_istore_3 g eX4_worth_3 (by decide) rfl ?_
  exact loop (c.length + 1) 0 [] I (by omega) (by omega) (by simp) (fun p x hp => by simp at hp) (fun _ _ => rfl) hev

