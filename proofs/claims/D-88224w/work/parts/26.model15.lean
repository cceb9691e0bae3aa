/-! BedBookModel: lets, may, send (printed out of tmpl/t_model15.txt) -/
set_option maxRecDepth 100000
def wfc (c : List Cd) : Prop := wfb c ∧ ∀ kn s, ∃ x, ev kn c s = some (x :: s)
def vlc (kn : Nat → Int32) (c : List Cd) : Int32 := match ev kn c [] with
  | some (x :: _) => x
  | _ => 0
theorem vlc_ev {kn : Nat → Int32} {c : List Cd} (h : wfc c) : ev kn c [] = some [vlc kn c] := by
  obtain ⟨x, hx⟩ := h.2 kn []
  unfold vlc
  rw [hx]
theorem ev_cg {k1 k2 : Nat → Int32} (hk : ∀ w, w < 7 → k1 w = k2 w) : ∀ (c : List Cd) (s : List Int32), wfb c → ev k1 c s = ev k2 c s := by
  intro c
  induction c with
  | nil => intro s _; rfl
  | cons q c ih =>
    intro s hw
    obtain ⟨o, a⟩ := q
    have hw' : wfb c := fun o a h => hw o a (List.mem_cons_of_mem _ h)
    rw [ev_c, ev_c]
    split
    · exact ih _ hw'
    · split
      · rename_i h2
        obtain ⟨w, h7, rfl⟩ := (hw o a List.mem_cons_self).2.2 h2
        rw [nI_clamp (by omega), hk w h7]
        exact ih _ hw'
      · cases op2 o s with
        | none => rfl
        | some s2 => exact ih s2 hw'
/-- the first line that holds: 1 if it lets, 0 if it bars, 0 if there is none -/
def ltF (kn : Nat → Int32) : List (Bool × List Cd) → Int32
  | [] => 0
  | q :: r => if vlc kn q.2 = 0 then ltF kn r else (if q.1 = true then 0 else 1)
theorem rtF_cg {I I' : It} (h1 : I' 26 = I 26) (h2 : I' 27 = I 27) : ∀ n p, rtF I' n p = rtF I n p := by
  intro n
  induction n with
  | zero => intro p; rfl
  | succ n ih => intro p; unfold rtF; rw [h1, h2]; split; rfl; exact ih _
theorem cuF_cg {I I' : It} (h1 : I' 26 = I 26) (h2 : I' 27 = I 27) : ∀ n p, cuF I' n p = cuF I n p := by
  intro n
  induction n with
  | zero => intro p; rfl
  | succ n ih => intro p; unfold cuF; rw [h1, h2]; split; exact ih _; rfl
theorem nO_cg {I I' : It} (h1 : I' 38 = I 38) (h2 : I' 39 = I 39) (h3 : I' 40 = I 40) (p d : Int32) : ∀ n, nO I' p d n = nO I p d n := by
  intro n
  induction n with
  | zero => rfl
  | succ n ih => unfold nO; rw [h1, h2, h3, ih]
theorem jTo_cg {I I' : It} (h1 : I' 42 = I 42) (h2 : I' 43 = I 43) (h3 : I' 44 = I 44) (d : Int32) : ∀ n, jTo I' d n = jTo I d n := by
  intro n
  induction n with
  | zero => rfl
  | succ n ih => funext x; unfold jTo; rw [h1, h2, h3, ih]
theorem ofLt_cg {I I' : It} {N : Nat} (h1 : I' 26 = I 26) (h2 : I' 27 = I 27) (h : ofLt I N) : ofLt I' N := by
  intro A hA
  rw [h1, h2]
  exact h A hA
theorem nmF_cg {I I' : It} (h1 : I' 38 = I 38) (h2 : I' 39 = I 39) (h3 : I' 40 = I 40) (h4 : I' 42 = I 42) (h5 : I' 43 = I 43) (h6 : I' 44 = I 44) (G J : Nat) (p d jd : Int32) : nmF I' G J p d jd = nmF I G J p d jd := by
  unfold nmF
  rw [nO_cg h1 h2 h3, jTo_cg h4 h5 h6]
/-- what a sending asks about -/
def knF (I : It) (G J P : Nat) (h a : Int32) (w : Nat) : Int32 := match w with
  | 0 => I 36 (rtF I 40 P)
  | 1 => nmF I G J (nI P) (I 0 24) (I 0 24)
  | 2 => h
  | 3 => a
  | 4 => bI (I 26 (cuF I 40 P) = 2)
  | 5 => I 29 P
  | _ => I 0 24
/-- what a question needs of the book -/
def ltC (I : It) (N G J H : Nat) (ls : List (Bool × List Cd)) : Prop := I 0 25 = nI N ∧ N ≤ 40 ∧ ofLt I N ∧ I 0 37 = nI G ∧ G ≤ 300 ∧ I 0 41 = nI J ∧ J ≤ 100 ∧ (∀ p, ¬ nO I p (I 0 24) G = 0 → ldT (jTo I (I 0 24) J) 60 (nO I p (I 0 24) G)) ∧ I 0 15 = nI H ∧ H < 2 ∧ linM H ls I ∧ codM H (enc ls) I ∧ (enc ls).length ≤ 600 ∧ ls.length ≤ 16 ∧ ∀ b c, (b, c) ∈ ls → wfc c
theorem enc_cut {ls : List (Bool × List Cd)} {q : Nat} {b : Bool} {c : List Cd} (h : ls[q]? = some (b, c)) : enc ls = enc (ls.take q) ++ ((c ++ [(0, 0)]) ++ enc (ls.drop (q + 1))) := by
  have hq : q < ls.length := by
    rcases Nat.lt_or_ge q ls.length with z | z
    · exact z
    · rw [List.getElem?_eq_none z] at h; cases h
  have e : ls = ls.take q ++ ((b, c) :: ls.drop (q + 1)) := by
    conv => lhs; rw [← List.take_append_drop q ls]
    rw [List.drop_eq_getElem_cons hq]
    rw [List.getElem?_eq_getElem hq] at h
    rw [Option.some.inj h]
  conv => lhs; rw [e]
  simp [enc]
theorem cd_line {H q : Nat} {ls : List (Bool × List Cd)} {b : Bool} {c : List Cd} {I : It} (h : codM H (enc ls) I) (hq : ls[q]? = some (b, c)) : cdA (660 * H + (enc (ls.take q)).length) (c ++ [(0, 0)]) I ∧ (enc (ls.take q)).length + c.length + 1 ≤ (enc ls).length := by
  have e := enc_cut hq
  constructor
  · intro j x y hj
    have hlt : j < (c ++ [(0, 0)]).length := by
      rcases Nat.lt_or_ge j (c ++ [(0, 0)]).length with z | z
      · exact z
      · rw [List.getElem?_eq_none z] at hj; cases hj
    have := h ((enc (ls.take q)).length + j) x y (by rw [e, List.getElem?_append_right (by omega), Nat.add_sub_cancel_left, List.getElem?_append_left hlt]; exact hj)
    rw [Nat.add_assoc]
    exact this
  · rw [e]
    simp
    omega
abbrev spX4_lets : Sp := fun av T I L R uc us k => ∃ P : Nat, ∃ h : Int32, ∃ am : Int32, ∃ N : Nat, ∃ G : Nat, ∃ J : Nat, ∃ H : Nat, ∃ ls : List (Bool × List Cd), av = [.ref 0, .int (nI P), .int h, .int am] ∧ T = TM ∧ R = RM ∧ ltC I N G J H ls ∧ P < N ∧ (∀ I', (∀ a, a ≠ 22 → a ≠ 23 → I' a = I a) → k (.inl (some (.int (ltF (knF I G J P h am) ls)))) T I' L R uc us)
theorem eX4_lets_100 : dc cX4_lets 100 (.iload 4) 2 102 := ⟨by decide +kernel, rfl⟩
theorem eX4_lets_102 : dc cX4_lets 102 (.bipush 16) 2 104 := ⟨by decide +kernel, rfl⟩
theorem eX4_lets_104 : dc cX4_lets 104 (.aload_n 0) 1 105 := ⟨by decide +kernel, rfl⟩
theorem eX4_lets_105 : dc cX4_lets 105 (.getfield 219) 3 108 := ⟨by decide +kernel, rfl⟩
theorem eX4_lets_108 : dc cX4_lets 108 (.imul) 1 109 := ⟨by decide +kernel, rfl⟩
theorem eX4_lets_109 : dc cX4_lets 109 (.aload_n 0) 1 110 := ⟨by decide +kernel, rfl⟩
theorem eX4_lets_110 : dc cX4_lets 110 (.getfield 59) 3 113 := ⟨by decide +kernel, rfl⟩
theorem eX4_lets_113 : dc cX4_lets 113 (.aload_n 0) 1 114 := ⟨by decide +kernel, rfl⟩
theorem eX4_lets_114 : dc cX4_lets 114 (.getfield 219) 3 117 := ⟨by decide +kernel, rfl⟩
theorem eX4_lets_117 : dc cX4_lets 117 (.iaload) 1 118 := ⟨by decide +kernel, rfl⟩
theorem eX4_lets_118 : dc cX4_lets 118 (.iadd) 1 119 := ⟨by decide +kernel, rfl⟩
theorem eX4_lets_119 : dj cX4_lets 119 (.if_icmp .ge 39) 39 158 122 := ⟨by decide +kernel, by decide, rfl⟩
theorem eX4_lets_158 : dc cX4_lets 158 (.iconst 0) 1 159 := ⟨by decide +kernel, rfl⟩
theorem eX4_lets_159 : dc cX4_lets 159 (.ireturn) 1 160 := ⟨by decide +kernel, rfl⟩
theorem eX4_lets_122 : dc cX4_lets 122 (.aload_n 0) 1 123 := ⟨by decide +kernel, rfl⟩
theorem eX4_lets_123 : dc cX4_lets 123 (.aload_n 0) 1 124 := ⟨by decide +kernel, rfl⟩
theorem eX4_lets_124 : dc cX4_lets 124 (.getfield 66) 3 127 := ⟨by decide +kernel, rfl⟩
theorem eX4_lets_127 : dc cX4_lets 127 (.iload 4) 2 129 := ⟨by decide +kernel, rfl⟩
theorem eX4_lets_129 : dc cX4_lets 129 (.iaload) 1 130 := ⟨by decide +kernel, rfl⟩
theorem eX4_lets_130 : dc cX4_lets 130 (.invokevirtual 333) 3 133 := ⟨by decide +kernel, rfl⟩
theorem pkX4_333 : PkV RX4 333 yX4_worth (.code yX4_worth cX4_worth 7 (some .int)) 7 "BedBookModel" 1 := ⟨cwd_c, (lk q1638), Or.inl (lk q1635), (lk q1637), (lk qs58), ⟨⟨by decide, by decide⟩, by decide +kernel⟩, (lk q67), by decide⟩
theorem eX4_lets_133 : dj cX4_lets 133 (.ifCond .eq 19) 19 152 136 := ⟨by decide +kernel, by decide, rfl⟩
theorem eX4_lets_152 : dc cX4_lets 152 (.iinc 4 1) 3 155 := ⟨by decide +kernel, rfl⟩
theorem eX4_lets_155 : dj cX4_lets 155 (.goto (-55)) (-55) 100 158 := ⟨by decide +kernel, by decide, rfl⟩
theorem eX4_lets_136 : dc cX4_lets 136 (.aload_n 0) 1 137 := ⟨by decide +kernel, rfl⟩
theorem eX4_lets_137 : dc cX4_lets 137 (.getfield 62) 3 140 := ⟨by decide +kernel, rfl⟩
theorem eX4_lets_140 : dc cX4_lets 140 (.iload 4) 2 142 := ⟨by decide +kernel, rfl⟩
theorem eX4_lets_142 : dc cX4_lets 142 (.baload) 1 143 := ⟨by decide +kernel, rfl⟩
theorem eX4_lets_143 : dj cX4_lets 143 (.ifCond .ne 7) 7 150 146 := ⟨by decide +kernel, by decide, rfl⟩
theorem eX4_lets_150 : dc cX4_lets 150 (.iconst 0) 1 151 := ⟨by decide +kernel, rfl⟩
theorem eX4_lets_151 : dc cX4_lets 151 (.ireturn) 1 152 := ⟨by decide +kernel, rfl⟩
theorem eX4_lets_146 : dc cX4_lets 146 (.iconst 1) 1 147 := ⟨by decide +kernel, rfl⟩
theorem eX4_lets_147 : dj cX4_lets 147 (.goto 4) 4 151 150 := ⟨by decide +kernel, by decide, rfl⟩
theorem eX4_lets_67 : dc cX4_lets 67 (.iastore) 1 68 := ⟨by decide +kernel, rfl⟩
theorem eX4_lets_68 : dc cX4_lets 68 (.aload_n 0) 1 69 := ⟨by decide +kernel, rfl⟩
theorem eX4_lets_69 : dc cX4_lets 69 (.getfield 84) 3 72 := ⟨by decide +kernel, rfl⟩
theorem eX4_lets_72 : dc cX4_lets 72 (.iconst 5) 1 73 := ⟨by decide +kernel, rfl⟩
theorem eX4_lets_73 : dc cX4_lets 73 (.aload_n 0) 1 74 := ⟨by decide +kernel, rfl⟩
theorem eX4_lets_74 : dc cX4_lets 74 (.getfield 99) 3 77 := ⟨by decide +kernel, rfl⟩
theorem eX4_lets_77 : dc cX4_lets 77 (.iload_n 1) 1 78 := ⟨by decide +kernel, rfl⟩
theorem eX4_lets_78 : dc cX4_lets 78 (.iaload) 1 79 := ⟨by decide +kernel, rfl⟩
theorem eX4_lets_79 : dc cX4_lets 79 (.iastore) 1 80 := ⟨by decide +kernel, rfl⟩
theorem eX4_lets_80 : dc cX4_lets 80 (.aload_n 0) 1 81 := ⟨by decide +kernel, rfl⟩
theorem eX4_lets_81 : dc cX4_lets 81 (.getfield 84) 3 84 := ⟨by decide +kernel, rfl⟩
theorem eX4_lets_84 : dc cX4_lets 84 (.bipush 6) 2 86 := ⟨by decide +kernel, rfl⟩
theorem eX4_lets_86 : dc cX4_lets 86 (.aload_n 0) 1 87 := ⟨by decide +kernel, rfl⟩
theorem eX4_lets_87 : dc cX4_lets 87 (.getfield 255) 3 90 := ⟨by decide +kernel, rfl⟩
theorem eX4_lets_90 : dc cX4_lets 90 (.iastore) 1 91 := ⟨by decide +kernel, rfl⟩
theorem eX4_lets_91 : dc cX4_lets 91 (.bipush 16) 2 93 := ⟨by decide +kernel, rfl⟩
theorem eX4_lets_93 : dc cX4_lets 93 (.aload_n 0) 1 94 := ⟨by decide +kernel, rfl⟩
theorem eX4_lets_94 : dc cX4_lets 94 (.getfield 219) 3 97 := ⟨by decide +kernel, rfl⟩
theorem eX4_lets_97 : dc cX4_lets 97 (.imul) 1 98 := ⟨by decide +kernel, rfl⟩
theorem eX4_lets_98 : dc cX4_lets 98 (.istore 4) 2 100 := ⟨by decide +kernel, rfl⟩
theorem eX4_lets_0 : dc cX4_lets 0 (.aload_n 0) 1 1 := ⟨by decide +kernel, rfl⟩
theorem eX4_lets_1 : dc cX4_lets 1 (.getfield 84) 3 4 := ⟨by decide +kernel, rfl⟩
theorem eX4_lets_4 : dc cX4_lets 4 (.iconst 0) 1 5 := ⟨by decide +kernel, rfl⟩
theorem eX4_lets_5 : dc cX4_lets 5 (.aload_n 0) 1 6 := ⟨by decide +kernel, rfl⟩
theorem eX4_lets_6 : dc cX4_lets 6 (.getfield 120) 3 9 := ⟨by decide +kernel, rfl⟩
theorem eX4_lets_9 : dc cX4_lets 9 (.aload_n 0) 1 10 := ⟨by decide +kernel, rfl⟩
theorem eX4_lets_10 : dc cX4_lets 10 (.iload_n 1) 1 11 := ⟨by decide +kernel, rfl⟩
theorem eX4_lets_11 : dc cX4_lets 11 (.invokevirtual 327) 3 14 := ⟨by decide +kernel, rfl⟩
theorem eX4_lets_14 : dc cX4_lets 14 (.iaload) 1 15 := ⟨by decide +kernel, rfl⟩
theorem eX4_lets_15 : dc cX4_lets 15 (.iastore) 1 16 := ⟨by decide +kernel, rfl⟩
theorem eX4_lets_16 : dc cX4_lets 16 (.aload_n 0) 1 17 := ⟨by decide +kernel, rfl⟩
theorem eX4_lets_17 : dc cX4_lets 17 (.getfield 84) 3 20 := ⟨by decide +kernel, rfl⟩
theorem eX4_lets_20 : dc cX4_lets 20 (.iconst 1) 1 21 := ⟨by decide +kernel, rfl⟩
theorem eX4_lets_21 : dc cX4_lets 21 (.aload_n 0) 1 22 := ⟨by decide +kernel, rfl⟩
theorem eX4_lets_22 : dc cX4_lets 22 (.iload_n 1) 1 23 := ⟨by decide +kernel, rfl⟩
theorem eX4_lets_23 : dc cX4_lets 23 (.aload_n 0) 1 24 := ⟨by decide +kernel, rfl⟩
theorem eX4_lets_24 : dc cX4_lets 24 (.getfield 255) 3 27 := ⟨by decide +kernel, rfl⟩
theorem eX4_lets_27 : dc cX4_lets 27 (.aload_n 0) 1 28 := ⟨by decide +kernel, rfl⟩
theorem eX4_lets_28 : dc cX4_lets 28 (.getfield 255) 3 31 := ⟨by decide +kernel, rfl⟩
theorem eX4_lets_31 : dc cX4_lets 31 (.invokevirtual 302) 3 34 := ⟨by decide +kernel, rfl⟩
theorem eX4_lets_34 : dc cX4_lets 34 (.iastore) 1 35 := ⟨by decide +kernel, rfl⟩
theorem eX4_lets_35 : dc cX4_lets 35 (.aload_n 0) 1 36 := ⟨by decide +kernel, rfl⟩
theorem eX4_lets_36 : dc cX4_lets 36 (.getfield 84) 3 39 := ⟨by decide +kernel, rfl⟩
theorem eX4_lets_39 : dc cX4_lets 39 (.iconst 2) 1 40 := ⟨by decide +kernel, rfl⟩
theorem eX4_lets_40 : dc cX4_lets 40 (.iload_n 2) 1 41 := ⟨by decide +kernel, rfl⟩
theorem eX4_lets_41 : dc cX4_lets 41 (.iastore) 1 42 := ⟨by decide +kernel, rfl⟩
theorem eX4_lets_42 : dc cX4_lets 42 (.aload_n 0) 1 43 := ⟨by decide +kernel, rfl⟩
theorem eX4_lets_43 : dc cX4_lets 43 (.getfield 84) 3 46 := ⟨by decide +kernel, rfl⟩
theorem eX4_lets_46 : dc cX4_lets 46 (.iconst 3) 1 47 := ⟨by decide +kernel, rfl⟩
theorem eX4_lets_47 : dc cX4_lets 47 (.iload_n 3) 1 48 := ⟨by decide +kernel, rfl⟩
theorem eX4_lets_48 : dc cX4_lets 48 (.iastore) 1 49 := ⟨by decide +kernel, rfl⟩
theorem eX4_lets_49 : dc cX4_lets 49 (.aload_n 0) 1 50 := ⟨by decide +kernel, rfl⟩
theorem eX4_lets_50 : dc cX4_lets 50 (.getfield 84) 3 53 := ⟨by decide +kernel, rfl⟩
theorem eX4_lets_53 : dc cX4_lets 53 (.iconst 4) 1 54 := ⟨by decide +kernel, rfl⟩
theorem eX4_lets_54 : dc cX4_lets 54 (.aload_n 0) 1 55 := ⟨by decide +kernel, rfl⟩
theorem eX4_lets_55 : dc cX4_lets 55 (.iload_n 1) 1 56 := ⟨by decide +kernel, rfl⟩
theorem eX4_lets_56 : dc cX4_lets 56 (.invokevirtual 330) 3 59 := ⟨by decide +kernel, rfl⟩
theorem eX4_lets_59 : dj cX4_lets 59 (.ifCond .eq 7) 7 66 62 := ⟨by decide +kernel, by decide, rfl⟩
theorem eX4_lets_66 : dc cX4_lets 66 (.iconst 0) 1 67 := ⟨by decide +kernel, rfl⟩
theorem eX4_lets_62 : dc cX4_lets 62 (.iconst 1) 1 63 := ⟨by decide +kernel, rfl⟩
theorem eX4_lets_63 : dj cX4_lets 63 (.goto 4) 4 67 66 := ⟨by decide +kernel, by decide, rfl⟩
set_option maxHeartbeats 8000000 in
theorem ctX4_lets (l : Launch) : Ct l yX4_lets (.code yX4_lets cX4_lets 5 (some .boolean)) 4 spX4_lets := by
  refine Ct.of (own := RX4) (nm := "lets") (by decide) rfl rfl ?_
  rintro X av T I L R uc us rfl g hN hu hz ⟨P, h, am, N, G, J, H, ls, rfl, rfl, rfl, hC, hP, hk⟩
  refine VE.go (ls := [some (.ref 0), some (.int (nI P)), some (.int h), some (.int am), none]) g hu hz (fun _ => rfl) (fun _ => Nat.le_of_ble_eq_true rfl) ?_
  obtain ⟨hN, hN4, hof, hG, hG3, hJ, hJ1, ht, h15, hH, hli, hco, he6, hl6, hwf⟩ := hC
  obtain ⟨kn, hkn⟩ : ∃ kn, kn = knF I G J P h am := ⟨_, rfl⟩
  rw [← hkn] at hk
  have loop : ∀ (n q : Nat) (I' : It), q ≤ ls.length → ls.length + 1 ≤ q + n → (∀ a, a ≠ 22 → a ≠ 23 → I' a = I a) → (∀ w, w < 7 → I' 22 w = kn w) → ltF kn (ls.drop q) = ltF kn ls → V X TM I' L RM uc us 100 [some (.ref 0), some (.int (nI P)), some (.int h), some (.int am), some (.int (nI (16 * H + q)))] [] := by
    intro n
    induction n with
    | zero => intro q I' h1 h2; exact absurd h2 (by omega)
    | succ n ih =>
      intro q I' h1 h2 h3 h4 h5
      have g15 : I' 0 15 = nI H := by rw [h3 0 (by decide) (by decide)]; exact h15
      have g10 : I' 10 H = nI ls.length := by rw [h3 10 (by decide) (by decide)]; exact hli.1
      refine V_iload_4 g eX4_lets_100 ?_
      refine V_bipush (v := 16) g eX4_lets_102 (by decide) ?_
      refine V_aload_0 g eX4_lets_104 ?_
      refine V_getI g eX4_lets_105 flX4_219 rfl rfl ?_
      refine V_top (y := nI H) g15 ?_
      refine V_imulN (a := 16) g eX4_lets_108 ?_
      refine V_aload_0 g eX4_lets_109 ?_
      refine V_getR g eX4_lets_110 flX4_59 rfl rfl rfl ?_
      refine V_aload_0 g eX4_lets_113 ?_
      refine V_getI g eX4_lets_114 flX4_219 rfl rfl ?_
      refine V_top (y := nI H) g15 ?_
      refine V_ialdN g eX4_lets_117 rfl (by omega) (by decide) ?_
      refine V_top (y := nI ls.length) g10 ?_
      refine V_iaddN g eX4_lets_118 ?_
      refine V_icmp_ge g eX4_lets_119 (fun c_119 => ?_) (fun c_119 => ?_)
      · refine V_iconst (v := 0) g eX4_lets_158 (by decide) ?_
        refine V_zret g eX4_lets_159 rfl ?_
        have hq : q = ls.length := by have := nI_le' (a := 16 * H + ls.length) (b := 16 * H + q) (by omega) (by omega) c_119; omega
        rw [hq, List.drop_length] at h5
        exact kI (hk I' h3) h5.symm
      · have hq : q < ls.length := by have := nI_nle' (a := 16 * H + ls.length) (b := 16 * H + q) (by omega) (by omega) c_119; omega
        obtain ⟨b, c, hbc⟩ : ∃ b c, ls[q]? = some (b, c) := ⟨_, _, List.getElem?_eq_getElem hq⟩
        have hcw := hwf b c (List.mem_of_getElem? hbc)
        obtain ⟨hcd, hcl⟩ := cd_line hco hbc
        have hdr : ls.drop q = (b, c) :: ls.drop (q + 1) := by rw [List.drop_eq_getElem_cons hq]; rw [List.getElem?_eq_getElem hq] at hbc; rw [Option.some.inj hbc]
        have hev : ev (I' 22) c [] = some [vlc kn c] := by rw [ev_cg h4 c [] hcw.1]; exact vlc_ev hcw
        rw [hdr, ltF] at h5
        refine V_aload_0 g eX4_lets_122 ?_
        refine V_aload_0 g eX4_lets_123 ?_
        refine V_getR g eX4_lets_124 flX4_66 rfl rfl rfl ?_
        refine V_iload_4 g eX4_lets_127 ?_
        refine V_ialdN g eX4_lets_129 rfl (by omega) (by decide) ?_
        refine V_top (y := nI (660 * H + (enc (ls.take q)).length)) (by rw [h3 12 (by decide) (by decide)]; exact (hli.2 q b c hbc).2) ?_
        refine V_cv1 g (ctX4_worth _) eX4_lets_130 pkX4_333 rfl rfl (by decide) (by decide) (Nat.le_of_ble_eq_true rfl) ?_
        refine ⟨660 * H + (enc (ls.take q)).length, c, vlc kn c, rfl, rfl, rfl, fun j x y hj => ?_, by omega, by omega, hcw.1, hev, fun I2 hI2 => ?_⟩
        · rw [h3 13 (by decide) (by decide), h3 14 (by decide) (by decide)]; exact hcd j x y hj
        refine V_if_eq g eX4_lets_133 (fun c_133 => ?_) (fun c_133 => ?_)
        · refine V_iinc_4 (v := 1) g eX4_lets_152 (by decide) (by decide) rfl ?_
          refine V_goto g eX4_lets_155 ?_
          have hz : vlc kn c = 0 := c_133
          rw [if_pos hz] at h5
          rw [nI_1]
          refine ih (q + 1) I2 (by omega) (by omega) (fun a q1 q2 => by rw [hI2 a q2]; exact h3 a q1 q2) (fun w hw => by rw [hI2 22 (by decide)]; exact h4 w hw) h5
        · refine V_aload_0 g eX4_lets_136 ?_
          refine V_getR g eX4_lets_137 flX4_62 rfl rfl rfl ?_
          refine V_iload_4 g eX4_lets_140 ?_
          refine V_zaldN g eX4_lets_142 rfl (by omega) (by decide) ?_
          refine V_top (y := if b = true then 1 else 0) (by rw [hI2 11 (by decide), h3 11 (by decide) (by decide)]; exact (hli.2 q b c hbc).1) ?_
          refine V_if_ne g eX4_lets_143 (fun c_143 => ?_) (fun c_143 => ?_)
          · refine V_iconst (v := 0) g eX4_lets_150 (by decide) ?_
            refine V_zret g eX4_lets_151 rfl ?_
            rw [if_neg c_133] at h5
            have hb : b = true := Decidable.byContradiction fun q => c_143 (if_neg q)
            rw [if_pos hb] at h5
            exact kI (hk I2 (fun a q1 q2 => by rw [hI2 a q2]; exact h3 a q1 q2)) h5.symm
          · refine V_iconst (v := 1) g eX4_lets_146 (by decide) ?_
            refine V_goto g eX4_lets_147 ?_
            refine V_zret g eX4_lets_151 rfl ?_
            rw [if_neg c_133] at h5
            have hb : ¬ b = true := fun q => by rw [if_pos q] at c_143; exact absurd c_143 (by decide)
            rw [if_neg hb] at h5
            exact kI (hk I2 (fun a q1 q2 => by rw [hI2 a q2]; exact h3 a q1 q2)) h5.symm
  have at67 : ∀ (v : Int32) (I4 : It), v = bI (I 26 (cuF I 40 P) = 2) → I4 = u2 (u2 (u2 (u2 I 22 0 (I 36 (rtF I 40 P))) 22 1 (nmF I G J (nI P) (I 0 24) (I 0 24))) 22 2 h) 22 3 am → V X TM I4 L RM uc us 67 [some (.ref 0), some (.int (nI P)), some (.int h), some (.int am), none] [.int v, .int 4, .ref 22] := by
    intro v I4 hv hI4
    have e0 : ∀ j, I4 0 j = I 0 j := fun j => by rw [hI4]; simp [u2]
    refine V_iastN (j := 4) g eX4_lets_67 rfl (by decide) (by decide) ?_
    refine V_aload_0 g eX4_lets_68 ?_
    refine V_getR g eX4_lets_69 flX4_84 rfl rfl rfl ?_
    refine V_iconst (v := 5) g eX4_lets_72 (by decide) ?_
    refine V_aload_0 g eX4_lets_73 ?_
    refine V_getR g eX4_lets_74 flX4_99 rfl rfl rfl ?_
    refine V_iload_1 g eX4_lets_77 ?_
    refine V_ialdN g eX4_lets_78 rfl (by omega) (by decide) ?_
    refine V_top (y := I 29 P) (by rw [hI4]; simp [u2]) ?_
    refine V_iastN (j := 5) g eX4_lets_79 rfl (by decide) (by decide) ?_
    refine V_aload_0 g eX4_lets_80 ?_
    refine V_getR g eX4_lets_81 flX4_84 rfl rfl rfl ?_
    refine V_bipush (v := 6) g eX4_lets_84 (by decide) ?_
    refine V_aload_0 g eX4_lets_86 ?_
    refine V_getI g eX4_lets_87 flX4_255 rfl rfl ?_
    refine V_top (y := I 0 24) (by simp [u2]; exact e0 24) ?_
    refine V_iastN (j := 6) g eX4_lets_90 rfl (by decide) (by decide) ?_
    refine V_bipush (v := 16) g eX4_lets_91 (by decide) ?_
    refine V_aload_0 g eX4_lets_93 ?_
    refine V_getI g eX4_lets_94 flX4_219 rfl rfl ?_
    refine V_top (y := nI H) (by simp [u2]; rw [e0]; exact h15) ?_
    refine V_imulN (a := 16) g eX4_lets_97 ?_
    refine V_istore_4 g eX4_lets_98 (by decide) rfl ?_
    refine loop (ls.length + 1) 0 _ (by omega) (by omega) ?_ ?_ rfl
    · intro a q1 q2
      rw [u2_o _ _ q1, u2_o _ _ q1, u2_o _ _ q1, hI4, u2_o _ _ q1, u2_o _ _ q1, u2_o _ _ q1, u2_o _ _ q1]
    · intro w hw
      rw [hkn, hI4, hv]
      match w, hw with
      | 0, _ => simp [u2, knF]
      | 1, _ => simp [u2, knF]
      | 2, _ => simp [u2, knF]
      | 3, _ => simp [u2, knF]
      | 4, _ => simp [u2, knF]
      | 5, _ => simp [u2, knF]
      | 6, _ => simp [u2, knF]
      | w + 7, hw => omega
  refine V_aload_0 g eX4_lets_0 ?_
  refine V_getR g eX4_lets_1 flX4_84 rfl rfl rfl ?_
  refine V_iconst (v := 0) g eX4_lets_4 (by decide) ?_
  refine V_aload_0 g eX4_lets_5 ?_
  refine V_getR g eX4_lets_6 flX4_120 rfl rfl rfl ?_
  refine V_aload_0 g eX4_lets_9 ?_
  refine V_iload_1 g eX4_lets_10 ?_
  refine V_cv1 g (ctX4_rootOf _) eX4_lets_11 pkX4_327 rfl rfl (by decide) (by decide) (Nat.le_of_ble_eq_true rfl) ?_
  refine ⟨P, N, rfl, rfl, rfl, hP, hN4, hof, ?_⟩
  refine V_ialdN g eX4_lets_14 rfl (by have := rtF_lt hof 40 P hP (by omega); omega) (by decide) ?_
  refine V_iastN (j := 0) g eX4_lets_15 rfl (by decide) (by decide) ?_
  refine V_aload_0 g eX4_lets_16 ?_
  refine V_getR g eX4_lets_17 flX4_84 rfl rfl rfl ?_
  refine V_iconst (v := 1) g eX4_lets_20 (by decide) ?_
  refine V_aload_0 g eX4_lets_21 ?_
  refine V_iload_1 g eX4_lets_22 ?_
  refine V_aload_0 g eX4_lets_23 ?_
  refine V_getI g eX4_lets_24 flX4_255 rfl rfl ?_
  refine V_top (y := I 0 24) (by simp [u2]) ?_
  refine V_aload_0 g eX4_lets_27 ?_
  refine V_getI g eX4_lets_28 flX4_255 rfl rfl ?_
  refine V_top (y := I 0 24) (by simp [u2]) ?_
  refine V_cv3 g (ctX4_nameOf _) eX4_lets_31 pkX4_302 rfl rfl (by decide) (by decide) (Nat.le_of_ble_eq_true rfl) ?_
  refine ⟨_, _, _, G, J, rfl, rfl, rfl, by simp [u2, hG], hG3, by simp [u2, hJ], hJ1, ?_, ?_⟩
  · rw [nO_cg (I := I) (u2_o _ _ (by decide)) (u2_o _ _ (by decide)) (u2_o _ _ (by decide)), jTo_cg (I := I) (u2_o _ _ (by decide)) (u2_o _ _ (by decide)) (u2_o _ _ (by decide))]; exact ht (nI P)
  rw [nmF_cg (I := I) (u2_o _ _ (by decide)) (u2_o _ _ (by decide)) (u2_o _ _ (by decide)) (u2_o _ _ (by decide)) (u2_o _ _ (by decide)) (u2_o _ _ (by decide))]
  refine V_iastN (j := 1) g eX4_lets_34 rfl (by decide) (by decide) ?_
  refine V_aload_0 g eX4_lets_35 ?_
  refine V_getR g eX4_lets_36 flX4_84 rfl rfl rfl ?_
  refine V_iconst (v := 2) g eX4_lets_39 (by decide) ?_
  refine V_iload_2 g eX4_lets_40 ?_
  refine V_iastN (j := 2) g eX4_lets_41 rfl (by decide) (by decide) ?_
  refine V_aload_0 g eX4_lets_42 ?_
  refine V_getR g eX4_lets_43 flX4_84 rfl rfl rfl ?_
  refine V_iconst (v := 3) g eX4_lets_46 (by decide) ?_
  refine V_iload_3 g eX4_lets_47 ?_
  refine V_iastN (j := 3) g eX4_lets_48 rfl (by decide) (by decide) ?_
  refine V_aload_0 g eX4_lets_49 ?_
  refine V_getR g eX4_lets_50 flX4_84 rfl rfl rfl ?_
  refine V_iconst (v := 4) g eX4_lets_53 (by decide) ?_
  refine V_aload_0 g eX4_lets_54 ?_
  refine V_iload_1 g eX4_lets_55 ?_
  refine V_cv1 g (ctX4_isCut _) eX4_lets_56 pkX4_330 rfl rfl (by decide) (by decide) (Nat.le_of_ble_eq_true rfl) ?_
  refine ⟨P, N, rfl, rfl, rfl, hP, hN4, ofLt_cg (I := I) (by simp [u2_o]) (by simp [u2_o]) hof, ?_⟩
  rw [cuF_cg (I := I) (by simp [u2_o]) (by simp [u2_o])]
  refine V_if_eqB g eX4_lets_59 (fun c_59 => ?_) (fun c_59 => ?_)
  · refine V_iconst (v := 0) g eX4_lets_66 (by decide) ?_
    refine at67 0 _ ?_ rfl
    rw [bI_f (fun q => c_59 (by simp [u2_o]; exact q))]
  · refine V_iconst (v := 1) g eX4_lets_62 (by decide) ?_
    refine V_goto g eX4_lets_63 ?_
    refine at67 1 _ ?_ rfl
    rw [bI_t (by simpa [u2_o] using c_59)]
abbrev spX4_may : Sp := fun av T I L R uc us k => ∃ p : Int32, ∃ h : Int32, ∃ am : Int32, ∃ N : Nat, ∃ G : Nat, ∃ J : Nat, ∃ H : Nat, ∃ ls : List (Bool × List Cd), av = [.ref 0, .int p, .int h, .int am] ∧ T = TM ∧ R = RM ∧ ltC (u2 I 0 0 0) N G J H ls ∧ (∀ I', (∀ a, a ≠ 22 → a ≠ 23 → I' a = (u2 I 0 0 0) a) → k (.inl (some (.int (if isP (u2 I 0 0 0) p ∧ ¬ h < 0 ∧ ¬ 99 < h ∧ ¬ am < 0 ∧ ¬ 9 < am then ltF (knF (u2 I 0 0 0) G J p.toNatClampNeg h am) ls else -1)))) T I' L R uc us)
theorem ltF_01 (kn : Nat → Int32) : ∀ ls, ltF kn ls = 0 ∨ ltF kn ls = 1 := by
  intro ls
  induction ls with
  | nil => exact Or.inl rfl
  | cons q r ih =>
    unfold ltF
    split
    · exact ih
    · split
      · exact Or.inl rfl
      · exact Or.inr rfl
theorem eX4_may_0 : dc cX4_may 0 (.aload_n 0) 1 1 := ⟨by decide +kernel, rfl⟩
theorem eX4_may_1 : dc cX4_may 1 (.iconst 0) 1 2 := ⟨by decide +kernel, rfl⟩
theorem eX4_may_2 : dc cX4_may 2 (.putfield 1) 3 5 := ⟨by decide +kernel, rfl⟩
theorem eX4_may_5 : dc cX4_may 5 (.aload_n 0) 1 6 := ⟨by decide +kernel, rfl⟩
theorem eX4_may_6 : dc cX4_may 6 (.iload_n 1) 1 7 := ⟨by decide +kernel, rfl⟩
theorem eX4_may_7 : dc cX4_may 7 (.iload_n 2) 1 8 := ⟨by decide +kernel, rfl⟩
theorem eX4_may_8 : dc cX4_may 8 (.iload_n 3) 1 9 := ⟨by decide +kernel, rfl⟩
theorem eX4_may_9 : dc cX4_may 9 (.invokevirtual 336) 3 12 := ⟨by decide +kernel, rfl⟩
theorem pkX4_336 : PkV RX4 336 yX4_isSending (.code yX4_isSending cX4_isSending 4 (some .boolean)) 4 "BedBookModel" 3 := ⟨cwd_c, (lk q1622), Or.inl (lk q1619), (lk q1621), (lk qs54), ⟨⟨by decide, by decide⟩, by decide +kernel⟩, (lk q67), by decide⟩
theorem eX4_may_12 : dj cX4_may 12 (.ifCond .ne 7) 7 19 15 := ⟨by decide +kernel, by decide, rfl⟩
theorem eX4_may_19 : dc cX4_may 19 (.aload_n 0) 1 20 := ⟨by decide +kernel, rfl⟩
theorem eX4_may_20 : dc cX4_may 20 (.iload_n 1) 1 21 := ⟨by decide +kernel, rfl⟩
theorem eX4_may_21 : dc cX4_may 21 (.iload_n 2) 1 22 := ⟨by decide +kernel, rfl⟩
theorem eX4_may_22 : dc cX4_may 22 (.iload_n 3) 1 23 := ⟨by decide +kernel, rfl⟩
theorem eX4_may_23 : dc cX4_may 23 (.invokevirtual 339) 3 26 := ⟨by decide +kernel, rfl⟩
theorem pkX4_339 : PkV RX4 339 yX4_lets (.code yX4_lets cX4_lets 5 (some .boolean)) 5 "BedBookModel" 3 := ⟨cwd_c, (lk q1626), Or.inl (lk q1623), (lk q1625), (lk qs55), ⟨⟨by decide, by decide⟩, by decide +kernel⟩, (lk q67), by decide⟩
theorem eX4_may_26 : dj cX4_may 26 (.ifCond .eq 7) 7 33 29 := ⟨by decide +kernel, by decide, rfl⟩
theorem eX4_may_33 : dc cX4_may 33 (.iconst 0) 1 34 := ⟨by decide +kernel, rfl⟩
theorem eX4_may_34 : dc cX4_may 34 (.ireturn) 1 35 := ⟨by decide +kernel, rfl⟩
theorem eX4_may_29 : dc cX4_may 29 (.iconst 1) 1 30 := ⟨by decide +kernel, rfl⟩
theorem eX4_may_30 : dj cX4_may 30 (.goto 4) 4 34 33 := ⟨by decide +kernel, by decide, rfl⟩
theorem eX4_may_15 : dc cX4_may 15 (.iconst (-1)) 1 16 := ⟨by decide +kernel, rfl⟩
theorem eX4_may_16 : dj cX4_may 16 (.goto 18) 18 34 19 := ⟨by decide +kernel, by decide, rfl⟩
set_option maxHeartbeats 8000000 in
theorem ctX4_may (l : Launch) : Ct l yX4_may (.code yX4_may cX4_may 4 (some .int)) 5 spX4_may := by
  refine Ct.of (own := RX4) (nm := "may") (by decide) rfl rfl ?_
  rintro X av T I L R uc us rfl g hN hu hz ⟨p, h, am, N, G, J, H, ls, rfl, rfl, rfl, hC, hk⟩
  refine VE.go (ls := [some (.ref 0), some (.int p), some (.int h), some (.int am)]) g hu hz (fun _ => rfl) (fun _ => Nat.le_of_ble_eq_true rfl) ?_
  refine V_aload_0 g eX4_may_0 ?_
  refine V_iconst (v := 0) g eX4_may_1 (by decide) ?_
  refine V_putI g eX4_may_2 pflX4_1 rfl rfl rfl rfl ?_
  generalize u2 I 0 0 0 = K at hk hC ⊢
  refine V_aload_0 g eX4_may_5 ?_
  refine V_iload_1 g eX4_may_6 ?_
  refine V_iload_2 g eX4_may_7 ?_
  refine V_iload_3 g eX4_may_8 ?_
  refine V_cv3 g (ctX4_isSending _) eX4_may_9 pkX4_336 rfl rfl (by decide) (by decide) (Nat.le_of_ble_eq_true rfl) ?_
  refine ⟨_, _, _, rfl, rfl, rfl, ?_⟩
  refine V_if_neB g eX4_may_12 (fun c_12 => ?_) (fun c_12 => ?_)
  · rw [if_pos c_12] at hk
    obtain ⟨Q, hQ, rfl⟩ := isP_nI hC.1 (by have := hC.2.1; omega) c_12.1
    have hN4 := hC.2.1
    rw [nI_clamp (by omega)] at hk
    refine V_aload_0 g eX4_may_19 ?_
    refine V_iload_1 g eX4_may_20 ?_
    refine V_iload_2 g eX4_may_21 ?_
    refine V_iload_3 g eX4_may_22 ?_
    refine V_cv3 g (ctX4_lets _) eX4_may_23 pkX4_339 rfl rfl (by decide) (by decide) (Nat.le_of_ble_eq_true rfl) ?_
    refine ⟨Q, h, am, N, G, J, H, ls, rfl, rfl, rfl, hC, hQ, fun I' hI' => ?_⟩
    have hk := hk I' hI'
    refine V_if_eq g eX4_may_26 (fun c_26 => ?_) (fun c_26 => ?_)
    · refine V_iconst (v := 0) g eX4_may_33 (by decide) ?_
      refine V_iret g eX4_may_34 ?_
      exact kI hk c_26
    · refine V_iconst (v := 1) g eX4_may_29 (by decide) ?_
      refine V_goto g eX4_may_30 ?_
      refine V_iret g eX4_may_34 ?_
      exact kI hk ((ltF_01 _ ls).resolve_left c_26)
  · refine V_iconst (v := (-1)) g eX4_may_15 (by decide) ?_
    refine V_goto g eX4_may_16 ?_
    refine V_iret g eX4_may_34 ?_
    have hk := hk K (fun _ _ _ => rfl)
    rw [if_neg c_12] at hk
    exact hk
/-- a sending is written down -/
def snI (I : It) (S P : Nat) (h a : Int32) : It := u2 (u2 (u2 (u2 (u2 (u2 I 29 P (I 29 P - 1)) 55 (4 * S) (nI P)) 55 (4 * S + 1) h) 55 (4 * S + 2) a) 55 (4 * S + 3) (I 0 24)) 0 54 (nI (S + 1))
abbrev spX4_send : Sp := fun av T I L R uc us k => ∃ p : Int32, ∃ h : Int32, ∃ am : Int32, ∃ N : Nat, ∃ G : Nat, ∃ J : Nat, ∃ H : Nat, ∃ ls : List (Bool × List Cd), ∃ S : Nat, av = [.ref 0, .int p, .int h, .int am] ∧ T = TM ∧ R = RM ∧ ltC (u2 I 0 0 0) N G J H ls ∧ (u2 I 0 0 0) 0 54 = nI S ∧ S ≤ 100 ∧ (¬ (isP (u2 I 0 0 0) p ∧ ¬ h < 0 ∧ ¬ 99 < h ∧ ¬ am < 0 ∧ ¬ 9 < am) ∨ (u2 I 0 0 0) 29 p.toNatClampNeg = 0 ∨ S = 100 → k (.inl (some (.int 0))) T (u2 I 0 0 0) L R uc us) ∧ (∀ I', (∀ a, a ≠ 22 → a ≠ 23 → I' a = (u2 I 0 0 0) a) → (isP (u2 I 0 0 0) p ∧ ¬ h < 0 ∧ ¬ 99 < h ∧ ¬ am < 0 ∧ ¬ 9 < am) → ¬ (u2 I 0 0 0) 29 p.toNatClampNeg = 0 → ¬ S = 100 → if ltF (knF (u2 I 0 0 0) G J p.toNatClampNeg h am) ls = 0 then k (.inl (some (.int 0))) T I' L R uc us else k (.inl (some (.int 1))) T (snI I' S p.toNatClampNeg h am) L R uc us)
theorem eX4_send_0 : dc cX4_send 0 (.aload_n 0) 1 1 := ⟨by decide +kernel, rfl⟩
theorem eX4_send_1 : dc cX4_send 1 (.iconst 0) 1 2 := ⟨by decide +kernel, rfl⟩
theorem eX4_send_2 : dc cX4_send 2 (.putfield 1) 3 5 := ⟨by decide +kernel, rfl⟩
theorem eX4_send_5 : dc cX4_send 5 (.aload_n 0) 1 6 := ⟨by decide +kernel, rfl⟩
theorem eX4_send_6 : dc cX4_send 6 (.iload_n 1) 1 7 := ⟨by decide +kernel, rfl⟩
theorem eX4_send_7 : dc cX4_send 7 (.iload_n 2) 1 8 := ⟨by decide +kernel, rfl⟩
theorem eX4_send_8 : dc cX4_send 8 (.iload_n 3) 1 9 := ⟨by decide +kernel, rfl⟩
theorem eX4_send_9 : dc cX4_send 9 (.invokevirtual 336) 3 12 := ⟨by decide +kernel, rfl⟩
theorem eX4_send_12 : dj cX4_send 12 (.ifCond .eq 31) 31 43 15 := ⟨by decide +kernel, by decide, rfl⟩
theorem eX4_send_43 : dc cX4_send 43 (.iconst 0) 1 44 := ⟨by decide +kernel, rfl⟩
theorem eX4_send_44 : dc cX4_send 44 (.ireturn) 1 45 := ⟨by decide +kernel, rfl⟩
theorem eX4_send_15 : dc cX4_send 15 (.aload_n 0) 1 16 := ⟨by decide +kernel, rfl⟩
theorem eX4_send_16 : dc cX4_send 16 (.getfield 99) 3 19 := ⟨by decide +kernel, rfl⟩
theorem eX4_send_19 : dc cX4_send 19 (.iload_n 1) 1 20 := ⟨by decide +kernel, rfl⟩
theorem eX4_send_20 : dc cX4_send 20 (.iaload) 1 21 := ⟨by decide +kernel, rfl⟩
theorem eX4_send_21 : dj cX4_send 21 (.ifCond .eq 22) 22 43 24 := ⟨by decide +kernel, by decide, rfl⟩
theorem eX4_send_24 : dc cX4_send 24 (.aload_n 0) 1 25 := ⟨by decide +kernel, rfl⟩
theorem eX4_send_25 : dc cX4_send 25 (.getfield 342) 3 28 := ⟨by decide +kernel, rfl⟩
theorem eX4_send_28 : dc cX4_send 28 (.bipush 100) 2 30 := ⟨by decide +kernel, rfl⟩
theorem eX4_send_30 : dj cX4_send 30 (.if_icmp .eq 13) 13 43 33 := ⟨by decide +kernel, by decide, rfl⟩
theorem eX4_send_33 : dc cX4_send 33 (.aload_n 0) 1 34 := ⟨by decide +kernel, rfl⟩
theorem eX4_send_34 : dc cX4_send 34 (.iload_n 1) 1 35 := ⟨by decide +kernel, rfl⟩
theorem eX4_send_35 : dc cX4_send 35 (.iload_n 2) 1 36 := ⟨by decide +kernel, rfl⟩
theorem eX4_send_36 : dc cX4_send 36 (.iload_n 3) 1 37 := ⟨by decide +kernel, rfl⟩
theorem eX4_send_37 : dc cX4_send 37 (.invokevirtual 339) 3 40 := ⟨by decide +kernel, rfl⟩
theorem eX4_send_40 : dj cX4_send 40 (.ifCond .ne 5) 5 45 43 := ⟨by decide +kernel, by decide, rfl⟩
theorem eX4_send_45 : dc cX4_send 45 (.aload_n 0) 1 46 := ⟨by decide +kernel, rfl⟩
theorem eX4_send_46 : dc cX4_send 46 (.getfield 99) 3 49 := ⟨by decide +kernel, rfl⟩
theorem eX4_send_49 : dc cX4_send 49 (.iload_n 1) 1 50 := ⟨by decide +kernel, rfl⟩
theorem eX4_send_50 : dc cX4_send 50 (.dup2) 1 51 := ⟨by decide +kernel, rfl⟩
theorem eX4_send_51 : dc cX4_send 51 (.iaload) 1 52 := ⟨by decide +kernel, rfl⟩
theorem eX4_send_52 : dc cX4_send 52 (.iconst 1) 1 53 := ⟨by decide +kernel, rfl⟩
theorem eX4_send_53 : dc cX4_send 53 (.isub) 1 54 := ⟨by decide +kernel, rfl⟩
theorem eX4_send_54 : dc cX4_send 54 (.iastore) 1 55 := ⟨by decide +kernel, rfl⟩
theorem eX4_send_55 : dc cX4_send 55 (.aload_n 0) 1 56 := ⟨by decide +kernel, rfl⟩
theorem eX4_send_56 : dc cX4_send 56 (.getfield 165) 3 59 := ⟨by decide +kernel, rfl⟩
theorem eX4_send_59 : dc cX4_send 59 (.iconst 4) 1 60 := ⟨by decide +kernel, rfl⟩
theorem eX4_send_60 : dc cX4_send 60 (.aload_n 0) 1 61 := ⟨by decide +kernel, rfl⟩
theorem eX4_send_61 : dc cX4_send 61 (.getfield 342) 3 64 := ⟨by decide +kernel, rfl⟩
theorem eX4_send_64 : dc cX4_send 64 (.imul) 1 65 := ⟨by decide +kernel, rfl⟩
theorem eX4_send_65 : dc cX4_send 65 (.iload_n 1) 1 66 := ⟨by decide +kernel, rfl⟩
theorem eX4_send_66 : dc cX4_send 66 (.iastore) 1 67 := ⟨by decide +kernel, rfl⟩
theorem eX4_send_67 : dc cX4_send 67 (.aload_n 0) 1 68 := ⟨by decide +kernel, rfl⟩
theorem eX4_send_68 : dc cX4_send 68 (.getfield 165) 3 71 := ⟨by decide +kernel, rfl⟩
theorem eX4_send_71 : dc cX4_send 71 (.iconst 4) 1 72 := ⟨by decide +kernel, rfl⟩
theorem eX4_send_72 : dc cX4_send 72 (.aload_n 0) 1 73 := ⟨by decide +kernel, rfl⟩
theorem eX4_send_73 : dc cX4_send 73 (.getfield 342) 3 76 := ⟨by decide +kernel, rfl⟩
theorem eX4_send_76 : dc cX4_send 76 (.imul) 1 77 := ⟨by decide +kernel, rfl⟩
theorem eX4_send_77 : dc cX4_send 77 (.iconst 1) 1 78 := ⟨by decide +kernel, rfl⟩
theorem eX4_send_78 : dc cX4_send 78 (.iadd) 1 79 := ⟨by decide +kernel, rfl⟩
theorem eX4_send_79 : dc cX4_send 79 (.iload_n 2) 1 80 := ⟨by decide +kernel, rfl⟩
theorem eX4_send_80 : dc cX4_send 80 (.iastore) 1 81 := ⟨by decide +kernel, rfl⟩
theorem eX4_send_81 : dc cX4_send 81 (.aload_n 0) 1 82 := ⟨by decide +kernel, rfl⟩
theorem eX4_send_82 : dc cX4_send 82 (.getfield 165) 3 85 := ⟨by decide +kernel, rfl⟩
theorem eX4_send_85 : dc cX4_send 85 (.iconst 4) 1 86 := ⟨by decide +kernel, rfl⟩
theorem eX4_send_86 : dc cX4_send 86 (.aload_n 0) 1 87 := ⟨by decide +kernel, rfl⟩
theorem eX4_send_87 : dc cX4_send 87 (.getfield 342) 3 90 := ⟨by decide +kernel, rfl⟩
theorem eX4_send_90 : dc cX4_send 90 (.imul) 1 91 := ⟨by decide +kernel, rfl⟩
theorem eX4_send_91 : dc cX4_send 91 (.iconst 2) 1 92 := ⟨by decide +kernel, rfl⟩
theorem eX4_send_92 : dc cX4_send 92 (.iadd) 1 93 := ⟨by decide +kernel, rfl⟩
theorem eX4_send_93 : dc cX4_send 93 (.iload_n 3) 1 94 := ⟨by decide +kernel, rfl⟩
theorem eX4_send_94 : dc cX4_send 94 (.iastore) 1 95 := ⟨by decide +kernel, rfl⟩
theorem eX4_send_95 : dc cX4_send 95 (.aload_n 0) 1 96 := ⟨by decide +kernel, rfl⟩
theorem eX4_send_96 : dc cX4_send 96 (.getfield 165) 3 99 := ⟨by decide +kernel, rfl⟩
theorem eX4_send_99 : dc cX4_send 99 (.iconst 4) 1 100 := ⟨by decide +kernel, rfl⟩
theorem eX4_send_100 : dc cX4_send 100 (.aload_n 0) 1 101 := ⟨by decide +kernel, rfl⟩
theorem eX4_send_101 : dc cX4_send 101 (.getfield 342) 3 104 := ⟨by decide +kernel, rfl⟩
theorem eX4_send_104 : dc cX4_send 104 (.imul) 1 105 := ⟨by decide +kernel, rfl⟩
theorem eX4_send_105 : dc cX4_send 105 (.iconst 3) 1 106 := ⟨by decide +kernel, rfl⟩
theorem eX4_send_106 : dc cX4_send 106 (.iadd) 1 107 := ⟨by decide +kernel, rfl⟩
theorem eX4_send_107 : dc cX4_send 107 (.aload_n 0) 1 108 := ⟨by decide +kernel, rfl⟩
theorem eX4_send_108 : dc cX4_send 108 (.getfield 255) 3 111 := ⟨by decide +kernel, rfl⟩
theorem eX4_send_111 : dc cX4_send 111 (.iastore) 1 112 := ⟨by decide +kernel, rfl⟩
theorem eX4_send_112 : dc cX4_send 112 (.aload_n 0) 1 113 := ⟨by decide +kernel, rfl⟩
theorem eX4_send_113 : dc cX4_send 113 (.dup) 1 114 := ⟨by decide +kernel, rfl⟩
theorem eX4_send_114 : dc cX4_send 114 (.getfield 342) 3 117 := ⟨by decide +kernel, rfl⟩
theorem eX4_send_117 : dc cX4_send 117 (.iconst 1) 1 118 := ⟨by decide +kernel, rfl⟩
theorem eX4_send_118 : dc cX4_send 118 (.iadd) 1 119 := ⟨by decide +kernel, rfl⟩
theorem eX4_send_119 : dc cX4_send 119 (.putfield 342) 3 122 := ⟨by decide +kernel, rfl⟩
theorem pflX4_342 {nm : String} : (FL RX4 342 3 54 ∧ FN 3 54) ∨ (FF RX4 342 3 54 ∧ nm = "<init>") := Or.inl ⟨flX4_342, fun C Tb N h => by cases h; rfl⟩
theorem eX4_send_122 : dc cX4_send 122 (.iconst 1) 1 123 := ⟨by decide +kernel, rfl⟩
theorem eX4_send_123 : dc cX4_send 123 (.ireturn) 1 124 := ⟨by decide +kernel, rfl⟩
set_option maxHeartbeats 8000000 in
theorem ctX4_send (l : Launch) : Ct l yX4_send (.code yX4_send cX4_send 4 (some .boolean)) 5 spX4_send := by
  refine Ct.of (own := RX4) (nm := "send") (by decide) rfl rfl ?_
  rintro X av T I L R uc us rfl g hN hu hz ⟨p, h, am, N, G, J, H, ls, S, rfl, rfl, rfl, hC, hS, hS1, hk0, hk1⟩
  refine VE.go (ls := [some (.ref 0), some (.int p), some (.int h), some (.int am)]) g hu hz (fun _ => rfl) (fun _ => Nat.le_of_ble_eq_true rfl) ?_
  refine V_aload_0 g eX4_send_0 ?_
  refine V_iconst (v := 0) g eX4_send_1 (by decide) ?_
  refine V_putI g eX4_send_2 pflX4_1 rfl rfl rfl rfl ?_
  generalize u2 I 0 0 0 = K at hk0 hk1 hC hS ⊢
  refine V_aload_0 g eX4_send_5 ?_
  refine V_iload_1 g eX4_send_6 ?_
  refine V_iload_2 g eX4_send_7 ?_
  refine V_iload_3 g eX4_send_8 ?_
  refine V_cv3 g (ctX4_isSending _) eX4_send_9 pkX4_336 rfl rfl (by decide) (by decide) (Nat.le_of_ble_eq_true rfl) ?_
  refine ⟨_, _, _, rfl, rfl, rfl, ?_⟩
  refine V_if_eqB g eX4_send_12 (fun c_12 => ?_) (fun c_12 => ?_)
  · refine V_iconst (v := 0) g eX4_send_43 (by decide) ?_
    refine V_zret g eX4_send_44 rfl ?_
    exact hk0 (Or.inl c_12)
  · obtain ⟨Q, hQ, rfl⟩ := isP_nI hC.1 (by have := hC.2.1; omega) c_12.1
    have hN4 := hC.2.1
    rw [nI_clamp (by omega)] at hk0 hk1
    refine V_aload_0 g eX4_send_15 ?_
    refine V_getR g eX4_send_16 flX4_99 rfl rfl rfl ?_
    refine V_iload_1 g eX4_send_19 ?_
    refine V_ialdN g eX4_send_20 rfl (by omega) (by decide) ?_
    refine V_if_eq g eX4_send_21 (fun c_21 => ?_) (fun c_21 => ?_)
    · refine V_iconst (v := 0) g eX4_send_43 (by decide) ?_
      refine V_zret g eX4_send_44 rfl ?_
      exact hk0 (Or.inr (Or.inl c_21))
    · refine V_aload_0 g eX4_send_24 ?_
      refine V_getI g eX4_send_25 flX4_342 rfl rfl ?_
      refine V_bipush (v := 100) g eX4_send_28 (by decide) ?_
      refine V_icmp_eq g eX4_send_30 (fun c_30 => ?_) (fun c_30 => ?_)
      · refine V_iconst (v := 0) g eX4_send_43 (by decide) ?_
        refine V_zret g eX4_send_44 rfl ?_
        exact hk0 (Or.inr (Or.inr (nI_eq' (b := 100) (by omega) (by decide) (by rw [← hS]; exact c_30))))
      · refine V_aload_0 g eX4_send_33 ?_
        refine V_iload_1 g eX4_send_34 ?_
        refine V_iload_2 g eX4_send_35 ?_
        refine V_iload_3 g eX4_send_36 ?_
        refine V_cv3 g (ctX4_lets _) eX4_send_37 pkX4_339 rfl rfl (by decide) (by decide) (Nat.le_of_ble_eq_true rfl) ?_
        refine ⟨Q, h, am, N, G, J, H, ls, rfl, rfl, rfl, hC, hQ, fun I' hI' => ?_⟩
        have hk := hk1 I' hI' c_12 c_21 (fun q => c_30 (by rw [hS, q]; rfl))
        have e0 : ∀ j, I' 0 j = K 0 j := fun j => by rw [hI' 0 (by decide) (by decide)]
        refine V_if_ne g eX4_send_40 (fun c_40 => ?_) (fun c_40 => ?_)
        · have hSl : S < 100 := by have : S ≠ 100 := fun q => c_30 (by rw [hS, q]; rfl); omega
          refine V_aload_0 g eX4_send_45 ?_
          refine V_getR g eX4_send_46 flX4_99 rfl rfl rfl ?_
          refine V_iload_1 g eX4_send_49 ?_
          refine V_dup2 g eX4_send_50 rfl rfl ?_
          refine V_ialdN g eX4_send_51 rfl (by omega) (by decide) ?_
          refine V_iconst (v := 1) g eX4_send_52 (by decide) ?_
          refine V_isub g eX4_send_53 ?_
          refine V_iastN g eX4_send_54 rfl (by omega) (by decide) ?_
          refine V_aload_0 g eX4_send_55 ?_
          refine V_getR g eX4_send_56 flX4_165 rfl rfl rfl ?_
          refine V_iconst (v := 4) g eX4_send_59 (by decide) ?_
          refine V_aload_0 g eX4_send_60 ?_
          refine V_getI g eX4_send_61 flX4_342 rfl rfl ?_
          refine V_top (y := nI S) (by simp [u2]; rw [e0]; exact hS) ?_
          refine V_imulN (a := 4) g eX4_send_64 ?_
          refine V_iload_1 g eX4_send_65 ?_
          refine V_iastN g eX4_send_66 rfl (by omega) (by decide) ?_
          refine V_aload_0 g eX4_send_67 ?_
          refine V_getR g eX4_send_68 flX4_165 rfl rfl rfl ?_
          refine V_iconst (v := 4) g eX4_send_71 (by decide) ?_
          refine V_aload_0 g eX4_send_72 ?_
          refine V_getI g eX4_send_73 flX4_342 rfl rfl ?_
          refine V_top (y := nI S) (by simp [u2]; rw [e0]; exact hS) ?_
          refine V_imulN (a := 4) g eX4_send_76 ?_
          refine V_iconst (v := 1) g eX4_send_77 (by decide) ?_
          refine V_iaddN (b := 1) g eX4_send_78 ?_
          refine V_iload_2 g eX4_send_79 ?_
          refine V_iastN g eX4_send_80 rfl (by omega) (by decide) ?_
          refine V_aload_0 g eX4_send_81 ?_
          refine V_getR g eX4_send_82 flX4_165 rfl rfl rfl ?_
          refine V_iconst (v := 4) g eX4_send_85 (by decide) ?_
          refine V_aload_0 g eX4_send_86 ?_
          refine V_getI g eX4_send_87 flX4_342 rfl rfl ?_
          refine V_top (y := nI S) (by simp [u2]; rw [e0]; exact hS) ?_
          refine V_imulN (a := 4) g eX4_send_90 ?_
          refine V_iconst (v := 2) g eX4_send_91 (by decide) ?_
          refine V_iaddN (b := 2) g eX4_send_92 ?_
          refine V_iload_3 g eX4_send_93 ?_
          refine V_iastN g eX4_send_94 rfl (by omega) (by decide) ?_
          refine V_aload_0 g eX4_send_95 ?_
          refine V_getR g eX4_send_96 flX4_165 rfl rfl rfl ?_
          refine V_iconst (v := 4) g eX4_send_99 (by decide) ?_
          refine V_aload_0 g eX4_send_100 ?_
          refine V_getI g eX4_send_101 flX4_342 rfl rfl ?_
          refine V_top (y := nI S) (by simp [u2]; rw [e0]; exact hS) ?_
          refine V_imulN (a := 4) g eX4_send_104 ?_
          refine V_iconst (v := 3) g eX4_send_105 (by decide) ?_
          refine V_iaddN (b := 3) g eX4_send_106 ?_
          refine V_aload_0 g eX4_send_107 ?_
          refine V_getI g eX4_send_108 flX4_255 rfl rfl ?_
          refine V_top (y := I' 0 24) (by simp [u2]) ?_
          refine V_iastN g eX4_send_111 rfl (by omega) (by decide) ?_
          refine V_aload_0 g eX4_send_112 ?_
          refine V_dup g eX4_send_113 rfl ?_
          refine V_getI g eX4_send_114 flX4_342 rfl rfl ?_
          refine V_top (y := nI S) (by simp [u2]; rw [e0]; exact hS) ?_
          refine V_iconst (v := 1) g eX4_send_117 (by decide) ?_
          refine V_iaddN (b := 1) g eX4_send_118 ?_
          refine V_putI g eX4_send_119 pflX4_342 rfl rfl rfl rfl ?_
          refine V_iconst (v := 1) g eX4_send_122 (by decide) ?_
          refine V_zret g eX4_send_123 rfl ?_
          rw [if_neg c_40] at hk
          exact hk
        · refine V_iconst (v := 0) g eX4_send_43 (by decide) ?_
          refine V_zret g eX4_send_44 rfl ?_
          rw [if_pos c_40] at hk
          exact hk

