/-! BedBookModel: a text (printed out of tmpl/t_model13.txt) -/
set_option maxRecDepth 100000
theorem srt_lt {t : Nat → Int32} {n i : Nat} : srt t n i < 5 := by
  unfold srt tkK
  split
  · split
    · split <;> decide
    · split
      · split <;> decide
      · split <;> decide
  · decide
/-- what a text may touch -/
def txF (H : Nat) (I I' : It) : Prop := ∀ a j, ¬ (tch H a j ∨ a = 4 ∨ a = 5 ∨ (a = 0 ∧ (j = 0 ∨ j = 2 ∨ j = 3 ∨ j = 15 ∨ j = 16))) → I' a j = I a j
abbrev spX4_text : Sp := fun av T I L R uc us k => ∃ N : Nat, ∃ H : Nat, ∃ n : Nat, ∃ F : Ms, av = [.ref 0] ∧ T = TM ∧ R = RM ∧ I 0 2 = nI N ∧ N ≤ 600 ∧ I 0 15 = nI (1 - H) ∧ H < 2 ∧ (∀ w, w < 11 → L 9 w = wv w) ∧ rn (srt (I 1) N) (vl (I 1) N) n (5, 0, [], [], false, []) = F ∧ fnl F ∧ (∀ I' L', I' 0 2 = 0 → I' 0 0 = 0 → I' 0 15 = (if F.1 = 8 then nI H else nI (1 - H)) → (F.1 = 8 → linM H F.2.2.2.2.2 I' ∧ codM H (enc F.2.2.2.2.2) I' ∧ (enc F.2.2.2.2.2).length ≤ 600 ∧ F.2.2.2.2.2.length ≤ 16) → txF H I I' → (∀ a, a ≠ 6 → L' a = L a) → k (.inl (some (.int (flt (plc (I 1) N) F)))) T I' L' R uc us)
theorem eX4_text_57 : dj cX4_text 57 (.goto (-23)) (-23) 34 60 := ⟨by decide +kernel, by decide, rfl⟩
theorem eX4_text_34 : dc cX4_text 34 (.aload_n 0) 1 35 := ⟨by decide +kernel, rfl⟩
theorem eX4_text_35 : dc cX4_text 35 (.getfield 194) 3 38 := ⟨by decide +kernel, rfl⟩
theorem eX4_text_38 : dj cX4_text 38 (.ifCond .ne 22) 22 60 41 := ⟨by decide +kernel, by decide, rfl⟩
theorem eX4_text_60 : dc cX4_text 60 (.aload_n 0) 1 61 := ⟨by decide +kernel, rfl⟩
theorem eX4_text_61 : dc cX4_text 61 (.getfield 194) 3 64 := ⟨by decide +kernel, rfl⟩
theorem eX4_text_64 : dj cX4_text 64 (.ifCond .ne 11) 11 75 67 := ⟨by decide +kernel, by decide, rfl⟩
theorem eX4_text_75 : dc cX4_text 75 (.aload_n 0) 1 76 := ⟨by decide +kernel, rfl⟩
theorem eX4_text_76 : dc cX4_text 76 (.getfield 194) 3 79 := ⟨by decide +kernel, rfl⟩
theorem eX4_text_79 : dc cX4_text 79 (.ireturn) 1 80 := ⟨by decide +kernel, rfl⟩
theorem eX4_text_41 : dc cX4_text 41 (.aload_n 0) 1 42 := ⟨by decide +kernel, rfl⟩
theorem eX4_text_42 : dc cX4_text 42 (.getfield 24) 3 45 := ⟨by decide +kernel, rfl⟩
theorem eX4_text_45 : dc cX4_text 45 (.aload_n 0) 1 46 := ⟨by decide +kernel, rfl⟩
theorem eX4_text_46 : dc cX4_text 46 (.getfield 191) 3 49 := ⟨by decide +kernel, rfl⟩
theorem eX4_text_49 : dc cX4_text 49 (.iaload) 1 50 := ⟨by decide +kernel, rfl⟩
theorem eX4_text_50 : dj cX4_text 50 (.ifCond .eq 10) 10 60 53 := ⟨by decide +kernel, by decide, rfl⟩
theorem eX4_text_67 : dc cX4_text 67 (.aload_n 0) 1 68 := ⟨by decide +kernel, rfl⟩
theorem eX4_text_68 : dc cX4_text 68 (.aload_n 0) 1 69 := ⟨by decide +kernel, rfl⟩
theorem eX4_text_69 : dc cX4_text 69 (.getfield 210) 3 72 := ⟨by decide +kernel, rfl⟩
theorem eX4_text_72 : dc cX4_text 72 (.putfield 219) 3 75 := ⟨by decide +kernel, rfl⟩
theorem pflX4_219 {nm : String} : (FL RX4 219 3 15 ∧ FN 3 15) ∨ (FF RX4 219 3 15 ∧ nm = "<init>") := Or.inl ⟨flX4_219, fun C Tb N h => by cases h; rfl⟩
theorem eX4_text_53 : dc cX4_text 53 (.aload_n 0) 1 54 := ⟨by decide +kernel, rfl⟩
theorem eX4_text_54 : dc cX4_text 54 (.invokevirtual 222) 3 57 := ⟨by decide +kernel, rfl⟩
theorem pkX4_222 : PkV RX4 222 yX4_line (.code yX4_line cX4_line 4 none) 4 "BedBookModel" 0 := ⟨cwd_c, (lk q1436), Or.inl (lk q1433), (lk q1435), (lk qs27), ⟨⟨by decide, by decide⟩, by decide +kernel⟩, (lk q67), by decide⟩
theorem eX4_text_0 : dc cX4_text 0 (.aload_n 0) 1 1 := ⟨by decide +kernel, rfl⟩
theorem eX4_text_1 : dc cX4_text 1 (.iconst 0) 1 2 := ⟨by decide +kernel, rfl⟩
theorem eX4_text_2 : dc cX4_text 2 (.putfield 1) 3 5 := ⟨by decide +kernel, rfl⟩
theorem eX4_text_5 : dc cX4_text 5 (.aload_n 0) 1 6 := ⟨by decide +kernel, rfl⟩
theorem eX4_text_6 : dc cX4_text 6 (.invokevirtual 216) 3 9 := ⟨by decide +kernel, rfl⟩
theorem pkX4_216 : PkV RX4 216 yX4_cutAll (.code yX4_cutAll cX4_cutAll 7 none) 7 "BedBookModel" 0 := ⟨cwd_c, (lk q1417), Or.inl (lk q1414), (lk q1416), (lk qs26), ⟨⟨by decide, by decide⟩, by decide +kernel⟩, (lk q67), by decide⟩
theorem eX4_text_9 : dc cX4_text 9 (.aload_n 0) 1 10 := ⟨by decide +kernel, rfl⟩
theorem eX4_text_10 : dc cX4_text 10 (.iconst 1) 1 11 := ⟨by decide +kernel, rfl⟩
theorem eX4_text_11 : dc cX4_text 11 (.aload_n 0) 1 12 := ⟨by decide +kernel, rfl⟩
theorem eX4_text_12 : dc cX4_text 12 (.getfield 219) 3 15 := ⟨by decide +kernel, rfl⟩
theorem eX4_text_15 : dc cX4_text 15 (.isub) 1 16 := ⟨by decide +kernel, rfl⟩
theorem eX4_text_16 : dc cX4_text 16 (.putfield 210) 3 19 := ⟨by decide +kernel, rfl⟩
theorem pflX4_210 {nm : String} : (FL RX4 210 3 16 ∧ FN 3 16) ∨ (FF RX4 210 3 16 ∧ nm = "<init>") := Or.inl ⟨flX4_210, fun C Tb N h => by cases h; rfl⟩
theorem eX4_text_19 : dc cX4_text 19 (.aload_n 0) 1 20 := ⟨by decide +kernel, rfl⟩
theorem eX4_text_20 : dc cX4_text 20 (.getfield 59) 3 23 := ⟨by decide +kernel, rfl⟩
theorem eX4_text_23 : dc cX4_text 23 (.aload_n 0) 1 24 := ⟨by decide +kernel, rfl⟩
theorem eX4_text_24 : dc cX4_text 24 (.getfield 210) 3 27 := ⟨by decide +kernel, rfl⟩
theorem eX4_text_27 : dc cX4_text 27 (.iconst 0) 1 28 := ⟨by decide +kernel, rfl⟩
theorem eX4_text_28 : dc cX4_text 28 (.iastore) 1 29 := ⟨by decide +kernel, rfl⟩
theorem eX4_text_29 : dc cX4_text 29 (.aload_n 0) 1 30 := ⟨by decide +kernel, rfl⟩
theorem eX4_text_30 : dc cX4_text 30 (.iconst 0) 1 31 := ⟨by decide +kernel, rfl⟩
theorem eX4_text_31 : dc cX4_text 31 (.putfield 213) 3 34 := ⟨by decide +kernel, rfl⟩
set_option maxHeartbeats 8000000 in
theorem ctX4_text (l : Launch) : Ct l yX4_text (.code yX4_text cX4_text 1 (some .int)) 6 spX4_text := by
  refine Ct.of (own := RX4) (nm := "text") (by decide) rfl rfl ?_
  rintro X av T I L R uc us rfl g hN hu hz ⟨N, H, n, F, rfl, rfl, rfl, hN, hN6, h15, hH, hwd, hrn, hF, hk⟩
  refine VE.go (ls := [some (.ref 0)]) g hu hz (fun _ => rfl) (fun _ => Nat.le_of_ble_eq_true rfl) ?_
  have rest : ∀ (I' : It) (L' : Lt) (nt : Nat), nt ≤ N → (∀ j, j < nt → ¬ srt (I 1) N j = 0) → srt (I 1) N nt = 0 → tokM (srt (I 1) N) (plc (I 1) N) (vl (I 1) N) nt I' L' → I' 4 nt = 0 → I' 5 nt = nI N → I' 0 7 = 0 → I' 0 8 = 0 → I' 0 2 = 0 → cutF (u2 I 0 0 0) I' → (∀ a, a ≠ 6 → L' a = L a) → V X TM (u2 (u2 (u2 I' 0 16 (nI H)) 10 H 0) 0 17 0) L' RM uc us 34 [some (.ref 0)] [] := by
    intro I' L' nt h1 h2 h3 h4 h5 h6 h7 h8 h9 h10 h11
    generalize ht : I 1 = t at *
    generalize hI1 : u2 (u2 (u2 I' 0 16 (nI H)) 10 H 0) 0 17 0 = I1
    have hTK : TK (srt t N) (plc t N) (vl t N) nt H I1 L' := by
      refine ⟨fun j hj => ?_, fun j hj => (h4 j hj).2.2, h3, fun w hw => by rw [h11 9 (by decide)]; exact hwd w hw, by rw [← hI1]; simp [u2], hH, by omega⟩
      have e4 : I1 4 j = I' 4 j := by rw [← hI1]; simp [u2]
      have e5 : I1 5 j = I' 5 j := by rw [← hI1]; simp [u2]
      rw [e4, e5]
      refine ⟨?_, ?_, srt_lt, Nat.le_trans plc_le hN6⟩
      · rcases Nat.lt_or_ge j nt with z | z
        · exact (h4 j z).1
        · obtain rfl : j = nt := by omega
          rw [h5, h3]; rfl
      · rcases Nat.lt_or_ge j nt with z | z
        · exact (h4 j z).2.1
        · obtain rfl : j = nt := by omega
          rw [h6, srt_0.mp h3]
    have hPF : plc t N F.2.1 ≤ 600 := Nat.le_trans plc_le hN6
    have hfr : ∀ I3, rdF H I1 I3 → txF H I I3 := by
      intro I3 hr a j hq
      have q1 : ¬ tch H a j := fun z => hq (Or.inl z)
      rw [hr a j q1, ← hI1]
      unfold tch at q1
      rw [u2_n _ _ (by omega), u2_n _ _ (by omega), u2_n _ _ (by omega), h10 a j (by omega), u2_n _ _ (by omega)]
    have h0 : ∀ I3, rdF H I1 I3 → I3 0 2 = 0 ∧ I3 0 0 = 0 ∧ I3 0 15 = nI (1 - H) ∧ I3 0 16 = nI H := by
      intro I3 hr
      rw [hr 0 2 (by unfold tch; omega), hr 0 0 (by unfold tch; omega), hr 0 15 (by unfold tch; omega), hr 0 16 (by unfold tch; omega), ← hI1]
      refine ⟨by simp [u2, h9], ?_, ?_, by simp [u2]⟩
      · simp [u2]; rw [h10 0 0 (by omega)]; simp [u2]
      · simp [u2]; rw [h10 0 15 (by omega)]; simp [u2, h15]
    have bad : ∀ I3, (F.1 = 11 ∨ F.1 = 15) → I3 0 8 = flt (plc t N) F → rdF H I1 I3 → V X TM I3 L' RM uc us 57 [some (.ref 0)] [] := by
      intro I3 g1 g2 g3
      obtain ⟨z1, z2, z3, z4⟩ := h0 I3 g3
      refine V_goto g eX4_text_57 ?_
      refine V_aload_0 g eX4_text_34 ?_
      refine V_getI g eX4_text_35 flX4_194 rfl rfl ?_
      refine V_top (y := flt (plc t N) F) g2 ?_
      refine V_if_ne g eX4_text_38 (fun _ => ?_) (fun c_38 => absurd c_38 (flt_pos g1 hPF))
      refine V_aload_0 g eX4_text_60 ?_
      refine V_getI g eX4_text_61 flX4_194 rfl rfl ?_
      refine V_top (y := flt (plc t N) F) g2 ?_
      refine V_if_ne g eX4_text_64 (fun _ => ?_) (fun c_64 => absurd c_64 (flt_pos g1 hPF))
      refine V_aload_0 g eX4_text_75 ?_
      refine V_getI g eX4_text_76 flX4_194 rfl rfl ?_
      refine V_top (y := flt (plc t N) F) g2 ?_
      refine V_iret g eX4_text_79 ?_
      exact hk I3 L' z1 z2 (by rw [z3, if_neg (by omega)]) (fun q => by omega) (hfr I3 g3) h11
    have loop : ∀ (q m : Nat), m ≤ q → ∀ (I2 : It) (i : Nat) (b : Bool) (ls : List (Bool × List Cd)), PS nt H (5, i, [], [], b, ls) I2 → rdF H I1 I2 → rn (srt t N) (vl t N) m (5, i, [], [], b, ls) = F → V X TM I2 L' RM uc us 34 [some (.ref 0)] [] := by
      intro q
      induction q with
      | zero =>
        intro m hm I2 i b ls _ _ hrm
        obtain ⟨m1, h3, -⟩ := rn_pos hrm hF (by show 5 < 8; decide)
        omega
      | succ q ih =>
        intro m hm I2 i b ls hPS hr hrm
        have hi : i ≤ nt := hPS.1
        have hn6 : nt ≤ 600 := by omega
        have hat : I2 0 7 = nI i := hPS.2.1
        have h8 : I2 0 8 = 0 := hPS.2.2.1
        have hs4 : I2 4 i = nI (srt t N i) := by rw [hr 4 i (by unfold tch; omega)]; exact (hTK.1 i hi).1
        obtain ⟨z1, z2, z3, z4⟩ := h0 I2 hr
        have go : ∀ I3 m3 i3 b3 ls3, m3 < m → rn (srt t N) (vl t N) m3 (5, i3, [], [], b3, ls3) = F → PS nt H (5, i3, [], [], b3, ls3) I3 → rdF H I1 I3 → V X TM I3 L' RM uc us 57 [some (.ref 0)] [] := by
          intro I3 m3 i3 b3 ls3 g1 g2 g3 g4
          refine V_goto g eX4_text_57 ?_
          exact ih m3 (by omega) I3 i3 b3 ls3 g3 g4 g2
        refine V_aload_0 g eX4_text_34 ?_
        refine V_getI g eX4_text_35 flX4_194 rfl rfl ?_
        refine V_top (y := 0) h8 ?_
        refine V_if_ne g eX4_text_38 (fun c_38 => absurd c_38 (by decide)) (fun _ => ?_)
        refine V_aload_0 g eX4_text_41 ?_
        refine V_getR g eX4_text_42 flX4_24 rfl rfl rfl ?_
        refine V_aload_0 g eX4_text_45 ?_
        refine V_getI g eX4_text_46 flX4_191 rfl rfl ?_
        refine V_top (y := nI i) hat ?_
        refine V_ialdN g eX4_text_49 rfl (by omega) (by decide) ?_
        refine V_top (y := nI (srt t N i)) hs4 ?_
        refine V_if_eq g eX4_text_50 (fun c_50 => ?_) (fun c_50 => ?_)
        · have hS0 : srt t N i = 0 := nI_eq' (b := 0) (by have := srt_lt (t := t) (n := N) (i := i); omega) (by decide) c_50
          have hFF : F = (8, i, [], [], b, ls) := by obtain ⟨m1, rfl, hrm1⟩ := rn_pos hrm hF (by show 5 < 8; decide); have e1 : stp (srt t N) (vl t N) (5, i, [], [], b, ls) = (8, i, [], [], b, ls) := (by show (if _ then _ else _) = _; rw [if_pos hS0]); rw [e1, rn_fix (fun _ => rfl)] at hrm1; exact hrm1.symm
          refine V_aload_0 g eX4_text_60 ?_
          refine V_getI g eX4_text_61 flX4_194 rfl rfl ?_
          refine V_top (y := 0) h8 ?_
          refine V_if_ne g eX4_text_64 (fun c_64 => absurd c_64 (by decide)) (fun _ => ?_)
          refine V_aload_0 g eX4_text_67 ?_
          refine V_aload_0 g eX4_text_68 ?_
          refine V_getI g eX4_text_69 flX4_210 rfl rfl ?_
          refine V_top (y := nI H) z4 ?_
          refine V_putI g eX4_text_72 pflX4_219 rfl rfl rfl rfl ?_
          refine V_aload_0 g eX4_text_75 ?_
          refine V_getI g eX4_text_76 flX4_194 rfl rfl ?_
          refine V_top (y := 0) (by simp [u2, h8]) ?_
          refine V_iret g eX4_text_79 ?_
          have hk := hk (u2 I2 0 15 (nI H)) L' (by simp [u2, z1]) (by simp [u2, z2]) (by rw [hFF]; simp [u2]) (fun _ => ?_) ?_ h11
          · have e : flt (plc t N) F = 0 := by rw [hFF]; rfl
            rw [e] at hk
            exact hk
          · rw [hFF]
            refine ⟨linM_o hPS.2.2.2.2.2.1 (fun j => by simp [u2]) (fun j => by simp [u2]) (fun j => by simp [u2]), codM_o (C := enc ls) (by have := hPS.2.2.2.2.1; rw [List.append_nil] at this; exact this) (fun j => by simp [u2]) (fun j => by simp [u2]), ?_, hPS.2.2.2.2.2.2.1⟩
            have : (enc ls).length + 0 + 0 ≤ i := hPS.2.2.2.2.2.2.2.1
            show (enc ls).length ≤ 600
            omega
          · intro a j hq
            rw [u2_n _ _ (by omega)]
            exact hfr I2 hr a j hq
        · have hS0 : ¬ srt t N i = 0 := fun q => c_50 (by rw [q]; rfl)
          refine V_aload_0 g eX4_text_53 ?_
          refine V_cv0 g (ctX4_line _) eX4_text_54 pkX4_222 rfl rfl (by decide) (by decide) (Nat.le_of_ble_eq_true rfl) ?_
          refine ⟨srt t N, plc t N, vl t N, nt, H, I1, i, b, ls, m, F, rfl, rfl, rfl, hTK, hr, hPS, hS0, hrm, hF, hPF, fun I3 e g2 g3 => bad I3 e g2 g3, fun I3 m3 i3 b3 ls3 g1 g2 g3 g4 => ?_⟩
          exact go I3 m3 i3 b3 ls3 g1 g2 g3 g4
    refine loop n n (Nat.le_refl _) I1 0 false [] ?_ (rdF.refl _ _) hrn
    refine ⟨Nat.zero_le _, by rw [← hI1]; simp [u2, h7]; rfl, by rw [← hI1]; simp [u2, h8], by rw [← hI1]; simp [u2]; rfl, fun j a b hj => by simp [enc] at hj, ⟨by rw [← hI1]; simp [u2]; rfl, fun q b c hq => by simp at hq⟩, by show 0 ≤ 16; decide, by show 0 ≤ 0; decide, fun q => absurd q (by show ¬ 5 < 5; decide)⟩
  refine V_aload_0 g eX4_text_0 ?_
  refine V_iconst (v := 0) g eX4_text_1 (by decide) ?_
  refine V_putI g eX4_text_2 pflX4_1 rfl rfl rfl rfl ?_
  refine V_aload_0 g eX4_text_5 ?_
  refine V_cv0 g (ctX4_cutAll _) eX4_text_6 pkX4_216 rfl rfl (by decide) (by decide) (Nat.le_of_ble_eq_true rfl) ?_
  refine ⟨N, rfl, rfl, rfl, by simp [u2, hN], hN6, ?_⟩
  rw [show (u2 I 0 0 0) 1 = I 1 from u2_o _ _ (by decide)]
  intro I' L' nt h1 h2 h3 h4 h5 h6 h7 h8 h9 h10 h11
  refine V_aload_0 g eX4_text_9 ?_
  refine V_iconst (v := 1) g eX4_text_10 (by decide) ?_
  refine V_aload_0 g eX4_text_11 ?_
  refine V_getI g eX4_text_12 flX4_219 rfl rfl ?_
  refine V_top (y := nI (1 - H)) (by rw [h10 0 15 (by omega)]; simp [u2, h15]) ?_
  refine V_isubN (a := 1) g eX4_text_15 (by omega) ?_
  refine V_top (y := nI H) (by congr 1; omega) ?_
  refine V_putI g eX4_text_16 pflX4_210 rfl rfl rfl rfl ?_
  refine V_aload_0 g eX4_text_19 ?_
  refine V_getR g eX4_text_20 flX4_59 rfl rfl rfl ?_
  refine V_aload_0 g eX4_text_23 ?_
  refine V_getI g eX4_text_24 flX4_210 rfl rfl ?_
  refine V_top (y := nI H) (by simp [u2]) ?_
  refine V_iconst (v := 0) g eX4_text_27 (by decide) ?_
  refine V_iastN g eX4_text_28 rfl (by omega) (by decide) ?_
  refine V_aload_0 g eX4_text_29 ?_
  refine V_iconst (v := 0) g eX4_text_30 (by decide) ?_
  refine V_putI g eX4_text_31 pflX4_213 rfl rfl rfl rfl ?_
  exact rest I' L' nt h1 h2 h3 h4 h5 h6 h7 h8 h9 h10 h11

