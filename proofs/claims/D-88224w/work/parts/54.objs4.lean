/-! Row: how it grows (printed out of tmpl/t_objs4.txt) -/
set_option maxRecDepth 100000
/-- of the objects below uc only those of P may differ -/
def Kp (uc : Nat) (P : Nat → Prop) (T T' : Tt) (I I' : It) (L L' : Lt) (R R' : Rt) : Prop := (∀ x, x < uc → T' x = T x ∧ L' x = L x) ∧ ∀ x, x < uc → ¬ P x → I' x = I x ∧ R' x = R x
theorem Kp.refl (uc : Nat) (P : Nat → Prop) (T : Tt) (I : It) (L : Lt) (R : Rt) : Kp uc P T T I I L L R R := ⟨fun _ _ => ⟨rfl, rfl⟩, fun _ _ _ => ⟨rfl, rfl⟩⟩
theorem Kp.trans {uc uc' : Nat} {P Q S : Nat → Prop} {T T' T2 : Tt} {I I' I2 : It} {L L' L2 : Lt} {R R' R2 : Rt} (h : Kp uc P T T' I I' L L' R R') (h2 : Kp uc' Q T' T2 I' I2 L' L2 R' R2) (hu : uc ≤ uc') (hP : ∀ x, x < uc → P x → S x) (hQ : ∀ x, x < uc → Q x → S x) : Kp uc S T T2 I I2 L L2 R R2 := by
  refine ⟨fun x hx => ?_, fun x hx hS => ?_⟩
  · obtain ⟨a, b⟩ := h.1 x hx
    obtain ⟨c, d⟩ := h2.1 x (by omega)
    exact ⟨c.trans a, d.trans b⟩
  · obtain ⟨a, b⟩ := h.2 x hx fun q => hS (hP x hx q)
    obtain ⟨c, d⟩ := h2.2 x (by omega) fun q => hS (hQ x hx q)
    exact ⟨c.trans a, d.trans b⟩
/-- a row that may still grow: n signs -/
def RWo (T : Tt) (I : It) (R : Rt) (a l e cap s v cp n : Nat) (h f : Nat → Nat) : Prop := (T a).1 = 12 ∧ R a 0 = some l ∧ R a 1 = some s ∧ LSt T I R l e cap (n + 1) h ∧ SBt T I R s v cp n f ∧ cap ≤ 2 * n + 6 ∧ cp ≤ 2 * n + 4
theorem tg_ne {T : Tt} {a b : Nat} (h : (T a).1 ≠ (T b).1) : a ≠ b := fun e => h (by rw [e])
abbrev spX16_and : Sp := fun av T I L R uc us k => ∃ (a l e cap s v cp n y q : Nat) (h f : Nat → Nat), av = [.ref a, .int (nI q), .ref y] ∧ RWo T I R a l e cap s v cp n h f ∧ (T y).1 < 17 ∧ q < 128 ∧ n ≤ 1000 ∧ a < uc ∧ l < uc ∧ e < uc ∧ s < uc ∧ v < uc ∧ y < uc ∧ (∀ j, j ≤ n → h j < uc) ∧ uc + 2 ≤ 600000 ∧ us + 8 * n + 40 ≤ 7293034 ∧ (∀ T' I' L' R' uc' us' e' cap' v' cp', RWo T' I' R' a l e' cap' s v' cp' (n + 1) (upf h (n + 1) y) (upf f n q) → Kp uc (fun x => x = l ∨ x = e ∨ x = s ∨ x = v) T T' I I' L L' R R' → e' < uc' → v' < uc' → (e' = e ∨ uc ≤ e') → (v' = v ∨ uc ≤ v') → uc ≤ uc' → uc' ≤ uc + 2 → us ≤ us' → us' + 4 * cap + 2 * cp ≤ us + 4 * cap' + 2 * cp' → k (.inl (some (.ref a))) T' I' L' R' uc' us')
theorem eX16_and_17 : dc cX16_and 17 (.pop) 1 18 := ⟨by decide +kernel, rfl⟩
theorem eX16_and_18 : dc cX16_and 18 (.aload_n 0) 1 19 := ⟨by decide +kernel, rfl⟩
theorem eX16_and_19 : dc cX16_and 19 (.areturn) 1 20 := ⟨by decide +kernel, rfl⟩
theorem eX16_and_8 : dc cX16_and 8 (.pop) 1 9 := ⟨by decide +kernel, rfl⟩
theorem eX16_and_9 : dc cX16_and 9 (.aload_n 0) 1 10 := ⟨by decide +kernel, rfl⟩
theorem eX16_and_10 : dc cX16_and 10 (.getfield 12) 3 13 := ⟨by decide +kernel, rfl⟩
theorem eX16_and_13 : dc cX16_and 13 (.aload_n 2) 1 14 := ⟨by decide +kernel, rfl⟩
theorem eX16_and_14 : dc cX16_and 14 (.invokevirtual 25) 3 17 := ⟨by decide +kernel, rfl⟩
theorem eX16_and_0 : dc cX16_and 0 (.aload_n 0) 1 1 := ⟨by decide +kernel, rfl⟩
theorem eX16_and_1 : dc cX16_and 1 (.getfield 21) 3 4 := ⟨by decide +kernel, rfl⟩
theorem eX16_and_4 : dc cX16_and 4 (.iload_n 1) 1 5 := ⟨by decide +kernel, rfl⟩
theorem eX16_and_5 : dc cX16_and 5 (.invokevirtual 29) 3 8 := ⟨by decide +kernel, rfl⟩
theorem pkX16_29 : PkV RX16 29 yJ17_append (.code yJ17_append cJ17_append 2 (some (.object "java/lang/StringBuilder"))) 2 "java/lang/StringBuilder" 1 := ⟨cwd_c, (lk q951), Or.inl (lk q948), (lk q949), (lk q950), ⟨⟨by decide, by decide⟩, by decide +kernel⟩, (lk q95), by decide⟩
set_option maxHeartbeats 8000000 in
theorem ctX16_and (l : Launch) : Ct l yX16_and (.code yX16_and cX16_and 3 (some (.object "BedBook$Row"))) 8 spX16_and := by
  refine Ct.of (own := RX16) (nm := "and") (by decide) rfl rfl ?_
  rintro X av T I L R uc us rfl g hN hu hz ⟨a, l, e, cap, s, v, cp, n, y, q, h, f, rfl, ⟨hT, hRl, hRs, hL, hS, hcap, hcp⟩, hy, hq, hn, ba, bl, be, bs, bv, byy, bh, huc, hus, hk⟩
  refine VE.go (ls := [some (.ref a), some (.int (nI q)), some (.ref y)]) g hu hz (fun _ => rfl) (fun _ => Nat.le_of_ble_eq_true rfl) ?_
  have tl := hL.1
  have te : (T e).1 = 104 := by rw [hL.2.2.2.1]
  have ts := hS.1
  have tv : (T v).1 = 101 := by rw [hS.2.2.1]
  have nas : a ≠ s := tg_ne (by rw [hT, ts]; decide)
  have nav : a ≠ v := tg_ne (by rw [hT, tv]; decide)
  have nal : a ≠ l := tg_ne (by rw [hT, tl]; decide)
  have nae : a ≠ e := tg_ne (by rw [hT, te]; decide)
  have nls : l ≠ s := tg_ne (by rw [tl, ts]; decide)
  have nlv : l ≠ v := tg_ne (by rw [tl, tv]; decide)
  have nes : e ≠ s := tg_ne (by rw [te, ts]; decide)
  have nev : e ≠ v := tg_ne (by rw [te, tv]; decide)
  have t18 : ∀ (T2 : Tt) (I2 : It) (L2 : Lt) (R2 : Rt) (uc2 us2 : Nat), x_k X (.inl (some (.ref a))) T2 I2 L2 R2 uc2 us2 → V X T2 I2 L2 R2 uc2 us2 17 [some (.ref a), some (.int (nI q)), some (.ref y)] [.int 1] := by
    intro T2 I2 L2 R2 uc2 us2 hk
    refine V_pop g eX16_and_17 rfl ?_
    refine V_aload_0 g eX16_and_18 ?_
    refine V_aret g eX16_and_19 (Or.inl ⟨_, rfl⟩) (Or.inr ⟨_, rfl⟩) ?_
    exact hk
  have t8 : ∀ (T1 : Tt) (I1 : It) (L1 : Lt) (R1 : Rt) (uc1 us1 v1 cp1 : Nat), SBt T1 I1 R1 s v1 cp1 (n + 1) (upf f n q) → cp1 ≤ 2 * (n + 1) + 4 → Kp uc (fun x => x = s ∨ x = v) T T1 I I1 L L1 R R1 → R1 s 1 = R s 1 → v1 < uc1 → (v1 = v ∨ uc ≤ v1) → uc ≤ uc1 → uc1 ≤ uc + 1 → us ≤ us1 → us1 + 2 * cp ≤ us + 2 * cp1 → us1 ≤ us + 2 * cp + 2 → V X T1 I1 L1 R1 uc1 us1 8 [some (.ref a), some (.int (nI q)), some (.ref y)] [.ref s] := by
    intro T1 I1 L1 R1 uc1 us1 v1 cp1 g1 g2 g3 _ g4 g5 g6 g7 g8 g9 g10
    have fa := g3.2 a ba (fun z => z.elim nas nav)
    have fl := g3.2 l bl (fun z => z.elim nls nlv)
    have fe := g3.2 e be (fun z => z.elim nes nev)
    have hL1 : LSt T1 I1 R1 l e cap (n + 1) h := hL.keep (g3.1 l bl).1 fl.1 fl.2 (g3.1 e be).1 fe.2 (fun j hj => (g3.1 _ (bh j (by omega))).1)
    have hy1 : (T1 y).1 < 17 := by rw [(g3.1 y byy).1]; exact hy
    have tv1 : (T1 v1).1 = 101 := by rw [g1.2.2.1]
    have te1 : (T1 e).1 = 104 := by rw [hL1.2.2.2.1]
    have nlv1 : l ≠ v1 := tg_ne (T := T1) (by rw [hL1.1, tv1]; decide)
    have nev1 : e ≠ v1 := tg_ne (T := T1) (by rw [te1, tv1]; decide)
    have hgc : gcap cap ≤ 3 * n + 10 := by unfold gcap; omega
    refine V_pop g eX16_and_8 rfl ?_
    refine V_aload_0 g eX16_and_9 ?_
    refine V_getR g eX16_and_10 flX16_12 (by rw [(g3.1 a ba).1]; exact hT) rfl (by rw [fa.2]; exact hRl) ?_
    refine V_aload_2 g eX16_and_13 ?_
    refine V_cv1 g (ctJ2_add _) eX16_and_14 pkX16_25 hL1.1 rfl (by decide) (by decide) (Nat.le_of_ble_eq_true rfl) ?_
    refine ⟨l, e, cap, n + 1, y, h, rfl, hL1, hy1, by omega, by omega, fun hlt => ?_, fun heq h99 => ?_⟩
    · refine t18 _ _ _ _ _ _ (hk _ _ _ _ _ _ e cap v1 cp1 ⟨by rw [(g3.1 a ba).1]; exact hT, by rw [u2_o _ _ nae, fa.2]; exact hRl, by rw [u2_o _ _ nae, fa.2]; exact hRs, hL1.put hy1 hlt _, g1.keep rfl (by rw [u2_o _ _ nls.symm, u2_o _ _ nls.symm]) (u2_o _ _ nes.symm) rfl (by rw [u2_o _ _ nlv1.symm, u2_o _ _ nlv1.symm]), by omega, g2⟩ (Kp.trans (S := fun x => x = l ∨ x = e ∨ x = s ∨ x = v) g3 (Q := fun x => x = l ∨ x = e) ⟨fun x _ => ⟨rfl, rfl⟩, fun x _ hx => ⟨by rw [u2_o _ _ fun z => hx (Or.inl z), u2_o _ _ fun z => hx (Or.inl z)], u2_o _ _ fun z => hx (Or.inr z)⟩⟩ (Nat.le_refl _) (fun x _ z => Or.inr (Or.inr z)) (fun x _ z => z.elim Or.inl fun z => Or.inr (Or.inl z))) (by omega) g4 (Or.inl rfl) g5 g6 (by omega) g8 (by omega))
    subst heq
    have nl99 : l ≠ uc1 := by omega
    have na99 : a ≠ uc1 := by omega
    have ns99 : s ≠ uc1 := by omega
    have nv99 : v1 ≠ uc1 := by omega
    have hg2 : gcap (n + 1) ≤ 2 * (n + 1) + 6 := by unfold gcap; omega
    have hg3 : gcap (n + 1) + 4 * (n + 1) ≤ 4 * gcap (n + 1) := by unfold gcap; omega
    refine t18 _ _ _ _ _ _ (hk _ _ _ _ _ _ uc1 (gcap (n + 1)) v1 cp1 ⟨by rw [va_up_ne _ _ na99, (g3.1 a ba).1]; exact hT, by rw [u2_o _ _ na99, u2_o _ _ nal, va_up_ne _ _ na99, fa.2]; exact hRl, by rw [u2_o _ _ na99, u2_o _ _ nal, va_up_ne _ _ na99, fa.2]; exact hRs, hL1.gro hy1 h99 (by omega) _, g1.keep (va_up_ne _ _ ns99) (by rw [u2_o _ _ nls.symm, va_up_ne _ _ ns99, u2_o _ _ nls.symm]) (by rw [u2_o _ _ ns99, u2_o _ _ nls.symm, va_up_ne _ _ ns99]) (va_up_ne _ _ nv99) (by rw [u2_o _ _ nlv1.symm, va_up_ne _ _ nv99, u2_o _ _ nlv1.symm]), hg2, g2⟩ (Kp.trans (S := fun x => x = l ∨ x = e ∨ x = s ∨ x = v) g3 (uc' := uc1) (Q := fun x => x = l) ⟨fun x hx => ⟨va_up_ne _ _ (by omega), va_up_ne _ _ (by omega)⟩, fun x hx hxl => ⟨by rw [u2_o _ _ hxl, va_up_ne _ _ (by omega), u2_o _ _ hxl], by rw [u2_o _ _ (by omega), u2_o _ _ hxl, va_up_ne _ _ (by omega)]⟩⟩ (by omega) (fun x _ z => Or.inr (Or.inr z)) (fun x _ z => Or.inl z)) (by omega) (by omega) (Or.inr (by omega)) g5 (by omega) (by omega) (by omega) (by omega))
  refine V_aload_0 g eX16_and_0 ?_
  refine V_getR g eX16_and_1 flX16_21 hT rfl hRs ?_
  refine V_iload_1 g eX16_and_4 ?_
  refine V_cv1 g (ctJ17_append _) eX16_and_5 pkX16_29 ts rfl (by decide) (by decide) (Nat.le_of_ble_eq_true rfl) ?_
  refine ⟨s, v, cp, n, q, f, rfl, hS, hq, by omega, by omega, fun hlt => ?_, fun heq h99 => ?_⟩
  · exact t8 _ _ _ _ _ _ v cp (hS.app hq hlt) (by omega) ⟨fun x _ => ⟨rfl, rfl⟩, fun x _ hx => ⟨by rw [u2_o _ _ fun z => hx (Or.inr z), u2_o _ _ fun z => hx (Or.inl z)], rfl⟩⟩ rfl bv (Or.inl rfl) (Nat.le_refl _) (by omega) (Nat.le_refl _) (by omega) (by omega)
  subst heq
  have ns99 : s ≠ uc := by omega
  exact t8 _ _ _ _ _ _ uc (2 * n + 2) (hS.gro hq h99 (by omega)) (by omega) ⟨fun x hx => ⟨va_up_ne _ _ (by omega), va_up_ne _ _ (by omega)⟩, fun x hx hxs => ⟨by rw [u2_o _ _ (by omega), u2_o _ _ fun z => hxs (Or.inl z), va_up_ne _ _ (by omega)], by rw [u2_o _ _ fun z => hxs (Or.inl z), va_up_ne _ _ (by omega)]⟩⟩ (by rw [u2_n _ _ (by omega), va_up_ne _ _ ns99]) (by omega) (Or.inr (Nat.le_refl _)) (by omega) (Nat.le_refl _) (by omega) (by omega) (by omega)

