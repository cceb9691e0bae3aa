/-! Row: how it comes, how it grows (printed out of tmpl/t_objs3.txt) -/
set_option maxRecDepth 100000
abbrev spX16_init : Sp := fun av T I L R uc us k => ∃ (a y : Nat), av = [.ref a, .ref y] ∧ (T a).1 = 12 ∧ (T y).1 < 17 ∧ a < uc ∧ y < uc ∧ uc + 5 ≤ 600000 ∧ us + 16 ≤ 7293034 ∧ (∀ T' I' L' R', (∀ x, x < uc → x ≠ a → T' x = T x ∧ I' x = I x ∧ L' x = L x ∧ R' x = R x) → T' a = T a → I' a = I a → R' a 0 = some uc → R' a 1 = some (uc + 2) → LSt T' I' R' uc (uc + 1) 3 1 (fun _ => y) → SBt T' I' R' (uc + 2) (uc + 3) 2 0 (fun _ => 0) → k (.inl none) T' I' L' R' (uc + 4) (us + 12))
theorem eX16_init_28 : dc cX16_init 28 (.aload_n 0) 1 29 := ⟨by decide +kernel, rfl⟩
theorem eX16_init_29 : dc cX16_init 29 (.getfield 12) 3 32 := ⟨by decide +kernel, rfl⟩
theorem eX16_init_32 : dc cX16_init 32 (.aload_n 1) 1 33 := ⟨by decide +kernel, rfl⟩
theorem eX16_init_33 : dc cX16_init 33 (.invokevirtual 25) 3 36 := ⟨by decide +kernel, rfl⟩
theorem pkX16_25 : PkV RX16 25 yJ2_add (.code yJ2_add cJ2_add 2 (some .boolean)) 2 "java/util/ArrayList" 1 := ⟨cwd_c, (lk q360), Or.inl (lk q936), (lk q358), (lk q359), ⟨⟨by decide, by decide⟩, by decide +kernel⟩, (lk q64), by decide⟩
theorem eX16_init_36 : dc cX16_init 36 (.pop) 1 37 := ⟨by decide +kernel, rfl⟩
theorem eX16_init_37 : dc cX16_init 37 (.return_) 1 38 := ⟨by decide +kernel, rfl⟩
theorem eX16_init_0 : dc cX16_init 0 (.aload_n 0) 1 1 := ⟨by decide +kernel, rfl⟩
theorem eX16_init_1 : dc cX16_init 1 (.invokespecial 1) 3 4 := ⟨by decide +kernel, rfl⟩
theorem pkX16_1 : PkI RX16 1 yX13_init cX13_init 1 0 := ⟨(lk q879), Or.inr ⟨_, (lt_k q904 rfl)⟩, (lk q878), rfl, ⟨⟨by decide, by decide⟩, by decide +kernel⟩, (lk q90), by decide⟩
theorem eX16_init_4 : dc cX16_init 4 (.aload_n 0) 1 5 := ⟨by decide +kernel, rfl⟩
theorem eX16_init_5 : dc cX16_init 5 (.new 7) 3 8 := ⟨by decide +kernel, rfl⟩
theorem eX16_init_8 : dc cX16_init 8 (.dup) 1 9 := ⟨by decide +kernel, rfl⟩
theorem eX16_init_9 : dc cX16_init 9 (.iconst 3) 1 10 := ⟨by decide +kernel, rfl⟩
theorem eX16_init_10 : dc cX16_init 10 (.invokespecial 9) 3 13 := ⟨by decide +kernel, rfl⟩
theorem pkX16_9 : PkI RX16 9 yJ2_init cJ2_init 2 1 := ⟨(lk q109), Or.inl (lk q906), (lk q108), rfl, ⟨⟨by decide, by decide⟩, by decide +kernel⟩, (lk q64), by decide⟩
theorem eX16_init_13 : dc cX16_init 13 (.putfield 12) 3 16 := ⟨by decide +kernel, rfl⟩
theorem pflX16_12 : (FL RX16 12 12 0 ∧ FN 12 0) ∨ (FF RX16 12 12 0 ∧ "<init>" = "<init>") := Or.inr ⟨⟨_, _, _, rfl, by decide, by decide, (lk q937), rfl, rfl⟩, rfl⟩
theorem eX16_init_16 : dc cX16_init 16 (.aload_n 0) 1 17 := ⟨by decide +kernel, rfl⟩
theorem eX16_init_17 : dc cX16_init 17 (.new 18) 3 20 := ⟨by decide +kernel, rfl⟩
theorem eX16_init_20 : dc cX16_init 20 (.dup) 1 21 := ⟨by decide +kernel, rfl⟩
theorem eX16_init_21 : dc cX16_init 21 (.iconst 2) 1 22 := ⟨by decide +kernel, rfl⟩
theorem eX16_init_22 : dc cX16_init 22 (.invokespecial 20) 3 25 := ⟨by decide +kernel, rfl⟩
theorem pkX16_20 : PkI RX16 20 yJ17_init cJ17_init 2 1 := ⟨(lk q911), Or.inl (lk q909), (lk q910), rfl, ⟨⟨by decide, by decide⟩, by decide +kernel⟩, (lk q95), by decide⟩
theorem eX16_init_25 : dc cX16_init 25 (.putfield 21) 3 28 := ⟨by decide +kernel, rfl⟩
theorem pflX16_21 : (FL RX16 21 12 1 ∧ FN 12 1) ∨ (FF RX16 21 12 1 ∧ "<init>" = "<init>") := Or.inr ⟨⟨_, _, _, rfl, by decide, by decide, (lk q938), rfl, rfl⟩, rfl⟩
set_option maxHeartbeats 8000000 in
theorem ctX16_init (l : Launch) : Ct l yX16_init (.code yX16_init cX16_init 2 none) 8 spX16_init := by
  refine Ct.of (own := RX16) (nm := "<init>") (by decide) rfl rfl ?_
  rintro X av T I L R uc us rfl g hN hu hz ⟨a, y, rfl, hT, hy, ha, hyu, huc, hus, hk⟩
  refine VE.go (ls := [some (.ref a), some (.ref y)]) g hu hz (fun _ => rfl) (fun _ => Nat.le_of_ble_eq_true rfl) ?_
  have n0 : a ≠ uc := by omega
  have n1 : a ≠ uc + 1 := by omega
  have n2 : a ≠ uc + 2 := by omega
  have n3 : a ≠ uc + 3 := by omega
  have k2 : uc ≠ uc + 1 + 1 := by omega
  have k3 : uc ≠ uc + 1 + 1 + 1 := by omega
  have k2' : uc + 1 + 1 ≠ uc := by omega
  have k3' : uc + 1 + 1 + 1 ≠ uc := by omega
  have ka : ∀ i, uc + i ≠ a := fun i => by omega
  have kb : uc ≠ a := by omega
  have t28 : ∀ (T1 : Tt) (I1 : It) (L1 : Lt) (R1 : Rt) (us1 : Nat), us1 = us + 12 → (∀ x, x < uc → x ≠ a → T1 x = T x ∧ I1 x = I x ∧ L1 x = L x ∧ R1 x = R x) → T1 a = T a → I1 a = I a → R1 a 0 = some uc → R1 a 1 = some (uc + 2) → LSt T1 I1 R1 uc (uc + 1) 3 0 (fun _ => y) → SBt T1 I1 R1 (uc + 2) (uc + 3) 2 0 (fun _ => 0) → V X T1 I1 L1 R1 (uc + 4) us1 28 [some (.ref a), some (.ref y)] [] := by
    intro T1 I1 L1 R1 us1 e0 g1 g2 g3 g4 g5 g6 g7
    subst e0
    have hy1 : (T1 y).1 < 17 := by
      by_cases e : y = a
      · rw [e, g2, ← e]; exact hy
      · rw [(g1 y hyu e).1]; exact hy
    have fr : ∀ (I2 : It) (R2 : Rt), (∀ x, x ≠ uc → I2 x = I1 x) → (∀ x, x ≠ uc + 1 → R2 x = R1 x) → LSt T1 I2 R2 uc (uc + 1) 3 1 (fun _ => y) → x_k X (.inl none) T1 I2 L1 R2 (uc + 4) (us + 12) := by
      intro I2 R2 h1 h2 h3
      refine hk T1 I2 L1 R2 (fun x hx hxa => ?_) g2 (by rw [h1 _ n0]; exact g3) (by rw [h2 _ n1]; exact g4) (by rw [h2 _ n1]; exact g5) h3 ?_
      · obtain ⟨b1, b2, b3, b4⟩ := g1 x hx hxa
        exact ⟨b1, by rw [h1 x (by omega)]; exact b2, b3, by rw [h2 x (by omega)]; exact b4⟩
      · exact g7.keep rfl (h1 _ (by omega)) (h2 _ (by omega)) rfl (h1 _ (by omega))
    refine V_aload_0 g eX16_init_28 ?_
    refine V_getR g eX16_init_29 flX16_12 (by rw [g2]; exact hT) rfl g4 ?_
    refine V_aload_1 g eX16_init_32 ?_
    refine V_cv1 g (ctJ2_add _) eX16_init_33 pkX16_25 g6.1 rfl (by decide) (by decide) (Nat.le_of_ble_eq_true rfl) ?_
    refine ⟨uc, uc + 1, 3, 0, y, _, rfl, g6, hy1, by omega, by show us + 12 + 4 ≤ _; omega, fun hlt => ?_, fun heq => absurd heq (by decide)⟩
    refine V_pop g eX16_init_36 rfl ?_
    refine V_vret g eX16_init_37 ?_
    refine fr _ _ (fun x hx => by rw [u2_o _ _ hx, u2_o _ _ hx]) (fun x hx => u2_o _ _ hx) ?_
    have := g6.put hy1 (by decide) (I1 uc 0 + 1)
    rw [show upf (fun _ => y) 0 y = fun _ => y from funext fun j => by unfold upf; split <;> rfl] at this
    exact this
  refine V_aload_0 g eX16_init_0 ?_
  refine V_ci0 g (ctX13_init _) eX16_init_1 pkX16_1 (by decide) (Nat.le_of_ble_eq_true rfl) ?_
  refine ⟨a, rfl, ?_⟩
  refine V_aload_0 g eX16_init_4 ?_
  refine V_new (tg := 14) g eX16_init_5 rfl (by decide) (lk q905) (by omega) (by omega) (fun hd_5 => ?_)
  refine V_dup g eX16_init_8 rfl ?_
  refine V_iconst (v := nI 3) g eX16_init_9 (by decide) ?_
  refine V_ci1 g (ctJ2_init _) eX16_init_10 pkX16_9 (by decide) (Nat.le_of_ble_eq_true rfl) ?_
  refine ⟨uc, 3, rfl, by rw [va_up_self], by decide, by decide, by omega, by omega, fun h99 => ?_⟩
  refine V_putR (r := some _) g eX16_init_13 pflX16_12 (by simp [va_up, n0, n1, hT]) rfl rfl ?_
  refine V_aload_0 g eX16_init_16 ?_
  refine V_new (tg := 15) g eX16_init_17 rfl (by decide) (lk q907) (by omega) (by omega) (fun hd_17 => ?_)
  refine V_dup g eX16_init_20 rfl ?_
  refine V_iconst (v := nI 2) g eX16_init_21 (by decide) ?_
  refine V_ci1 g (ctJ17_init _) eX16_init_22 pkX16_20 (by decide) (Nat.le_of_ble_eq_true rfl) ?_
  refine ⟨uc + 2, 2, rfl, by rw [va_up_self], by decide, by omega, by omega, fun h99' => ?_⟩
  refine V_putR (r := some _) g eX16_init_25 pflX16_21 (by simp [va_up, n0, n1, n2, n3, hT]) rfl rfl ?_
  refine t28 _ _ _ _ _ (by omega) (fun x hx hxa => ?_) ?_ ?_ ?_ ?_ ?_ ?_
  · have m0 : x ≠ uc := by omega
    have m1 : x ≠ uc + 1 := by omega
    have m2 : x ≠ uc + 2 := by omega
    have m3 : x ≠ uc + 3 := by omega
    simp only [va_up_ne _ _ m0, va_up_ne _ _ m1, va_up_ne _ _ m2, va_up_ne _ _ m3, u2_o _ _ m0, u2_o _ _ m1, u2_o _ _ m2, u2_o _ _ m3, u2_o _ _ hxa, and_self]
  · simp only [va_up_ne _ _ n0, va_up_ne _ _ n1, va_up_ne _ _ n2, va_up_ne _ _ n3]
  · simp only [va_up_ne _ _ n0, va_up_ne _ _ n1, va_up_ne _ _ n2, va_up_ne _ _ n3, u2_o _ _ n0, u2_o _ _ n1, u2_o _ _ n2, u2_o _ _ n3]
  · simp [u2, va_up, n0, n1, n2, n3]
  · simp [u2, va_up, n0, n1, n2, n3]
  · refine ⟨by simp [va_up, k2, k3], by simp [u2, va_up, k2, k3]; rfl, by simp [u2, va_up, kb, ka, k2, k3], by simp [va_up, k2, k3], by decide, by decide, by decide, fun j hj => absurd hj (by omega), fun j hj => by simp [u2, va_up, kb, ka, k2, k3]⟩
  · refine ⟨by simp [va_up], by simp [u2, va_up, ka], by simp [va_up], by simp [u2, va_up], by simp [u2, va_up]; rfl, by decide, by decide, fun j hj => absurd hj (by omega), fun j hj => by simp [u2, va_up]⟩

