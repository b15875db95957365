/-- an element set -/
theorem Lst.setE {Γ : Gm} {h' : Hp} {a ea : Nat} {t : Tg} {ci n cap : Nat} {f : Nat → Nat} {g : Nat → Option Nat} {mo : Int32} {b i : Nat} (h1 : h' a = some (t, .inr (3, [.int mo, .ref ea, .int (nI n)]))) (h2 : h' ea = some ((t.1 + 1, t.2), aR Γ 4 cap (va_up g i (some b)))) (h3 : n ≤ cap) (h4 : 2 ≤ cap) (h5 : cap ≤ 64) (h6 : ∀ k, k < n → g k = some (f k)) (h7 : ∀ k, k < n → ∃ t' fs, h' (f k) = some (t', .inr (ci, fs))) (hb : ∃ t' fs, h' b = some (t', .inr (ci, fs))) (h8 : ∀ k, n ≤ k → g k = none) (hi : i < n) : Lst Γ h' a t ci n (va_up f i b) := by
  refine ⟨ea, cap, _, mo, h1, h2, h3, h4, h5, fun k hk => ?_, fun k hk => ?_, fun k hk => ?_⟩
  · by_cases c : k = i
    · rw [c, va_up_self, va_up_self]
    · rw [va_up_ne _ _ c, va_up_ne _ _ c]; exact h6 k hk
  · by_cases c : k = i
    · rw [c, va_up_self]; exact hb
    · rw [va_up_ne _ _ c]; exact h7 k hk
  · rw [va_up_ne _ _ (by omega)]; exact h8 k hk
set_option maxRecDepth 100000 in
theorem cc_set {l : Launch} {Γ : Gm} {A : Nat → Prop} {ρ : State → Prop} (B : Bc l Γ A ρ) {h : Hp} {a : Nat} {t : Tg} {ci n : Nat} {f : Nat → Nat} (hC : Cno ci) (L : Lst Γ h a t ci n f) {b : Nat} {tb : Tg} {fs : List Value} (eb : h b = some (tb, .inr (ci, fs))) (i : Nat) (hi : i < n) : CtE l Γ A ρ yJ2_set cJ2_set 4 (some (.object "java/lang/Object")) { frames := 2, cells := 0, slots := 0, locals := 43 } [.ref a, .int (nI i), .ref b] h (fun v h' => v = some (.ref (f i)) ∧ Lst Γ h' a t ci n (va_up f i b) ∧ Kp (TL t) h h') := by
  refine Ct.of B.1.1 B.1.2 (by decide) [some (.ref a), some (.int (nI i)), some (.ref b), none] (Nat.le_of_ble_eq_true rfl) rfl ?_
  intro E hE C R
  subst hE
  have SC_ := B.2 _ C.r
  obtain ⟨r, hr, hca, hne⟩ := hC
  obtain ⟨ea, cap, g, mo, h1, h2, h3, h4, h5, h6, h7, h8⟩ := id L
  refine g_iload_n C dJ2_set_0 rfl rfl ?_
  refine g_aload_n C dJ2_set_1 rfl rfl ?_
  refine c_get 3 2 k_J2 in_J2 (by decide) (fun _ h => h) q471 h1 rfl C dJ2_set_2 ?_
  refine h_callS (rest := []) 2 C (cc_chk B.1 _ _ (by omega) (by omega) _) (lw_S q944 q945 q118 q946) ⟨⟨by decide, by decide, by decide +kernel⟩, ⟨Nat.le_of_ble_eq_true rfl, Nat.le_of_ble_eq_true rfl⟩, ⟨Nat.le_of_ble_eq_true rfl, Nat.le_of_ble_eq_true rfl⟩⟩ (fun _ h => h) rfl rfl (Nat.le_of_ble_eq_true rfl) dJ2_set_5 (h_P ?_)
  refine g_pop C dJ2_set_8 rfl ?_
  refine g_aload_n C dJ2_set_9 rfl rfl ?_
  refine g_iload_n C dJ2_set_10 rfl rfl ?_
  refine h_callV (rest := []) 1 C (cc_elementData B L _ hi) (lw_V q948 q949 q950 q90 q951) ⟨⟨by decide, by decide, by decide +kernel⟩, ⟨Nat.le_of_ble_eq_true rfl, Nat.le_of_ble_eq_true rfl⟩, ⟨Nat.le_of_ble_eq_true rfl, Nat.le_of_ble_eq_true rfl⟩⟩ (fun _ h => h) (HP.recv C h1 k_J2) rfl rfl (Nat.le_of_ble_eq_true rfl) dJ2_set_11 (h_F ?_)
  refine g_astore_n (lv' := [some (.ref a), some (.int (nI i)), some (.ref b), some (.ref (f i))]) C dJ2_set_14 rfl (by decide) rfl ?_
  refine g_aload_n C dJ2_set_15 rfl rfl ?_
  refine c_get 3 1 k_J2 in_J2 (by decide) (fun _ h => h) q470 h1 rfl C dJ2_set_16 ?_
  refine g_iload_n C dJ2_set_19 rfl rfl ?_
  refine g_aload_n C dJ2_set_20 rfl rfl ?_
  refine c_aast 4 rfl (i := i) hr SC_ hca h2 eb (by omega) (by omega) C dJ2_set_21 ?_
  obtain ⟨hp1, ehp1⟩ : ∃ hh9 : Hp, hh9 = hset h ea (t.1 + 1, t.2) (aR Γ 4 cap (va_up g i (some b))) := ⟨_, rfl⟩
  refine g_heq (h' := hp1) ehp1.symm ?_
  have php1_a : hp1 a = some (t, .inr (3, [.int mo, .ref ea, .int (nI n)])) := by rw [ehp1]; exact hset_io h2 h1
  have php1_ea : hp1 ea = some ((t.1 + 1, t.2), aR Γ 4 cap (va_up g i (some b))) := by rw [ehp1]; exact hset_self _ _ _ _
  have php1_b : hp1 b = some (tb, .inr (ci, fs)) := by rw [ehp1]; exact hset_io h2 eb
  refine g_aload_n C dJ2_set_22 rfl rfl ?_
  exact g_aret C R (Or.inl ⟨_, rfl⟩) (Or.inr ⟨_, rfl⟩) (Nat.le_of_ble_eq_true rfl) (Nat.le_of_ble_eq_true rfl) dJ2_set_23 (fun H hH => ⟨hp1, ⟨rfl, Lst.setE php1_a php1_ea h3 h4 h5 h6 (Ko.el (show Ko _ h hp1 by rw [ehp1]; exact Ko.ar h2) h7) ⟨_, _, php1_b⟩ h8 hi, (show Kp _ h hp1 by rw [ehp1]; exact Kp.put h2 (Or.inr rfl))⟩, hH⟩)
set_option maxRecDepth 100000 in
theorem cc_clear {l : Launch} {Γ : Gm} {A : Nat → Prop} {ρ : State → Prop} (B : Bc l Γ A ρ) {h : Hp} {a : Nat} {t : Tg} {ci n : Nat} {f : Nat → Nat} (hne : ci ≠ 3) (L : Lst Γ h a t ci n f) : CtE l Γ A ρ yJ2_clear cJ2_clear 4 none { frames := 0, cells := 0, slots := 0, locals := 0 } [.ref a] h (fun v h' => v = none ∧ Lst Γ h' a t ci 0 f ∧ Kp (TL t) h h') := by
  refine Ct.of B.1.1 B.1.2 (by decide) [some (.ref a), none, none, none] (Nat.le_of_ble_eq_true rfl) rfl ?_
  intro E hE C R
  subst hE
  have SC_ := B.2 _ C.r
  obtain ⟨ea, cap, g, mo, h1, h2, h3, h4, h5, h6, h7, h8⟩ := id L
  refine g_aload_n C dJ2_clear_0 rfl rfl ?_
  refine g_dup C dJ2_clear_1 rfl ?_
  refine c_get 3 0 k_J2 in_J2 (by decide) (fun x9 h9 => u_same (C.ts _ q474) x9 h9) q473 h1 rfl C dJ2_clear_2 ?_
  refine g_iconst (v := 1) C dJ2_clear_5 rfl ?_
  refine g_iadd C dJ2_clear_6 ?_
  refine c_put 3 0 k_J2 in_J2 tyJ2 tyJ2_ok nmJ2 (by decide) (fun x9 h9 => u_same (C.ts _ q474) x9 h9) q473 rfl (ty := .int) (by decide +kernel) rfl rfl (Nat.le_of_ble_eq_true rfl) h1 C dJ2_clear_7 ?_
  obtain ⟨hp1, ehp1⟩ : ∃ hh9 : Hp, hh9 = hset h a t (.inr (3, [.int (mo + 1), .ref ea, .int (nI n)])) := ⟨_, rfl⟩
  refine g_heq (h' := hp1) ehp1.symm ?_
  have php1_a : hp1 a = some (t, .inr (3, [.int (mo + 1), .ref ea, .int (nI n)])) := by rw [ehp1]; exact hset_self _ _ _ _
  have php1_ea : hp1 ea = some ((t.1 + 1, t.2), aR Γ 4 cap g) := by rw [ehp1]; exact hset_oi h1 h2
  refine g_aload_n C dJ2_clear_10 rfl rfl ?_
  refine c_get 3 1 k_J2 in_J2 (by decide) (fun _ h => h) q470 php1_a rfl C dJ2_clear_11 ?_
  refine g_astore_n (lv' := [some (.ref a), some (.ref ea), none, none]) C dJ2_clear_14 rfl (by decide) rfl ?_
  refine g_aload_n C dJ2_clear_15 rfl rfl ?_
  refine c_get 3 2 k_J2 in_J2 (by decide) (fun _ h => h) q471 php1_a rfl C dJ2_clear_16 ?_
  refine g_istore_n (lv' := [some (.ref a), some (.ref ea), some (.int (nI n)), none]) C dJ2_clear_19 rfl (by decide) rfl ?_
  refine g_aload_n C dJ2_clear_20 rfl rfl ?_
  refine g_iconst (v := 0) C dJ2_clear_21 rfl ?_
  refine g_dup_x1 C dJ2_clear_22 rfl rfl ?_
  refine c_put 3 2 k_J2 in_J2 tyJ2 tyJ2_ok nmJ2 (by decide) (fun _ h => h) q471 rfl (ty := .int) (by decide +kernel) rfl rfl (Nat.le_of_ble_eq_true rfl) php1_a C dJ2_clear_23 ?_
  obtain ⟨hp2, ehp2⟩ : ∃ hh9 : Hp, hh9 = hset hp1 a t (.inr (3, [.int (mo + 1), .ref ea, .int 0])) := ⟨_, rfl⟩
  refine g_heq (h' := hp2) ehp2.symm ?_
  have php2_a : hp2 a = some (t, .inr (3, [.int (mo + 1), .ref ea, .int 0])) := by rw [ehp2]; exact hset_self _ _ _ _
  have php2_ea : hp2 ea = some ((t.1 + 1, t.2), aR Γ 4 cap g) := by rw [ehp2]; exact hset_oi php1_a php1_ea
  refine g_istore_n (lv' := [some (.ref a), some (.ref ea), some (.int (nI n)), some (.int 0)]) C dJ2_clear_26 rfl (by decide) rfl ?_
  have key : ∀ (j k : Nat) (hk : Hp) (gk : Nat → Option Nat), k + j = n → hk a = some (t, .inr (3, [.int (mo + 1), .ref ea, .int 0])) → hk ea = some ((t.1 + 1, t.2), aR Γ 4 cap gk) → (∀ i, i < k → gk i = none) → (∀ i, n ≤ i → gk i = none) → Kp (TL t) h hk → G E (HP Γ A hk) 0 0 27 [some (.ref a), some (.ref ea), some (.int (nI n)), some (.int (nI k))] [] := by
    intro j
    induction j with
    | zero =>
      intro k hk gk ej pk1 pk2 z1 z2 K
      refine g_iload_n C dJ2_clear_27 rfl rfl ?_
      refine g_iload_n C dJ2_clear_28 rfl rfl ?_
      refine gN_ge (a := k) (b := n) 42 C dJ2_clear_29 rfl (by omega) (by omega) (fun c29 => ?_) (fun c29 => ?_)
      · exact g_vret C R (Nat.le_of_ble_eq_true rfl) (Nat.le_of_ble_eq_true rfl) dJ2_clear_42 (fun H hH => ⟨hk, ⟨rfl, ⟨ea, cap, gk, mo + 1, pk1, pk2, Nat.zero_le _, h4, h5, fun k hk => absurd hk (Nat.not_lt_zero _), fun k hk => absurd hk (Nat.not_lt_zero _), fun i _ => if ci : i < k then z1 i ci else z2 i (by omega)⟩, K⟩, hH⟩)
      · exfalso; omega
    | succ j ih =>
      intro k hk gk ej pk1 pk2 z1 z2 K
      refine g_iload_n C dJ2_clear_27 rfl rfl ?_
      refine g_iload_n C dJ2_clear_28 rfl rfl ?_
      refine gN_ge (a := k) (b := n) 42 C dJ2_clear_29 rfl (by omega) (by omega) (fun c29 => ?_) (fun c29 => ?_)
      · exfalso; omega
      · refine g_aload_n C dJ2_clear_32 rfl rfl ?_
        refine g_iload_n C dJ2_clear_33 rfl rfl ?_
        refine g_null C dJ2_clear_34 ?_
        refine c_aastN 4 rfl (i := k) pk2 (by omega) (by omega) C dJ2_clear_35 ?_
        obtain ⟨hp1, ehp1⟩ : ∃ hh9 : Hp, hh9 = hset hk ea (t.1 + 1, t.2) (aR Γ 4 cap (va_up gk k none)) := ⟨_, rfl⟩
        refine g_heq (h' := hp1) ehp1.symm ?_
        have php1_a : hp1 a = some (t, .inr (3, [.int (mo + 1), .ref ea, .int 0])) := by rw [ehp1]; exact hset_io pk2 pk1
        have php1_ea : hp1 ea = some ((t.1 + 1, t.2), aR Γ 4 cap (va_up gk k none)) := by rw [ehp1]; exact hset_self _ _ _ _
        refine g_inc1 (x := k) (lv' := [some (.ref a), some (.ref ea), some (.int (nI n)), some (.int (nI (k + 1)))]) C dJ2_clear_36 rfl (by decide) rfl ?_
        refine g_goto 27 C dJ2_clear_39 rfl ?_
        refine ih (k + 1) hp1 _ (by omega) php1_a php1_ea (fun i hi => ?_) (fun i hi => ?_) (K.tr (show Kp _ hk hp1 by rw [ehp1]; exact Kp.put pk2 (Or.inr rfl)))
        · by_cases c : i = k
          · rw [c, va_up_self]
          · rw [va_up_ne _ _ c]; exact z1 i (by omega)
        · rw [va_up_ne _ _ (by omega)]; exact z2 i hi
  exact key n 0 hp2 g (by omega) php2_a php2_ea (fun i hi => absurd hi (Nat.not_lt_zero _)) h8 (Kp.tr (show Kp _ h hp1 by rw [ehp1]; exact Kp.put h1 (Or.inl rfl)) (show Kp _ hp1 hp2 by rw [ehp2]; exact Kp.put php1_a (Or.inl rfl)))
