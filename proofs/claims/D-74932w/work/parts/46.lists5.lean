/-- a list's elements less the one at i -/
def rmF (f : Nat → Nat) (i : Nat) : Nat → Nat := fun k => if k < i then f k else f (k + 1)
theorem Lst.rmE {Γ : Gm} {h' : Hp} {a ea : Nat} {t : Tg} {ci m cap : Nat} {f : Nat → Nat} {g g' : Nat → Option Nat} {mo : Int32} {i : Nat} (h1 : h' a = some (t, .inr (3, [.int mo, .ref ea, .int (nI m)]))) (h2 : h' ea = some ((t.1 + 1, t.2), aR Γ 4 cap (va_up g' m none))) (h3 : m + 1 ≤ cap) (h4 : 2 ≤ cap) (h5 : cap ≤ 64) (h6 : ∀ k, k < m + 1 → g k = some (f k)) (h7 : ∀ k, k < m + 1 → ∃ t' fs, h' (f k) = some (t', .inr (ci, fs))) (h8 : ∀ k, m + 1 ≤ k → g k = none) (hi : i < m + 1) (hg : ∀ k, g' k = if i ≤ k ∧ k < m then g (k + 1) else g k) : Lst Γ h' a t ci m (rmF f i) := by
  refine ⟨ea, cap, _, mo, h1, h2, by omega, h4, h5, fun k hk => ?_, fun k hk => ?_, fun k hk => ?_⟩
  · rw [va_up_ne _ _ (by omega), hg]
    unfold rmF
    by_cases c : k < i
    · rw [if_pos c, if_neg (by omega)]; exact h6 k (by omega)
    · rw [if_neg c, if_pos (by omega)]; exact h6 (k + 1) (by omega)
  · unfold rmF
    split
    · exact h7 k (by omega)
    · exact h7 (k + 1) (by omega)
  · by_cases c : k = m
    · rw [c, va_up_self]
    · rw [va_up_ne _ _ c, hg, if_neg (by omega)]; exact h8 k (by omega)
theorem cpy_rm (g : Nat → Option Nat) (m i : Nat) (hi : i < m + 1) (k : Nat) : va_cpy g g (i + 1) i (m - i) k = if i ≤ k ∧ k < m then g (k + 1) else g k := by
  unfold va_cpy
  by_cases c : i ≤ k ∧ k < m
  · rw [if_pos c, if_pos (by omega)]
    congr 1; omega
  · rw [if_neg c, if_neg (by omega)]
set_option maxRecDepth 100000 in
theorem cc_fastRemove {l : Launch} {Γ : Gm} {A : Nat → Prop} {ρ : State → Prop} (B : Bc l Γ A ρ) {h : Hp} {a : Nat} {t : Tg} {ci m : Nat} {f : Nat → Nat} (hC : Cno ci) {ea cap : Nat} {g : Nat → Option Nat} {mo : Int32} (h1 : h a = some (t, .inr (3, [.int mo, .ref ea, .int (nI (m + 1))]))) (h2 : h ea = some ((t.1 + 1, t.2), aR Γ 4 cap g)) (h3 : m + 1 ≤ cap) (h4 : 2 ≤ cap) (h5 : cap ≤ 64) (h6 : ∀ k, k < m + 1 → g k = some (f k)) (h7 : ∀ k, k < m + 1 → ∃ t fs, h (f k) = some (t, .inr (ci, fs))) (h8 : ∀ k, m + 1 ≤ k → g k = none) (i : Nat) (hi : i < m + 1) : CtE l Γ A ρ yJ2_fastRemove cJ2_fastRemove 4 none { frames := 1, cells := 0, slots := 0, locals := 40 } [.ref a, .ref ea, .int (nI i)] h (fun v h' => v = none ∧ Lst Γ h' a t ci m (rmF f i) ∧ Kp (TL t) h h') := by
  refine Ct.of B.1.1 B.1.2 (by decide) [some (.ref a), some (.ref ea), some (.int (nI i)), none] (Nat.le_of_ble_eq_true rfl) rfl ?_
  intro E hE C R
  subst hE
  have SC_ := B.2 _ C.r
  obtain ⟨r, hr, hca, hne⟩ := hC
  refine g_aload_n C dJ2_fastRemove_0 rfl rfl ?_
  refine g_dup C dJ2_fastRemove_1 rfl ?_
  refine c_get 3 0 k_J2 in_J2 (by decide) (fun x9 h9 => u_same (C.ts _ q474) x9 h9) q473 h1 rfl C dJ2_fastRemove_2 ?_
  refine g_iconst (v := 1) C dJ2_fastRemove_5 rfl ?_
  refine g_iadd C dJ2_fastRemove_6 ?_
  refine c_put 3 0 k_J2 in_J2 tyJ2 tyJ2_ok nmJ2 (by decide) (fun x9 h9 => u_same (C.ts _ q474) x9 h9) q473 rfl (ty := .int) (by decide +kernel) rfl rfl (Nat.le_of_ble_eq_true rfl) h1 C dJ2_fastRemove_7 ?_
  obtain ⟨hp1, ehp1⟩ : ∃ hh9 : Hp, hh9 = hset h a t (.inr (3, [.int (mo + 1), .ref ea, .int (nI (m + 1))])) := ⟨_, rfl⟩
  refine g_heq (h' := hp1) ehp1.symm ?_
  have php1_a : hp1 a = some (t, .inr (3, [.int (mo + 1), .ref ea, .int (nI (m + 1))])) := by rw [ehp1]; exact hset_self _ _ _ _
  have php1_ea : hp1 ea = some ((t.1 + 1, t.2), aR Γ 4 cap g) := by rw [ehp1]; exact hset_oi h1 h2
  refine g_aload_n C dJ2_fastRemove_10 rfl rfl ?_
  refine c_get 3 2 k_J2 in_J2 (by decide) (fun _ h => h) q471 php1_a rfl C dJ2_fastRemove_11 ?_
  refine g_iconst (v := 1) C dJ2_fastRemove_14 rfl ?_
  refine g_isub C dJ2_fastRemove_15 ?_
  refine g_topi (y := nI ((m + 1) - 1)) (pk_sub (a := m + 1) (b := 1) (by omega)) ?_
  refine g_topi (y := nI m) (rfl) ?_
  refine g_dup C dJ2_fastRemove_16 rfl ?_
  refine g_istore_n (lv' := [some (.ref a), some (.ref ea), some (.int (nI i)), some (.int (nI m))]) C dJ2_fastRemove_17 rfl (by decide) rfl ?_
  refine g_iload_n C dJ2_fastRemove_18 rfl rfl ?_
  refine gN_le (a := m) (b := i) 34 C dJ2_fastRemove_19 rfl (by omega) (by omega) (fun c19 => ?_) (fun c19 => ?_)
  · refine g_aload_n C dJ2_fastRemove_34 rfl rfl ?_
    refine g_aload_n C dJ2_fastRemove_35 rfl rfl ?_
    refine g_iload_n C dJ2_fastRemove_36 rfl rfl ?_
    refine g_dup_x1 C dJ2_fastRemove_37 rfl rfl ?_
    refine c_put 3 2 k_J2 in_J2 tyJ2 tyJ2_ok nmJ2 (by decide) (fun _ h => h) q471 rfl (ty := .int) (by decide +kernel) rfl rfl (Nat.le_of_ble_eq_true rfl) php1_a C dJ2_fastRemove_38 ?_
    obtain ⟨hp2, ehp2⟩ : ∃ hh9 : Hp, hh9 = hset hp1 a t (.inr (3, [.int (mo + 1), .ref ea, .int (nI m)])) := ⟨_, rfl⟩
    refine g_heq (h' := hp2) ehp2.symm ?_
    have php2_a : hp2 a = some (t, .inr (3, [.int (mo + 1), .ref ea, .int (nI m)])) := by rw [ehp2]; exact hset_self _ _ _ _
    have php2_ea : hp2 ea = some ((t.1 + 1, t.2), aR Γ 4 cap g) := by rw [ehp2]; exact hset_oi php1_a php1_ea
    refine g_null C dJ2_fastRemove_41 ?_
    refine c_aastN 4 rfl (i := m) php2_ea (by omega) (by omega) C dJ2_fastRemove_42 ?_
    obtain ⟨hp3, ehp3⟩ : ∃ hh9 : Hp, hh9 = hset hp2 ea (t.1 + 1, t.2) (aR Γ 4 cap (va_up g m none)) := ⟨_, rfl⟩
    refine g_heq (h' := hp3) ehp3.symm ?_
    have php3_a : hp3 a = some (t, .inr (3, [.int (mo + 1), .ref ea, .int (nI m)])) := by rw [ehp3]; exact hset_io php2_ea php2_a
    have php3_ea : hp3 ea = some ((t.1 + 1, t.2), aR Γ 4 cap (va_up g m none)) := by rw [ehp3]; exact hset_self _ _ _ _
    exact g_vret C R (Nat.le_of_ble_eq_true rfl) (Nat.le_of_ble_eq_true rfl) dJ2_fastRemove_43 (fun H hH => ⟨hp3, ⟨rfl, Lst.rmE php3_a php3_ea h3 h4 h5 h6 (Ko.el (Ko.tr (Ko.tr (show Ko _ h hp1 by rw [ehp1]; exact Ko.oc (hne) h1) (show Ko _ hp1 hp2 by rw [ehp2]; exact Ko.oc (hne) php1_a)) (show Ko _ hp2 hp3 by rw [ehp3]; exact Ko.ar php2_ea)) h7) h8 hi (fun k => by rw [if_neg (by omega)]), (Kp.tr (Kp.tr (show Kp _ h hp1 by rw [ehp1]; exact Kp.put h1 (Or.inl rfl)) (show Kp _ hp1 hp2 by rw [ehp2]; exact Kp.put php1_a (Or.inl rfl))) (show Kp _ hp2 hp3 by rw [ehp3]; exact Kp.put php2_ea (Or.inr rfl)))⟩, hH⟩)
  · refine g_aload_n C dJ2_fastRemove_22 rfl rfl ?_
    refine g_iload_n C dJ2_fastRemove_23 rfl rfl ?_
    refine g_iconst (v := 1) C dJ2_fastRemove_24 rfl ?_
    refine g_iadd C dJ2_fastRemove_25 ?_
    refine g_topi (y := nI (i + 1)) (nI_add i 1) ?_
    refine g_aload_n C dJ2_fastRemove_26 rfl rfl ?_
    refine g_iload_n C dJ2_fastRemove_27 rfl rfl ?_
    refine g_iload_n C dJ2_fastRemove_28 rfl rfl ?_
    refine g_iload_n C dJ2_fastRemove_29 rfl rfl ?_
    refine g_isub C dJ2_fastRemove_30 ?_
    refine g_topi (y := nI (m - i)) (pk_sub (a := m) (b := i) (by omega)) ?_
    refine c_copyq (sp := i + 1) (dp := i) (n := m - i) hr hca SC_ q1081 php1_ea php1_ea (by omega) (by omega) ⟨by omega, by omega⟩ (fun k hk y hy => by rw [h6 (i + 1 + k) (by omega)] at hy; cases hy; obtain ⟨t8, fs8, e8⟩ := h7 (i + 1 + k) (by omega); exact ⟨t8, fs8, by rw [ehp1]; exact hset_oc hne h1 e8⟩) ⟨Nat.le_of_ble_eq_true rfl, Nat.le_of_ble_eq_true rfl⟩ (Nat.le_of_ble_eq_true rfl) C dJ2_fastRemove_31 ?_
    obtain ⟨hp2, ehp2⟩ : ∃ hh9 : Hp, hh9 = hset hp1 ea (t.1 + 1, t.2) (aR Γ 4 cap (va_cpy g g (i + 1) i (m - i))) := ⟨_, rfl⟩
    refine g_heq (h' := hp2) ehp2.symm ?_
    have php2_a : hp2 a = some (t, .inr (3, [.int (mo + 1), .ref ea, .int (nI (m + 1))])) := by rw [ehp2]; exact hset_io php1_ea php1_a
    have php2_ea : hp2 ea = some ((t.1 + 1, t.2), aR Γ 4 cap (va_cpy g g (i + 1) i (m - i))) := by rw [ehp2]; exact hset_self _ _ _ _
    refine g_aload_n C dJ2_fastRemove_34 rfl rfl ?_
    refine g_aload_n C dJ2_fastRemove_35 rfl rfl ?_
    refine g_iload_n C dJ2_fastRemove_36 rfl rfl ?_
    refine g_dup_x1 C dJ2_fastRemove_37 rfl rfl ?_
    refine c_put 3 2 k_J2 in_J2 tyJ2 tyJ2_ok nmJ2 (by decide) (fun _ h => h) q471 rfl (ty := .int) (by decide +kernel) rfl rfl (Nat.le_of_ble_eq_true rfl) php2_a C dJ2_fastRemove_38 ?_
    obtain ⟨hp3, ehp3⟩ : ∃ hh9 : Hp, hh9 = hset hp2 a t (.inr (3, [.int (mo + 1), .ref ea, .int (nI m)])) := ⟨_, rfl⟩
    refine g_heq (h' := hp3) ehp3.symm ?_
    have php3_a : hp3 a = some (t, .inr (3, [.int (mo + 1), .ref ea, .int (nI m)])) := by rw [ehp3]; exact hset_self _ _ _ _
    have php3_ea : hp3 ea = some ((t.1 + 1, t.2), aR Γ 4 cap (va_cpy g g (i + 1) i (m - i))) := by rw [ehp3]; exact hset_oi php2_a php2_ea
    refine g_null C dJ2_fastRemove_41 ?_
    refine c_aastN 4 rfl (i := m) php3_ea (by omega) (by omega) C dJ2_fastRemove_42 ?_
    obtain ⟨hp4, ehp4⟩ : ∃ hh9 : Hp, hh9 = hset hp3 ea (t.1 + 1, t.2) (aR Γ 4 cap (va_up (va_cpy g g (i + 1) i (m - i)) m none)) := ⟨_, rfl⟩
    refine g_heq (h' := hp4) ehp4.symm ?_
    have php4_a : hp4 a = some (t, .inr (3, [.int (mo + 1), .ref ea, .int (nI m)])) := by rw [ehp4]; exact hset_io php3_ea php3_a
    have php4_ea : hp4 ea = some ((t.1 + 1, t.2), aR Γ 4 cap (va_up (va_cpy g g (i + 1) i (m - i)) m none)) := by rw [ehp4]; exact hset_self _ _ _ _
    exact g_vret C R (Nat.le_of_ble_eq_true rfl) (Nat.le_of_ble_eq_true rfl) dJ2_fastRemove_43 (fun H hH => ⟨hp4, ⟨rfl, Lst.rmE php4_a php4_ea h3 h4 h5 h6 (Ko.el (Ko.tr (Ko.tr (Ko.tr (show Ko _ h hp1 by rw [ehp1]; exact Ko.oc (hne) h1) (show Ko _ hp1 hp2 by rw [ehp2]; exact Ko.ar php1_ea)) (show Ko _ hp2 hp3 by rw [ehp3]; exact Ko.oc (hne) php2_a)) (show Ko _ hp3 hp4 by rw [ehp4]; exact Ko.ar php3_ea)) h7) h8 hi (cpy_rm g m i hi), (Kp.tr (Kp.tr (Kp.tr (show Kp _ h hp1 by rw [ehp1]; exact Kp.put h1 (Or.inl rfl)) (show Kp _ hp1 hp2 by rw [ehp2]; exact Kp.put php1_ea (Or.inr rfl))) (show Kp _ hp2 hp3 by rw [ehp3]; exact Kp.put php2_a (Or.inl rfl))) (show Kp _ hp3 hp4 by rw [ehp4]; exact Kp.put php3_ea (Or.inr rfl)))⟩, hH⟩)
set_option maxRecDepth 100000 in
theorem cc_remove {l : Launch} {Γ : Gm} {A : Nat → Prop} {ρ : State → Prop} (B : Bc l Γ A ρ) {h : Hp} {a : Nat} {t : Tg} {ci m : Nat} {f : Nat → Nat} (hC : Cno ci) (L : Lst Γ h a t ci (m + 1) f) (i : Nat) (hi : i < m + 1) : CtE l Γ A ρ yJ2_remove cJ2_remove 4 (some (.object "java/lang/Object")) { frames := 2, cells := 0, slots := 0, locals := 63 } [.ref a, .int (nI i)] h (fun v h' => v = some (.ref (f i)) ∧ Lst Γ h' a t ci m (rmF f i) ∧ Kp (TL t) h h') := by
  refine Ct.of B.1.1 B.1.2 (by decide) [some (.ref a), some (.int (nI i)), none, none] (Nat.le_of_ble_eq_true rfl) rfl ?_
  intro E hE C R
  subst hE
  have SC_ := B.2 _ C.r
  obtain ⟨ea, cap, g, mo, h1, h2, h3, h4, h5, h6, h7, h8⟩ := id L
  refine g_iload_n C dJ2_remove_0 rfl rfl ?_
  refine g_aload_n C dJ2_remove_1 rfl rfl ?_
  refine c_get 3 2 k_J2 in_J2 (by decide) (fun _ h => h) q471 h1 rfl C dJ2_remove_2 ?_
  refine h_callS (rest := []) 2 C (cc_chk B.1 _ _ (by omega) (by omega) _) (lw_S q944 q945 q118 q946) ⟨⟨by decide, by decide, by decide +kernel⟩, ⟨Nat.le_of_ble_eq_true rfl, Nat.le_of_ble_eq_true rfl⟩, ⟨Nat.le_of_ble_eq_true rfl, Nat.le_of_ble_eq_true rfl⟩⟩ (fun _ h => h) rfl rfl (Nat.le_of_ble_eq_true rfl) dJ2_remove_5 (h_P ?_)
  refine g_pop C dJ2_remove_8 rfl ?_
  refine g_aload_n C dJ2_remove_9 rfl rfl ?_
  refine c_get 3 1 k_J2 in_J2 (by decide) (fun _ h => h) q470 h1 rfl C dJ2_remove_10 ?_
  refine g_astore_n (lv' := [some (.ref a), some (.int (nI i)), some (.ref ea), none]) C dJ2_remove_13 rfl (by decide) rfl ?_
  refine g_aload_n C dJ2_remove_14 rfl rfl ?_
  refine g_iload_n C dJ2_remove_15 rfl rfl ?_
  refine c_aald 4 rfl (i := i) (v := .ref (f i)) (by rw [h6 i hi]; rfl) h2 (by omega) (by omega) C dJ2_remove_16 ?_
  refine g_astore_n (lv' := [some (.ref a), some (.int (nI i)), some (.ref ea), some (.ref (f i))]) C dJ2_remove_17 rfl (by decide) rfl ?_
  refine g_aload_n C dJ2_remove_18 rfl rfl ?_
  refine g_aload_n C dJ2_remove_19 rfl rfl ?_
  refine g_iload_n C dJ2_remove_20 rfl rfl ?_
  refine h_callV (rest := []) 2 C (cc_fastRemove B hC h1 h2 h3 h4 h5 h6 h7 h8 i hi) (lw_V q1077 q1079 qs20 q90 q1080) ⟨⟨by decide, by decide, by decide +kernel⟩, ⟨Nat.le_of_ble_eq_true rfl, Nat.le_of_ble_eq_true rfl⟩, ⟨Nat.le_of_ble_eq_true rfl, Nat.le_of_ble_eq_true rfl⟩⟩ (fun _ h => h) (HP.recv C h1 k_J2) rfl rfl (Nat.le_of_ble_eq_true rfl) dJ2_remove_21 (h_E (fun v1 hp1 r1 => ?_))
  obtain ⟨rfl, LA⟩ := r1
  refine g_aload_n C dJ2_remove_24 rfl rfl ?_
  exact g_aret C R (Or.inl ⟨_, rfl⟩) (Or.inr ⟨_, rfl⟩) (Nat.le_of_ble_eq_true rfl) (Nat.le_of_ble_eq_true rfl) dJ2_remove_25 (fun H hH => ⟨_, ⟨rfl, LA⟩, hH⟩)
set_option maxRecDepth 100000 in
theorem cc_toArray {l : Launch} {Γ : Gm} {A : Nat → Prop} {ρ : State → Prop} (B : Bc l Γ A ρ) {h : Hp} {a : Nat} {t : Tg} {ci n : Nat} {f : Nat → Nat} {te : Tg} (hC : Cno ci) (L : Lst Γ h a t ci n f) : CtE l Γ A ρ yJ2_toArray cJ2_toArray 1 (some (.array (.object "java/lang/Object"))) { frames := 3, cells := 1, slots := 64, locals := 84 } [.ref a] h (fun v h' => ∃ e2, v = some (.ref e2) ∧ h e2 = none ∧ ∃ g', h' = hset h e2 te (aR Γ 4 n g') ∧ ∀ k, k < n → g' k = some (f k)) := by
  refine Ct.of B.1.1 B.1.2 (by decide) [some (.ref a)] (Nat.le_of_ble_eq_true rfl) rfl ?_
  intro E hE C R
  subst hE
  have SC_ := B.2 _ C.r
  obtain ⟨ea, cap, g, mo, h1, h2, h3, h4, h5, h6, h7, h8⟩ := id L
  refine g_aload_n C dJ2_toArray_0 rfl rfl ?_
  refine c_get 3 1 k_J2 in_J2 (by decide) (fun _ h => h) q470 h1 rfl C dJ2_toArray_1 ?_
  refine g_aload_n C dJ2_toArray_4 rfl rfl ?_
  refine c_get 3 2 k_J2 in_J2 (by decide) (fun _ h => h) q471 h1 rfl C dJ2_toArray_5 ?_
  refine h_callS (rest := []) 2 C (cc_copyOf2 B (te := te) hC h2 h5 (fun i hi y hy => if c : i < n then by rw [h6 i c] at hy; cases hy; exact h7 i c else by rw [h8 i (by omega)] at hy; cases hy) n (by omega)) (lw_S q855 q856 q101 q857) ⟨⟨by decide, by decide, by decide +kernel⟩, ⟨Nat.le_of_ble_eq_true rfl, Nat.le_of_ble_eq_true rfl⟩, ⟨Nat.le_of_ble_eq_true rfl, Nat.le_of_ble_eq_true rfl⟩⟩ (fun _ h => h) rfl rfl (Nat.le_of_ble_eq_true rfl) dJ2_toArray_8 (h_E (fun v1 hp1 r1 => ?_))
  obtain ⟨e2, rfl, ne2, eh⟩ := r1
  exact g_aret C R (Or.inr ⟨_, rfl⟩) (Or.inr ⟨_, rfl⟩) (Nat.le_of_ble_eq_true rfl) (Nat.le_of_ble_eq_true rfl) dJ2_toArray_11 (fun H hH => ⟨_, ⟨e2, rfl, ne2, _, by rw [Nat.min_eq_right h3] at eh; exact eh, fun k hk => by rw [va_cpy_lo hk]; exact h6 k hk⟩, hH⟩)
set_option maxRecDepth 100000 in
theorem cc_aci {l : Launch} {Γ : Gm} {A : Nat → Prop} {ρ : State → Prop} (B : Bc l Γ A ρ) {h : Hp} {a : Nat} : CtF l Γ A ρ yJ0_init cJ0_init 1 none { frames := 1, cells := 0, slots := 0, locals := 20 } [.ref a] h none h := by
  refine Ct.ofI B.1.1 B.1.2 (by decide) [some (.ref a)] (Nat.le_of_ble_eq_true rfl) rfl ?_
  intro E hE C R hnm
  subst hE
  have SC_ := B.2 _ C.r
  refine g_aload_n C dJ0_init_0 rfl rfl ?_
  refine c_objInit q151 q132 q133 C (Nat.le_of_ble_eq_true rfl) ⟨Nat.le_of_ble_eq_true rfl, Nat.le_of_ble_eq_true rfl⟩ dJ0_init_1 ?_
  exact g_vret C R (Nat.le_of_ble_eq_true rfl) (Nat.le_of_ble_eq_true rfl) dJ0_init_4 (fun H hH => ⟨rfl, hH⟩)
set_option maxRecDepth 100000 in
theorem cc_ali {l : Launch} {Γ : Gm} {A : Nat → Prop} {ρ : State → Prop} (B : Bc l Γ A ρ) {h : Hp} {a : Nat} {t : Tg} {x y z : Value} (h1 : h a = some (t, .inr (3, [x, y, z]))) : CtF l Γ A ρ yJ1_init cJ1_init 1 none { frames := 2, cells := 0, slots := 0, locals := 40 } [.ref a] h none (hset h a t (.inr (3, [.int 0, y, z]))) := by
  refine Ct.ofI B.1.1 B.1.2 (by decide) [some (.ref a)] (Nat.le_of_ble_eq_true rfl) rfl ?_
  intro E hE C R hnm
  subst hE
  have SC_ := B.2 _ C.r
  refine g_aload_n C dJ1_init_0 rfl rfl ?_
  refine h_callI (rest := []) 0 C (cc_aci B ) (lw_meth q150) q88 q148 q149 rfl ⟨⟨by decide, by decide, by decide +kernel⟩, ⟨Nat.le_of_ble_eq_true rfl, Nat.le_of_ble_eq_true rfl⟩, ⟨Nat.le_of_ble_eq_true rfl, Nat.le_of_ble_eq_true rfl⟩⟩ (fun _ h => h) rfl rfl (Nat.le_of_ble_eq_true rfl) dJ1_init_1 (h_F ?_)
  refine g_aload_n C dJ1_init_4 rfl rfl ?_
  refine g_iconst (v := 0) C dJ1_init_5 rfl ?_
  refine c_put 3 0 k_J2 in_J2 tyJ2 tyJ2_ok nmJ2 (by decide) (fun _ h => h) q472 rfl (ty := .int) (by decide +kernel) rfl rfl (Nat.le_of_ble_eq_true rfl) h1 C dJ1_init_6 ?_
  obtain ⟨hp1, ehp1⟩ : ∃ hh9 : Hp, hh9 = hset h a t (.inr (3, [.int 0, y, z])) := ⟨_, rfl⟩
  refine g_heq (h' := hp1) ehp1.symm ?_
  have php1_a : hp1 a = some (t, .inr (3, [.int 0, y, z])) := by rw [ehp1]; exact hset_self _ _ _ _
  exact g_vret C R (Nat.le_of_ble_eq_true rfl) (Nat.le_of_ble_eq_true rfl) dJ1_init_9 (fun H hH => ⟨rfl, ehp1 ▸ hH⟩)
theorem hset_x {h : Hp} {q a : Nat} {t : Tg} {e : va_E} {x : Tg × va_E} (b : h q = some x) (n : q ≠ a) : hset h a t e q = some x := by rw [hset_ne n, b]
set_option maxRecDepth 100000 in
theorem cc_linit {l : Launch} {Γ : Gm} {A : Nat → Prop} {ρ : State → Prop} (B : Bc l Γ A ρ) {h : Hp} {a : Nat} {t : Tg} {ci : Nat} {f : Nat → Nat} (c : Nat) (hc : 2 ≤ c) (hc2 : c ≤ 16) (h1 : h a = some (t, .inr (3, [.int 0, .null, .int 0]))) : CtE l Γ A ρ yJ2_init cJ2_init 2 none { frames := 3, cells := 1, slots := 16, locals := 60 } [.ref a, .int (nI c)] h (fun v h' => v = none ∧ Lst Γ h' a t ci 0 f ∧ Kq a h h') := by
  refine Ct.ofI B.1.1 B.1.2 (by decide) [some (.ref a), some (.int (nI c))] (Nat.le_of_ble_eq_true rfl) rfl ?_
  intro E hE C R hnm
  subst hE
  have SC_ := B.2 _ C.r
  refine g_aload_n C dJ2_init_0 rfl rfl ?_
  refine h_callI (rest := []) 0 C (cc_ali B h1) (lw_meth q147) q89 q145 q146 rfl ⟨⟨by decide, by decide, by decide +kernel⟩, ⟨Nat.le_of_ble_eq_true rfl, Nat.le_of_ble_eq_true rfl⟩, ⟨Nat.le_of_ble_eq_true rfl, Nat.le_of_ble_eq_true rfl⟩⟩ (fun _ h => h) rfl rfl (Nat.le_of_ble_eq_true rfl) dJ2_init_1 (h_F ?_)
  obtain ⟨hp1, ehp1⟩ : ∃ hh9 : Hp, hh9 = hset h a t (.inr (3, [.int 0, .null, .int 0])) := ⟨_, rfl⟩
  refine g_heq (h' := hp1) ehp1.symm ?_
  have php1_a : hp1 a = some (t, .inr (3, [.int 0, .null, .int 0])) := by rw [ehp1]; exact hset_self _ _ _ _
  refine g_iload_n C dJ2_init_4 rfl rfl ?_
  refine g_if_le 19 C dJ2_init_5 rfl (fun c5 => ?_) (fun c5 => ?_)
  · exact absurd c5 (fun z => by have := (nI_leI (a := c) (b := 0) (by omega) (by omega)).mp z; omega)
  · refine g_aload_n C dJ2_init_8 rfl rfl ?_
    refine g_iload_n C dJ2_init_9 rfl rfl ?_
    refine c_newq (n := c) (t.1 + 1, t.2) 4 rfl q152 SC_.2.2.1 SC_ (by omega) (Nat.le_of_ble_eq_true rfl) (by show 0 + c ≤ 16; omega) C dJ2_init_10 (fun ea nea => ?_)
    refine g_wid (c := 1) (z := 16) (Nat.le_of_ble_eq_true rfl) (by show 0 + c ≤ 16; omega) ?_
    obtain ⟨hp2, ehp2⟩ : ∃ hh9 : Hp, hh9 = hset hp1 ea (t.1 + 1, t.2) (aR Γ 4 c (fun _ => none)) := ⟨_, rfl⟩
    refine g_heq (h' := hp2) ehp2.symm ?_
    have php2_a : hp2 a = some (t, .inr (3, [.int 0, .null, .int 0])) := by rw [ehp2]; exact hset_old nea php1_a
    have php2_ea : hp2 ea = some ((t.1 + 1, t.2), aR Γ 4 c (fun _ => none)) := by rw [ehp2]; exact hset_self _ _ _ _
    refine c_put 3 1 k_J2 in_J2 tyJ2 tyJ2_ok nmJ2 (by decide) (fun _ h => h) q470 rfl (ty := .array (.object "java/lang/Object")) (by decide +kernel) rfl rfl (Nat.le_of_ble_eq_true rfl) php2_a C dJ2_init_13 ?_
    obtain ⟨hp3, ehp3⟩ : ∃ hh9 : Hp, hh9 = hset hp2 a t (.inr (3, [.int 0, .ref ea, .int 0])) := ⟨_, rfl⟩
    refine g_heq (h' := hp3) ehp3.symm ?_
    have php3_a : hp3 a = some (t, .inr (3, [.int 0, .ref ea, .int 0])) := by rw [ehp3]; exact hset_self _ _ _ _
    have php3_ea : hp3 ea = some ((t.1 + 1, t.2), aR Γ 4 c (fun _ => none)) := by rw [ehp3]; exact hset_oi php2_a php2_ea
    refine g_goto 60 C dJ2_init_16 rfl ?_
    exact g_vret C R (Nat.le_of_ble_eq_true rfl) (Nat.le_of_ble_eq_true rfl) dJ2_init_60 (fun H hH => ⟨hp3, ⟨rfl, ⟨ea, c, _, 0, php3_a, php3_ea, Nat.zero_le _, hc, by omega, fun k hk => absurd hk (Nat.not_lt_zero _), fun k hk => absurd hk (Nat.not_lt_zero _), fun k _ => rfl⟩, (Kq.tr (Kq.tr (show Kq a h hp1 by rw [ehp1]; exact Kq.set) (show Kq a hp1 hp2 by rw [ehp2]; exact Kq.add nea)) (show Kq a hp2 hp3 by rw [ehp3]; exact Kq.set))⟩, hH⟩)
