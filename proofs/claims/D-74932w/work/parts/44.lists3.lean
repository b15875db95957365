theorem va_cpy_lo {α : Type} {f g : Nat → α} {n k : Nat} (h : k < n) : va_cpy f g 0 0 n k = f k := by
  unfold va_cpy
  simp [h]
theorem half_I {c : Nat} (h : c ≤ 64) : nI c >>> ((1 : Int32) &&& 31) = nI (c / 2) := by
  have : ∀ c : Fin 65, nI c.1 >>> ((1 : Int32) &&& 31) = nI (c.1 / 2) := by decide +kernel
  exact this ⟨c, by omega⟩
set_option maxRecDepth 100000 in
theorem cc_growI {l : Launch} {Γ : Gm} {A : Nat → Prop} {ρ : State → Prop} (B : Bc l Γ A ρ) {h : Hp} {a ea : Nat} {t te : Tg} {ci n cap : Nat} {mo : Int32} {g : Nat → Option Nat} (hC : Cno ci) (h1 : h a = some (t, .inr (3, [.int mo, .ref ea, .int (nI n)]))) (h2 : h ea = some (te, aR Γ 4 cap g)) (h4 : 2 ≤ cap) (h5 : cap ≤ 42) (hel : ∀ i, i < cap → ∀ y, g i = some y → ∃ t fs, h y = some (t, .inr (ci, fs))) (mn : Nat) (hm : cap < mn) (hm2 : mn ≤ 64) : CtE l Γ A ρ yJ2_grow_2 cJ2_grow_2 4 (some (.array (.object "java/lang/Object"))) { frames := 3, cells := 1, slots := 64, locals := 84 } [.ref a, .int (nI mn)] h (fun v h' => ∃ e2, v = some (.ref e2) ∧ h e2 = none ∧ h' = hset (hset h e2 te (aR Γ 4 (cap + max (mn - cap) (cap / 2)) (va_cpy g (fun _ => none) 0 0 cap))) a t (.inr (3, [.int mo, .ref e2, .int (nI n)]))) := by
  refine Ct.of B.1.1 B.1.2 (by decide) [some (.ref a), some (.int (nI mn)), none, none] (Nat.le_of_ble_eq_true rfl) rfl ?_
  intro E hE C R
  subst hE
  have SC_ := B.2 _ C.r
  refine g_aload_n C dJ2_grow_2_0 rfl rfl ?_
  refine c_get 3 1 k_J2 in_J2 (by decide) (fun _ h => h) q470 h1 rfl C dJ2_grow_2_1 ?_
  refine c_alen 4 rfl h2 C dJ2_grow_2_4 ?_
  refine g_istore_n (lv' := [some (.ref a), some (.int (nI mn)), some (.int (nI cap)), none]) C dJ2_grow_2_5 rfl (by decide) rfl ?_
  refine g_iload_n C dJ2_grow_2_6 rfl rfl ?_
  refine g_if_gt 20 C dJ2_grow_2_7 rfl (fun c7 => ?_) (fun c7 => ?_)
  · refine g_iload_n C dJ2_grow_2_20 rfl rfl ?_
    refine g_iload_n C dJ2_grow_2_21 rfl rfl ?_
    refine g_iload_n C dJ2_grow_2_22 rfl rfl ?_
    refine g_isub C dJ2_grow_2_23 ?_
    refine g_topi (y := nI (mn - cap)) (pk_sub (a := mn) (b := cap) (by omega)) ?_
    refine g_iload_n C dJ2_grow_2_24 rfl rfl ?_
    refine g_iconst (v := 1) C dJ2_grow_2_25 rfl ?_
    refine g_ishr C dJ2_grow_2_26 ?_
    refine g_topi (y := nI (cap / 2)) (half_I (by omega)) ?_
    refine h_callS (rest := []) 3 C (cc_newLength B.1 _ _ _ (by omega) (by omega) _) (lw_S q854 q252 q99 q253) ⟨⟨by decide, by decide, by decide +kernel⟩, ⟨Nat.le_of_ble_eq_true rfl, Nat.le_of_ble_eq_true rfl⟩, ⟨Nat.le_of_ble_eq_true rfl, Nat.le_of_ble_eq_true rfl⟩⟩ (fun _ h => h) rfl rfl (Nat.le_of_ble_eq_true rfl) dJ2_grow_2_27 (h_P ?_)
    refine g_istore_n (lv' := [some (.ref a), some (.int (nI mn)), some (.int (nI cap)), some (.int (nI (cap + max (mn - cap) (cap / 2))))]) C dJ2_grow_2_30 rfl (by decide) rfl ?_
    refine g_aload_n C dJ2_grow_2_31 rfl rfl ?_
    refine g_aload_n C dJ2_grow_2_32 rfl rfl ?_
    refine c_get 3 1 k_J2 in_J2 (by decide) (fun _ h => h) q470 h1 rfl C dJ2_grow_2_33 ?_
    refine g_iload_n C dJ2_grow_2_36 rfl rfl ?_
    refine h_callS (rest := [.ref a]) 2 C (cc_copyOf2 B (te := te) hC h2 (by omega) hel _ (by omega)) (lw_S q855 q856 q101 q857) ⟨⟨by decide, by decide, by decide +kernel⟩, ⟨Nat.le_of_ble_eq_true rfl, Nat.le_of_ble_eq_true rfl⟩, ⟨Nat.le_of_ble_eq_true rfl, Nat.le_of_ble_eq_true rfl⟩⟩ (fun _ h => h) rfl rfl (Nat.le_of_ble_eq_true rfl) dJ2_grow_2_37 (h_E (fun v1 hp1 r1 => ?_))
    obtain ⟨e2, rfl, ne2, eh1⟩ := r1
    rw [Nat.min_eq_left (show cap ≤ cap + max (mn - cap) (cap / 2) by omega)] at eh1
    have p_a : hp1 a = some (t, .inr (3, [.int mo, .ref ea, .int (nI n)])) := by rw [eh1]; exact hset_old ne2 h1
    have p_ea : hp1 ea = some (te, aR Γ 4 cap g) := by rw [eh1]; exact hset_old ne2 h2
    have p_e2 : hp1 e2 = some (te, aR Γ 4 (cap + max (mn - cap) (cap / 2)) (va_cpy g (fun _ => none) 0 0 cap)) := by rw [eh1]; exact hset_self _ _ _ _
    refine g_dup_x1 C dJ2_grow_2_40 rfl rfl ?_
    refine c_put 3 1 k_J2 in_J2 tyJ2 tyJ2_ok nmJ2 (by decide) (fun _ h => h) q470 rfl (ty := .array (.object "java/lang/Object")) (by decide +kernel) rfl rfl (Nat.le_of_ble_eq_true rfl) p_a C dJ2_grow_2_41 ?_
    obtain ⟨hp2, ehp2⟩ : ∃ hh9 : Hp, hh9 = hset hp1 a t (.inr (3, [.int mo, .ref e2, .int (nI n)])) := ⟨_, rfl⟩
    refine g_heq (h' := hp2) ehp2.symm ?_
    have php2_a : hp2 a = some (t, .inr (3, [.int mo, .ref e2, .int (nI n)])) := by rw [ehp2]; exact hset_self _ _ _ _
    have php2_ea : hp2 ea = some (te, aR Γ 4 cap g) := by rw [ehp2]; exact hset_oi p_a p_ea
    have php2_e2 : hp2 e2 = some (te, aR Γ 4 (cap + max (mn - cap) (cap / 2)) (va_cpy g (fun _ => none) 0 0 cap)) := by rw [ehp2]; exact hset_oi p_a p_e2
    exact g_aret C R (Or.inr ⟨_, rfl⟩) (Or.inr ⟨_, rfl⟩) (Nat.le_of_ble_eq_true rfl) (Nat.le_of_ble_eq_true rfl) dJ2_grow_2_44 (fun H hH => ⟨_, ⟨e2, rfl, ne2, by rw [ehp2, eh1]⟩, hH⟩)
  · exact absurd (show (0 : Int32) < nI cap from (nI_ltI (a := 0) (by omega) (by omega)).mpr (by omega)) c7
set_option maxRecDepth 100000 in
theorem cc_grow0 {l : Launch} {Γ : Gm} {A : Nat → Prop} {ρ : State → Prop} (B : Bc l Γ A ρ) {h : Hp} {a ea : Nat} {t te : Tg} {ci n cap : Nat} {mo : Int32} {g : Nat → Option Nat} (hC : Cno ci) (h1 : h a = some (t, .inr (3, [.int mo, .ref ea, .int (nI n)]))) (h2 : h ea = some (te, aR Γ 4 cap g)) (h4 : 2 ≤ cap) (h5 : cap ≤ 42) (hel : ∀ i, i < cap → ∀ y, g i = some y → ∃ t fs, h y = some (t, .inr (ci, fs))) (hm : cap < n + 1) (hm2 : n + 1 ≤ 64) : CtE l Γ A ρ yJ2_grow cJ2_grow 1 (some (.array (.object "java/lang/Object"))) { frames := 4, cells := 1, slots := 64, locals := 107 } [.ref a] h (fun v h' => ∃ e2, v = some (.ref e2) ∧ h e2 = none ∧ h' = hset (hset h e2 te (aR Γ 4 (cap + max (n + 1 - cap) (cap / 2)) (va_cpy g (fun _ => none) 0 0 cap))) a t (.inr (3, [.int mo, .ref e2, .int (nI n)]))) := by
  refine Ct.of B.1.1 B.1.2 (by decide) [some (.ref a)] (Nat.le_of_ble_eq_true rfl) rfl ?_
  intro E hE C R
  subst hE
  have SC_ := B.2 _ C.r
  refine g_aload_n C dJ2_grow_0 rfl rfl ?_
  refine g_aload_n C dJ2_grow_1 rfl rfl ?_
  refine c_get 3 2 k_J2 in_J2 (by decide) (fun _ h => h) q471 h1 rfl C dJ2_grow_2 ?_
  refine g_iconst (v := 1) C dJ2_grow_5 rfl ?_
  refine g_iadd C dJ2_grow_6 ?_
  refine g_topi (y := nI (n + 1)) (nI_add n 1) ?_
  refine h_callV (rest := []) 1 C (cc_growI B hC h1 h2 h4 h5 hel _ (by omega) (by omega)) (lw_V q848 q850 qs12 q90 q851) ⟨⟨by decide, by decide, by decide +kernel⟩, ⟨Nat.le_of_ble_eq_true rfl, Nat.le_of_ble_eq_true rfl⟩, ⟨Nat.le_of_ble_eq_true rfl, Nat.le_of_ble_eq_true rfl⟩⟩ (fun _ h => h) (HP.recv C h1 k_J2) rfl rfl (Nat.le_of_ble_eq_true rfl) dJ2_grow_7 (h_E (fun v1 hp1 r1 => ?_))
  obtain ⟨e2, rfl, ne2, eh1⟩ := r1
  exact g_aret C R (Or.inr ⟨_, rfl⟩) (Or.inr ⟨_, rfl⟩) (Nat.le_of_ble_eq_true rfl) (Nat.le_of_ble_eq_true rfl) dJ2_grow_10 (fun H hH => ⟨_, ⟨e2, rfl, ne2, eh1⟩, hH⟩)
/-- what an add leaves -/
def LAdd (Γ : Gm) (h : Hp) (a : Nat) (t : Tg) (ci n : Nat) (f : Nat → Nat) (b : Nat) (h' : Hp) : Prop := Lst Γ h' a t ci (n + 1) (va_up f n b) ∧ Kp (TL t) h h'
/-- .. out of the cells -/
theorem LAdd.of {Γ : Gm} {h h' : Hp} {a e2 : Nat} {t : Tg} {ci n cap : Nat} {f : Nat → Nat} {g : Nat → Option Nat} {mo : Int32} {b : Nat} (K : Kp (TL t) h h') (h1 : h' a = some (t, .inr (3, [.int mo, .ref e2, .int (nI (n + 1))]))) (h2 : h' e2 = some ((t.1 + 1, t.2), aR Γ 4 cap (va_up g n (some b)))) (h3 : n + 1 ≤ cap) (h4 : 2 ≤ cap) (h5 : cap ≤ 64) (h6 : ∀ k, k < n → g k = some (f k)) (h7 : ∀ k, k < n → ∃ t' fs, h' (f k) = some (t', .inr (ci, fs))) (hb : ∃ t' fs, h' b = some (t', .inr (ci, fs))) (h8 : ∀ k, n ≤ k → g k = none) : LAdd Γ h a t ci n f b h' := by
  refine ⟨⟨e2, cap, _, mo, h1, h2, h3, h4, h5, fun k hk => ?_, fun k hk => ?_, fun k hk => ?_⟩, K⟩
  · by_cases c : k = n
    · rw [c, va_up_self, va_up_self]
    · rw [va_up_ne _ _ c, va_up_ne _ _ c]; exact h6 k (by omega)
  · by_cases c : k = n
    · rw [c, va_up_self]; exact hb
    · rw [va_up_ne _ _ c]; exact h7 k (by omega)
  · rw [va_up_ne _ _ (by omega)]; exact h8 k (by omega)
theorem va_cpy_hi {α : Type} {f : Nat → α} {v : α} {n k : Nat} (h : n ≤ k) : va_cpy f (fun _ => v) 0 0 n k = v := by
  unfold va_cpy
  simp
  intro c
  omega
set_option maxRecDepth 100000 in
theorem cc_add3 {l : Launch} {Γ : Gm} {A : Nat → Prop} {ρ : State → Prop} (B : Bc l Γ A ρ) {h : Hp} {a : Nat} {t : Tg} {ci n : Nat} {f : Nat → Nat} (hC : Cno ci) {ea cap : Nat} {g : Nat → Option Nat} {mo : Int32} (h1 : h a = some (t, .inr (3, [.int mo, .ref ea, .int (nI n)]))) (h2 : h ea = some ((t.1 + 1, t.2), aR Γ 4 cap g)) (h3 : n ≤ cap) (h4 : 2 ≤ cap) (h5 : cap ≤ 64) (h6 : ∀ k, k < n → g k = some (f k)) (h7 : ∀ k, k < n → ∃ t fs, h (f k) = some (t, .inr (ci, fs))) (h8 : ∀ k, n ≤ k → g k = none) {b : Nat} {tb : Tg} {fs : List Value} (eb : h b = some (tb, .inr (ci, fs))) (hn : n ≤ 40) : CtE l Γ A ρ yJ2_add_2 cJ2_add_2 4 none { frames := 5, cells := 1, slots := 64, locals := 127 } [.ref a, .ref b, .ref ea, .int (nI n)] h (fun v h' => v = none ∧ LAdd Γ h a t ci n f b h') := by
  refine Ct.of B.1.1 B.1.2 (by decide) [some (.ref a), some (.ref b), some (.ref ea), some (.int (nI n))] (Nat.le_of_ble_eq_true rfl) rfl ?_
  intro E hE C R
  subst hE
  have SC_ := B.2 _ C.r
  obtain ⟨r, hr, hca, hne⟩ := hC
  refine g_iload_n C dJ2_add_2_0 rfl rfl ?_
  refine g_aload_n C dJ2_add_2_1 rfl rfl ?_
  refine c_alen 4 rfl h2 C dJ2_add_2_2 ?_
  refine gN_ne (a := n) (b := cap) 11 C dJ2_add_2_3 rfl (by omega) (by omega) (fun c3 => ?_) (fun c3 => ?_)
  · refine g_aload_n C dJ2_add_2_11 rfl rfl ?_
    refine g_iload_n C dJ2_add_2_12 rfl rfl ?_
    refine g_aload_n C dJ2_add_2_13 rfl rfl ?_
    refine c_aast 4 rfl (i := n) hr SC_ hca h2 eb (by omega) (by omega) C dJ2_add_2_14 ?_
    obtain ⟨hp1, ehp1⟩ : ∃ hh9 : Hp, hh9 = hset h ea (t.1 + 1, t.2) (aR Γ 4 cap (va_up g n (some b))) := ⟨_, rfl⟩
    refine g_heq (h' := hp1) ehp1.symm ?_
    have php1_a : hp1 a = some (t, .inr (3, [.int mo, .ref ea, .int (nI n)])) := by rw [ehp1]; exact hset_io h2 h1
    have php1_ea : hp1 ea = some ((t.1 + 1, t.2), aR Γ 4 cap (va_up g n (some b))) := by rw [ehp1]; exact hset_self _ _ _ _
    have php1_b : hp1 b = some (tb, .inr (ci, fs)) := by rw [ehp1]; exact hset_io h2 eb
    refine g_aload_n C dJ2_add_2_15 rfl rfl ?_
    refine g_iload_n C dJ2_add_2_16 rfl rfl ?_
    refine g_iconst (v := 1) C dJ2_add_2_17 rfl ?_
    refine g_iadd C dJ2_add_2_18 ?_
    refine g_topi (y := nI (n + 1)) (nI_add n 1) ?_
    refine c_put 3 2 k_J2 in_J2 tyJ2 tyJ2_ok nmJ2 (by decide) (fun _ h => h) q471 rfl (ty := .int) (by decide +kernel) rfl rfl (Nat.le_of_ble_eq_true rfl) php1_a C dJ2_add_2_19 ?_
    obtain ⟨hp2, ehp2⟩ : ∃ hh9 : Hp, hh9 = hset hp1 a t (.inr (3, [.int mo, .ref ea, .int (nI (n + 1))])) := ⟨_, rfl⟩
    refine g_heq (h' := hp2) ehp2.symm ?_
    have php2_a : hp2 a = some (t, .inr (3, [.int mo, .ref ea, .int (nI (n + 1))])) := by rw [ehp2]; exact hset_self _ _ _ _
    have php2_ea : hp2 ea = some ((t.1 + 1, t.2), aR Γ 4 cap (va_up g n (some b))) := by rw [ehp2]; exact hset_oi php1_a php1_ea
    have php2_b : hp2 b = some (tb, .inr (ci, fs)) := by rw [ehp2]; exact hset_oc hne php1_a php1_b
    exact g_vret C R (Nat.le_of_ble_eq_true rfl) (Nat.le_of_ble_eq_true rfl) dJ2_add_2_22 (fun H hH => ⟨hp2, ⟨rfl, LAdd.of (Kp.tr (show Kp _ h hp1 by rw [ehp1]; exact Kp.put h2 (Or.inr rfl)) (show Kp _ hp1 hp2 by rw [ehp2]; exact Kp.put php1_a (Or.inl rfl))) php2_a php2_ea (by omega) (by omega) (by omega) h6 (Ko.el (Ko.tr (show Ko _ h hp1 by rw [ehp1]; exact Ko.ar h2) (show Ko _ hp1 hp2 by rw [ehp2]; exact Ko.oc (hne) php1_a)) h7) ⟨_, _, php2_b⟩ h8⟩, hH⟩)
  · refine g_aload_n C dJ2_add_2_6 rfl rfl ?_
    refine h_callV (rest := []) 0 C (cc_grow0 B ⟨r, hr, hca, hne⟩ h1 h2 h4 (by omega) (fun i hi y hy => by rw [h6 i (by omega)] at hy; cases hy; exact h7 i (by omega)) (by omega) (by omega)) (lw_V q844 q846 qs11 q90 q847) ⟨⟨by decide, by decide, by decide +kernel⟩, ⟨Nat.le_of_ble_eq_true rfl, Nat.le_of_ble_eq_true rfl⟩, ⟨Nat.le_of_ble_eq_true rfl, Nat.le_of_ble_eq_true rfl⟩⟩ (fun _ h => h) (HP.recv C h1 k_J2) rfl rfl (Nat.le_of_ble_eq_true rfl) dJ2_add_2_7 (h_E (fun v1 hp1 r1 => ?_))
    obtain ⟨e2, rfl, ne2, eh1⟩ := r1
    have ne2a : e2 ≠ a := fun z => by rw [z, h1] at ne2; cases ne2
    have pe2 : hp1 e2 = some ((t.1 + 1, t.2), aR Γ 4 (cap + max (n + 1 - cap) (cap / 2)) (va_cpy g (fun _ => none) 0 0 cap)) := by rw [eh1, hset_ne ne2a]; exact hset_self _ _ _ _
    have pa : hp1 a = some (t, .inr (3, [.int mo, .ref e2, .int (nI n)])) := by rw [eh1]; exact hset_self _ _ _ _
    have pb : hp1 b = some (tb, .inr (ci, fs)) := by rw [eh1]; exact hset_oc hne (hset_old ne2 h1) (hset_old ne2 eb)
    refine g_astore_n (lv' := [some (.ref a), some (.ref b), some (.ref e2), some (.int (nI n))]) C dJ2_add_2_10 rfl (by decide) rfl ?_
    refine g_aload_n C dJ2_add_2_11 rfl rfl ?_
    refine g_iload_n C dJ2_add_2_12 rfl rfl ?_
    refine g_aload_n C dJ2_add_2_13 rfl rfl ?_
    refine c_aast 4 rfl (i := n) hr SC_ hca pe2 pb (by omega) (by omega) C dJ2_add_2_14 ?_
    obtain ⟨hp2, ehp2⟩ : ∃ hh9 : Hp, hh9 = hset hp1 e2 (t.1 + 1, t.2) (aR Γ 4 (cap + max (n + 1 - cap) (cap / 2)) (va_up (va_cpy g (fun _ => none) 0 0 cap) n (some b))) := ⟨_, rfl⟩
    refine g_heq (h' := hp2) ehp2.symm ?_
    have php2_a : hp2 a = some (t, .inr (3, [.int mo, .ref e2, .int (nI n)])) := by rw [ehp2]; exact hset_io pe2 pa
    have php2_b : hp2 b = some (tb, .inr (ci, fs)) := by rw [ehp2]; exact hset_io pe2 pb
    have php2_e2 : hp2 e2 = some ((t.1 + 1, t.2), aR Γ 4 (cap + max (n + 1 - cap) (cap / 2)) (va_up (va_cpy g (fun _ => none) 0 0 cap) n (some b))) := by rw [ehp2]; exact hset_self _ _ _ _
    refine g_aload_n C dJ2_add_2_15 rfl rfl ?_
    refine g_iload_n C dJ2_add_2_16 rfl rfl ?_
    refine g_iconst (v := 1) C dJ2_add_2_17 rfl ?_
    refine g_iadd C dJ2_add_2_18 ?_
    refine g_topi (y := nI (n + 1)) (nI_add n 1) ?_
    refine c_put 3 2 k_J2 in_J2 tyJ2 tyJ2_ok nmJ2 (by decide) (fun _ h => h) q471 rfl (ty := .int) (by decide +kernel) rfl rfl (Nat.le_of_ble_eq_true rfl) php2_a C dJ2_add_2_19 ?_
    obtain ⟨hp3, ehp3⟩ : ∃ hh9 : Hp, hh9 = hset hp2 a t (.inr (3, [.int mo, .ref e2, .int (nI (n + 1))])) := ⟨_, rfl⟩
    refine g_heq (h' := hp3) ehp3.symm ?_
    have php3_a : hp3 a = some (t, .inr (3, [.int mo, .ref e2, .int (nI (n + 1))])) := by rw [ehp3]; exact hset_self _ _ _ _
    have php3_b : hp3 b = some (tb, .inr (ci, fs)) := by rw [ehp3]; exact hset_oc hne php2_a php2_b
    have php3_e2 : hp3 e2 = some ((t.1 + 1, t.2), aR Γ 4 (cap + max (n + 1 - cap) (cap / 2)) (va_up (va_cpy g (fun _ => none) 0 0 cap) n (some b))) := by rw [ehp3]; exact hset_oi php2_a php2_e2
    exact g_vret C R (Nat.le_of_ble_eq_true rfl) (Nat.le_of_ble_eq_true rfl) dJ2_add_2_22 (fun H hH => ⟨hp3, ⟨rfl, LAdd.of (Kp.tr (Kp.tr (show Kp _ h hp1 from (by rw [eh1]; exact Kp.tr (Kp.new ne2) (Kp.put (hset_old ne2 h1) (Or.inl rfl)))) (show Kp _ hp1 hp2 by rw [ehp2]; exact Kp.put pe2 (Or.inr rfl))) (show Kp _ hp2 hp3 by rw [ehp3]; exact Kp.put php2_a (Or.inl rfl))) php3_a php3_e2 (by omega) (by omega) (by omega) (fun k hk => by rw [va_cpy_lo (by omega)]; exact h6 k hk) (Ko.el (Ko.tr (Ko.tr (show Ko _ h hp1 from (by rw [eh1]; exact Ko.tr (Ko.new ne2) (Ko.oc hne (hset_old ne2 h1)))) (show Ko _ hp1 hp2 by rw [ehp2]; exact Ko.ar pe2)) (show Ko _ hp2 hp3 by rw [ehp3]; exact Ko.oc (hne) php2_a)) h7) ⟨_, _, php3_b⟩ (fun k hk => va_cpy_hi (by omega))⟩, hH⟩)
set_option maxRecDepth 100000 in
theorem cc_add {l : Launch} {Γ : Gm} {A : Nat → Prop} {ρ : State → Prop} (B : Bc l Γ A ρ) {h : Hp} {a : Nat} {t : Tg} {ci n : Nat} {f : Nat → Nat} (hC : Cno ci) (L : Lst Γ h a t ci n f) {b : Nat} {tb : Tg} {fs : List Value} (eb : h b = some (tb, .inr (ci, fs))) (hn : n ≤ 40) : CtE l Γ A ρ yJ2_add cJ2_add 2 (some .boolean) { frames := 6, cells := 1, slots := 64, locals := 150 } [.ref a, .ref b] h (fun v h' => v = some (.int 1) ∧ LAdd Γ h a t ci n f b h') := by
  refine Ct.of B.1.1 B.1.2 (by decide) [some (.ref a), some (.ref b)] (Nat.le_of_ble_eq_true rfl) rfl ?_
  intro E hE C R
  subst hE
  have SC_ := B.2 _ C.r
  obtain ⟨r, hr, hca, hne⟩ := hC
  obtain ⟨ea, cap, g, mo, h1, h2, h3, h4, h5, h6, h7, h8⟩ := id L
  refine g_aload_n C dJ2_add_0 rfl rfl ?_
  refine g_dup C dJ2_add_1 rfl ?_
  refine c_get 3 0 k_J2 in_J2 (by decide) (fun x9 h9 => u_same (C.ts _ q474) x9 h9) q473 h1 rfl C dJ2_add_2 ?_
  refine g_iconst (v := 1) C dJ2_add_5 rfl ?_
  refine g_iadd C dJ2_add_6 ?_
  refine c_put 3 0 k_J2 in_J2 tyJ2 tyJ2_ok nmJ2 (by decide) (fun x9 h9 => u_same (C.ts _ q474) x9 h9) q473 rfl (ty := .int) (by decide +kernel) rfl rfl (Nat.le_of_ble_eq_true rfl) h1 C dJ2_add_7 ?_
  obtain ⟨hp1, ehp1⟩ : ∃ hh9 : Hp, hh9 = hset h a t (.inr (3, [.int (mo + 1), .ref ea, .int (nI n)])) := ⟨_, rfl⟩
  refine g_heq (h' := hp1) ehp1.symm ?_
  have php1_a : hp1 a = some (t, .inr (3, [.int (mo + 1), .ref ea, .int (nI n)])) := by rw [ehp1]; exact hset_self _ _ _ _
  have php1_ea : hp1 ea = some ((t.1 + 1, t.2), aR Γ 4 cap g) := by rw [ehp1]; exact hset_oi h1 h2
  have php1_b : hp1 b = some (tb, .inr (ci, fs)) := by rw [ehp1]; exact hset_oc hne h1 eb
  refine g_aload_n C dJ2_add_10 rfl rfl ?_
  refine g_aload_n C dJ2_add_11 rfl rfl ?_
  refine g_aload_n C dJ2_add_12 rfl rfl ?_
  refine c_get 3 1 k_J2 in_J2 (by decide) (fun _ h => h) q470 php1_a rfl C dJ2_add_13 ?_
  refine g_aload_n C dJ2_add_16 rfl rfl ?_
  refine c_get 3 2 k_J2 in_J2 (by decide) (fun _ h => h) q471 php1_a rfl C dJ2_add_17 ?_
  refine h_callV (rest := []) 3 C (cc_add3 B ⟨r, hr, hca, hne⟩ php1_a php1_ea h3 h4 h5 h6 (Ko.el (show Ko _ h hp1 by rw [ehp1]; exact Ko.oc (hne) h1) h7) h8 php1_b hn) (lw_V q840 q842 qs10 q90 q843) ⟨⟨by decide, by decide, by decide +kernel⟩, ⟨Nat.le_of_ble_eq_true rfl, Nat.le_of_ble_eq_true rfl⟩, ⟨Nat.le_of_ble_eq_true rfl, Nat.le_of_ble_eq_true rfl⟩⟩ (fun _ h => h) (HP.recv C php1_a k_J2) rfl rfl (Nat.le_of_ble_eq_true rfl) dJ2_add_20 (h_E (fun v2 hp2 r2 => ?_))
  obtain ⟨rfl, LA⟩ := r2
  refine g_iconst (v := 1) C dJ2_add_23 rfl ?_
  exact g_zret C R (Nat.le_of_ble_eq_true rfl) (Nat.le_of_ble_eq_true rfl) dJ2_add_24 rfl (fun H hH => ⟨hp2, ⟨rfl, LA.1, (Kp.tr (show Kp _ h hp1 by rw [ehp1]; exact Kp.put h1 (Or.inl rfl)) (show Kp _ hp1 hp2 from LA.2))⟩, hH⟩)
