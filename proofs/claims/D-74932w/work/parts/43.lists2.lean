theorem hset_io {h : Hp} {q y : Nat} {t s t' : Tg} {e : va_E} {x : ClassId × vp_A} {z : Nat × List Value} (a : h q = some (s, .inl x)) (b : h y = some (t', .inr z)) : hset h q t e y = some (t', .inr z) := by
  rw [hset_ne (fun c => by rw [c, a] at b; cases b), b]
theorem hset_oi {h : Hp} {q y : Nat} {t s t' : Tg} {e : va_E} {x : ClassId × vp_A} {z : Nat × List Value} (a : h q = some (s, .inr z)) (b : h y = some (t', .inl x)) : hset h q t e y = some (t', .inl x) := by
  rw [hset_ne (fun c => by rw [c, a] at b; cases b), b]
theorem hset_oc {h : Hp} {q y ci cj : Nat} {t s t' : Tg} {e : va_E} {x z : List Value} (n : cj ≠ ci) (a : h q = some (s, .inr (ci, x))) (b : h y = some (t', .inr (cj, z))) : hset h q t e y = some (t', .inr (cj, z)) := by
  rw [hset_ne (fun c => by rw [c, a] at b; cases b; exact n rfl), b]
/-- only the cell at a has changed -/
def Kq (a : Nat) (h h' : Hp) : Prop := ∀ (q : Nat) (x : Tg × va_E), h q = some x → q ≠ a → h' q = some x
theorem Kq.new {a : Nat} {t : Tg} {e : va_E} {h h' : Hp} (n : h a = none) (K : Kq a (hset h a t e) h') : Kp T0 h h' := fun q t' e' b _ => K q _ (hset_old n b) (fun z => by rw [z, n] at b; cases b)
theorem Kq.toKp {a : Nat} {h h' : Hp} {t : Tg} {e : va_E} {T : Tg → Prop} (K : Kq a h h') (b : h a = some (t, e)) (c : T t) : Kp T h h' := fun q t' e' d f => K q _ d (fun z => by rw [z, b] at d; cases d; exact f c)
theorem Kq.set {a : Nat} {t : Tg} {e : va_E} {h : Hp} : Kq a h (hset h a t e) := fun q x b n => by rw [hset_ne n, b]
theorem Kq.add {a q : Nat} {t : Tg} {e : va_E} {h : Hp} (n : h q = none) : Kq a h (hset h q t e) := fun y x b _ => by obtain ⟨t', e'⟩ := x; exact hset_old n b
theorem Kq.tr {a : Nat} {h h' h'' : Hp} (x : Kq a h h') (y : Kq a h' h'') : Kq a h h'' := fun q z b n => y q z (x q z b n) n
theorem Kq.of0 {a : Nat} {h h' : Hp} (x : Kp T0 h h') : Kq a h h' := fun q z b _ => by obtain ⟨t', e'⟩ := z; exact x.get0 b
/-- all objects of class ci stay as they are -/
def Ko (ci : Nat) (h h' : Hp) : Prop := ∀ (q : Nat) (t : Tg) (fs : List Value), h q = some (t, .inr (ci, fs)) → h' q = some (t, .inr (ci, fs))
theorem Ko.rf {ci : Nat} {h : Hp} : Ko ci h h := fun _ _ _ a => a
theorem Ko.tr {ci : Nat} {h h' h'' : Hp} (a : Ko ci h h') (b : Ko ci h' h'') : Ko ci h h'' := fun q t fs c => b q t fs (a q t fs c)
theorem Ko.new {ci : Nat} {h : Hp} {q : Nat} {t : Tg} {e : va_E} (n : h q = none) : Ko ci h (hset h q t e) := fun _ _ _ c => hset_old n c
theorem Ko.ar {ci : Nat} {h : Hp} {q : Nat} {t s : Tg} {e : va_E} {x : ClassId × vp_A} (a : h q = some (s, .inl x)) : Ko ci h (hset h q t e) := fun _ _ _ c => hset_io a c
theorem Ko.oc {ci cj : Nat} (n : ci ≠ cj) {h : Hp} {q : Nat} {t s : Tg} {e : va_E} {x : List Value} (a : h q = some (s, .inr (cj, x))) : Ko ci h (hset h q t e) := fun _ _ _ c => hset_oc n a c
theorem Ko.el {ci : Nat} {h h' : Hp} (K : Ko ci h h') {n : Nat} {f : Nat → Nat} (a : ∀ k, k < n → ∃ t fs, h (f k) = some (t, .inr (ci, fs))) : ∀ k, k < n → ∃ t fs, h' (f k) = some (t, .inr (ci, fs)) := fun k hk => by
  obtain ⟨t, fs, e⟩ := a k hk
  exact ⟨t, fs, K _ _ _ e⟩
/-- the tags of a list -/
def TL (t : Tg) : Tg → Prop := fun s => s = t ∨ s = (t.1 + 1, t.2)
set_option maxRecDepth 100000 in
theorem cc_copyOf3 {l : Launch} {Γ : Gm} {A : Nat → Prop} {ρ : State → Prop} (B : Bc l Γ A ρ) {h : Hp} {a : Nat} {t te : Tg} {ci cap : Nat} {g : Nat → Option Nat} (hC : Cno ci) (e0 : h a = some (t, aR Γ 4 cap g)) (hcap : cap ≤ 64) (hel : ∀ i, i < cap → ∀ y, g i = some y → ∃ t fs, h y = some (t, .inr (ci, fs))) (m : Nat) (hm : m ≤ 64) : CtE l Γ A ρ yJ13_copyOf_3 cJ13_copyOf_3 4 (some (.array (.object "java/lang/Object"))) { frames := 1, cells := 1, slots := 64, locals := 40 } [.ref a, .int (nI m), .ref (Γ.2.2 0)] h (fun v h' => ∃ e2, v = some (.ref e2) ∧ h e2 = none ∧ h' = hset h e2 te (aR Γ 4 m (va_cpy g (fun _ => none) 0 0 (min cap m)))) := by
  refine Ct.of B.1.1 B.1.2 (by decide) [some (.ref a), some (.int (nI m)), some (.ref (Γ.2.2 0)), none] (Nat.le_of_ble_eq_true rfl) rfl ?_
  intro E hE C R
  subst hE
  have SC_ := B.2 _ C.r
  obtain ⟨r, hr, hca, hne⟩ := hC
  have hmi := SC_.2.2.2.2.2.1
  refine g_aload_n C dJ13_copyOf_3_0 rfl rfl ?_
  refine g_ldcM C q890 hmi dJ13_copyOf_3_1 ?_
  refine g_acmp_neR C dJ13_copyOf_3_3 13 rfl ?_
  refine g_iload_n C dJ13_copyOf_3_6 rfl rfl ?_
  refine c_newq (n := m) te 4 rfl q891 SC_.2.2.1 SC_ (by omega) (Nat.le_of_ble_eq_true rfl) (by show 0 + m ≤ 64; omega) C dJ13_copyOf_3_7 (fun e2 ne2 => ?_)
  refine g_wid (c := 1) (z := 64) (Nat.le_of_ble_eq_true rfl) (by show 0 + m ≤ 64; omega) ?_
  obtain ⟨hp1, ehp1⟩ : ∃ hh9 : Hp, hh9 = hset h e2 te (aR Γ 4 m (fun _ => none)) := ⟨_, rfl⟩
  refine g_heq (h' := hp1) ehp1.symm ?_
  have php1_a : hp1 a = some (t, aR Γ 4 cap g) := by rw [ehp1]; exact hset_old ne2 e0
  have php1_e2 : hp1 e2 = some (te, aR Γ 4 m (fun _ => none)) := by rw [ehp1]; exact hset_self _ _ _ _
  refine g_goto 24 C dJ13_copyOf_3_10 rfl ?_
  refine g_astore_n (lv' := [some (.ref a), some (.int (nI m)), some (.ref (Γ.2.2 0)), some (.ref e2)]) C dJ13_copyOf_3_24 rfl (by decide) rfl ?_
  refine g_aload_n C dJ13_copyOf_3_25 rfl rfl ?_
  refine g_iconst (v := 0) C dJ13_copyOf_3_26 rfl ?_
  refine g_aload_n C dJ13_copyOf_3_27 rfl rfl ?_
  refine g_iconst (v := 0) C dJ13_copyOf_3_28 rfl ?_
  refine g_aload_n C dJ13_copyOf_3_29 rfl rfl ?_
  refine c_alen 4 rfl php1_a C dJ13_copyOf_3_30 ?_
  refine g_iload_n C dJ13_copyOf_3_31 rfl rfl ?_
  refine h_callS (rest := [.int 0, .ref e2, .int 0, .ref a]) 2 C (cc_min B.1 _ _ _) (lw_S q272 q273 q100 q274) ⟨⟨by decide, by decide, by decide +kernel⟩, ⟨Nat.le_of_ble_eq_true rfl, Nat.le_of_ble_eq_true rfl⟩, ⟨Nat.le_of_ble_eq_true rfl, Nat.le_of_ble_eq_true rfl⟩⟩ (fun _ h => h) rfl rfl (Nat.le_of_ble_eq_true rfl) dJ13_copyOf_3_32 (h_P ?_)
  refine g_topi (y := nI (min cap m)) (jmn_N (by omega) (by omega)) ?_
  refine c_copyq (sp := 0) (dp := 0) (n := min cap m) hr hca SC_ q275 php1_a php1_e2 (by omega) (by omega) ⟨by omega, by omega⟩ (fun i hi y hy => by rw [Nat.zero_add] at hy; obtain ⟨t8, fs8, e8⟩ := hel i (by omega) y hy; exact ⟨t8, fs8, by rw [ehp1]; exact hset_old ne2 e8⟩) ⟨Nat.le_of_ble_eq_true rfl, Nat.le_of_ble_eq_true rfl⟩ (Nat.le_of_ble_eq_true rfl) C dJ13_copyOf_3_35 ?_
  obtain ⟨hp2, ehp2⟩ : ∃ hh9 : Hp, hh9 = hset hp1 e2 te (aR Γ 4 m (va_cpy g (fun _ => none) 0 0 (min cap m))) := ⟨_, rfl⟩
  refine g_heq (h' := hp2) ehp2.symm ?_
  have php2_a : hp2 a = some (t, aR Γ 4 cap g) := by rw [ehp2]; exact (hset_ne (show a ≠ e2 by exact fun z => by rw [z, ne2] at e0; cases e0)).trans php1_a
  have php2_e2 : hp2 e2 = some (te, aR Γ 4 m (va_cpy g (fun _ => none) 0 0 (min cap m))) := by rw [ehp2]; exact hset_self _ _ _ _
  refine g_aload_n C dJ13_copyOf_3_38 rfl rfl ?_
  exact g_aret C R (Or.inr ⟨_, rfl⟩) (Or.inr ⟨_, rfl⟩) (Nat.le_of_ble_eq_true rfl) (Nat.le_of_ble_eq_true rfl) dJ13_copyOf_3_39 (fun H hH => ⟨_, ⟨e2, rfl, ne2, by rw [ehp2, ehp1, hset_hset]⟩, hH⟩)
set_option maxRecDepth 100000 in
theorem cc_copyOf2 {l : Launch} {Γ : Gm} {A : Nat → Prop} {ρ : State → Prop} (B : Bc l Γ A ρ) {h : Hp} {a : Nat} {t te : Tg} {ci cap : Nat} {g : Nat → Option Nat} (hC : Cno ci) (e0 : h a = some (t, aR Γ 4 cap g)) (hcap : cap ≤ 64) (hel : ∀ i, i < cap → ∀ y, g i = some y → ∃ t fs, h y = some (t, .inr (ci, fs))) (m : Nat) (hm : m ≤ 64) : CtE l Γ A ρ yJ13_copyOf_2 cJ13_copyOf_2 2 (some (.array (.object "java/lang/Object"))) { frames := 2, cells := 1, slots := 64, locals := 63 } [.ref a, .int (nI m)] h (fun v h' => ∃ e2, v = some (.ref e2) ∧ h e2 = none ∧ h' = hset h e2 te (aR Γ 4 m (va_cpy g (fun _ => none) 0 0 (min cap m)))) := by
  refine Ct.of B.1.1 B.1.2 (by decide) [some (.ref a), some (.int (nI m))] (Nat.le_of_ble_eq_true rfl) rfl ?_
  intro E hE C R
  subst hE
  have SC_ := B.2 _ C.r
  have hmi0 := SC_.2.2.2.2.2.1
  refine g_aload_n C dJ13_copyOf_2_0 rfl rfl ?_
  refine g_iload_n C dJ13_copyOf_2_1 rfl rfl ?_
  refine g_aload_n C dJ13_copyOf_2_2 rfl rfl ?_
  refine c_getC SC_ e0 q858 hmi0 ⟨Nat.le_of_ble_eq_true rfl, Nat.le_of_ble_eq_true rfl⟩ (Nat.le_of_ble_eq_true rfl) C dJ13_copyOf_2_3 ?_
  refine h_callS (rest := []) 3 C (cc_copyOf3 B (te := te) hC e0 hcap hel m hm) (lw_S q887 q888 q101 q889) ⟨⟨by decide, by decide, by decide +kernel⟩, ⟨Nat.le_of_ble_eq_true rfl, Nat.le_of_ble_eq_true rfl⟩, ⟨Nat.le_of_ble_eq_true rfl, Nat.le_of_ble_eq_true rfl⟩⟩ (fun _ h => h) rfl rfl (Nat.le_of_ble_eq_true rfl) dJ13_copyOf_2_6 (h_E (fun v1 hp1 r1 => ?_))
  obtain ⟨e2, rfl, ne2, eh⟩ := r1
  exact g_aret C R (Or.inr ⟨_, rfl⟩) (Or.inr ⟨_, rfl⟩) (Nat.le_of_ble_eq_true rfl) (Nat.le_of_ble_eq_true rfl) dJ13_copyOf_2_9 (fun H hH => ⟨_, ⟨e2, rfl, ne2, eh⟩, hH⟩)
