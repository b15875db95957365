theorem Lst.cast {Γ : Gm} {h h' : Hp} {a : Nat} {t : Tg} {ci n : Nat} {f : Nat → Nat} (e : h' = h) (L : Lst Γ h a t ci n f) : Lst Γ h' a t ci n f := e ▸ L
theorem Lst.put {Γ : Gm} {h : Hp} {a q cj : Nat} {t s s' : Tg} {ci n : Nat} {f : Nat → Nat} {x : List Value} {e : va_E} (L : Lst Γ h a t ci n f) (b : h q = some (s, .inr (cj, x))) (n1 : cj ≠ 3) (n2 : cj ≠ ci) : Lst Γ (hset h q s' e) a t ci n f := by
  obtain ⟨ea, cap, g, mo, h1, h2, h3, h4, h5, h6, h7, h8⟩ := L
  exact ⟨ea, cap, g, mo, hset_oc (Ne.symm n1) b h1, hset_oi b h2, h3, h4, h5, h6, (Ko.oc (Ne.symm n2) b).el h7, h8⟩
set_option maxRecDepth 100000 in
theorem cc_einit {l : Launch} {Γ : Gm} {A : Nat → Prop} {ρ : State → Prop} (B : Bc l Γ A ρ) {h : Hp} {a : Nat} {t : Tg} (Eo : h a = some (t, .inr (2, [.null, .null]))) : CtE l Γ A ρ yX3_init cX3_init 1 none { frames := 4, cells := 4, slots := 38, locals := 81 } [.ref a] h (fun v h' => v = none ∧ ∃ vl el, h' a = some (t, .inr (2, [.ref vl, .ref el])) ∧ Lst Γ h' vl (31, a) 13 0 (fun _ => 0) ∧ Lst Γ h' el (33, a) 12 0 (fun _ => 0) ∧ Kq a h h') := by
  refine Ct.ofI B.1.1 B.1.2 (by decide) [some (.ref a)] (Nat.le_of_ble_eq_true rfl) rfl ?_
  intro E hE C R hnm
  subst hE
  have SC_ := B.2 _ C.r
  refine g_aload_n C dX3_init_0 rfl rfl ?_
  refine c_objInit q518 q132 q133 C (Nat.le_of_ble_eq_true rfl) ⟨Nat.le_of_ble_eq_true rfl, Nat.le_of_ble_eq_true rfl⟩ dX3_init_1 ?_
  refine g_aload_n C dX3_init_4 rfl rfl ?_
  refine c_new (fs := [.int 0, .null, .int 0]) (31, a) 3 k_J2 in_J2 tyJ2 tyJ2_ok q519 q141 q90 SC_ dfsJ2 (Nat.le_of_ble_eq_true rfl) (Nat.le_of_ble_eq_true rfl) C dX3_init_5 (fun vl nvl => ?_)
  obtain ⟨hp1, ehp1⟩ : ∃ hh9 : Hp, hh9 = hset h vl (31, a) (.inr (3, [.int 0, .null, .int 0])) := ⟨_, rfl⟩
  refine g_heq (h' := hp1) ehp1.symm ?_
  have php1_a : hp1 a = some (t, .inr (2, [.null, .null])) := by rw [ehp1]; exact hset_old nvl Eo
  have php1_vl : hp1 vl = some ((31, a), .inr (3, [.int 0, .null, .int 0])) := by rw [ehp1]; exact hset_self _ _ _ _
  refine g_dup C dX3_init_8 rfl ?_
  refine g_iconst (v := 2) C dX3_init_9 rfl ?_
  refine h_callI (rest := [.ref vl, .ref a]) 1 C (cc_linit B (ci := 13) (f := fun _ => 0) 2 (by decide) (by decide) php1_vl) (lw_meth q144) q90 q520 q143 rfl ⟨⟨by decide, by decide, by decide +kernel⟩, ⟨Nat.le_of_ble_eq_true rfl, Nat.le_of_ble_eq_true rfl⟩, ⟨Nat.le_of_ble_eq_true rfl, Nat.le_of_ble_eq_true rfl⟩⟩ (fun _ h => h) rfl rfl (Nat.le_of_ble_eq_true rfl) dX3_init_10 (h_E (fun v2 hp2 r2 => ?_))
  obtain ⟨rfl, Lhp2, Khp2⟩ := r2
  have Zhp2 : Kp T0 h hp2 := by have z := Khp2; rw [ehp1] at z; exact Kq.new nvl z
  have php2_a : hp2 a = some (t, .inr (2, [.null, .null])) := Zhp2.get0 Eo
  refine c_putF 2 0 k_X3 in_X3 tyX3 tyX3_ok nmX3 (by decide) (fun _ h => h) q521 rfl hnm rfl (ty := .object "java/util/ArrayList") (by decide +kernel) rfl rfl (Nat.le_of_ble_eq_true rfl) php2_a C dX3_init_13 ?_
  obtain ⟨hp3, ehp3⟩ : ∃ hh9 : Hp, hh9 = hset hp2 a t (.inr (2, [.ref vl, .null])) := ⟨_, rfl⟩
  refine g_heq (h' := hp3) ehp3.symm ?_
  have php3_a : hp3 a = some (t, .inr (2, [.ref vl, .null])) := by rw [ehp3]; exact hset_self _ _ _ _
  have php3_vl := Lst.cast ehp3 (Lhp2.put php2_a (by decide) (by decide))
  refine g_aload_n C dX3_init_16 rfl rfl ?_
  refine c_new (fs := [.int 0, .null, .int 0]) (33, a) 3 k_J2 in_J2 tyJ2 tyJ2_ok q519 q141 q90 SC_ dfsJ2 (Nat.le_of_ble_eq_true rfl) (Nat.le_of_ble_eq_true rfl) C dX3_init_17 (fun el nel => ?_)
  obtain ⟨hp4, ehp4⟩ : ∃ hh9 : Hp, hh9 = hset hp3 el (33, a) (.inr (3, [.int 0, .null, .int 0])) := ⟨_, rfl⟩
  refine g_heq (h' := hp4) ehp4.symm ?_
  have php4_a : hp4 a = some (t, .inr (2, [.ref vl, .null])) := by rw [ehp4]; exact hset_old nel php3_a
  have php4_vl := Lst.cast ehp4 (php3_vl.kp0 (Kp.new nel))
  have php4_el : hp4 el = some ((33, a), .inr (3, [.int 0, .null, .int 0])) := by rw [ehp4]; exact hset_self _ _ _ _
  refine g_dup C dX3_init_20 rfl ?_
  refine g_iconst (v := 2) C dX3_init_21 rfl ?_
  refine h_callI (rest := [.ref el, .ref a]) 1 C (cc_linit B (ci := 12) (f := fun _ => 0) 2 (by decide) (by decide) php4_el) (lw_meth q144) q90 q520 q143 rfl ⟨⟨by decide, by decide, by decide +kernel⟩, ⟨Nat.le_of_ble_eq_true rfl, Nat.le_of_ble_eq_true rfl⟩, ⟨Nat.le_of_ble_eq_true rfl, Nat.le_of_ble_eq_true rfl⟩⟩ (fun _ h => h) rfl rfl (Nat.le_of_ble_eq_true rfl) dX3_init_22 (h_E (fun v5 hp5 r5 => ?_))
  obtain ⟨rfl, Lhp5, Khp5⟩ := r5
  have Zhp5 : Kp T0 hp3 hp5 := by have z := Khp5; rw [ehp4] at z; exact Kq.new nel z
  have php5_a : hp5 a = some (t, .inr (2, [.ref vl, .null])) := Zhp5.get0 php3_a
  have php5_vl := php3_vl.kp0 Zhp5
  refine c_putF 2 1 k_X3 in_X3 tyX3 tyX3_ok nmX3 (by decide) (fun _ h => h) q523 rfl hnm rfl (ty := .object "java/util/ArrayList") (by decide +kernel) rfl rfl (Nat.le_of_ble_eq_true rfl) php5_a C dX3_init_25 ?_
  obtain ⟨hp6, ehp6⟩ : ∃ hh9 : Hp, hh9 = hset hp5 a t (.inr (2, [.ref vl, .ref el])) := ⟨_, rfl⟩
  refine g_heq (h' := hp6) ehp6.symm ?_
  have php6_a : hp6 a = some (t, .inr (2, [.ref vl, .ref el])) := by rw [ehp6]; exact hset_self _ _ _ _
  have php6_vl := Lst.cast ehp6 (php5_vl.put php5_a (by decide) (by decide))
  have php6_el := Lst.cast ehp6 (Lhp5.put php5_a (by decide) (by decide))
  exact g_vret C R (Nat.le_of_ble_eq_true rfl) (Nat.le_of_ble_eq_true rfl) dX3_init_28 (fun H hH => ⟨hp6, ⟨rfl, vl, el, php6_a, php6_vl, php6_el, (Kq.tr (Kq.tr (Kq.tr (show Kq a h hp2 from (Kq.of0 Zhp2)) (show Kq a hp2 hp3 by rw [ehp3]; exact Kq.set)) (show Kq a hp3 hp5 from (Kq.of0 Zhp5))) (show Kq a hp5 hp6 by rw [ehp6]; exact Kq.set))⟩, hH⟩)
