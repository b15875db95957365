theorem Kq.none {a e : Nat} {h h1 : Hp} {x : Tg × va_E} (K : Kq a h h1) (p : h1 a = some x) (n : h1 e = none) : h e = none := by
  cases c : h e with
  | none => rfl
  | some y => rw [K e y c (fun z => by rw [z, p] at n; cases n)] at n; cases n
theorem Kp.putN {h h1 : Hp} {a : Nat} {t : Tg} {e : va_E} (K : Kp T0 h h1) (n : h a = none) : Kp T0 h (hset h1 a t e) := fun q t' e' b _ => by
  rw [hset_ne (fun z => by rw [z, n] at b; cases b)]
  exact K.get0 b
theorem Ko.of0 {ci : Nat} {h h' : Hp} (K : Kp T0 h h') : Ko ci h h' := fun q t fs a => K.get0 a
set_option maxRecDepth 100000 in
theorem cc_hinit {l : Launch} {Γ : Gm} {A : Nat → Prop} {ρ : State → Prop} (B : Bc l Γ A ρ) {h : Hp} {a : Nat} {t : Tg} {x y z u : Value} (Ho : h a = some (t, .inr (12, [x, y, z, u]))) (hv lt ge wg : Int32) (hg : ge = 0 ∨ ge = 1) : CtE l Γ A ρ yX14_init cX14_init 5 none { frames := 1, cells := 0, slots := 0, locals := 20 } [.ref a, .int hv, .int lt, .int ge, .int wg] h (fun v h' => v = none ∧ h' a = some (t, .inr (12, [.int hv, .int lt, .int wg, .int ge])) ∧ Kq a h h') := by
  refine Ct.ofI B.1.1 B.1.2 (by decide) [some (.ref a), some (.int hv), some (.int lt), some (.int ge), some (.int wg)] (Nat.le_of_ble_eq_true rfl) rfl ?_
  intro E hE C R hnm
  subst hE
  have SC_ := B.2 _ C.r
  refine g_aload_n C dX14_init_0 rfl rfl ?_
  refine c_objInit q961 q132 q133 C (Nat.le_of_ble_eq_true rfl) ⟨Nat.le_of_ble_eq_true rfl, Nat.le_of_ble_eq_true rfl⟩ dX14_init_1 ?_
  refine g_aload_n C dX14_init_4 rfl rfl ?_
  refine g_iload_n C dX14_init_5 rfl rfl ?_
  refine c_putF 12 0 k_X14 in_X14 tyX14 tyX14_ok nmX14 (by decide) (fun _ h => h) q962 rfl hnm rfl (ty := .int) (by decide +kernel) rfl rfl (Nat.le_of_ble_eq_true rfl) Ho C dX14_init_6 ?_
  obtain ⟨hp1, ehp1⟩ : ∃ hh9 : Hp, hh9 = hset h a t (.inr (12, [.int hv, y, z, u])) := ⟨_, rfl⟩
  refine g_heq (h' := hp1) ehp1.symm ?_
  have php1_a : hp1 a = some (t, .inr (12, [.int hv, y, z, u])) := by rw [ehp1]; exact hset_self _ _ _ _
  refine g_aload_n C dX14_init_9 rfl rfl ?_
  refine g_iload_n C dX14_init_10 rfl rfl ?_
  refine c_putF 12 1 k_X14 in_X14 tyX14 tyX14_ok nmX14 (by decide) (fun _ h => h) q965 rfl hnm rfl (ty := .int) (by decide +kernel) rfl rfl (Nat.le_of_ble_eq_true rfl) php1_a C dX14_init_11 ?_
  obtain ⟨hp2, ehp2⟩ : ∃ hh9 : Hp, hh9 = hset hp1 a t (.inr (12, [.int hv, .int lt, z, u])) := ⟨_, rfl⟩
  refine g_heq (h' := hp2) ehp2.symm ?_
  have php2_a : hp2 a = some (t, .inr (12, [.int hv, .int lt, z, u])) := by rw [ehp2]; exact hset_self _ _ _ _
  refine g_aload_n C dX14_init_14 rfl rfl ?_
  refine g_iload_n C dX14_init_15 rfl rfl ?_
  refine c_putF 12 3 k_X14 in_X14 tyX14 tyX14_ok nmX14 (by decide) (fun _ h => h) q970 rfl hnm rfl (ty := .boolean) (by decide +kernel) (by rcases hg with rfl | rfl <;> rfl) (by rcases hg with rfl | rfl <;> rfl) (Nat.le_of_ble_eq_true rfl) php2_a C dX14_init_16 ?_
  obtain ⟨hp3, ehp3⟩ : ∃ hh9 : Hp, hh9 = hset hp2 a t (.inr (12, [.int hv, .int lt, z, .int ge])) := ⟨_, rfl⟩
  refine g_heq (h' := hp3) ehp3.symm ?_
  have php3_a : hp3 a = some (t, .inr (12, [.int hv, .int lt, z, .int ge])) := by rw [ehp3]; exact hset_self _ _ _ _
  refine g_aload_n C dX14_init_19 rfl rfl ?_
  refine g_iload C dX14_init_20 rfl ?_
  refine c_putF 12 2 k_X14 in_X14 tyX14 tyX14_ok nmX14 (by decide) (fun _ h => h) q968 rfl hnm rfl (ty := .int) (by decide +kernel) rfl rfl (Nat.le_of_ble_eq_true rfl) php3_a C dX14_init_22 ?_
  obtain ⟨hp4, ehp4⟩ : ∃ hh9 : Hp, hh9 = hset hp3 a t (.inr (12, [.int hv, .int lt, .int wg, .int ge])) := ⟨_, rfl⟩
  refine g_heq (h' := hp4) ehp4.symm ?_
  have php4_a : hp4 a = some (t, .inr (12, [.int hv, .int lt, .int wg, .int ge])) := by rw [ehp4]; exact hset_self _ _ _ _
  exact g_vret C R (Nat.le_of_ble_eq_true rfl) (Nat.le_of_ble_eq_true rfl) dX14_init_25 (fun H hH => ⟨hp4, ⟨rfl, php4_a, (Kq.tr (Kq.tr (Kq.tr (show Kq a h hp1 by rw [ehp1]; exact Kq.set) (show Kq a hp1 hp2 by rw [ehp2]; exact Kq.set)) (show Kq a hp2 hp3 by rw [ehp3]; exact Kq.set)) (show Kq a hp3 hp4 by rw [ehp4]; exact Kq.set))⟩, hH⟩)
set_option maxRecDepth 100000 in
theorem cc_winit {l : Launch} {Γ : Gm} {A : Nat → Prop} {ρ : State → Prop} (B : Bc l Γ A ρ) {h : Hp} {a : Nat} {t : Tg} {x y : Value} (Ho : h a = some (t, .inr (11, [x, y]))) (cn ge : Int32) (hg : ge = 0 ∨ ge = 1) : CtE l Γ A ρ yX13_init cX13_init 3 none { frames := 1, cells := 0, slots := 0, locals := 20 } [.ref a, .int cn, .int ge] h (fun v h' => v = none ∧ h' a = some (t, .inr (11, [.int cn, .int ge])) ∧ Kq a h h') := by
  refine Ct.ofI B.1.1 B.1.2 (by decide) [some (.ref a), some (.int cn), some (.int ge)] (Nat.le_of_ble_eq_true rfl) rfl ?_
  intro E hE C R hnm
  subst hE
  have SC_ := B.2 _ C.r
  refine g_aload_n C dX13_init_0 rfl rfl ?_
  refine c_objInit q912 q132 q133 C (Nat.le_of_ble_eq_true rfl) ⟨Nat.le_of_ble_eq_true rfl, Nat.le_of_ble_eq_true rfl⟩ dX13_init_1 ?_
  refine g_aload_n C dX13_init_4 rfl rfl ?_
  refine g_iload_n C dX13_init_5 rfl rfl ?_
  refine c_putF 11 0 k_X13 in_X13 tyX13 tyX13_ok nmX13 (by decide) (fun _ h => h) q913 rfl hnm rfl (ty := .int) (by decide +kernel) rfl rfl (Nat.le_of_ble_eq_true rfl) Ho C dX13_init_6 ?_
  obtain ⟨hp1, ehp1⟩ : ∃ hh9 : Hp, hh9 = hset h a t (.inr (11, [.int cn, y])) := ⟨_, rfl⟩
  refine g_heq (h' := hp1) ehp1.symm ?_
  have php1_a : hp1 a = some (t, .inr (11, [.int cn, y])) := by rw [ehp1]; exact hset_self _ _ _ _
  refine g_aload_n C dX13_init_9 rfl rfl ?_
  refine g_iload_n C dX13_init_10 rfl rfl ?_
  refine c_putF 11 1 k_X13 in_X13 tyX13 tyX13_ok nmX13 (by decide) (fun _ h => h) q915 rfl hnm rfl (ty := .boolean) (by decide +kernel) (by rcases hg with rfl | rfl <;> rfl) (by rcases hg with rfl | rfl <;> rfl) (Nat.le_of_ble_eq_true rfl) php1_a C dX13_init_11 ?_
  obtain ⟨hp2, ehp2⟩ : ∃ hh9 : Hp, hh9 = hset hp1 a t (.inr (11, [.int cn, .int ge])) := ⟨_, rfl⟩
  refine g_heq (h' := hp2) ehp2.symm ?_
  have php2_a : hp2 a = some (t, .inr (11, [.int cn, .int ge])) := by rw [ehp2]; exact hset_self _ _ _ _
  exact g_vret C R (Nat.le_of_ble_eq_true rfl) (Nat.le_of_ble_eq_true rfl) dX13_init_14 (fun H hH => ⟨hp2, ⟨rfl, php2_a, (Kq.tr (show Kq a h hp1 by rw [ehp1]; exact Kq.set) (show Kq a hp1 hp2 by rw [ehp2]; exact Kq.set))⟩, hH⟩)
set_option maxRecDepth 100000 in
theorem cc_vinit {l : Launch} {Γ : Gm} {A : Nat → Prop} {ρ : State → Prop} (B : Bc l Γ A ρ) {h : Hp} {a : Nat} {t : Tg} (Vo : h a = some (t, .inr (13, [.int 0, .int 0, .int 0, .null, .null, .int 0, .int 0]))) (sc dy to : Int32) : CtE l Γ A ρ yX15_init cX15_init 4 none { frames := 1, cells := 2, slots := 16, locals := 20 } [.ref a, .int sc, .int dy, .int to] h (fun v h' => v = none ∧ ∃ m e, h m = none ∧ h e = none ∧ h' a = some (t, .inr (13, [.int sc, .int dy, .int to, .ref m, .ref e, .int 0, .int (-2)])) ∧ h' m = some ((40, a), aI Γ 8 (fun _ => 0)) ∧ h' e = some ((41, a), aI Γ 8 (fun _ => 0)) ∧ Kq a h h') := by
  refine Ct.ofI B.1.1 B.1.2 (by decide) [some (.ref a), some (.int sc), some (.int dy), some (.int to)] (Nat.le_of_ble_eq_true rfl) rfl ?_
  intro E hE C R hnm
  subst hE
  have SC_ := B.2 _ C.r
  refine g_aload_n C dX15_init_0 rfl rfl ?_
  refine c_objInit q1101 q132 q133 C (Nat.le_of_ble_eq_true rfl) ⟨Nat.le_of_ble_eq_true rfl, Nat.le_of_ble_eq_true rfl⟩ dX15_init_1 ?_
  refine g_aload_n C dX15_init_4 rfl rfl ?_
  refine g_bipush (v := 8) C dX15_init_5 rfl ?_
  refine c_newaI (n := 8) (40, a) q512 SC_ (Nat.le_of_ble_eq_true rfl) (Nat.le_of_ble_eq_true rfl) (Nat.le_of_ble_eq_true rfl) C dX15_init_7 (fun m nm => ?_)
  obtain ⟨hp1, ehp1⟩ : ∃ hh9 : Hp, hh9 = hset h m (40, a) (aI Γ 8 (fun _ => 0)) := ⟨_, rfl⟩
  refine g_heq (h' := hp1) ehp1.symm ?_
  have php1_a : hp1 a = some (t, .inr (13, [.int 0, .int 0, .int 0, .null, .null, .int 0, .int 0])) := by rw [ehp1]; exact hset_old nm Vo
  have php1_m : hp1 m = some ((40, a), aI Γ 8 (fun _ => 0)) := by rw [ehp1]; exact hset_self _ _ _ _
  refine c_putF 13 3 k_X15 in_X15 tyX15 tyX15_ok nmX15 (by decide) (fun _ h => h) q1108 rfl hnm rfl (ty := .array (.int)) (by decide +kernel) rfl rfl (Nat.le_of_ble_eq_true rfl) php1_a C dX15_init_9 ?_
  obtain ⟨hp2, ehp2⟩ : ∃ hh9 : Hp, hh9 = hset hp1 a t (.inr (13, [.int 0, .int 0, .int 0, .ref m, .null, .int 0, .int 0])) := ⟨_, rfl⟩
  refine g_heq (h' := hp2) ehp2.symm ?_
  have php2_a : hp2 a = some (t, .inr (13, [.int 0, .int 0, .int 0, .ref m, .null, .int 0, .int 0])) := by rw [ehp2]; exact hset_self _ _ _ _
  have php2_m : hp2 m = some ((40, a), aI Γ 8 (fun _ => 0)) := by rw [ehp2]; exact (hset_ne (fun z => by have q9 := Vo; rw [← z, nm] at q9; cases q9)).trans php1_m
  refine g_aload_n C dX15_init_12 rfl rfl ?_
  refine g_bipush (v := 8) C dX15_init_13 rfl ?_
  refine c_newaI (n := 8) (41, a) q512 SC_ (Nat.le_of_ble_eq_true rfl) (Nat.le_of_ble_eq_true rfl) (Nat.le_of_ble_eq_true rfl) C dX15_init_15 (fun e_ ne_ => ?_)
  obtain ⟨hp3, ehp3⟩ : ∃ hh9 : Hp, hh9 = hset hp2 e_ (41, a) (aI Γ 8 (fun _ => 0)) := ⟨_, rfl⟩
  refine g_heq (h' := hp3) ehp3.symm ?_
  have php3_a : hp3 a = some (t, .inr (13, [.int 0, .int 0, .int 0, .ref m, .null, .int 0, .int 0])) := by rw [ehp3]; exact hset_old ne_ php2_a
  have php3_m : hp3 m = some ((40, a), aI Γ 8 (fun _ => 0)) := by rw [ehp3]; exact hset_old ne_ php2_m
  have php3_e_ : hp3 e_ = some ((41, a), aI Γ 8 (fun _ => 0)) := by rw [ehp3]; exact hset_self _ _ _ _
  have neh : h e_ = none := Kq.none (Kq.tr (show Kq a h hp1 by rw [ehp1]; exact Kq.add nm) (show Kq a hp1 hp2 by rw [ehp2]; exact Kq.set)) php2_a ne_
  refine c_putF 13 4 k_X15 in_X15 tyX15 tyX15_ok nmX15 (by decide) (fun _ h => h) q1110 rfl hnm rfl (ty := .array (.int)) (by decide +kernel) rfl rfl (Nat.le_of_ble_eq_true rfl) php3_a C dX15_init_17 ?_
  obtain ⟨hp4, ehp4⟩ : ∃ hh9 : Hp, hh9 = hset hp3 a t (.inr (13, [.int 0, .int 0, .int 0, .ref m, .ref e_, .int 0, .int 0])) := ⟨_, rfl⟩
  refine g_heq (h' := hp4) ehp4.symm ?_
  have php4_a : hp4 a = some (t, .inr (13, [.int 0, .int 0, .int 0, .ref m, .ref e_, .int 0, .int 0])) := by rw [ehp4]; exact hset_self _ _ _ _
  have php4_m : hp4 m = some ((40, a), aI Γ 8 (fun _ => 0)) := by rw [ehp4]; exact (hset_ne (fun z => by have q9 := Vo; rw [← z, nm] at q9; cases q9)).trans php3_m
  have php4_e_ : hp4 e_ = some ((41, a), aI Γ 8 (fun _ => 0)) := by rw [ehp4]; exact (hset_ne (fun z => by have q9 := php2_a; rw [← z, ne_] at q9; cases q9)).trans php3_e_
  refine g_aload_n C dX15_init_20 rfl rfl ?_
  refine g_bipush (v := (-2)) C dX15_init_21 rfl ?_
  refine c_put 13 6 k_X15 in_X15 tyX15 tyX15_ok nmX15 (by decide) (fun _ h => h) q1114 rfl (ty := .int) (by decide +kernel) rfl rfl (Nat.le_of_ble_eq_true rfl) php4_a C dX15_init_23 ?_
  obtain ⟨hp5, ehp5⟩ : ∃ hh9 : Hp, hh9 = hset hp4 a t (.inr (13, [.int 0, .int 0, .int 0, .ref m, .ref e_, .int 0, .int (-2)])) := ⟨_, rfl⟩
  refine g_heq (h' := hp5) ehp5.symm ?_
  have php5_a : hp5 a = some (t, .inr (13, [.int 0, .int 0, .int 0, .ref m, .ref e_, .int 0, .int (-2)])) := by rw [ehp5]; exact hset_self _ _ _ _
  have php5_m : hp5 m = some ((40, a), aI Γ 8 (fun _ => 0)) := by rw [ehp5]; exact (hset_ne (fun z => by have q9 := Vo; rw [← z, nm] at q9; cases q9)).trans php4_m
  have php5_e_ : hp5 e_ = some ((41, a), aI Γ 8 (fun _ => 0)) := by rw [ehp5]; exact (hset_ne (fun z => by have q9 := php2_a; rw [← z, ne_] at q9; cases q9)).trans php4_e_
  refine g_aload_n C dX15_init_26 rfl rfl ?_
  refine g_iload_n C dX15_init_27 rfl rfl ?_
  refine c_putF 13 0 k_X15 in_X15 tyX15 tyX15_ok nmX15 (by decide) (fun _ h => h) q1102 rfl hnm rfl (ty := .int) (by decide +kernel) rfl rfl (Nat.le_of_ble_eq_true rfl) php5_a C dX15_init_28 ?_
  obtain ⟨hp6, ehp6⟩ : ∃ hh9 : Hp, hh9 = hset hp5 a t (.inr (13, [.int sc, .int 0, .int 0, .ref m, .ref e_, .int 0, .int (-2)])) := ⟨_, rfl⟩
  refine g_heq (h' := hp6) ehp6.symm ?_
  have php6_a : hp6 a = some (t, .inr (13, [.int sc, .int 0, .int 0, .ref m, .ref e_, .int 0, .int (-2)])) := by rw [ehp6]; exact hset_self _ _ _ _
  have php6_m : hp6 m = some ((40, a), aI Γ 8 (fun _ => 0)) := by rw [ehp6]; exact (hset_ne (fun z => by have q9 := Vo; rw [← z, nm] at q9; cases q9)).trans php5_m
  have php6_e_ : hp6 e_ = some ((41, a), aI Γ 8 (fun _ => 0)) := by rw [ehp6]; exact (hset_ne (fun z => by have q9 := php2_a; rw [← z, ne_] at q9; cases q9)).trans php5_e_
  refine g_aload_n C dX15_init_31 rfl rfl ?_
  refine g_iload_n C dX15_init_32 rfl rfl ?_
  refine c_putF 13 1 k_X15 in_X15 tyX15 tyX15_ok nmX15 (by decide) (fun _ h => h) q1104 rfl hnm rfl (ty := .int) (by decide +kernel) rfl rfl (Nat.le_of_ble_eq_true rfl) php6_a C dX15_init_33 ?_
  obtain ⟨hp7, ehp7⟩ : ∃ hh9 : Hp, hh9 = hset hp6 a t (.inr (13, [.int sc, .int dy, .int 0, .ref m, .ref e_, .int 0, .int (-2)])) := ⟨_, rfl⟩
  refine g_heq (h' := hp7) ehp7.symm ?_
  have php7_a : hp7 a = some (t, .inr (13, [.int sc, .int dy, .int 0, .ref m, .ref e_, .int 0, .int (-2)])) := by rw [ehp7]; exact hset_self _ _ _ _
  have php7_m : hp7 m = some ((40, a), aI Γ 8 (fun _ => 0)) := by rw [ehp7]; exact (hset_ne (fun z => by have q9 := Vo; rw [← z, nm] at q9; cases q9)).trans php6_m
  have php7_e_ : hp7 e_ = some ((41, a), aI Γ 8 (fun _ => 0)) := by rw [ehp7]; exact (hset_ne (fun z => by have q9 := php2_a; rw [← z, ne_] at q9; cases q9)).trans php6_e_
  refine g_aload_n C dX15_init_36 rfl rfl ?_
  refine g_iload_n C dX15_init_37 rfl rfl ?_
  refine c_putF 13 2 k_X15 in_X15 tyX15 tyX15_ok nmX15 (by decide) (fun _ h => h) q1106 rfl hnm rfl (ty := .int) (by decide +kernel) rfl rfl (Nat.le_of_ble_eq_true rfl) php7_a C dX15_init_38 ?_
  obtain ⟨hp8, ehp8⟩ : ∃ hh9 : Hp, hh9 = hset hp7 a t (.inr (13, [.int sc, .int dy, .int to, .ref m, .ref e_, .int 0, .int (-2)])) := ⟨_, rfl⟩
  refine g_heq (h' := hp8) ehp8.symm ?_
  have php8_a : hp8 a = some (t, .inr (13, [.int sc, .int dy, .int to, .ref m, .ref e_, .int 0, .int (-2)])) := by rw [ehp8]; exact hset_self _ _ _ _
  have php8_m : hp8 m = some ((40, a), aI Γ 8 (fun _ => 0)) := by rw [ehp8]; exact (hset_ne (fun z => by have q9 := Vo; rw [← z, nm] at q9; cases q9)).trans php7_m
  have php8_e_ : hp8 e_ = some ((41, a), aI Γ 8 (fun _ => 0)) := by rw [ehp8]; exact (hset_ne (fun z => by have q9 := php2_a; rw [← z, ne_] at q9; cases q9)).trans php7_e_
  exact g_vret C R (Nat.le_of_ble_eq_true rfl) (Nat.le_of_ble_eq_true rfl) dX15_init_41 (fun H hH => ⟨hp8, ⟨rfl, m, e_, nm, neh, php8_a, php8_m, php8_e_, (Kq.tr (Kq.tr (Kq.tr (Kq.tr (Kq.tr (Kq.tr (Kq.tr (show Kq a h hp1 by rw [ehp1]; exact Kq.add nm) (show Kq a hp1 hp2 by rw [ehp2]; exact Kq.set)) (show Kq a hp2 hp3 by rw [ehp3]; exact Kq.add ne_)) (show Kq a hp3 hp4 by rw [ehp4]; exact Kq.set)) (show Kq a hp4 hp5 by rw [ehp5]; exact Kq.set)) (show Kq a hp5 hp6 by rw [ehp6]; exact Kq.set)) (show Kq a hp6 hp7 by rw [ehp7]; exact Kq.set)) (show Kq a hp7 hp8 by rw [ehp8]; exact Kq.set))⟩, hH⟩)
