theorem g_lookup {E : Cf} {Γ : Gm} {A : Nat → Prop} {ρ : State → Prop} {cc : ByteArray} {nL : Nat} {own : String} {rm : Room} {I : Heap → Prop} {cells slots pc : Nat} {lv : List (Option Value)} {st : List Value} {dflt : Int} {ps : Array (Int × Int)} {len : Nat} {x : Int32} {off : Int} (tgt : Nat) (C : Cx E Γ A ρ cc nL own rm) (d : decode cc pc = .ok (.lookupswitch dflt ps, len)) (hp : (ps.toList.zip (ps.toList.drop 1)).all (fun (a, next) => a.1 < next.1) = true) (ho : Op.lookupswitch.offset ps.toList dflt x.toInt = off) (ht : (pc : Int) + off = (tgt : Int)) (k : G E I cells slots tgt lv st) : G E I cells slots pc lv (.int x :: st) := fun H locs ls hI hS hl => lv_lookup C.x C.b d hp ho ht (k H locs ls hI hS hl)
def afH (hv left right res : Int32) : Int32 := hv &&& (if res = 0 then (left ||| right) ^^^ (-1) else if res = 1 then left else right)
def afL (lt left right res : Int32) : Int32 := lt &&& (if res = 0 then (left ||| right) ^^^ (-1) else if res = 1 then right else left)
def afG (ge res : Int32) : Int32 := if res = 0 then ge else 0
set_option maxRecDepth 100000 in
theorem cc_after {l : Launch} {Γ : Gm} {A : Nat → Prop} {ρ : State → Prop} (B : Bc l Γ A ρ) {h : Hp} {a : Nat} {t : Tg} {hv lt wg ge : Int32} (Ho : h a = some (t, .inr (12, [.int hv, .int lt, .int wg, .int ge]))) (hg : ge = 0 ∨ ge = 1) (left right res : Int32) (hr : res = 0 ∨ res = 1 ∨ res = 2) : CtE l Γ A ρ yX14_after cX14_after 5 (some (.object "ScaleInspection$Hypotheses")) { frames := 2, cells := 1, slots := 4, locals := 44 } [.ref a, .int left, .int right, .int res] h (fun v h' => ∃ q, v = some (.ref q) ∧ h q = none ∧ h' q = some ((0, 0), .inr (12, [.int (afH hv left right res), .int (afL lt left right res), .int (wg + 1), .int (afG ge res)])) ∧ Kp T0 h h') := by
  refine Ct.of B.1.1 B.1.2 (by decide) [some (.ref a), some (.int left), some (.int right), some (.int res), none] (Nat.le_of_ble_eq_true rfl) rfl ?_
  intro E hE C R
  subst hE
  have SC_ := B.2 _ C.r
  rcases hr with rfl | rfl | rfl
  · refine g_iload_n C dX14_after_0 rfl rfl ?_
    refine g_iload_n C dX14_after_1 rfl rfl ?_
    refine g_ior C dX14_after_2 ?_
    refine g_iconst (v := (-1)) C dX14_after_3 rfl ?_
    refine g_ixor C dX14_after_4 ?_
    refine g_istore (lv' := [some (.ref a), some (.int left), some (.int right), some (.int 0), some (.int ((left ||| right) ^^^ (-1)))]) C dX14_after_5 (by decide) rfl ?_
    refine g_iload_n C dX14_after_7 rfl rfl ?_
    refine g_lookup (off := 28) 36 C dX14_after_8 rfl rfl rfl ?_
    refine c_new (fs := [.int 0, .int 0, .int 0, .int 0]) (0, 0) 12 k_X14 in_X14 tyX14 tyX14_ok q1335 q957 q119 SC_ dfsX14 (Nat.le_of_ble_eq_true rfl) (Nat.le_of_ble_eq_true rfl) C dX14_after_36 (fun q nq => ?_)
    obtain ⟨hp1, ehp1⟩ : ∃ hh9 : Hp, hh9 = hset h q (0, 0) (.inr (12, [.int 0, .int 0, .int 0, .int 0])) := ⟨_, rfl⟩
    refine g_heq (h' := hp1) ehp1.symm ?_
    have php1_a : hp1 a = some (t, .inr (12, [.int hv, .int lt, .int wg, .int ge])) := by rw [ehp1]; exact hset_old nq Ho
    have php1_q : hp1 q = some ((0, 0), .inr (12, [.int 0, .int 0, .int 0, .int 0])) := by rw [ehp1]; exact hset_self _ _ _ _
    refine g_dup C dX14_after_39 rfl ?_
    refine g_aload_n C dX14_after_40 rfl rfl ?_
    refine c_get 12 0 k_X14 in_X14 (by decide) (fun _ h => h) q962 php1_a rfl C dX14_after_41 ?_
    refine g_iload C dX14_after_44 rfl ?_
    refine g_iand C dX14_after_46 ?_
    refine g_aload_n C dX14_after_47 rfl rfl ?_
    refine c_get 12 1 k_X14 in_X14 (by decide) (fun _ h => h) q965 php1_a rfl C dX14_after_48 ?_
    refine g_iload C dX14_after_51 rfl ?_
    refine g_iand C dX14_after_53 ?_
    refine g_aload_n C dX14_after_54 rfl rfl ?_
    refine c_get 12 3 k_X14 in_X14 (by decide) (fun _ h => h) q970 php1_a rfl C dX14_after_55 ?_
    refine g_aload_n C dX14_after_58 rfl rfl ?_
    refine c_get 12 2 k_X14 in_X14 (by decide) (fun _ h => h) q968 php1_a rfl C dX14_after_59 ?_
    refine g_iconst (v := 1) C dX14_after_62 rfl ?_
    refine g_iadd C dX14_after_63 ?_
    refine h_callI (rest := [.ref q]) 4 C (cc_hinit B php1_q _ _ _ _ hg) (lw_meth q960) q119 q1336 q959 rfl ⟨⟨by decide, by decide, by decide +kernel⟩, ⟨Nat.le_of_ble_eq_true rfl, Nat.le_of_ble_eq_true rfl⟩, ⟨Nat.le_of_ble_eq_true rfl, Nat.le_of_ble_eq_true rfl⟩⟩ (fun _ h => h) rfl rfl (Nat.le_of_ble_eq_true rfl) dX14_after_64 (h_E (fun v2 hp2 r2 => ?_))
    obtain ⟨rfl, php2_q, Khp2⟩ := r2
    have php2_a : hp2 a = some (t, .inr (12, [.int hv, .int lt, .int wg, .int ge])) := Khp2 _ _ php1_a (fun z => by have q9 := Ho; rw [z, nq] at q9; cases q9)
    have Zhp2 : Kp T0 h hp2 := by have z := Khp2; rw [ehp1] at z; exact Kq.new nq z
    exact g_aret C R (Or.inl ⟨_, rfl⟩) (Or.inr ⟨_, rfl⟩) (Nat.le_of_ble_eq_true rfl) (Nat.le_of_ble_eq_true rfl) dX14_after_67 (fun H hH => ⟨hp2, ⟨q, rfl, nq, php2_q, (show Kp _ h hp2 from (Kp.up0 Zhp2))⟩, hH⟩)
  · refine g_iload_n C dX14_after_0 rfl rfl ?_
    refine g_iload_n C dX14_after_1 rfl rfl ?_
    refine g_ior C dX14_after_2 ?_
    refine g_iconst (v := (-1)) C dX14_after_3 rfl ?_
    refine g_ixor C dX14_after_4 ?_
    refine g_istore (lv' := [some (.ref a), some (.int left), some (.int right), some (.int 1), some (.int ((left ||| right) ^^^ (-1)))]) C dX14_after_5 (by decide) rfl ?_
    refine g_iload_n C dX14_after_7 rfl rfl ?_
    refine g_lookup (off := 60) 68 C dX14_after_8 rfl rfl rfl ?_
    refine c_new (fs := [.int 0, .int 0, .int 0, .int 0]) (0, 0) 12 k_X14 in_X14 tyX14 tyX14_ok q1335 q957 q119 SC_ dfsX14 (Nat.le_of_ble_eq_true rfl) (Nat.le_of_ble_eq_true rfl) C dX14_after_68 (fun q nq => ?_)
    obtain ⟨hp1, ehp1⟩ : ∃ hh9 : Hp, hh9 = hset h q (0, 0) (.inr (12, [.int 0, .int 0, .int 0, .int 0])) := ⟨_, rfl⟩
    refine g_heq (h' := hp1) ehp1.symm ?_
    have php1_a : hp1 a = some (t, .inr (12, [.int hv, .int lt, .int wg, .int ge])) := by rw [ehp1]; exact hset_old nq Ho
    have php1_q : hp1 q = some ((0, 0), .inr (12, [.int 0, .int 0, .int 0, .int 0])) := by rw [ehp1]; exact hset_self _ _ _ _
    refine g_dup C dX14_after_71 rfl ?_
    refine g_aload_n C dX14_after_72 rfl rfl ?_
    refine c_get 12 0 k_X14 in_X14 (by decide) (fun _ h => h) q962 php1_a rfl C dX14_after_73 ?_
    refine g_iload_n C dX14_after_76 rfl rfl ?_
    refine g_iand C dX14_after_77 ?_
    refine g_aload_n C dX14_after_78 rfl rfl ?_
    refine c_get 12 1 k_X14 in_X14 (by decide) (fun _ h => h) q965 php1_a rfl C dX14_after_79 ?_
    refine g_iload_n C dX14_after_82 rfl rfl ?_
    refine g_iand C dX14_after_83 ?_
    refine g_iconst (v := 0) C dX14_after_84 rfl ?_
    refine g_aload_n C dX14_after_85 rfl rfl ?_
    refine c_get 12 2 k_X14 in_X14 (by decide) (fun _ h => h) q968 php1_a rfl C dX14_after_86 ?_
    refine g_iconst (v := 1) C dX14_after_89 rfl ?_
    refine g_iadd C dX14_after_90 ?_
    refine h_callI (rest := [.ref q]) 4 C (cc_hinit B php1_q _ _ _ _ (Or.inl rfl)) (lw_meth q960) q119 q1336 q959 rfl ⟨⟨by decide, by decide, by decide +kernel⟩, ⟨Nat.le_of_ble_eq_true rfl, Nat.le_of_ble_eq_true rfl⟩, ⟨Nat.le_of_ble_eq_true rfl, Nat.le_of_ble_eq_true rfl⟩⟩ (fun _ h => h) rfl rfl (Nat.le_of_ble_eq_true rfl) dX14_after_91 (h_E (fun v2 hp2 r2 => ?_))
    obtain ⟨rfl, php2_q, Khp2⟩ := r2
    have php2_a : hp2 a = some (t, .inr (12, [.int hv, .int lt, .int wg, .int ge])) := Khp2 _ _ php1_a (fun z => by have q9 := Ho; rw [z, nq] at q9; cases q9)
    have Zhp2 : Kp T0 h hp2 := by have z := Khp2; rw [ehp1] at z; exact Kq.new nq z
    exact g_aret C R (Or.inl ⟨_, rfl⟩) (Or.inr ⟨_, rfl⟩) (Nat.le_of_ble_eq_true rfl) (Nat.le_of_ble_eq_true rfl) dX14_after_94 (fun H hH => ⟨hp2, ⟨q, rfl, nq, php2_q, (show Kp _ h hp2 from (Kp.up0 Zhp2))⟩, hH⟩)
  · refine g_iload_n C dX14_after_0 rfl rfl ?_
    refine g_iload_n C dX14_after_1 rfl rfl ?_
    refine g_ior C dX14_after_2 ?_
    refine g_iconst (v := (-1)) C dX14_after_3 rfl ?_
    refine g_ixor C dX14_after_4 ?_
    refine g_istore (lv' := [some (.ref a), some (.int left), some (.int right), some (.int 2), some (.int ((left ||| right) ^^^ (-1)))]) C dX14_after_5 (by decide) rfl ?_
    refine g_iload_n C dX14_after_7 rfl rfl ?_
    refine g_lookup (off := 87) 95 C dX14_after_8 rfl rfl rfl ?_
    refine c_new (fs := [.int 0, .int 0, .int 0, .int 0]) (0, 0) 12 k_X14 in_X14 tyX14 tyX14_ok q1335 q957 q119 SC_ dfsX14 (Nat.le_of_ble_eq_true rfl) (Nat.le_of_ble_eq_true rfl) C dX14_after_95 (fun q nq => ?_)
    obtain ⟨hp1, ehp1⟩ : ∃ hh9 : Hp, hh9 = hset h q (0, 0) (.inr (12, [.int 0, .int 0, .int 0, .int 0])) := ⟨_, rfl⟩
    refine g_heq (h' := hp1) ehp1.symm ?_
    have php1_a : hp1 a = some (t, .inr (12, [.int hv, .int lt, .int wg, .int ge])) := by rw [ehp1]; exact hset_old nq Ho
    have php1_q : hp1 q = some ((0, 0), .inr (12, [.int 0, .int 0, .int 0, .int 0])) := by rw [ehp1]; exact hset_self _ _ _ _
    refine g_dup C dX14_after_98 rfl ?_
    refine g_aload_n C dX14_after_99 rfl rfl ?_
    refine c_get 12 0 k_X14 in_X14 (by decide) (fun _ h => h) q962 php1_a rfl C dX14_after_100 ?_
    refine g_iload_n C dX14_after_103 rfl rfl ?_
    refine g_iand C dX14_after_104 ?_
    refine g_aload_n C dX14_after_105 rfl rfl ?_
    refine c_get 12 1 k_X14 in_X14 (by decide) (fun _ h => h) q965 php1_a rfl C dX14_after_106 ?_
    refine g_iload_n C dX14_after_109 rfl rfl ?_
    refine g_iand C dX14_after_110 ?_
    refine g_iconst (v := 0) C dX14_after_111 rfl ?_
    refine g_aload_n C dX14_after_112 rfl rfl ?_
    refine c_get 12 2 k_X14 in_X14 (by decide) (fun _ h => h) q968 php1_a rfl C dX14_after_113 ?_
    refine g_iconst (v := 1) C dX14_after_116 rfl ?_
    refine g_iadd C dX14_after_117 ?_
    refine h_callI (rest := [.ref q]) 4 C (cc_hinit B php1_q _ _ _ _ (Or.inl rfl)) (lw_meth q960) q119 q1336 q959 rfl ⟨⟨by decide, by decide, by decide +kernel⟩, ⟨Nat.le_of_ble_eq_true rfl, Nat.le_of_ble_eq_true rfl⟩, ⟨Nat.le_of_ble_eq_true rfl, Nat.le_of_ble_eq_true rfl⟩⟩ (fun _ h => h) rfl rfl (Nat.le_of_ble_eq_true rfl) dX14_after_118 (h_E (fun v2 hp2 r2 => ?_))
    obtain ⟨rfl, php2_q, Khp2⟩ := r2
    have php2_a : hp2 a = some (t, .inr (12, [.int hv, .int lt, .int wg, .int ge])) := Khp2 _ _ php1_a (fun z => by have q9 := Ho; rw [z, nq] at q9; cases q9)
    have Zhp2 : Kp T0 h hp2 := by have z := Khp2; rw [ehp1] at z; exact Kq.new nq z
    exact g_aret C R (Or.inl ⟨_, rfl⟩) (Or.inr ⟨_, rfl⟩) (Nat.le_of_ble_eq_true rfl) (Nat.le_of_ble_eq_true rfl) dX14_after_121 (fun H hH => ⟨hp2, ⟨q, rfl, nq, php2_q, (show Kp _ h hp2 from (Kp.up0 Zhp2))⟩, hH⟩)
set_option maxRecDepth 100000 in
theorem cc_atFirst {l : Launch} {Γ : Gm} {A : Nat → Prop} {ρ : State → Prop} (B : Bc l Γ A ρ) {h : Hp} (cn ge : Int32) (hg : ge = 0 ∨ ge = 1) : CtE l Γ A ρ yX1_atFirst cX1_atFirst 3 (some (.object "ScaleInspection$Hypotheses")) { frames := 2, cells := 1, slots := 4, locals := 44 } [.int cn, .int ge] h (fun v h' => ∃ q, v = some (.ref q) ∧ h q = none ∧ h' q = some ((0, 0), .inr (12, [.int (1 <<< (cn &&& 31) - 1), .int (1 <<< (cn &&& 31) - 1), .int 0, .int ge])) ∧ Kp T0 h h') := by
  refine Ct.of B.1.1 B.1.2 (by decide) [some (.int cn), some (.int ge), none] (Nat.le_of_ble_eq_true rfl) rfl ?_
  intro E hE C R
  subst hE
  have SC_ := B.2 _ C.r
  refine g_iconst (v := 1) C dX1_atFirst_0 rfl ?_
  refine g_iload_n C dX1_atFirst_1 rfl rfl ?_
  refine g_ishl C dX1_atFirst_2 ?_
  refine g_iconst (v := 1) C dX1_atFirst_3 rfl ?_
  refine g_isub C dX1_atFirst_4 ?_
  refine g_istore_n (lv' := [some (.int cn), some (.int ge), some (.int ((1 <<< (cn &&& 31)) - 1))]) C dX1_atFirst_5 rfl (by decide) rfl ?_
  refine c_new (fs := [.int 0, .int 0, .int 0, .int 0]) (0, 0) 12 k_X14 in_X14 tyX14 tyX14_ok q956 q957 q119 SC_ dfsX14 (Nat.le_of_ble_eq_true rfl) (Nat.le_of_ble_eq_true rfl) C dX1_atFirst_6 (fun q nq => ?_)
  obtain ⟨hp1, ehp1⟩ : ∃ hh9 : Hp, hh9 = hset h q (0, 0) (.inr (12, [.int 0, .int 0, .int 0, .int 0])) := ⟨_, rfl⟩
  refine g_heq (h' := hp1) ehp1.symm ?_
  have php1_q : hp1 q = some ((0, 0), .inr (12, [.int 0, .int 0, .int 0, .int 0])) := by rw [ehp1]; exact hset_self _ _ _ _
  refine g_dup C dX1_atFirst_9 rfl ?_
  refine g_iload_n C dX1_atFirst_10 rfl rfl ?_
  refine g_iload_n C dX1_atFirst_11 rfl rfl ?_
  refine g_iload_n C dX1_atFirst_12 rfl rfl ?_
  refine g_iconst (v := 0) C dX1_atFirst_13 rfl ?_
  refine h_callI (rest := [.ref q]) 4 C (cc_hinit B php1_q _ _ _ _ hg) (lw_meth q960) q119 q958 q959 rfl ⟨⟨by decide, by decide, by decide +kernel⟩, ⟨Nat.le_of_ble_eq_true rfl, Nat.le_of_ble_eq_true rfl⟩, ⟨Nat.le_of_ble_eq_true rfl, Nat.le_of_ble_eq_true rfl⟩⟩ (fun _ h => h) rfl rfl (Nat.le_of_ble_eq_true rfl) dX1_atFirst_14 (h_E (fun v2 hp2 r2 => ?_))
  obtain ⟨rfl, php2_q, Khp2⟩ := r2
  have Zhp2 : Kp T0 h hp2 := by have z := Khp2; rw [ehp1] at z; exact Kq.new nq z
  exact g_aret C R (Or.inl ⟨_, rfl⟩) (Or.inr ⟨_, rfl⟩) (Nat.le_of_ble_eq_true rfl) (Nat.le_of_ble_eq_true rfl) dX1_atFirst_17 (fun H hH => ⟨hp2, ⟨q, rfl, nq, php2_q, (show Kp _ h hp2 from (Kp.up0 Zhp2))⟩, hH⟩)
set_option maxRecDepth 100000 in
theorem cc_vcopy {l : Launch} {Γ : Gm} {A : Nat → Prop} {ρ : State → Prop} (B : Bc l Γ A ρ) {h : Hp} {Ld : Int32 → Int32} {r : Nat → Int32} {k en v tn : Nat} (V : RepV Γ Ld r k h en v) (htn : tn ≤ 8) (e151 : r (151 + k) = nI tn) (ho : r (61 + k) = 0) (en2 : Nat) : CtE l Γ A ρ yX15_copy cX15_copy 2 (some (.object "ScaleInspection$Visit")) { frames := 2, cells := 3, slots := 23, locals := 43 } [.ref v] h (fun w h' => ∃ q, w = some (.ref q) ∧ h q = none ∧ RepV Γ Ld r k h' en2 q ∧ Kp T0 h h') := by
  refine Ct.of B.1.1 B.1.2 (by decide) [some (.ref v), none] (Nat.le_of_ble_eq_true rfl) rfl ?_
  intro E hE C R
  subst hE
  have SC_ := B.2 _ C.r
  obtain ⟨vm, ve, fvm, fve, Vo, Vm, Ve, Vt⟩ := id V
  refine c_new (fs := [.int 0, .int 0, .int 0, .null, .null, .int 0, .int 0]) (100 + k, en2) 13 k_X15 in_X15 tyX15 tyX15_ok q1096 q1097 q122 SC_ dfsX15 (Nat.le_of_ble_eq_true rfl) (Nat.le_of_ble_eq_true rfl) C dX15_copy_0 (fun q nq => ?_)
  obtain ⟨hp1, ehp1⟩ : ∃ hh9 : Hp, hh9 = hset h q (100 + k, en2) (.inr (13, [.int 0, .int 0, .int 0, .null, .null, .int 0, .int 0])) := ⟨_, rfl⟩
  refine g_heq (h' := hp1) ehp1.symm ?_
  have php1_v : hp1 v = some (vTag r k en, .inr (13, [.int (r (1 + k)), .int (r (31 + k)), .int (r (121 + k) + 1), .ref vm, .ref ve, .int (r (151 + k)), .int (vVd r k)])) := by rw [ehp1]; exact hset_old nq Vo
  have php1_vm : hp1 vm = some ((40, v), aI Γ 8 fvm) := by rw [ehp1]; exact hset_old nq Vm
  have php1_ve : hp1 ve = some ((41, v), aI Γ 8 fve) := by rw [ehp1]; exact hset_old nq Ve
  have php1_q : hp1 q = some ((100 + k, en2), .inr (13, [.int 0, .int 0, .int 0, .null, .null, .int 0, .int 0])) := by rw [ehp1]; exact hset_self _ _ _ _
  have nqv : q ≠ v := fun z => by rw [z, Vo] at nq; cases nq
  refine g_dup C dX15_copy_3 rfl ?_
  refine g_aload_n C dX15_copy_4 rfl rfl ?_
  refine c_get 13 0 k_X15 in_X15 (by decide) (fun _ h => h) q1102 php1_v rfl C dX15_copy_5 ?_
  refine g_aload_n C dX15_copy_8 rfl rfl ?_
  refine c_get 13 1 k_X15 in_X15 (by decide) (fun _ h => h) q1104 php1_v rfl C dX15_copy_9 ?_
  refine g_aload_n C dX15_copy_12 rfl rfl ?_
  refine c_get 13 2 k_X15 in_X15 (by decide) (fun _ h => h) q1106 php1_v rfl C dX15_copy_13 ?_
  refine h_callI (rest := [.ref q]) 3 C (cc_vinit B php1_q _ _ _) (lw_meth q1100) q122 q1098 q1099 rfl ⟨⟨by decide, by decide, by decide +kernel⟩, ⟨Nat.le_of_ble_eq_true rfl, Nat.le_of_ble_eq_true rfl⟩, ⟨Nat.le_of_ble_eq_true rfl, Nat.le_of_ble_eq_true rfl⟩⟩ (fun _ h => h) rfl rfl (Nat.le_of_ble_eq_true rfl) dX15_copy_16 (h_E (fun v2 hp2 r2 => ?_))
  obtain ⟨rfl, mq, eq, nmq, neq, php2_q, php2_mq, php2_eq, Khp2⟩ := r2
  have php2_v : hp2 v = some (vTag r k en, .inr (13, [.int (r (1 + k)), .int (r (31 + k)), .int (r (121 + k) + 1), .ref vm, .ref ve, .int (r (151 + k)), .int (vVd r k)])) := Khp2 _ _ php1_v (fun z => by have q9 := Vo; rw [z, nq] at q9; cases q9)
  have php2_vm : hp2 vm = some ((40, v), aI Γ 8 fvm) := Khp2 _ _ php1_vm (fun z => by have q9 := Vm; rw [z, nq] at q9; cases q9)
  have php2_ve : hp2 ve = some ((41, v), aI Γ 8 fve) := Khp2 _ _ php1_ve (fun z => by have q9 := Ve; rw [z, nq] at q9; cases q9)
  have Zhp2 : Kp T0 h hp2 := by have z := Khp2; rw [ehp1] at z; exact Kq.new nq z
  have nmh : h mq = none := Kq.none (Kq.of0 (a := q) (show Kp T0 h hp1 by rw [ehp1]; exact Kp.new nq)) php1_q nmq
  have neh : h eq = none := Kq.none (Kq.of0 (a := q) (show Kp T0 h hp1 by rw [ehp1]; exact Kp.new nq)) php1_q neq
  refine g_astore_n (lv' := [some (.ref v), some (.ref q)]) C dX15_copy_19 rfl (by decide) rfl ?_
  refine g_aload_n C dX15_copy_20 rfl rfl ?_
  refine c_get 13 3 k_X15 in_X15 (by decide) (fun _ h => h) q1108 php2_v rfl C dX15_copy_21 ?_
  refine g_iconst (v := 0) C dX15_copy_24 rfl ?_
  refine g_aload_n C dX15_copy_25 rfl rfl ?_
  refine c_get 13 3 k_X15 in_X15 (by decide) (fun _ h => h) q1108 php2_q rfl C dX15_copy_26 ?_
  refine g_iconst (v := 0) C dX15_copy_29 rfl ?_
  refine g_aload_n C dX15_copy_30 rfl rfl ?_
  refine c_get 13 5 k_X15 in_X15 (by decide) (fun _ h => h) q1112 php2_v rfl C dX15_copy_31 ?_
  refine g_topi (y := nI tn) (e151) ?_
  refine c_copyi (sp := 0) (dp := 0) (n := tn) q1131 php2_vm php2_mq (by omega) (by omega) ⟨by omega, by omega⟩ ⟨Nat.le_of_ble_eq_true rfl, Nat.le_of_ble_eq_true rfl⟩ (Nat.le_of_ble_eq_true rfl) C dX15_copy_34 ?_
  obtain ⟨hp3, ehp3⟩ : ∃ hh9 : Hp, hh9 = hset hp2 mq (40, q) (aI Γ 8 (va_cpy fvm (fun _ => 0) 0 0 tn)) := ⟨_, rfl⟩
  refine g_heq (h' := hp3) ehp3.symm ?_
  have php3_v : hp3 v = some (vTag r k en, .inr (13, [.int (r (1 + k)), .int (r (31 + k)), .int (r (121 + k) + 1), .ref vm, .ref ve, .int (r (151 + k)), .int (vVd r k)])) := by rw [ehp3]; exact hset_io php2_mq php2_v
  have php3_vm : hp3 vm = some ((40, v), aI Γ 8 fvm) := by rw [ehp3]; exact hset_tag php2_mq (fun z => nqv (congrArg Prod.snd z).symm) php2_vm
  have php3_ve : hp3 ve = some ((41, v), aI Γ 8 fve) := by rw [ehp3]; exact hset_tag php2_mq (fun z => absurd (Prod.mk.inj z).1 (by decide)) php2_ve
  have php3_q : hp3 q = some ((100 + k, en2), .inr (13, [.int (r (1 + k)), .int (r (31 + k)), .int (r (121 + k) + 1), .ref mq, .ref eq, .int 0, .int (-2)])) := by rw [ehp3]; exact hset_io php2_mq php2_q
  have php3_mq : hp3 mq = some ((40, q), aI Γ 8 (va_cpy fvm (fun _ => 0) 0 0 tn)) := by rw [ehp3]; exact hset_self _ _ _ _
  have php3_eq : hp3 eq = some ((41, q), aI Γ 8 (fun _ => 0)) := by rw [ehp3]; exact hset_tag php2_mq (fun z => absurd (Prod.mk.inj z).1 (by decide)) php2_eq
  refine g_aload_n C dX15_copy_37 rfl rfl ?_
  refine c_get 13 4 k_X15 in_X15 (by decide) (fun _ h => h) q1110 php3_v rfl C dX15_copy_38 ?_
  refine g_iconst (v := 0) C dX15_copy_41 rfl ?_
  refine g_aload_n C dX15_copy_42 rfl rfl ?_
  refine c_get 13 4 k_X15 in_X15 (by decide) (fun _ h => h) q1110 php3_q rfl C dX15_copy_43 ?_
  refine g_iconst (v := 0) C dX15_copy_46 rfl ?_
  refine g_aload_n C dX15_copy_47 rfl rfl ?_
  refine c_get 13 5 k_X15 in_X15 (by decide) (fun _ h => h) q1112 php3_v rfl C dX15_copy_48 ?_
  refine g_topi (y := nI tn) (e151) ?_
  refine c_copyi (sp := 0) (dp := 0) (n := tn) q1131 php3_ve php3_eq (by omega) (by omega) ⟨by omega, by omega⟩ ⟨Nat.le_of_ble_eq_true rfl, Nat.le_of_ble_eq_true rfl⟩ (Nat.le_of_ble_eq_true rfl) C dX15_copy_51 ?_
  obtain ⟨hp4, ehp4⟩ : ∃ hh9 : Hp, hh9 = hset hp3 eq (41, q) (aI Γ 8 (va_cpy fve (fun _ => 0) 0 0 tn)) := ⟨_, rfl⟩
  refine g_heq (h' := hp4) ehp4.symm ?_
  have php4_v : hp4 v = some (vTag r k en, .inr (13, [.int (r (1 + k)), .int (r (31 + k)), .int (r (121 + k) + 1), .ref vm, .ref ve, .int (r (151 + k)), .int (vVd r k)])) := by rw [ehp4]; exact hset_io php3_eq php3_v
  have php4_vm : hp4 vm = some ((40, v), aI Γ 8 fvm) := by rw [ehp4]; exact hset_tag php3_eq (fun z => absurd (Prod.mk.inj z).1 (by decide)) php3_vm
  have php4_ve : hp4 ve = some ((41, v), aI Γ 8 fve) := by rw [ehp4]; exact hset_tag php3_eq (fun z => nqv (congrArg Prod.snd z).symm) php3_ve
  have php4_q : hp4 q = some ((100 + k, en2), .inr (13, [.int (r (1 + k)), .int (r (31 + k)), .int (r (121 + k) + 1), .ref mq, .ref eq, .int 0, .int (-2)])) := by rw [ehp4]; exact hset_io php3_eq php3_q
  have php4_mq : hp4 mq = some ((40, q), aI Γ 8 (va_cpy fvm (fun _ => 0) 0 0 tn)) := by rw [ehp4]; exact hset_tag php3_eq (fun z => absurd (Prod.mk.inj z).1 (by decide)) php3_mq
  have php4_eq : hp4 eq = some ((41, q), aI Γ 8 (va_cpy fve (fun _ => 0) 0 0 tn)) := by rw [ehp4]; exact hset_self _ _ _ _
  refine g_aload_n C dX15_copy_54 rfl rfl ?_
  refine g_aload_n C dX15_copy_55 rfl rfl ?_
  refine c_get 13 5 k_X15 in_X15 (by decide) (fun _ h => h) q1112 php4_v rfl C dX15_copy_56 ?_
  refine g_topi (y := nI tn) (e151) ?_
  refine c_put 13 5 k_X15 in_X15 tyX15 tyX15_ok nmX15 (by decide) (fun _ h => h) q1112 rfl (ty := .int) (by decide +kernel) rfl rfl (Nat.le_of_ble_eq_true rfl) php4_q C dX15_copy_59 ?_
  obtain ⟨hp5, ehp5⟩ : ∃ hh9 : Hp, hh9 = hset hp4 q (100 + k, en2) (.inr (13, [.int (r (1 + k)), .int (r (31 + k)), .int (r (121 + k) + 1), .ref mq, .ref eq, .int (nI tn), .int (-2)])) := ⟨_, rfl⟩
  refine g_heq (h' := hp5) ehp5.symm ?_
  have php5_v : hp5 v = some (vTag r k en, .inr (13, [.int (r (1 + k)), .int (r (31 + k)), .int (r (121 + k) + 1), .ref vm, .ref ve, .int (r (151 + k)), .int (vVd r k)])) := by rw [ehp5]; exact (hset_ne (fun z => by have q9 := Vo; rw [z, nq] at q9; cases q9)).trans php4_v
  have php5_vm : hp5 vm = some ((40, v), aI Γ 8 fvm) := by rw [ehp5]; exact (hset_ne (fun z => by have q9 := Vm; rw [z, nq] at q9; cases q9)).trans php4_vm
  have php5_ve : hp5 ve = some ((41, v), aI Γ 8 fve) := by rw [ehp5]; exact (hset_ne (fun z => by have q9 := Ve; rw [z, nq] at q9; cases q9)).trans php4_ve
  have php5_q : hp5 q = some ((100 + k, en2), .inr (13, [.int (r (1 + k)), .int (r (31 + k)), .int (r (121 + k) + 1), .ref mq, .ref eq, .int (nI tn), .int (-2)])) := by rw [ehp5]; exact hset_self _ _ _ _
  have php5_mq : hp5 mq = some ((40, q), aI Γ 8 (va_cpy fvm (fun _ => 0) 0 0 tn)) := by rw [ehp5]; exact hset_oi php4_q php4_mq
  have php5_eq : hp5 eq = some ((41, q), aI Γ 8 (va_cpy fve (fun _ => 0) 0 0 tn)) := by rw [ehp5]; exact hset_oi php4_q php4_eq
  refine g_aload_n C dX15_copy_62 rfl rfl ?_
  refine g_aload_n C dX15_copy_63 rfl rfl ?_
  refine c_get 13 6 k_X15 in_X15 (by decide) (fun _ h => h) q1114 php5_v rfl C dX15_copy_64 ?_
  refine c_put 13 6 k_X15 in_X15 tyX15 tyX15_ok nmX15 (by decide) (fun _ h => h) q1114 rfl (ty := .int) (by decide +kernel) rfl rfl (Nat.le_of_ble_eq_true rfl) php5_q C dX15_copy_67 ?_
  obtain ⟨hp6, ehp6⟩ : ∃ hh9 : Hp, hh9 = hset hp5 q (100 + k, en2) (.inr (13, [.int (r (1 + k)), .int (r (31 + k)), .int (r (121 + k) + 1), .ref mq, .ref eq, .int (nI tn), .int (vVd r k)])) := ⟨_, rfl⟩
  refine g_heq (h' := hp6) ehp6.symm ?_
  have php6_v : hp6 v = some (vTag r k en, .inr (13, [.int (r (1 + k)), .int (r (31 + k)), .int (r (121 + k) + 1), .ref vm, .ref ve, .int (r (151 + k)), .int (vVd r k)])) := by rw [ehp6]; exact (hset_ne (fun z => by have q9 := Vo; rw [z, nq] at q9; cases q9)).trans php5_v
  have php6_vm : hp6 vm = some ((40, v), aI Γ 8 fvm) := by rw [ehp6]; exact (hset_ne (fun z => by have q9 := Vm; rw [z, nq] at q9; cases q9)).trans php5_vm
  have php6_ve : hp6 ve = some ((41, v), aI Γ 8 fve) := by rw [ehp6]; exact (hset_ne (fun z => by have q9 := Ve; rw [z, nq] at q9; cases q9)).trans php5_ve
  have php6_q : hp6 q = some ((100 + k, en2), .inr (13, [.int (r (1 + k)), .int (r (31 + k)), .int (r (121 + k) + 1), .ref mq, .ref eq, .int (nI tn), .int (vVd r k)])) := by rw [ehp6]; exact hset_self _ _ _ _
  have php6_mq : hp6 mq = some ((40, q), aI Γ 8 (va_cpy fvm (fun _ => 0) 0 0 tn)) := by rw [ehp6]; exact hset_oi php5_q php5_mq
  have php6_eq : hp6 eq = some ((41, q), aI Γ 8 (va_cpy fve (fun _ => 0) 0 0 tn)) := by rw [ehp6]; exact hset_oi php5_q php5_eq
  refine g_aload_n C dX15_copy_70 rfl rfl ?_
  exact g_aret C R (Or.inl ⟨_, rfl⟩) (Or.inr ⟨_, rfl⟩) (Nat.le_of_ble_eq_true rfl) (Nat.le_of_ble_eq_true rfl) dX15_copy_71 (fun H hH => ⟨hp6, ⟨q, rfl, nq, ⟨mq, eq, _, _, by rw [e151]; unfold vTag; rw [if_pos ho]; exact php6_q, php6_mq, php6_eq, fun i hi => by rw [e151, nI_clamp (by omega)] at hi; rw [va_cpy_lo hi, va_cpy_lo hi]; exact Vt i (by rw [e151, nI_clamp (by omega)]; exact hi)⟩, (show Kp T0 h hp6 by rw [ehp6]; exact Kp.putN (show Kp T0 h hp5 by rw [ehp5]; exact Kp.putN (show Kp T0 h hp4 by rw [ehp4]; exact Kp.putN (show Kp T0 h hp3 by rw [ehp3]; exact Kp.putN (show Kp T0 h hp2 from (Kp.up0 Zhp2)) nmh) neh) nq) nq)⟩, hH⟩)
