theorem k_X1 : clA[0]? = some (RX1, TX1, 10) := rfl
theorem k_X2 : clA[1]? = some (RX2, TX2, 6) := rfl
theorem k_X3 : clA[2]? = some (RX3, TX3, 2) := rfl
theorem k_J2 : clA[3]? = some (RJ2, TJ2, 3) := rfl
theorem k_X4 : clA[4]? = some (RX4, TX4, 45) := rfl
theorem k_X5 : clA[5]? = some (RX5, TX5, 5) := rfl
theorem k_X7 : clA[6]? = some (RX7, TX7, 3) := rfl
theorem k_X8 : clA[7]? = some (RX8, TX8, 3) := rfl
theorem k_X9 : clA[8]? = some (RX9, TX9, 3) := rfl
theorem k_X10 : clA[9]? = some (RX10, TX10, 8) := rfl
theorem k_X11 : clA[10]? = some (RX11, TX11, 5) := rfl
theorem k_X13 : clA[11]? = some (RX13, TX13, 2) := rfl
theorem k_X14 : clA[12]? = some (RX14, TX14, 4) := rfl
theorem k_X15 : clA[13]? = some (RX15, TX15, 7) := rfl
theorem k_X16 : clA[14]? = some (RX16, TX16, 4) := rfl
theorem k_X17 : clA[15]? = some (RX17, TX17, 10) := rfl
theorem k_J8 : clA[16]? = some (RJ8, TJ8, 4) := rfl
theorem k_J9 : clA[17]? = some (RJ9, TJ9, 4) := rfl
theorem k_J18 : clA[18]? = some (RJ18, TJ18, 6) := rfl
theorem k_J6 : clA[19]? = some (RJ6, TJ6, 6) := rfl
theorem k_J20 : clA[20]? = some (RJ20, TJ20, 6) := rfl
theorem dfsX1 : ∀ j, j < 10 → defaultValue (tyX1 j) = vp_V [.null, .int 0, .int 0, .null, .null, .null, .null, .int 0, .int 0, .null] j := fun j hj => match j, hj with
  | 0, _ => rfl
  | 1, _ => rfl
  | 2, _ => rfl
  | 3, _ => rfl
  | 4, _ => rfl
  | 5, _ => rfl
  | 6, _ => rfl
  | 7, _ => rfl
  | 8, _ => rfl
  | 9, _ => rfl
  | j + 10, hj => absurd hj (by omega)
theorem dfsX2 : ∀ j, j < 6 → defaultValue (tyX2 j) = vp_V [.null, .null, .null, .null, .int 0, .int 0] j := fun j hj => match j, hj with
  | 0, _ => rfl
  | 1, _ => rfl
  | 2, _ => rfl
  | 3, _ => rfl
  | 4, _ => rfl
  | 5, _ => rfl
  | j + 6, hj => absurd hj (by omega)
theorem dfsX3 : ∀ j, j < 2 → defaultValue (tyX3 j) = vp_V [.null, .null] j := fun j hj => match j, hj with
  | 0, _ => rfl
  | 1, _ => rfl
  | j + 2, hj => absurd hj (by omega)
theorem dfsJ2 : ∀ j, j < 3 → defaultValue (tyJ2 j) = vp_V [.int 0, .null, .int 0] j := fun j hj => match j, hj with
  | 0, _ => rfl
  | 1, _ => rfl
  | 2, _ => rfl
  | j + 3, hj => absurd hj (by omega)
theorem dfsX5 : ∀ j, j < 5 → defaultValue (tyX5 j) = vp_V [.int 0, .null, .int 0, .null, .null] j := fun j hj => match j, hj with
  | 0, _ => rfl
  | 1, _ => rfl
  | 2, _ => rfl
  | 3, _ => rfl
  | 4, _ => rfl
  | j + 5, hj => absurd hj (by omega)
theorem dfsX7 : ∀ j, j < 3 → defaultValue (tyX7 j) = vp_V [.int 0, .int 0, .int 0] j := fun j hj => match j, hj with
  | 0, _ => rfl
  | 1, _ => rfl
  | 2, _ => rfl
  | j + 3, hj => absurd hj (by omega)
theorem dfsX8 : ∀ j, j < 3 → defaultValue (tyX8 j) = vp_V [.int 0, .int 0, .null] j := fun j hj => match j, hj with
  | 0, _ => rfl
  | 1, _ => rfl
  | 2, _ => rfl
  | j + 3, hj => absurd hj (by omega)
theorem dfsX9 : ∀ j, j < 3 → defaultValue (tyX9 j) = vp_V [.int 0, .int 0, .int 0] j := fun j hj => match j, hj with
  | 0, _ => rfl
  | 1, _ => rfl
  | 2, _ => rfl
  | j + 3, hj => absurd hj (by omega)
theorem dfsX10 : ∀ j, j < 8 → defaultValue (tyX10 j) = vp_V [.null, .null, .null, .null, .null, .int 0, .int 0, .int 0] j := fun j hj => match j, hj with
  | 0, _ => rfl
  | 1, _ => rfl
  | 2, _ => rfl
  | 3, _ => rfl
  | 4, _ => rfl
  | 5, _ => rfl
  | 6, _ => rfl
  | 7, _ => rfl
  | j + 8, hj => absurd hj (by omega)
theorem dfsX11 : ∀ j, j < 5 → defaultValue (tyX11 j) = vp_V [.int 0, .int 0, .int 0, .int 0, .null] j := fun j hj => match j, hj with
  | 0, _ => rfl
  | 1, _ => rfl
  | 2, _ => rfl
  | 3, _ => rfl
  | 4, _ => rfl
  | j + 5, hj => absurd hj (by omega)
theorem dfsX13 : ∀ j, j < 2 → defaultValue (tyX13 j) = vp_V [.int 0, .int 0] j := fun j hj => match j, hj with
  | 0, _ => rfl
  | 1, _ => rfl
  | j + 2, hj => absurd hj (by omega)
theorem dfsX14 : ∀ j, j < 4 → defaultValue (tyX14 j) = vp_V [.int 0, .int 0, .int 0, .int 0] j := fun j hj => match j, hj with
  | 0, _ => rfl
  | 1, _ => rfl
  | 2, _ => rfl
  | 3, _ => rfl
  | j + 4, hj => absurd hj (by omega)
theorem dfsX15 : ∀ j, j < 7 → defaultValue (tyX15 j) = vp_V [.int 0, .int 0, .int 0, .null, .null, .int 0, .int 0] j := fun j hj => match j, hj with
  | 0, _ => rfl
  | 1, _ => rfl
  | 2, _ => rfl
  | 3, _ => rfl
  | 4, _ => rfl
  | 5, _ => rfl
  | 6, _ => rfl
  | j + 7, hj => absurd hj (by omega)
theorem dfsX16 : ∀ j, j < 4 → defaultValue (tyX16 j) = vp_V [.int 0, .null, .null, .null] j := fun j hj => match j, hj with
  | 0, _ => rfl
  | 1, _ => rfl
  | 2, _ => rfl
  | 3, _ => rfl
  | j + 4, hj => absurd hj (by omega)
theorem dfsX17 : ∀ j, j < 10 → defaultValue (tyX17 j) = vp_V [.null, .int 0, .int 0, .int 0, .int 0, .int 0, .int 0, .int 0, .int 0, .null] j := fun j hj => match j, hj with
  | 0, _ => rfl
  | 1, _ => rfl
  | 2, _ => rfl
  | 3, _ => rfl
  | 4, _ => rfl
  | 5, _ => rfl
  | 6, _ => rfl
  | 7, _ => rfl
  | 8, _ => rfl
  | 9, _ => rfl
  | j + 10, hj => absurd hj (by omega)
theorem dfsJ8 : ∀ j, j < 4 → defaultValue (tyJ8 j) = vp_V [.null, .int 0, .int 0, .int 0] j := fun j hj => match j, hj with
  | 0, _ => rfl
  | 1, _ => rfl
  | 2, _ => rfl
  | 3, _ => rfl
  | j + 4, hj => absurd hj (by omega)
theorem dfsJ9 : ∀ j, j < 4 → defaultValue (tyJ9 j) = vp_V [.null, .int 0, .int 0, .int 0] j := fun j hj => match j, hj with
  | 0, _ => rfl
  | 1, _ => rfl
  | 2, _ => rfl
  | 3, _ => rfl
  | j + 4, hj => absurd hj (by omega)
theorem dfsJ18 : ∀ j, j < 6 → defaultValue (tyJ18 j) = vp_V [.null, .null, .null, .null, .null, .int 0] j := fun j hj => match j, hj with
  | 0, _ => rfl
  | 1, _ => rfl
  | 2, _ => rfl
  | 3, _ => rfl
  | 4, _ => rfl
  | 5, _ => rfl
  | j + 6, hj => absurd hj (by omega)
theorem dfsJ6 : ∀ j, j < 6 → defaultValue (tyJ6 j) = vp_V [.null, .null, .null, .null, .null, .int 0] j := fun j hj => match j, hj with
  | 0, _ => rfl
  | 1, _ => rfl
  | 2, _ => rfl
  | 3, _ => rfl
  | 4, _ => rfl
  | 5, _ => rfl
  | j + 6, hj => absurd hj (by omega)
theorem dfsJ20 : ∀ j, j < 6 → defaultValue (tyJ20 j) = vp_V [.null, .null, .null, .null, .null, .int 0] j := fun j hj => match j, hj with
  | 0, _ => rfl
  | 1, _ => rfl
  | 2, _ => rfl
  | 3, _ => rfl
  | 4, _ => rfl
  | 5, _ => rfl
  | j + 6, hj => absurd hj (by omega)
section CP
variable {E : Cf} {Γ : Gm} {A : Nat → Prop} {ρ : State → Prop} {cc : ByteArray} {nL : Nat} {own : String} {rm : Room} {cells slots pc : Nat} {lv : List (Option Value)} {st rest : List Value} {h : Hp} {t0 t1 : Tg} {I : Heap → Prop} {index a0 a1 n0 n1 sp dp n : Nat}
abbrev acN : MethodName := ⟨"java/lang/System", "arraycopy", "(Ljava/lang/Object;ILjava/lang/Object;II)V"⟩
/-- System.arraycopy between arrays of ints -/
theorem c_copyi {f g : Nat → Int32} (hl : Cond.methodLink own index acN ∈ lw_all) (e0 : h a0 = some (t0, aI Γ n0 f)) (e1 : h a1 = some (t1, aI Γ n1 g)) (h4 : sp + n ≤ n0) (h5 : dp + n ≤ n1) (hb : n0 < 2 ^ 31 ∧ n1 < 2 ^ 31) (hR : 1 ≤ rm.frames ∧ 40 ≤ rm.locals) (hst : (st.map fun v => v.category).sum ≤ 8) (C : Cx E Γ A ρ cc nL own rm) (d : decode cc pc = .ok (.invokestatic index, 3)) (kk : G E (HP Γ A (hset h a1 t1 (aI Γ n1 (va_cpy f g sp dp n)))) cells slots (pc + 3) lv st) : G E (HP Γ A h) cells slots pc lv (.int (nI n) :: .int (nI dp) :: .ref a1 :: .int (nI sp) :: .ref a0 :: st) := by
  intro H locs ls hI hS hL
  obtain ⟨ws, h1, h2, h3⟩ := hI
  obtain ⟨k0, hk0⟩ := h3 a0 t0 _ e0
  obtain ⟨k1, hk1⟩ := h3 a1 t1 _ e1
  have c1 : (nI sp).toNatClampNeg = sp := nI_clamp (by omega)
  have c2 : (nI dp).toNatClampNeg = dp := nI_clamp (by omega)
  have c3 : (nI n).toNatClampNeg = n := nI_clamp (by omega)
  refine va_copyi (D := Γ.1) C.x C.b (by rw [C.ml, hL.1, C.n]) C.ow (C.ts _ hl) (C.ts _ q277) (C.ts _ q276) (C.ts _ q102) C.K h1 (C.hA.symm ▸ h2) hS k0 k1 0 0 hk0 hk1 rfl rfl rfl (nI_pos (by omega)) (nI_pos (by omega)) (nI_pos (by omega)) (by rw [c1, c3]; exact h4) (by rw [c2, c3]; exact h5) (fun _ _ => rfl) (by rw [C.R]; exact hR.1) (by rw [C.R]; exact Nat.le_trans (Nat.add_le_add_right hst _) (Nat.le_trans (Nat.le_of_ble_eq_true rfl) hR.2)) d (fun H1 locs1 hP hD hS1 => ?_)
  rw [c1, c2, c3] at hP hD
  exact kk H1 locs1 ls (HP.set t1 hk1 hP (C.hA ▸ hD) h3) hS1 hL
/-- .. of bytes -/
theorem c_copyb {f g : Nat → Int32} (hl : Cond.methodLink own index acN ∈ lw_all) (e0 : h a0 = some (t0, aB Γ n0 f)) (e1 : h a1 = some (t1, aB Γ n1 g)) (h4 : sp + n ≤ n0) (h5 : dp + n ≤ n1) (hb : n0 < 2 ^ 31 ∧ n1 < 2 ^ 31) (hf : ∀ i, i < n → fits .byte (.int (f (sp + i))) = true) (hR : 1 ≤ rm.frames ∧ 40 ≤ rm.locals) (hst : (st.map fun v => v.category).sum ≤ 8) (C : Cx E Γ A ρ cc nL own rm) (d : decode cc pc = .ok (.invokestatic index, 3)) (kk : G E (HP Γ A (hset h a1 t1 (aB Γ n1 (va_cpy f g sp dp n)))) cells slots (pc + 3) lv st) : G E (HP Γ A h) cells slots pc lv (.int (nI n) :: .int (nI dp) :: .ref a1 :: .int (nI sp) :: .ref a0 :: st) := by
  intro H locs ls hI hS hL
  obtain ⟨ws, h1, h2, h3⟩ := hI
  obtain ⟨k0, hk0⟩ := h3 a0 t0 _ e0
  obtain ⟨k1, hk1⟩ := h3 a1 t1 _ e1
  have c1 : (nI sp).toNatClampNeg = sp := nI_clamp (by omega)
  have c2 : (nI dp).toNatClampNeg = dp := nI_clamp (by omega)
  have c3 : (nI n).toNatClampNeg = n := nI_clamp (by omega)
  refine va_copyi (D := Γ.1) C.x C.b (by rw [C.ml, hL.1, C.n]) C.ow (C.ts _ hl) (C.ts _ q277) (C.ts _ q276) (C.ts _ q102) C.K h1 (C.hA.symm ▸ h2) hS k0 k1 1 1 hk0 hk1 rfl rfl rfl (nI_pos (by omega)) (nI_pos (by omega)) (nI_pos (by omega)) (by rw [c1, c3]; exact h4) (by rw [c2, c3]; exact h5) (by rw [c1, c3]; exact hf) (by rw [C.R]; exact hR.1) (by rw [C.R]; exact Nat.le_trans (Nat.add_le_add_right hst _) (Nat.le_trans (Nat.le_of_ble_eq_true rfl) hR.2)) d (fun H1 locs1 hP hD hS1 => ?_)
  rw [c1, c2, c3] at hP hD
  exact kk H1 locs1 ls (HP.set t1 hk1 hP (C.hA ▸ hD) h3) hS1 hL
/-- .. of references to objects of one class -/
theorem c_copyq {f g : Nat → Option Nat} {ci : Nat} {r : vw_C} (hc : clA[ci]? = some r) (hca : Cond.castable r.1 "java/lang/Object" ∈ lw_tbl) (S : SC Γ A (eS E)) (hl : Cond.methodLink own index acN ∈ lw_all) (e0 : h a0 = some (t0, aR Γ 4 n0 f)) (e1 : h a1 = some (t1, aR Γ 4 n1 g)) (h4 : sp + n ≤ n0) (h5 : dp + n ≤ n1) (hb : n0 < 2 ^ 31 ∧ n1 < 2 ^ 31) (hel : ∀ i, i < n → ∀ y, f (sp + i) = some y → ∃ t fs, h y = some (t, .inr (ci, fs))) (hR : 1 ≤ rm.frames ∧ 40 ≤ rm.locals) (hst : (st.map fun v => v.category).sum ≤ 8) (C : Cx E Γ A ρ cc nL own rm) (d : decode cc pc = .ok (.invokestatic index, 3)) (kk : G E (HP Γ A (hset h a1 t1 (aR Γ 4 n1 (va_cpy f g sp dp n)))) cells slots (pc + 3) lv st) : G E (HP Γ A h) cells slots pc lv (.int (nI n) :: .int (nI dp) :: .ref a1 :: .int (nI sp) :: .ref a0 :: st) := by
  intro H locs ls hI hS hL
  have hI0 := hI
  obtain ⟨ws, h1, h2, h3⟩ := hI
  obtain ⟨k0, hk0⟩ := h3 a0 t0 _ e0
  obtain ⟨k1, hk1⟩ := h3 a1 t1 _ e1
  have c1 : (nI sp).toNatClampNeg = sp := nI_clamp (by omega)
  have c2 : (nI dp).toNatClampNeg = dp := nI_clamp (by omega)
  have c3 : (nI n).toNatClampNeg = n := nI_clamp (by omega)
  refine va_copyq (D := Γ.1) (C := r.1) C.x C.b (by rw [C.ml, hL.1, C.n]) C.ow (C.ts _ hl) (C.ts _ q277) (C.ts _ q276) (C.ts _ q102) C.K h1 (C.hA.symm ▸ h2) hS k0 k1 4 4 hk0 hk1 rfl rfl (nI_pos (by omega)) (nI_pos (by omega)) (nI_pos (by omega)) (by rw [c1, c3]; exact h4) (by rw [c2, c3]; exact h5) ?_ ?_ (by rw [C.R]; exact hR.1) (by rw [C.R]; exact Nat.le_trans (Nat.add_le_add_right hst _) (Nat.le_trans (Nat.le_of_ble_eq_true rfl) hR.2)) d (fun H1 locs1 hP hD hS1 => ?_)
  · rw [c1, c3]
    intro i hi y hy
    obtain ⟨t, fs, e⟩ := hel i hi y hy
    exact HP.recv C e hc H hI0
  · intro comp c0 x1 x2
    obtain ⟨c9, t9, f1, f2, f3⟩ := Cond.castable_spec (va_Nw.use (A := eG E) rfl (S.n hca rfl))
    cases f1.symm.trans x2
    cases f2.symm.trans x1
    exact f3
  · rw [c1, c2, c3] at hP hD
    exact kk H1 locs1 ls (HP.set t1 hk1 hP (C.hA ▸ hD) h3) hS1 hL
theorem g_ldcM {D : String} {mi : Nat} (C : Cx E Γ A ρ cc nL own rm) (hq : Cond.classLink own index D ∈ lw_all) (hM : va_Mi D mi (eS E)) (d : decode cc pc = .ok (.ldc index, 2)) (k : G E I cells slots (pc + 2) lv (.ref mi :: st)) : G E I cells slots pc lv st := fun H locs ls hI hS hl => va_ldcM C.x C.b C.ow (C.ts _ hq) hM d (k H locs ls hI hS hl)
theorem g_acmp_neR {x : Nat} {off : Int} (C : Cx E Γ A ρ cc nL own rm) (d : decode cc pc = .ok (.if_acmp .ne off, 3)) (tgt : Nat) (ht : (pc : Int) + off = (tgt : Int)) (k : G E I cells slots (pc + 3) lv st) : G E I cells slots pc lv (.ref x :: .ref x :: st) := fun H locs ls hI hS hl => lv_acmp_ne (rx := some x) (ry := some x) C.x C.b d ht (fun z => absurd rfl z) (fun _ => k H locs ls hI hS hl)
theorem c_getC {mi a : Nat} {x : vp_A} {t : Tg} (S : SC Γ A (eS E)) (e : h a = some (t, .inl (Γ.2.1 4, x))) (hl : Cond.methodLink own index ⟨"java/lang/Object", "getClass", "()Ljava/lang/Class;"⟩ ∈ lw_all) (hM : va_Mi "[Ljava/lang/Object;" mi (eS E)) (hR : 1 ≤ rm.frames ∧ 40 ≤ rm.locals) (hst : (st.map fun v => v.category).sum ≤ 8) (C : Cx E Γ A ρ cc nL own rm) (d : decode cc pc = .ok (.invokevirtual index, 3)) (k : G E (HP Γ A h) cells slots (pc + 3) lv (.ref mi :: st)) : G E (HP Γ A h) cells slots pc lv (.ref a :: st) := by
  intro H locs ls hI hS hL
  obtain ⟨ws, h1, h2, h3⟩ := id hI
  obtain ⟨k0, hk0⟩ := h3 a t _ e
  refine va_getC (C := "[Ljava/lang/Object;") C.x C.b (by rw [C.ml, hL.1, C.n]) C.ow (C.ts _ hl) (va_Nw.use rfl (S.n q2234 rfl)) (C.ts _ q2233) (C.ts _ q859) (C.ts _ q886) hM ⟨_, h1 k0 _ hk0, ?_, ?_⟩ (by rw [C.R]; exact hR.1) (by rw [C.R]; omega) d (k H locs ls hI hS hL)
  · obtain ⟨n9, x9⟩ := x
    rcases x9 with f | f | f | f | f <;> rfl
  · have e2 := (C.K.2 4 (Γ.2.1 4, .object "java/lang/Object") rfl).2
    obtain ⟨n9, x9⟩ := x
    rcases x9 with f | f | f | f | f <;> exact va_nmO e2 (by decide)
end CP
/-! LISTS -/
/-- objects of class ci go into lists -/
def Cno (ci : Nat) : Prop := ∃ r : vw_C, clA[ci]? = some r ∧ Cond.castable r.1 "java/lang/Object" ∈ lw_tbl ∧ ci ≠ 3
/-- the list at a, of tag t (its array: the role one higher), n elements f, of class ci -/
def Lst (Γ : Gm) (h : Hp) (a : Nat) (t : Tg) (ci n : Nat) (f : Nat → Nat) : Prop := ∃ (ea cap : Nat) (g : Nat → Option Nat) (mo : Int32), h a = some (t, .inr (3, [.int mo, .ref ea, .int (nI n)])) ∧ h ea = some ((t.1 + 1, t.2), aR Γ 4 cap g) ∧ n ≤ cap ∧ 2 ≤ cap ∧ cap ≤ 64 ∧ (∀ k, k < n → g k = some (f k)) ∧ (∀ k, k < n → ∃ t' fs, h (f k) = some (t', .inr (ci, fs))) ∧ ∀ k, n ≤ k → g k = none
theorem Lst.cell {Γ : Gm} {h : Hp} {a : Nat} {t : Tg} {ci n : Nat} {f : Nat → Nat} (L : Lst Γ h a t ci n f) : ∃ fs, h a = some (t, .inr (3, fs)) := by
  obtain ⟨ea, cap, g, mo, h1, -⟩ := L
  exact ⟨_, h1⟩
theorem Lst.recv {E : Cf} {Γ : Gm} {A : Nat → Prop} {ρ : State → Prop} {cc : ByteArray} {nL : Nat} {own : String} {rm : Room} {h : Hp} {a : Nat} {t : Tg} {ci n : Nat} {f : Nat → Nat} (L : Lst Γ h a t ci n f) (C : Cx E Γ A ρ cc nL own rm) : ∀ H, HP Γ A h H → ∃ cell : Cell, H[a]? = some cell ∧ cell.vm.isStatics = false ∧ (eS E).vm.findClass "java/util/ArrayList" = some cell.cls := by
  obtain ⟨fs, e⟩ := L.cell
  exact HP.recv C e k_J2
theorem Lst.el {Γ : Gm} {h : Hp} {a : Nat} {t : Tg} {ci n : Nat} {f : Nat → Nat} (L : Lst Γ h a t ci n f) {k : Nat} (hk : k < n) : ∃ t' fs, h (f k) = some (t', .inr (ci, fs)) := by
  obtain ⟨ea, cap, g, mo, h1, h2, h3, h4, h5, h6, h7, h8⟩ := L
  exact h7 k hk
theorem Lst.le {Γ : Gm} {h : Hp} {a : Nat} {t : Tg} {ci n : Nat} {f : Nat → Nat} (L : Lst Γ h a t ci n f) : n ≤ 64 := by
  obtain ⟨ea, cap, g, mo, h1, h2, h3, h4, h5, h6, h7, h8⟩ := L
  omega
/-- a list stays where its tags aren't touched and its elements stay objects of their class -/
theorem Lst.kp {Γ : Gm} {h h' : Hp} {a : Nat} {t : Tg} {ci n : Nat} {f : Nat → Nat} {T : Tg → Prop} (L : Lst Γ h a t ci n f) (K : Kp T h h') (n1 : ¬ T t) (n2 : ¬ T (t.1 + 1, t.2)) (he : ∀ k, k < n → ∃ t' fs, h' (f k) = some (t', .inr (ci, fs))) : Lst Γ h' a t ci n f := by
  obtain ⟨ea, cap, g, mo, h1, h2, h3, h4, h5, h6, h7, h8⟩ := L
  exact ⟨ea, cap, g, mo, K.get h1 n1, K.get h2 n2, h3, h4, h5, h6, he, h8⟩
theorem Lst.kp0 {Γ : Gm} {h h' : Hp} {a : Nat} {t : Tg} {ci n : Nat} {f : Nat → Nat} (L : Lst Γ h a t ci n f) (K : Kp T0 h h') : Lst Γ h' a t ci n f := by
  refine L.kp K (fun z => z) (fun z => z) (fun k hk => ?_)
  obtain ⟨t', fs, e⟩ := L.el hk
  exact ⟨t', fs, K.get0 e⟩
theorem Lst.f_eq {Γ : Gm} {h : Hp} {a : Nat} {t : Tg} {ci n : Nat} {f f' : Nat → Nat} (L : Lst Γ h a t ci n f) (e : ∀ k, k < n → f' k = f k) : Lst Γ h a t ci n f' := by
  obtain ⟨ea, cap, g, mo, h1, h2, h3, h4, h5, h6, h7, h8⟩ := L
  exact ⟨ea, cap, g, mo, h1, h2, h3, h4, h5, fun k hk => by rw [e k hk]; exact h6 k hk, fun k hk => by rw [e k hk]; exact h7 k hk, h8⟩
theorem va_up_ne' {α : Type} (f : Nat → α) {k j : Nat} (v : α) (h : j ≠ k) : va_up f k v j = f j := va_up_ne f v h
