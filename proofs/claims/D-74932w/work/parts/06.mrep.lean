/-! THE MODEL'S CELLS: its int fields F, its arrays X, at the addresses o, ad -/
def mIdx : List Nat := [1, 4, 5, 6, 7, 9, 11, 12, 13, 14, 26, 27, 28, 29, 31, 33, 34, 35, 36, 37, 38, 39, 42, 43, 44]
def mLen (k : Nat) : Nat := match k with
  | 1 => 677
  | 4 => 24
  | 5 => 24
  | 6 => 24
  | 7 => 24
  | 9 => 10
  | 11 => 4
  | 12 => 4
  | 13 => 3
  | 14 => 800
  | 26 => 24
  | 27 => 24
  | 28 => 24
  | 29 => 24
  | 31 => 10
  | 33 => 4
  | 34 => 4
  | 35 => 3
  | 36 => 1024
  | 37 => 24
  | 38 => 169
  | 39 => 26
  | 42 => 8124
  | 43 => 1354
  | 44 => 2
  | _ => 0
def mTy (k : Nat) : Nat := match k with
  | 12 => 2
  | 14 => 1
  | 34 => 2
  | 44 => 2
  | _ => 0
def mArr (k : Nat) : Bool := match k with
  | 1 => true
  | 4 => true
  | 5 => true
  | 6 => true
  | 7 => true
  | 9 => true
  | 11 => true
  | 12 => true
  | 13 => true
  | 14 => true
  | 26 => true
  | 27 => true
  | 28 => true
  | 29 => true
  | 31 => true
  | 33 => true
  | 34 => true
  | 35 => true
  | 36 => true
  | 37 => true
  | 38 => true
  | 39 => true
  | 42 => true
  | 43 => true
  | 44 => true
  | _ => false
def mFl (ad : Nat → Nat) (F : Nat → Int32) : List Value := (List.range 45).map (fun k => if mArr k = true then .ref (ad k) else .int (F k))
def mE (Γ : Gm) (X : Nat → Nat → Int32) (k : Nat) : va_E := .inl (Γ.2.1 (mTy k), mLen k, .inl (X k))
def mW (Γ : Gm) (o : Nat) (ad : Nat → Nat) (F : Nat → Int32) (X : Nat → Nat → Int32) : va_W := (o, .inr (4, mFl ad F)) :: mIdx.map (fun k => (ad k, mE Γ X k))
def RepM (Γ : Gm) (A : Nat → Prop) (o : Nat) (ad : Nat → Nat) (F : Nat → Int32) (X : Nat → Nat → Int32) (H : Heap) : Prop := va_P Γ.1 clA (mW Γ o ad F X) H ∧ va_D A (mW Γ o ad F X)
def updX (X : Nat → Nat → Int32) (k i : Nat) (v : Int32) : Nat → Nat → Int32 := fun j => if j = k then upd (X k) i v else X j
/-- an array's contents set whole -/
def setX (X : Nat → Nat → Int32) (k : Nat) (f : Nat → Int32) : Nat → Nat → Int32 := fun j => if j = k then f else X j
theorem setX_self (X : Nat → Nat → Int32) (k : Nat) (f : Nat → Int32) : setX X k f k = f := if_pos rfl
theorem setX_ne {X : Nat → Nat → Int32} {k j : Nat} {f : Nat → Int32} (h : j ≠ k) : setX X k f j = X j := if_neg h
theorem setX_id (X : Nat → Nat → Int32) (k : Nat) : setX X k (X k) = X := by
  funext j
  unfold setX
  split
  · rename_i h; rw [h]
  · rfl
theorem updX_setX (X : Nat → Nat → Int32) (k i : Nat) (v : Int32) (f : Nat → Int32) : updX (setX X k f) k i v = setX X k (upd f i v) := by
  funext j
  unfold updX setX
  split
  · rw [if_pos rfl]
  · rfl
theorem updX_eq (X : Nat → Nat → Int32) (k i : Nat) (v : Int32) : updX X k i v = setX X k (upd (X k) i v) := rfl
theorem setX_setX (X : Nat → Nat → Int32) (k : Nat) (f g : Nat → Int32) : setX (setX X k f) k g = setX X k g := by
  funext j
  unfold setX
  split
  · rfl
  · rfl
theorem setX_comm (X : Nat → Nat → Int32) {a b : Nat} (h : a ≠ b) (f g : Nat → Int32) : setX (setX X a f) b g = setX (setX X b g) a f := by
  funext j
  unfold setX
  by_cases e : j = a <;> by_cases e2 : j = b
  · exact absurd (e.symm.trans e2) h
  · rw [if_neg e2, if_pos e, if_pos e]
  · rw [if_pos e2, if_neg e, if_pos e2]
  · rw [if_neg e2, if_neg e, if_neg e, if_neg e2]
theorem mFl_get (ad : Nat → Nat) (F : Nat → Int32) {k : Nat} (hk : k < 45) : (mFl ad F)[k]? = some (if mArr k = true then .ref (ad k) else .int (F k)) := by
  unfold mFl
  rw [List.getElem?_map, List.getElem?_range hk]
  rfl
theorem mFl_set (ad : Nat → Nat) (F : Nat → Int32) {k : Nat} (ha : mArr k = false) (v : Int32) : (mFl ad F).set k (.int v) = mFl ad (upd F k v) := by
  unfold mFl
  refine List.ext_getElem? fun j => ?_
  rw [List.getElem?_set, List.getElem?_map, List.getElem?_map, List.length_map]
  by_cases e : k = j
  · subst e
    rw [if_pos rfl]
    by_cases hk : k < (List.range 45).length
    · rw [if_pos hk, List.getElem?_eq_getElem hk, List.getElem_range]
      simp [ha, upd]
    · rw [if_neg hk, List.getElem?_eq_none (by omega)]
      rfl
  · rw [if_neg e]
    by_cases hk : j < (List.range 45).length
    · rw [List.getElem?_eq_getElem hk, List.getElem_range]
      have hu : upd F k v j = F j := if_neg (fun z => e z.symm)
      simp [hu]
    · rw [List.getElem?_eq_none (by omega)]
      rfl
theorem mW_get (Γ : Gm) (o : Nat) (ad : Nat → Nat) (F : Nat → Int32) (X : Nat → Nat → Int32) {p k : Nat} (hp : mIdx[p]? = some k) : (mW Γ o ad F X)[p + 1]? = some (ad k, mE Γ X k) := by
  unfold mW
  rw [List.getElem?_cons_succ, List.getElem?_map, hp]
  rfl
theorem mW_setF (Γ : Gm) (o : Nat) (ad : Nat → Nat) (F F' : Nat → Int32) (X : Nat → Nat → Int32) {fs : List Value} (h : fs = mFl ad F') : (mW Γ o ad F X).set 0 (o, .inr (4, fs)) = mW Γ o ad F' X := by
  rw [h]; rfl
theorem mIdx_inj {p q k : Nat} (hp : mIdx[p]? = some k) (hq : mIdx[q]? = some k) : p = q := by
  have h : mIdx.Nodup := by decide
  exact (List.getElem?_inj (List.getElem?_eq_some_iff.mp hp).1 h).mp (hp.trans hq.symm)
theorem mW_setX (Γ : Gm) (o : Nat) (ad : Nat → Nat) (F : Nat → Int32) (X : Nat → Nat → Int32) {p k : Nat} (hp : mIdx[p]? = some k) (f : Nat → Int32) : (mW Γ o ad F X).set (p + 1) (ad k, .inl (Γ.2.1 (mTy k), mLen k, .inl f)) = mW Γ o ad F (setX X k f) := by
  unfold mW
  rw [List.set_cons_succ]
  congr 1
  refine List.ext_getElem? fun j => ?_
  rw [List.getElem?_set, List.getElem?_map, List.getElem?_map, List.length_map]
  by_cases e : p = j
  · subst e
    rw [if_pos rfl, if_pos (List.getElem?_eq_some_iff.mp hp).1, hp]
    simp [mE, setX]
  · rw [if_neg e]
    cases hj : mIdx[j]? with
    | none => rfl
    | some i =>
      have hne : i ≠ k := fun z => e (mIdx_inj hp (by rw [hj, z]))
      simp [mE, setX, hne]
section MR
variable {E : Cf} {Γ : Gm} {A : Nat → Prop} {ρ : State → Prop} {cc : ByteArray} {nL : Nat} {own : String} {rm : Room} {cells slots pc : Nat} {lv : List (Option Value)} {st rest : List Value} {o : Nat} {ad : Nat → Nat} {F : Nat → Int32} {X : Nat → Nat → Int32}
theorem m_getV (k : Nat) (hk : k < 45) {index : Nat} (hT : (TX4 k).1 = RX4) (hq : Cond.fieldLink RX4 index RX4 (TX4 k).2.1 (TX4 k).2.2.1 ∈ lw_all) (C : Cx E Γ A ρ cc nL RX4 rm) (d : decode cc pc = .ok (.getfield index, 3)) (kk : G E (RepM Γ A o ad F X) cells slots (pc + 3) lv ((if mArr k = true then .ref (ad k) else .int (F k)) :: st)) : G E (RepM Γ A o ad F X) cells slots pc lv (.ref o :: st) := by
  intro H locs ls hI hS hl
  exact va_get (D := Γ.1) (ci := 4) (C := RX4) (T := TX4) (N := 45) C.x C.b C.ts in_X4 C.ow C.K hI.1 0 rfl rfl k hk (C.ts _ hq) (by rw [hT]; exact fun _ h => h) (mFl_get ad F hk) d (kk H locs ls hI hS hl)
theorem m_putI (k : Nat) (hk : k < 45) (ha : mArr k = false) {index : Nat} (hT : (TX4 k).1 = RX4) (hq : Cond.fieldLink RX4 index RX4 (TX4 k).2.1 (TX4 k).2.2.1 ∈ lw_all) (hfin : (TX4 k).2.2.2 = false) (hd : parseFieldDescriptor (TX4 k).2.2.1 = some .int) {v : Int32} (C : Cx E Γ A ρ cc nL RX4 rm) (d : decode cc pc = .ok (.putfield index, 3)) (kk : G E (RepM Γ A o ad (upd F k v) X) cells slots (pc + 3) lv st) : G E (RepM Γ A o ad F X) cells slots pc lv (.int v :: .ref o :: st) := by
  intro H locs ls hI hS hl
  refine va_put (D := Γ.1) (ci := 4) (C := RX4) (T := TX4) (N := 45) (ty := .int) C.x C.b C.ts in_X4 tyX4 tyX4_ok nmX4 C.ow C.K hI.1 (C.hA.symm ▸ hI.2) hS 0 rfl rfl k hk (C.ts _ hq) (by rw [hT]; exact fun _ h => h) hfin hd rfl rfl (by simp [mFl]; exact hk) d (fun H1 locs1 hP hD hS1 => ?_)
  rw [mW_setF Γ o ad F (upd F k v) X (mFl_set ad F ha v)] at hP hD
  exact kk H1 locs1 ls ⟨hP, C.hA ▸ hD⟩ hS1 hl
theorem m_ldI {p : Nat} (k : Nat) (hp : mIdx[p]? = some k) (ht : mTy k = 0) {i : Nat} (hlen : mLen k < 2 ^ 31) (hi : i < mLen k) (C : Cx E Γ A ρ cc nL own rm) (d : decode cc pc = .ok (.iaload, 1)) (kk : G E (RepM Γ A o ad F X) cells slots (pc + 1) lv (.int (X k i) :: st)) : G E (RepM Γ A o ad F X) cells slots pc lv (.int (nI i) :: .ref (ad k) :: st) := by
  intro H locs ls hI hS hl
  refine va_iald (D := Γ.1) C.x C.b C.K hI.1 (p + 1) 0 (mW_get Γ o ad F X hp) (by rw [ht]; rfl) (vp_in_nI hi hlen) d ?_
  rw [nI_clamp (by omega)]
  exact kk H locs ls hI hS hl
theorem m_stI {p : Nat} (k : Nat) (hp : mIdx[p]? = some k) (ht : mTy k = 0) {i : Nat} {v : Int32} (hlen : mLen k < 2 ^ 31) (hi : i < mLen k) (C : Cx E Γ A ρ cc nL own rm) (d : decode cc pc = .ok (.iastore, 1)) (kk : G E (RepM Γ A o ad F (setX X k (upd (X k) i v))) cells slots (pc + 1) lv st) : G E (RepM Γ A o ad F X) cells slots pc lv (.int v :: .int (nI i) :: .ref (ad k) :: st) := by
  intro H locs ls hI hS hl
  refine va_iast (D := Γ.1) C.x C.b C.K hI.1 (C.hA.symm ▸ hI.2) hS (p + 1) 0 (mW_get Γ o ad F X hp) (by rw [ht]; rfl) (vp_in_nI hi hlen) d (fun H1 locs1 hP hD hS1 => ?_)
  rw [nI_clamp (by omega), mW_setX Γ o ad F X hp] at hP hD
  exact kk H1 locs1 ls ⟨hP, C.hA ▸ hD⟩ hS1 hl
theorem m_ldB {p : Nat} (k : Nat) (hp : mIdx[p]? = some k) (ht : mTy k = 1) {i : Nat} (hlen : mLen k < 2 ^ 31) (hi : i < mLen k) (C : Cx E Γ A ρ cc nL own rm) (d : decode cc pc = .ok (.baload, 1)) (kk : G E (RepM Γ A o ad F X) cells slots (pc + 1) lv (.int (X k i) :: st)) : G E (RepM Γ A o ad F X) cells slots pc lv (.int (nI i) :: .ref (ad k) :: st) := by
  intro H locs ls hI hS hl
  refine va_bald (D := Γ.1) C.x C.b C.K hI.1 (p + 1) 1 (mW_get Γ o ad F X hp) (by rw [ht]; rfl) (vp_in_nI hi hlen) d ?_
  rw [nI_clamp (by omega)]
  exact kk H locs ls hI hS hl
theorem m_stB {p : Nat} (k : Nat) (hp : mIdx[p]? = some k) (ht : mTy k = 1) {i : Nat} {v : Int32} (hlen : mLen k < 2 ^ 31) (hi : i < mLen k) (C : Cx E Γ A ρ cc nL own rm) (d : decode cc pc = .ok (.bastore, 1)) (kk : G E (RepM Γ A o ad F (setX X k (upd (X k) i v.toInt8.toInt32))) cells slots (pc + 1) lv st) : G E (RepM Γ A o ad F X) cells slots pc lv (.int v :: .int (nI i) :: .ref (ad k) :: st) := by
  intro H locs ls hI hS hl
  refine va_bast (D := Γ.1) C.x C.b C.K hI.1 (C.hA.symm ▸ hI.2) hS (p + 1) 1 (mW_get Γ o ad F X hp) (by rw [ht]; rfl) (vp_in_nI hi hlen) d (fun H1 locs1 hP hD hS1 => ?_)
  rw [nI_clamp (by omega), vp_nar_byte, mW_setX Γ o ad F X hp] at hP hD
  exact kk H1 locs1 ls ⟨hP, C.hA ▸ hD⟩ hS1 hl
theorem m_ldZ {p : Nat} (k : Nat) (hp : mIdx[p]? = some k) (ht : mTy k = 2) {i : Nat} (hlen : mLen k < 2 ^ 31) (hi : i < mLen k) (C : Cx E Γ A ρ cc nL own rm) (d : decode cc pc = .ok (.baload, 1)) (kk : G E (RepM Γ A o ad F X) cells slots (pc + 1) lv (.int (X k i) :: st)) : G E (RepM Γ A o ad F X) cells slots pc lv (.int (nI i) :: .ref (ad k) :: st) := by
  intro H locs ls hI hS hl
  refine va_zald (D := Γ.1) C.x C.b C.K hI.1 (p + 1) 2 (mW_get Γ o ad F X hp) (by rw [ht]; rfl) (vp_in_nI hi hlen) d ?_
  rw [nI_clamp (by omega)]
  exact kk H locs ls hI hS hl
theorem m_stZ {p : Nat} (k : Nat) (hp : mIdx[p]? = some k) (ht : mTy k = 2) {i : Nat} {v : Int32} (hlen : mLen k < 2 ^ 31) (hi : i < mLen k) (hv : vp_nar .boolean v = v) (C : Cx E Γ A ρ cc nL own rm) (d : decode cc pc = .ok (.bastore, 1)) (kk : G E (RepM Γ A o ad F (setX X k (upd (X k) i v))) cells slots (pc + 1) lv st) : G E (RepM Γ A o ad F X) cells slots pc lv (.int v :: .int (nI i) :: .ref (ad k) :: st) := by
  intro H locs ls hI hS hl
  refine va_zast (D := Γ.1) C.x C.b C.K hI.1 (C.hA.symm ▸ hI.2) hS (p + 1) 2 (mW_get Γ o ad F X hp) (by rw [ht]; rfl) (vp_in_nI hi hlen) d (fun H1 locs1 hP hD hS1 => ?_)
  rw [nI_clamp (by omega), hv, mW_setX Γ o ad F X hp] at hP hD
  exact kk H1 locs1 ls ⟨hP, C.hA ▸ hD⟩ hS1 hl
/-- a model's contract: it makes nothing -/
def CtM (l : Launch) (Γ : Gm) (A : Nat → Prop) (ρ : State → Prop) (y : MethodName) (cc : ByteArray) (nL : Nat) (ret : Option FieldType) (fr lo : Nat) (o : Nat) (ad : Nat → Nat) (av : List Value) (F : Nat → Int32) (X : Nat → Nat → Int32) (r : Option Value) (F' : Nat → Int32) (X' : Nat → Nat → Int32) : Prop :=
  Ct l Γ A ρ y cc nL ret { frames := fr, cells := 0, slots := 0, locals := lo } av (RepM Γ A o ad F X) (fun v H => v = r ∧ RepM Γ A o ad F' X' H)
def Bs (l : Launch) (A : Nat → Prop) (ρ : State → Prop) : Prop := l.stackTraces = false ∧ Cl A ρ
theorem RepM.recv (C : Cx E Γ A ρ cc nL own rm) : ∀ H, RepM Γ A o ad F X H → ∃ cell : Cell, H[o]? = some cell ∧ cell.vm.isStatics = false ∧ (eS E).vm.findClass RX4 = some cell.cls := fun H h => va_recv C.K h.1 (ci := 4) (q := (RX4, TX4, 45)) (q0 := 0) rfl rfl
variable {name desc : String} {cc' : ByteArray} {nL' n index fr lo : Nat} {ret : Option FieldType} {As : List Value} {r : Value} {F' : Nat → Int32} {X' : Nat → Nat → Int32} {Is : Heap → Prop}
theorem g_mcall (n : Nat) (C : Cx E Γ A ρ cc nL own rm) (ct : CtM (eL E) Γ A ρ ⟨RX4, name, desc⟩ cc' nL' ret fr lo o ad (.ref o :: As) F X (some r) F' X') (hw : GoodIn lw_all (wsV own index RX4 ⟨RX4, name, desc⟩ (ws_ ⟨RX4, name, desc⟩ cc' nL' ret))) (hd : (parseMethodDescriptor desc).map (fun d => d.parameters.length) = some n) (hR : fr + 1 ≤ rm.frames ∧ 8 + (nL' + 11) + lo ≤ rm.locals) (hf : cells ≤ rm.cells ∧ slots ≤ rm.slots) (hn : As.length = n) (hst : st = As.reverse ++ .ref o :: rest) (hW : (rest.map fun v => v.category).sum ≤ 8) (d : decode cc pc = .ok (.invokevirtual index, 3))
    (k : G E (RepM Γ A o ad F' X') cells slots (pc + 3) lv (r :: rest)) : G E (RepM Γ A o ad F X) cells slots pc lv st :=
  g_callV C ct hw ⟨show RX4 ≠ _ by decide, show RX4 ≠ _ by decide, hd⟩ hR hf (fun _ h => h) (RepM.recv C) hn hst hW d (fun v => g_pure (fun hv => by subst hv; exact k))
theorem g_mcallv (n : Nat) (C : Cx E Γ A ρ cc nL own rm) (ct : CtM (eL E) Γ A ρ ⟨RX4, name, desc⟩ cc' nL' ret fr lo o ad (.ref o :: As) F X none F' X') (hw : GoodIn lw_all (wsV own index RX4 ⟨RX4, name, desc⟩ (ws_ ⟨RX4, name, desc⟩ cc' nL' ret))) (hd : (parseMethodDescriptor desc).map (fun d => d.parameters.length) = some n) (hR : fr + 1 ≤ rm.frames ∧ 8 + (nL' + 11) + lo ≤ rm.locals) (hf : cells ≤ rm.cells ∧ slots ≤ rm.slots) (hn : As.length = n) (hst : st = As.reverse ++ .ref o :: rest) (hW : (rest.map fun v => v.category).sum ≤ 8) (d : decode cc pc = .ok (.invokevirtual index, 3))
    (k : G E (RepM Γ A o ad F' X') cells slots (pc + 3) lv rest) : G E (RepM Γ A o ad F X) cells slots pc lv st :=
  g_callV C ct hw ⟨show RX4 ≠ _ by decide, show RX4 ≠ _ by decide, hd⟩ hR hf (fun _ h => h) (RepM.recv C) hn hst hW d (fun v => g_pure (fun hv => by subst hv; exact k))
/-- a static method of the model that works on its arrays -/
theorem g_mcallSv (n : Nat) (C : Cx E Γ A ρ cc nL own rm) (ct : CtM (eL E) Γ A ρ ⟨RX4, name, desc⟩ cc' nL' ret fr lo o ad As F X none F' X') (hw : GoodIn lw_all (va_wsS own index ⟨RX4, name, desc⟩ (ws_ ⟨RX4, name, desc⟩ cc' nL' ret))) (hd : (parseMethodDescriptor desc).map (fun d => d.parameters.length) = some n) (hR : fr + 1 ≤ rm.frames ∧ 8 + (nL' + 11) + lo ≤ rm.locals) (hf : cells ≤ rm.cells ∧ slots ≤ rm.slots) (hn : As.length = n) (hst : st = As.reverse ++ rest) (hW : (rest.map fun v => v.category).sum ≤ 8) (d : decode cc pc = .ok (.invokestatic index, 3))
    (k : G E (RepM Γ A o ad F' X') cells slots (pc + 3) lv rest) : G E (RepM Γ A o ad F X) cells slots pc lv st :=
  g_callS C ct hw ⟨show RX4 ≠ _ by decide, show RX4 ≠ _ by decide, hd⟩ hR hf (fun _ h => h) hn hst hW d (fun v => g_pure (fun hv => by subst hv; exact k))
/-- a static method that touches no cell, over any heap -/
def CtP (l : Launch) (Γ : Gm) (A : Nat → Prop) (ρ : State → Prop) (y : MethodName) (cc : ByteArray) (nL : Nat) (ret : Option FieldType) (fr lo : Nat) (av : List Value) (r : Value) : Prop :=
  ∀ J : Heap → Prop, Ct l Γ A ρ y cc nL ret { frames := fr, cells := 0, slots := 0, locals := lo } av J (fun v H => v = some r ∧ J H)
theorem g_pcall {y : MethodName} (n : Nat) (C : Cx E Γ A ρ cc nL own rm) (ct : CtP (eL E) Γ A ρ y cc' nL' ret fr lo As r) (hw : GoodIn lw_all (va_wsS own index y (ws_ y cc' nL' ret))) (hd : y.cls ≠ "java/lang/invoke/MethodHandle" ∧ y.cls ≠ "java/lang/invoke/VarHandle" ∧ (parseMethodDescriptor y.desc).map (fun d => d.parameters.length) = some n) (hR : fr + 1 ≤ rm.frames ∧ 8 + (nL' + 11) + lo ≤ rm.locals) (hf : cells ≤ rm.cells ∧ slots ≤ rm.slots) (hn : As.length = n) (hst : st = As.reverse ++ rest) (hW : (rest.map fun v => v.category).sum ≤ 8) (d : decode cc pc = .ok (.invokestatic index, 3))
    (k : G E Is cells slots (pc + 3) lv (r :: rest)) : G E Is cells slots pc lv st :=
  g_callS C (ct Is) hw hd hR hf (fun _ h => h) hn hst hW d (fun v => g_pure (fun hv => by subst hv; exact k))
/-- compares of numbers that are known as naturals -/

theorem gN_eq {I : Heap → Prop} {a b : Nat} {off : Int} (tgt : Nat) (C : Cx E Γ A ρ cc nL own rm) (d : decode cc pc = .ok (.if_icmp .eq off, 3)) (ht : (pc : Int) + off = (tgt : Int)) (ha : a < 2 ^ 31) (hb : b < 2 ^ 31) (kt : a = b → G E I cells slots tgt lv st) (kf : ¬ a = b → G E I cells slots (pc + 3) lv st) : G E I cells slots pc lv (.int (nI b) :: .int (nI a) :: st) := g_icmp_eq tgt C d ht (fun q => kt ((nI_eq ha hb).mp q)) (fun q => kf (fun z => q ((nI_eq ha hb).mpr z)))
theorem gN_ne {I : Heap → Prop} {a b : Nat} {off : Int} (tgt : Nat) (C : Cx E Γ A ρ cc nL own rm) (d : decode cc pc = .ok (.if_icmp .ne off, 3)) (ht : (pc : Int) + off = (tgt : Int)) (ha : a < 2 ^ 31) (hb : b < 2 ^ 31) (kt : ¬ a = b → G E I cells slots tgt lv st) (kf : a = b → G E I cells slots (pc + 3) lv st) : G E I cells slots pc lv (.int (nI b) :: .int (nI a) :: st) := g_icmp_ne tgt C d ht (fun q => kt (fun z => q ((nI_eq ha hb).mpr z))) (fun q => kf ((nI_eq ha hb).mp q))
theorem gN_lt {I : Heap → Prop} {a b : Nat} {off : Int} (tgt : Nat) (C : Cx E Γ A ρ cc nL own rm) (d : decode cc pc = .ok (.if_icmp .lt off, 3)) (ht : (pc : Int) + off = (tgt : Int)) (ha : a < 2 ^ 31) (hb : b < 2 ^ 31) (kt : a < b → G E I cells slots tgt lv st) (kf : b ≤ a → G E I cells slots (pc + 3) lv st) : G E I cells slots pc lv (.int (nI b) :: .int (nI a) :: st) := g_icmp_lt tgt C d ht (fun q => kt ((nI_ltI ha hb).mp q)) (fun q => kf (by have := mt (nI_ltI ha hb).mpr q; omega))
theorem gN_ge {I : Heap → Prop} {a b : Nat} {off : Int} (tgt : Nat) (C : Cx E Γ A ρ cc nL own rm) (d : decode cc pc = .ok (.if_icmp .ge off, 3)) (ht : (pc : Int) + off = (tgt : Int)) (ha : a < 2 ^ 31) (hb : b < 2 ^ 31) (kt : b ≤ a → G E I cells slots tgt lv st) (kf : a < b → G E I cells slots (pc + 3) lv st) : G E I cells slots pc lv (.int (nI b) :: .int (nI a) :: st) := g_icmp_ge tgt C d ht (fun q => kt ((nI_leI hb ha).mp q)) (fun q => kf (by have := mt (nI_leI hb ha).mpr q; omega))
theorem gN_gt {I : Heap → Prop} {a b : Nat} {off : Int} (tgt : Nat) (C : Cx E Γ A ρ cc nL own rm) (d : decode cc pc = .ok (.if_icmp .gt off, 3)) (ht : (pc : Int) + off = (tgt : Int)) (ha : a < 2 ^ 31) (hb : b < 2 ^ 31) (kt : b < a → G E I cells slots tgt lv st) (kf : a ≤ b → G E I cells slots (pc + 3) lv st) : G E I cells slots pc lv (.int (nI b) :: .int (nI a) :: st) := g_icmp_gt tgt C d ht (fun q => kt ((nI_ltI hb ha).mp q)) (fun q => kf (by have := mt (nI_ltI hb ha).mpr q; omega))
theorem gN_le {I : Heap → Prop} {a b : Nat} {off : Int} (tgt : Nat) (C : Cx E Γ A ρ cc nL own rm) (d : decode cc pc = .ok (.if_icmp .le off, 3)) (ht : (pc : Int) + off = (tgt : Int)) (ha : a < 2 ^ 31) (hb : b < 2 ^ 31) (kt : a ≤ b → G E I cells slots tgt lv st) (kf : b < a → G E I cells slots (pc + 3) lv st) : G E I cells slots pc lv (.int (nI b) :: .int (nI a) :: st) := g_icmp_le tgt C d ht (fun q => kt ((nI_leI ha hb).mp q)) (fun q => kf (by have := mt (nI_leI ha hb).mpr q; omega))
end MR
section MW
variable {E : Cf} {Γ : Gm} {A : Nat → Prop} {ρ : State → Prop} {cc : ByteArray} {nL : Nat} {rm : Room} {cells slots pc : Nat} {lv : List (Option Value)} {st : List Value} {o : Nat} {ad : Nat → Nat} {F : Nat → Int32} {X : Nat → Nat → Int32}
theorem mg_0 (C : Cx E Γ A ρ cc nL RX4 rm) (d : decode cc pc = .ok (.getfield 1, 3)) (kk : G E (RepM Γ A o ad F X) cells slots (pc + 3) lv (.int (F 0) :: st)) : G E (RepM Γ A o ad F X) cells slots pc lv (.ref o :: st) := m_getV 0 (by decide) rfl q1634 C d kk
theorem mp_0 {v : Int32} (C : Cx E Γ A ρ cc nL RX4 rm) (d : decode cc pc = .ok (.putfield 1, 3)) (kk : G E (RepM Γ A o ad (upd F 0 v) X) cells slots (pc + 3) lv st) : G E (RepM Γ A o ad F X) cells slots pc lv (.int v :: .ref o :: st) := m_putI 0 (by decide) rfl rfl q1634 rfl (by decide +kernel) C d kk
theorem mg_1 (C : Cx E Γ A ρ cc nL RX4 rm) (d : decode cc pc = .ok (.getfield 13, 3)) (kk : G E (RepM Γ A o ad F X) cells slots (pc + 3) lv (.ref (ad 1) :: st)) : G E (RepM Γ A o ad F X) cells slots pc lv (.ref o :: st) := m_getV 1 (by decide) rfl q1635 C d kk
theorem ml_1 {i : Nat} (C : Cx E Γ A ρ cc nL RX4 rm) (d : decode cc pc = .ok (.iaload, 1)) (hi : i < 677) (kk : G E (RepM Γ A o ad F X) cells slots (pc + 1) lv (.int (X 1 i) :: st)) : G E (RepM Γ A o ad F X) cells slots pc lv (.int (nI i) :: .ref (ad 1) :: st) := m_ldI (p := 0) 1 rfl rfl (Nat.le_of_ble_eq_true rfl) hi C d kk
theorem ms_1 {i : Nat} {v : Int32} (C : Cx E Γ A ρ cc nL RX4 rm) (d : decode cc pc = .ok (.iastore, 1)) (hi : i < 677) (kk : G E (RepM Γ A o ad F (setX X 1 (upd (X 1) i v))) cells slots (pc + 1) lv st) : G E (RepM Γ A o ad F X) cells slots pc lv (.int v :: .int (nI i) :: .ref (ad 1) :: st) := m_stI (p := 0) 1 rfl rfl (Nat.le_of_ble_eq_true rfl) hi C d kk
theorem mg_2 (C : Cx E Γ A ρ cc nL RX4 rm) (d : decode cc pc = .ok (.getfield 215, 3)) (kk : G E (RepM Γ A o ad F X) cells slots (pc + 3) lv (.int (F 2) :: st)) : G E (RepM Γ A o ad F X) cells slots pc lv (.ref o :: st) := m_getV 2 (by decide) rfl q1636 C d kk
theorem mp_2 {v : Int32} (C : Cx E Γ A ρ cc nL RX4 rm) (d : decode cc pc = .ok (.putfield 215, 3)) (kk : G E (RepM Γ A o ad (upd F 2 v) X) cells slots (pc + 3) lv st) : G E (RepM Γ A o ad F X) cells slots pc lv (.int v :: .ref o :: st) := m_putI 2 (by decide) rfl rfl q1636 rfl (by decide +kernel) C d kk
theorem mg_3 (C : Cx E Γ A ρ cc nL RX4 rm) (d : decode cc pc = .ok (.getfield 218, 3)) (kk : G E (RepM Γ A o ad F X) cells slots (pc + 3) lv (.int (F 3) :: st)) : G E (RepM Γ A o ad F X) cells slots pc lv (.ref o :: st) := m_getV 3 (by decide) rfl q1637 C d kk
theorem mp_3 {v : Int32} (C : Cx E Γ A ρ cc nL RX4 rm) (d : decode cc pc = .ok (.putfield 218, 3)) (kk : G E (RepM Γ A o ad (upd F 3 v) X) cells slots (pc + 3) lv st) : G E (RepM Γ A o ad F X) cells slots pc lv (.int v :: .ref o :: st) := m_putI 3 (by decide) rfl rfl q1637 rfl (by decide +kernel) C d kk
theorem mg_4 (C : Cx E Γ A ρ cc nL RX4 rm) (d : decode cc pc = .ok (.getfield 17, 3)) (kk : G E (RepM Γ A o ad F X) cells slots (pc + 3) lv (.ref (ad 4) :: st)) : G E (RepM Γ A o ad F X) cells slots pc lv (.ref o :: st) := m_getV 4 (by decide) rfl q1638 C d kk
theorem ml_4 {i : Nat} (C : Cx E Γ A ρ cc nL RX4 rm) (d : decode cc pc = .ok (.iaload, 1)) (hi : i < 24) (kk : G E (RepM Γ A o ad F X) cells slots (pc + 1) lv (.int (X 4 i) :: st)) : G E (RepM Γ A o ad F X) cells slots pc lv (.int (nI i) :: .ref (ad 4) :: st) := m_ldI (p := 1) 4 rfl rfl (Nat.le_of_ble_eq_true rfl) hi C d kk
theorem ms_4 {i : Nat} {v : Int32} (C : Cx E Γ A ρ cc nL RX4 rm) (d : decode cc pc = .ok (.iastore, 1)) (hi : i < 24) (kk : G E (RepM Γ A o ad F (setX X 4 (upd (X 4) i v))) cells slots (pc + 1) lv st) : G E (RepM Γ A o ad F X) cells slots pc lv (.int v :: .int (nI i) :: .ref (ad 4) :: st) := m_stI (p := 1) 4 rfl rfl (Nat.le_of_ble_eq_true rfl) hi C d kk
theorem mg_5 (C : Cx E Γ A ρ cc nL RX4 rm) (d : decode cc pc = .ok (.getfield 20, 3)) (kk : G E (RepM Γ A o ad F X) cells slots (pc + 3) lv (.ref (ad 5) :: st)) : G E (RepM Γ A o ad F X) cells slots pc lv (.ref o :: st) := m_getV 5 (by decide) rfl q1639 C d kk
theorem ml_5 {i : Nat} (C : Cx E Γ A ρ cc nL RX4 rm) (d : decode cc pc = .ok (.iaload, 1)) (hi : i < 24) (kk : G E (RepM Γ A o ad F X) cells slots (pc + 1) lv (.int (X 5 i) :: st)) : G E (RepM Γ A o ad F X) cells slots pc lv (.int (nI i) :: .ref (ad 5) :: st) := m_ldI (p := 2) 5 rfl rfl (Nat.le_of_ble_eq_true rfl) hi C d kk
theorem ms_5 {i : Nat} {v : Int32} (C : Cx E Γ A ρ cc nL RX4 rm) (d : decode cc pc = .ok (.iastore, 1)) (hi : i < 24) (kk : G E (RepM Γ A o ad F (setX X 5 (upd (X 5) i v))) cells slots (pc + 1) lv st) : G E (RepM Γ A o ad F X) cells slots pc lv (.int v :: .int (nI i) :: .ref (ad 5) :: st) := m_stI (p := 2) 5 rfl rfl (Nat.le_of_ble_eq_true rfl) hi C d kk
theorem mg_6 (C : Cx E Γ A ρ cc nL RX4 rm) (d : decode cc pc = .ok (.getfield 23, 3)) (kk : G E (RepM Γ A o ad F X) cells slots (pc + 3) lv (.ref (ad 6) :: st)) : G E (RepM Γ A o ad F X) cells slots pc lv (.ref o :: st) := m_getV 6 (by decide) rfl q1640 C d kk
theorem ml_6 {i : Nat} (C : Cx E Γ A ρ cc nL RX4 rm) (d : decode cc pc = .ok (.iaload, 1)) (hi : i < 24) (kk : G E (RepM Γ A o ad F X) cells slots (pc + 1) lv (.int (X 6 i) :: st)) : G E (RepM Γ A o ad F X) cells slots pc lv (.int (nI i) :: .ref (ad 6) :: st) := m_ldI (p := 3) 6 rfl rfl (Nat.le_of_ble_eq_true rfl) hi C d kk
theorem ms_6 {i : Nat} {v : Int32} (C : Cx E Γ A ρ cc nL RX4 rm) (d : decode cc pc = .ok (.iastore, 1)) (hi : i < 24) (kk : G E (RepM Γ A o ad F (setX X 6 (upd (X 6) i v))) cells slots (pc + 1) lv st) : G E (RepM Γ A o ad F X) cells slots pc lv (.int v :: .int (nI i) :: .ref (ad 6) :: st) := m_stI (p := 3) 6 rfl rfl (Nat.le_of_ble_eq_true rfl) hi C d kk
theorem mg_7 (C : Cx E Γ A ρ cc nL RX4 rm) (d : decode cc pc = .ok (.getfield 26, 3)) (kk : G E (RepM Γ A o ad F X) cells slots (pc + 3) lv (.ref (ad 7) :: st)) : G E (RepM Γ A o ad F X) cells slots pc lv (.ref o :: st) := m_getV 7 (by decide) rfl q1641 C d kk
theorem ml_7 {i : Nat} (C : Cx E Γ A ρ cc nL RX4 rm) (d : decode cc pc = .ok (.iaload, 1)) (hi : i < 24) (kk : G E (RepM Γ A o ad F X) cells slots (pc + 1) lv (.int (X 7 i) :: st)) : G E (RepM Γ A o ad F X) cells slots pc lv (.int (nI i) :: .ref (ad 7) :: st) := m_ldI (p := 4) 7 rfl rfl (Nat.le_of_ble_eq_true rfl) hi C d kk
theorem ms_7 {i : Nat} {v : Int32} (C : Cx E Γ A ρ cc nL RX4 rm) (d : decode cc pc = .ok (.iastore, 1)) (hi : i < 24) (kk : G E (RepM Γ A o ad F (setX X 7 (upd (X 7) i v))) cells slots (pc + 1) lv st) : G E (RepM Γ A o ad F X) cells slots pc lv (.int v :: .int (nI i) :: .ref (ad 7) :: st) := m_stI (p := 4) 7 rfl rfl (Nat.le_of_ble_eq_true rfl) hi C d kk
theorem mg_8 (C : Cx E Γ A ρ cc nL RX4 rm) (d : decode cc pc = .ok (.getfield 225, 3)) (kk : G E (RepM Γ A o ad F X) cells slots (pc + 3) lv (.int (F 8) :: st)) : G E (RepM Γ A o ad F X) cells slots pc lv (.ref o :: st) := m_getV 8 (by decide) rfl q1642 C d kk
theorem mp_8 {v : Int32} (C : Cx E Γ A ρ cc nL RX4 rm) (d : decode cc pc = .ok (.putfield 225, 3)) (kk : G E (RepM Γ A o ad (upd F 8 v) X) cells slots (pc + 3) lv st) : G E (RepM Γ A o ad F X) cells slots pc lv (.int v :: .ref o :: st) := m_putI 8 (by decide) rfl rfl q1642 rfl (by decide +kernel) C d kk
theorem mg_9 (C : Cx E Γ A ρ cc nL RX4 rm) (d : decode cc pc = .ok (.getfield 29, 3)) (kk : G E (RepM Γ A o ad F X) cells slots (pc + 3) lv (.ref (ad 9) :: st)) : G E (RepM Γ A o ad F X) cells slots pc lv (.ref o :: st) := m_getV 9 (by decide) rfl q1643 C d kk
theorem ml_9 {i : Nat} (C : Cx E Γ A ρ cc nL RX4 rm) (d : decode cc pc = .ok (.iaload, 1)) (hi : i < 10) (kk : G E (RepM Γ A o ad F X) cells slots (pc + 1) lv (.int (X 9 i) :: st)) : G E (RepM Γ A o ad F X) cells slots pc lv (.int (nI i) :: .ref (ad 9) :: st) := m_ldI (p := 5) 9 rfl rfl (Nat.le_of_ble_eq_true rfl) hi C d kk
theorem ms_9 {i : Nat} {v : Int32} (C : Cx E Γ A ρ cc nL RX4 rm) (d : decode cc pc = .ok (.iastore, 1)) (hi : i < 10) (kk : G E (RepM Γ A o ad F (setX X 9 (upd (X 9) i v))) cells slots (pc + 1) lv st) : G E (RepM Γ A o ad F X) cells slots pc lv (.int v :: .int (nI i) :: .ref (ad 9) :: st) := m_stI (p := 5) 9 rfl rfl (Nat.le_of_ble_eq_true rfl) hi C d kk
theorem mg_10 (C : Cx E Γ A ρ cc nL RX4 rm) (d : decode cc pc = .ok (.getfield 228, 3)) (kk : G E (RepM Γ A o ad F X) cells slots (pc + 3) lv (.int (F 10) :: st)) : G E (RepM Γ A o ad F X) cells slots pc lv (.ref o :: st) := m_getV 10 (by decide) rfl q1644 C d kk
theorem mp_10 {v : Int32} (C : Cx E Γ A ρ cc nL RX4 rm) (d : decode cc pc = .ok (.putfield 228, 3)) (kk : G E (RepM Γ A o ad (upd F 10 v) X) cells slots (pc + 3) lv st) : G E (RepM Γ A o ad F X) cells slots pc lv (.int v :: .ref o :: st) := m_putI 10 (by decide) rfl rfl q1644 rfl (by decide +kernel) C d kk
theorem mg_11 (C : Cx E Γ A ρ cc nL RX4 rm) (d : decode cc pc = .ok (.getfield 32, 3)) (kk : G E (RepM Γ A o ad F X) cells slots (pc + 3) lv (.ref (ad 11) :: st)) : G E (RepM Γ A o ad F X) cells slots pc lv (.ref o :: st) := m_getV 11 (by decide) rfl q1645 C d kk
theorem ml_11 {i : Nat} (C : Cx E Γ A ρ cc nL RX4 rm) (d : decode cc pc = .ok (.iaload, 1)) (hi : i < 4) (kk : G E (RepM Γ A o ad F X) cells slots (pc + 1) lv (.int (X 11 i) :: st)) : G E (RepM Γ A o ad F X) cells slots pc lv (.int (nI i) :: .ref (ad 11) :: st) := m_ldI (p := 6) 11 rfl rfl (Nat.le_of_ble_eq_true rfl) hi C d kk
theorem ms_11 {i : Nat} {v : Int32} (C : Cx E Γ A ρ cc nL RX4 rm) (d : decode cc pc = .ok (.iastore, 1)) (hi : i < 4) (kk : G E (RepM Γ A o ad F (setX X 11 (upd (X 11) i v))) cells slots (pc + 1) lv st) : G E (RepM Γ A o ad F X) cells slots pc lv (.int v :: .int (nI i) :: .ref (ad 11) :: st) := m_stI (p := 6) 11 rfl rfl (Nat.le_of_ble_eq_true rfl) hi C d kk
theorem mg_12 (C : Cx E Γ A ρ cc nL RX4 rm) (d : decode cc pc = .ok (.getfield 35, 3)) (kk : G E (RepM Γ A o ad F X) cells slots (pc + 3) lv (.ref (ad 12) :: st)) : G E (RepM Γ A o ad F X) cells slots pc lv (.ref o :: st) := m_getV 12 (by decide) rfl q1646 C d kk
theorem ml_12 {i : Nat} (C : Cx E Γ A ρ cc nL RX4 rm) (d : decode cc pc = .ok (.baload, 1)) (hi : i < 4) (kk : G E (RepM Γ A o ad F X) cells slots (pc + 1) lv (.int (X 12 i) :: st)) : G E (RepM Γ A o ad F X) cells slots pc lv (.int (nI i) :: .ref (ad 12) :: st) := m_ldZ (p := 7) 12 rfl rfl (Nat.le_of_ble_eq_true rfl) hi C d kk
theorem ms_12 {i : Nat} {v : Int32} (C : Cx E Γ A ρ cc nL RX4 rm) (d : decode cc pc = .ok (.bastore, 1)) (hi : i < 4) (hv : vp_nar .boolean v = v) (kk : G E (RepM Γ A o ad F (setX X 12 (upd (X 12) i v))) cells slots (pc + 1) lv st) : G E (RepM Γ A o ad F X) cells slots pc lv (.int v :: .int (nI i) :: .ref (ad 12) :: st) := m_stZ (p := 7) 12 rfl rfl (Nat.le_of_ble_eq_true rfl) hi hv C d kk
theorem mg_13 (C : Cx E Γ A ρ cc nL RX4 rm) (d : decode cc pc = .ok (.getfield 39, 3)) (kk : G E (RepM Γ A o ad F X) cells slots (pc + 3) lv (.ref (ad 13) :: st)) : G E (RepM Γ A o ad F X) cells slots pc lv (.ref o :: st) := m_getV 13 (by decide) rfl q1647 C d kk
theorem ml_13 {i : Nat} (C : Cx E Γ A ρ cc nL RX4 rm) (d : decode cc pc = .ok (.iaload, 1)) (hi : i < 3) (kk : G E (RepM Γ A o ad F X) cells slots (pc + 1) lv (.int (X 13 i) :: st)) : G E (RepM Γ A o ad F X) cells slots pc lv (.int (nI i) :: .ref (ad 13) :: st) := m_ldI (p := 8) 13 rfl rfl (Nat.le_of_ble_eq_true rfl) hi C d kk
theorem ms_13 {i : Nat} {v : Int32} (C : Cx E Γ A ρ cc nL RX4 rm) (d : decode cc pc = .ok (.iastore, 1)) (hi : i < 3) (kk : G E (RepM Γ A o ad F (setX X 13 (upd (X 13) i v))) cells slots (pc + 1) lv st) : G E (RepM Γ A o ad F X) cells slots pc lv (.int v :: .int (nI i) :: .ref (ad 13) :: st) := m_stI (p := 8) 13 rfl rfl (Nat.le_of_ble_eq_true rfl) hi C d kk
theorem mg_14 (C : Cx E Γ A ρ cc nL RX4 rm) (d : decode cc pc = .ok (.getfield 42, 3)) (kk : G E (RepM Γ A o ad F X) cells slots (pc + 3) lv (.ref (ad 14) :: st)) : G E (RepM Γ A o ad F X) cells slots pc lv (.ref o :: st) := m_getV 14 (by decide) rfl q1648 C d kk
theorem ml_14 {i : Nat} (C : Cx E Γ A ρ cc nL RX4 rm) (d : decode cc pc = .ok (.baload, 1)) (hi : i < 800) (kk : G E (RepM Γ A o ad F X) cells slots (pc + 1) lv (.int (X 14 i) :: st)) : G E (RepM Γ A o ad F X) cells slots pc lv (.int (nI i) :: .ref (ad 14) :: st) := m_ldB (p := 9) 14 rfl rfl (Nat.le_of_ble_eq_true rfl) hi C d kk
theorem ms_14 {i : Nat} {v : Int32} (C : Cx E Γ A ρ cc nL RX4 rm) (d : decode cc pc = .ok (.bastore, 1)) (hi : i < 800) (kk : G E (RepM Γ A o ad F (setX X 14 (upd (X 14) i v.toInt8.toInt32))) cells slots (pc + 1) lv st) : G E (RepM Γ A o ad F X) cells slots pc lv (.int v :: .int (nI i) :: .ref (ad 14) :: st) := m_stB (p := 9) 14 rfl rfl (Nat.le_of_ble_eq_true rfl) hi C d kk
theorem mg_15 (C : Cx E Γ A ρ cc nL RX4 rm) (d : decode cc pc = .ok (.getfield 94, 3)) (kk : G E (RepM Γ A o ad F X) cells slots (pc + 3) lv (.int (F 15) :: st)) : G E (RepM Γ A o ad F X) cells slots pc lv (.ref o :: st) := m_getV 15 (by decide) rfl q1649 C d kk
theorem mp_15 {v : Int32} (C : Cx E Γ A ρ cc nL RX4 rm) (d : decode cc pc = .ok (.putfield 94, 3)) (kk : G E (RepM Γ A o ad (upd F 15 v) X) cells slots (pc + 3) lv st) : G E (RepM Γ A o ad F X) cells slots pc lv (.int v :: .ref o :: st) := m_putI 15 (by decide) rfl rfl q1649 rfl (by decide +kernel) C d kk
theorem mg_16 (C : Cx E Γ A ρ cc nL RX4 rm) (d : decode cc pc = .ok (.getfield 101, 3)) (kk : G E (RepM Γ A o ad F X) cells slots (pc + 3) lv (.int (F 16) :: st)) : G E (RepM Γ A o ad F X) cells slots pc lv (.ref o :: st) := m_getV 16 (by decide) rfl q1650 C d kk
theorem mp_16 {v : Int32} (C : Cx E Γ A ρ cc nL RX4 rm) (d : decode cc pc = .ok (.putfield 101, 3)) (kk : G E (RepM Γ A o ad (upd F 16 v) X) cells slots (pc + 3) lv st) : G E (RepM Γ A o ad F X) cells slots pc lv (.int v :: .ref o :: st) := m_putI 16 (by decide) rfl rfl q1650 rfl (by decide +kernel) C d kk
theorem mg_17 (C : Cx E Γ A ρ cc nL RX4 rm) (d : decode cc pc = .ok (.getfield 111, 3)) (kk : G E (RepM Γ A o ad F X) cells slots (pc + 3) lv (.int (F 17) :: st)) : G E (RepM Γ A o ad F X) cells slots pc lv (.ref o :: st) := m_getV 17 (by decide) rfl q1651 C d kk
theorem mp_17 {v : Int32} (C : Cx E Γ A ρ cc nL RX4 rm) (d : decode cc pc = .ok (.putfield 111, 3)) (kk : G E (RepM Γ A o ad (upd F 17 v) X) cells slots (pc + 3) lv st) : G E (RepM Γ A o ad F X) cells slots pc lv (.int v :: .ref o :: st) := m_putI 17 (by decide) rfl rfl q1651 rfl (by decide +kernel) C d kk
theorem mg_18 (C : Cx E Γ A ρ cc nL RX4 rm) (d : decode cc pc = .ok (.getfield 104, 3)) (kk : G E (RepM Γ A o ad F X) cells slots (pc + 3) lv (.int (F 18) :: st)) : G E (RepM Γ A o ad F X) cells slots pc lv (.ref o :: st) := m_getV 18 (by decide) rfl q1652 C d kk
theorem mp_18 {v : Int32} (C : Cx E Γ A ρ cc nL RX4 rm) (d : decode cc pc = .ok (.putfield 104, 3)) (kk : G E (RepM Γ A o ad (upd F 18 v) X) cells slots (pc + 3) lv st) : G E (RepM Γ A o ad F X) cells slots pc lv (.int v :: .ref o :: st) := m_putI 18 (by decide) rfl rfl q1652 rfl (by decide +kernel) C d kk
theorem mg_19 (C : Cx E Γ A ρ cc nL RX4 rm) (d : decode cc pc = .ok (.getfield 117, 3)) (kk : G E (RepM Γ A o ad F X) cells slots (pc + 3) lv (.int (F 19) :: st)) : G E (RepM Γ A o ad F X) cells slots pc lv (.ref o :: st) := m_getV 19 (by decide) rfl q1653 C d kk
theorem mp_19 {v : Int32} (C : Cx E Γ A ρ cc nL RX4 rm) (d : decode cc pc = .ok (.putfield 117, 3)) (kk : G E (RepM Γ A o ad (upd F 19 v) X) cells slots (pc + 3) lv st) : G E (RepM Γ A o ad F X) cells slots pc lv (.int v :: .ref o :: st) := m_putI 19 (by decide) rfl rfl q1653 rfl (by decide +kernel) C d kk
theorem mg_20 (C : Cx E Γ A ρ cc nL RX4 rm) (d : decode cc pc = .ok (.getfield 114, 3)) (kk : G E (RepM Γ A o ad F X) cells slots (pc + 3) lv (.int (F 20) :: st)) : G E (RepM Γ A o ad F X) cells slots pc lv (.ref o :: st) := m_getV 20 (by decide) rfl q1654 C d kk
theorem mp_20 {v : Int32} (C : Cx E Γ A ρ cc nL RX4 rm) (d : decode cc pc = .ok (.putfield 114, 3)) (kk : G E (RepM Γ A o ad (upd F 20 v) X) cells slots (pc + 3) lv st) : G E (RepM Γ A o ad F X) cells slots pc lv (.int v :: .ref o :: st) := m_putI 20 (by decide) rfl rfl q1654 rfl (by decide +kernel) C d kk
theorem mg_21 (C : Cx E Γ A ρ cc nL RX4 rm) (d : decode cc pc = .ok (.getfield 141, 3)) (kk : G E (RepM Γ A o ad F X) cells slots (pc + 3) lv (.int (F 21) :: st)) : G E (RepM Γ A o ad F X) cells slots pc lv (.ref o :: st) := m_getV 21 (by decide) rfl q1655 C d kk
theorem mp_21 {v : Int32} (C : Cx E Γ A ρ cc nL RX4 rm) (d : decode cc pc = .ok (.putfield 141, 3)) (kk : G E (RepM Γ A o ad (upd F 21 v) X) cells slots (pc + 3) lv st) : G E (RepM Γ A o ad F X) cells slots pc lv (.int v :: .ref o :: st) := m_putI 21 (by decide) rfl rfl q1655 rfl (by decide +kernel) C d kk
theorem mg_22 (C : Cx E Γ A ρ cc nL RX4 rm) (d : decode cc pc = .ok (.getfield 46, 3)) (kk : G E (RepM Γ A o ad F X) cells slots (pc + 3) lv (.int (F 22) :: st)) : G E (RepM Γ A o ad F X) cells slots pc lv (.ref o :: st) := m_getV 22 (by decide) rfl q1656 C d kk
theorem mp_22 {v : Int32} (C : Cx E Γ A ρ cc nL RX4 rm) (d : decode cc pc = .ok (.putfield 46, 3)) (kk : G E (RepM Γ A o ad (upd F 22 v) X) cells slots (pc + 3) lv st) : G E (RepM Γ A o ad F X) cells slots pc lv (.int v :: .ref o :: st) := m_putI 22 (by decide) rfl rfl q1656 rfl (by decide +kernel) C d kk
theorem mg_23 (C : Cx E Γ A ρ cc nL RX4 rm) (d : decode cc pc = .ok (.getfield 148, 3)) (kk : G E (RepM Γ A o ad F X) cells slots (pc + 3) lv (.int (F 23) :: st)) : G E (RepM Γ A o ad F X) cells slots pc lv (.ref o :: st) := m_getV 23 (by decide) rfl q1657 C d kk
theorem mp_23 {v : Int32} (C : Cx E Γ A ρ cc nL RX4 rm) (d : decode cc pc = .ok (.putfield 148, 3)) (kk : G E (RepM Γ A o ad (upd F 23 v) X) cells slots (pc + 3) lv st) : G E (RepM Γ A o ad F X) cells slots pc lv (.int v :: .ref o :: st) := m_putI 23 (by decide) rfl rfl q1657 rfl (by decide +kernel) C d kk
theorem mg_24 (C : Cx E Γ A ρ cc nL RX4 rm) (d : decode cc pc = .ok (.getfield 154, 3)) (kk : G E (RepM Γ A o ad F X) cells slots (pc + 3) lv (.int (F 24) :: st)) : G E (RepM Γ A o ad F X) cells slots pc lv (.ref o :: st) := m_getV 24 (by decide) rfl q1658 C d kk
theorem mp_24 {v : Int32} (C : Cx E Γ A ρ cc nL RX4 rm) (d : decode cc pc = .ok (.putfield 154, 3)) (kk : G E (RepM Γ A o ad (upd F 24 v) X) cells slots (pc + 3) lv st) : G E (RepM Γ A o ad F X) cells slots pc lv (.int v :: .ref o :: st) := m_putI 24 (by decide) rfl rfl q1658 rfl (by decide +kernel) C d kk
theorem mg_25 (C : Cx E Γ A ρ cc nL RX4 rm) (d : decode cc pc = .ok (.getfield 161, 3)) (kk : G E (RepM Γ A o ad F X) cells slots (pc + 3) lv (.int (F 25) :: st)) : G E (RepM Γ A o ad F X) cells slots pc lv (.ref o :: st) := m_getV 25 (by decide) rfl q1659 C d kk
theorem mp_25 {v : Int32} (C : Cx E Γ A ρ cc nL RX4 rm) (d : decode cc pc = .ok (.putfield 161, 3)) (kk : G E (RepM Γ A o ad (upd F 25 v) X) cells slots (pc + 3) lv st) : G E (RepM Γ A o ad F X) cells slots pc lv (.int v :: .ref o :: st) := m_putI 25 (by decide) rfl rfl q1659 rfl (by decide +kernel) C d kk
theorem mg_26 (C : Cx E Γ A ρ cc nL RX4 rm) (d : decode cc pc = .ok (.getfield 49, 3)) (kk : G E (RepM Γ A o ad F X) cells slots (pc + 3) lv (.ref (ad 26) :: st)) : G E (RepM Γ A o ad F X) cells slots pc lv (.ref o :: st) := m_getV 26 (by decide) rfl q1660 C d kk
theorem ml_26 {i : Nat} (C : Cx E Γ A ρ cc nL RX4 rm) (d : decode cc pc = .ok (.iaload, 1)) (hi : i < 24) (kk : G E (RepM Γ A o ad F X) cells slots (pc + 1) lv (.int (X 26 i) :: st)) : G E (RepM Γ A o ad F X) cells slots pc lv (.int (nI i) :: .ref (ad 26) :: st) := m_ldI (p := 10) 26 rfl rfl (Nat.le_of_ble_eq_true rfl) hi C d kk
theorem ms_26 {i : Nat} {v : Int32} (C : Cx E Γ A ρ cc nL RX4 rm) (d : decode cc pc = .ok (.iastore, 1)) (hi : i < 24) (kk : G E (RepM Γ A o ad F (setX X 26 (upd (X 26) i v))) cells slots (pc + 1) lv st) : G E (RepM Γ A o ad F X) cells slots pc lv (.int v :: .int (nI i) :: .ref (ad 26) :: st) := m_stI (p := 10) 26 rfl rfl (Nat.le_of_ble_eq_true rfl) hi C d kk
theorem mg_27 (C : Cx E Γ A ρ cc nL RX4 rm) (d : decode cc pc = .ok (.getfield 52, 3)) (kk : G E (RepM Γ A o ad F X) cells slots (pc + 3) lv (.ref (ad 27) :: st)) : G E (RepM Γ A o ad F X) cells slots pc lv (.ref o :: st) := m_getV 27 (by decide) rfl q1661 C d kk
theorem ml_27 {i : Nat} (C : Cx E Γ A ρ cc nL RX4 rm) (d : decode cc pc = .ok (.iaload, 1)) (hi : i < 24) (kk : G E (RepM Γ A o ad F X) cells slots (pc + 1) lv (.int (X 27 i) :: st)) : G E (RepM Γ A o ad F X) cells slots pc lv (.int (nI i) :: .ref (ad 27) :: st) := m_ldI (p := 11) 27 rfl rfl (Nat.le_of_ble_eq_true rfl) hi C d kk
theorem ms_27 {i : Nat} {v : Int32} (C : Cx E Γ A ρ cc nL RX4 rm) (d : decode cc pc = .ok (.iastore, 1)) (hi : i < 24) (kk : G E (RepM Γ A o ad F (setX X 27 (upd (X 27) i v))) cells slots (pc + 1) lv st) : G E (RepM Γ A o ad F X) cells slots pc lv (.int v :: .int (nI i) :: .ref (ad 27) :: st) := m_stI (p := 11) 27 rfl rfl (Nat.le_of_ble_eq_true rfl) hi C d kk
theorem mg_28 (C : Cx E Γ A ρ cc nL RX4 rm) (d : decode cc pc = .ok (.getfield 55, 3)) (kk : G E (RepM Γ A o ad F X) cells slots (pc + 3) lv (.ref (ad 28) :: st)) : G E (RepM Γ A o ad F X) cells slots pc lv (.ref o :: st) := m_getV 28 (by decide) rfl q1662 C d kk
theorem ml_28 {i : Nat} (C : Cx E Γ A ρ cc nL RX4 rm) (d : decode cc pc = .ok (.iaload, 1)) (hi : i < 24) (kk : G E (RepM Γ A o ad F X) cells slots (pc + 1) lv (.int (X 28 i) :: st)) : G E (RepM Γ A o ad F X) cells slots pc lv (.int (nI i) :: .ref (ad 28) :: st) := m_ldI (p := 12) 28 rfl rfl (Nat.le_of_ble_eq_true rfl) hi C d kk
theorem ms_28 {i : Nat} {v : Int32} (C : Cx E Γ A ρ cc nL RX4 rm) (d : decode cc pc = .ok (.iastore, 1)) (hi : i < 24) (kk : G E (RepM Γ A o ad F (setX X 28 (upd (X 28) i v))) cells slots (pc + 1) lv st) : G E (RepM Γ A o ad F X) cells slots pc lv (.int v :: .int (nI i) :: .ref (ad 28) :: st) := m_stI (p := 12) 28 rfl rfl (Nat.le_of_ble_eq_true rfl) hi C d kk
theorem mg_29 (C : Cx E Γ A ρ cc nL RX4 rm) (d : decode cc pc = .ok (.getfield 58, 3)) (kk : G E (RepM Γ A o ad F X) cells slots (pc + 3) lv (.ref (ad 29) :: st)) : G E (RepM Γ A o ad F X) cells slots pc lv (.ref o :: st) := m_getV 29 (by decide) rfl q1663 C d kk
theorem ml_29 {i : Nat} (C : Cx E Γ A ρ cc nL RX4 rm) (d : decode cc pc = .ok (.iaload, 1)) (hi : i < 24) (kk : G E (RepM Γ A o ad F X) cells slots (pc + 1) lv (.int (X 29 i) :: st)) : G E (RepM Γ A o ad F X) cells slots pc lv (.int (nI i) :: .ref (ad 29) :: st) := m_ldI (p := 13) 29 rfl rfl (Nat.le_of_ble_eq_true rfl) hi C d kk
theorem ms_29 {i : Nat} {v : Int32} (C : Cx E Γ A ρ cc nL RX4 rm) (d : decode cc pc = .ok (.iastore, 1)) (hi : i < 24) (kk : G E (RepM Γ A o ad F (setX X 29 (upd (X 29) i v))) cells slots (pc + 1) lv st) : G E (RepM Γ A o ad F X) cells slots pc lv (.int v :: .int (nI i) :: .ref (ad 29) :: st) := m_stI (p := 13) 29 rfl rfl (Nat.le_of_ble_eq_true rfl) hi C d kk
theorem mg_30 (C : Cx E Γ A ρ cc nL RX4 rm) (d : decode cc pc = .ok (.getfield 169, 3)) (kk : G E (RepM Γ A o ad F X) cells slots (pc + 3) lv (.int (F 30) :: st)) : G E (RepM Γ A o ad F X) cells slots pc lv (.ref o :: st) := m_getV 30 (by decide) rfl q1664 C d kk
theorem mp_30 {v : Int32} (C : Cx E Γ A ρ cc nL RX4 rm) (d : decode cc pc = .ok (.putfield 169, 3)) (kk : G E (RepM Γ A o ad (upd F 30 v) X) cells slots (pc + 3) lv st) : G E (RepM Γ A o ad F X) cells slots pc lv (.int v :: .ref o :: st) := m_putI 30 (by decide) rfl rfl q1664 rfl (by decide +kernel) C d kk
theorem mg_31 (C : Cx E Γ A ρ cc nL RX4 rm) (d : decode cc pc = .ok (.getfield 61, 3)) (kk : G E (RepM Γ A o ad F X) cells slots (pc + 3) lv (.ref (ad 31) :: st)) : G E (RepM Γ A o ad F X) cells slots pc lv (.ref o :: st) := m_getV 31 (by decide) rfl q1665 C d kk
theorem ml_31 {i : Nat} (C : Cx E Γ A ρ cc nL RX4 rm) (d : decode cc pc = .ok (.iaload, 1)) (hi : i < 10) (kk : G E (RepM Γ A o ad F X) cells slots (pc + 1) lv (.int (X 31 i) :: st)) : G E (RepM Γ A o ad F X) cells slots pc lv (.int (nI i) :: .ref (ad 31) :: st) := m_ldI (p := 14) 31 rfl rfl (Nat.le_of_ble_eq_true rfl) hi C d kk
theorem ms_31 {i : Nat} {v : Int32} (C : Cx E Γ A ρ cc nL RX4 rm) (d : decode cc pc = .ok (.iastore, 1)) (hi : i < 10) (kk : G E (RepM Γ A o ad F (setX X 31 (upd (X 31) i v))) cells slots (pc + 1) lv st) : G E (RepM Γ A o ad F X) cells slots pc lv (.int v :: .int (nI i) :: .ref (ad 31) :: st) := m_stI (p := 14) 31 rfl rfl (Nat.le_of_ble_eq_true rfl) hi C d kk
theorem mg_32 (C : Cx E Γ A ρ cc nL RX4 rm) (d : decode cc pc = .ok (.getfield 180, 3)) (kk : G E (RepM Γ A o ad F X) cells slots (pc + 3) lv (.int (F 32) :: st)) : G E (RepM Γ A o ad F X) cells slots pc lv (.ref o :: st) := m_getV 32 (by decide) rfl q1666 C d kk
theorem mp_32 {v : Int32} (C : Cx E Γ A ρ cc nL RX4 rm) (d : decode cc pc = .ok (.putfield 180, 3)) (kk : G E (RepM Γ A o ad (upd F 32 v) X) cells slots (pc + 3) lv st) : G E (RepM Γ A o ad F X) cells slots pc lv (.int v :: .ref o :: st) := m_putI 32 (by decide) rfl rfl q1666 rfl (by decide +kernel) C d kk
theorem mg_33 (C : Cx E Γ A ρ cc nL RX4 rm) (d : decode cc pc = .ok (.getfield 64, 3)) (kk : G E (RepM Γ A o ad F X) cells slots (pc + 3) lv (.ref (ad 33) :: st)) : G E (RepM Γ A o ad F X) cells slots pc lv (.ref o :: st) := m_getV 33 (by decide) rfl q1667 C d kk
theorem ml_33 {i : Nat} (C : Cx E Γ A ρ cc nL RX4 rm) (d : decode cc pc = .ok (.iaload, 1)) (hi : i < 4) (kk : G E (RepM Γ A o ad F X) cells slots (pc + 1) lv (.int (X 33 i) :: st)) : G E (RepM Γ A o ad F X) cells slots pc lv (.int (nI i) :: .ref (ad 33) :: st) := m_ldI (p := 15) 33 rfl rfl (Nat.le_of_ble_eq_true rfl) hi C d kk
theorem ms_33 {i : Nat} {v : Int32} (C : Cx E Γ A ρ cc nL RX4 rm) (d : decode cc pc = .ok (.iastore, 1)) (hi : i < 4) (kk : G E (RepM Γ A o ad F (setX X 33 (upd (X 33) i v))) cells slots (pc + 1) lv st) : G E (RepM Γ A o ad F X) cells slots pc lv (.int v :: .int (nI i) :: .ref (ad 33) :: st) := m_stI (p := 15) 33 rfl rfl (Nat.le_of_ble_eq_true rfl) hi C d kk
theorem mg_34 (C : Cx E Γ A ρ cc nL RX4 rm) (d : decode cc pc = .ok (.getfield 67, 3)) (kk : G E (RepM Γ A o ad F X) cells slots (pc + 3) lv (.ref (ad 34) :: st)) : G E (RepM Γ A o ad F X) cells slots pc lv (.ref o :: st) := m_getV 34 (by decide) rfl q1668 C d kk
theorem ml_34 {i : Nat} (C : Cx E Γ A ρ cc nL RX4 rm) (d : decode cc pc = .ok (.baload, 1)) (hi : i < 4) (kk : G E (RepM Γ A o ad F X) cells slots (pc + 1) lv (.int (X 34 i) :: st)) : G E (RepM Γ A o ad F X) cells slots pc lv (.int (nI i) :: .ref (ad 34) :: st) := m_ldZ (p := 16) 34 rfl rfl (Nat.le_of_ble_eq_true rfl) hi C d kk
theorem ms_34 {i : Nat} {v : Int32} (C : Cx E Γ A ρ cc nL RX4 rm) (d : decode cc pc = .ok (.bastore, 1)) (hi : i < 4) (hv : vp_nar .boolean v = v) (kk : G E (RepM Γ A o ad F (setX X 34 (upd (X 34) i v))) cells slots (pc + 1) lv st) : G E (RepM Γ A o ad F X) cells slots pc lv (.int v :: .int (nI i) :: .ref (ad 34) :: st) := m_stZ (p := 16) 34 rfl rfl (Nat.le_of_ble_eq_true rfl) hi hv C d kk
theorem mg_35 (C : Cx E Γ A ρ cc nL RX4 rm) (d : decode cc pc = .ok (.getfield 70, 3)) (kk : G E (RepM Γ A o ad F X) cells slots (pc + 3) lv (.ref (ad 35) :: st)) : G E (RepM Γ A o ad F X) cells slots pc lv (.ref o :: st) := m_getV 35 (by decide) rfl q1669 C d kk
theorem ml_35 {i : Nat} (C : Cx E Γ A ρ cc nL RX4 rm) (d : decode cc pc = .ok (.iaload, 1)) (hi : i < 3) (kk : G E (RepM Γ A o ad F X) cells slots (pc + 1) lv (.int (X 35 i) :: st)) : G E (RepM Γ A o ad F X) cells slots pc lv (.int (nI i) :: .ref (ad 35) :: st) := m_ldI (p := 17) 35 rfl rfl (Nat.le_of_ble_eq_true rfl) hi C d kk
theorem ms_35 {i : Nat} {v : Int32} (C : Cx E Γ A ρ cc nL RX4 rm) (d : decode cc pc = .ok (.iastore, 1)) (hi : i < 3) (kk : G E (RepM Γ A o ad F (setX X 35 (upd (X 35) i v))) cells slots (pc + 1) lv st) : G E (RepM Γ A o ad F X) cells slots pc lv (.int v :: .int (nI i) :: .ref (ad 35) :: st) := m_stI (p := 17) 35 rfl rfl (Nat.le_of_ble_eq_true rfl) hi C d kk
theorem mg_36 (C : Cx E Γ A ρ cc nL RX4 rm) (d : decode cc pc = .ok (.getfield 73, 3)) (kk : G E (RepM Γ A o ad F X) cells slots (pc + 3) lv (.ref (ad 36) :: st)) : G E (RepM Γ A o ad F X) cells slots pc lv (.ref o :: st) := m_getV 36 (by decide) rfl q1670 C d kk
theorem ml_36 {i : Nat} (C : Cx E Γ A ρ cc nL RX4 rm) (d : decode cc pc = .ok (.iaload, 1)) (hi : i < 1024) (kk : G E (RepM Γ A o ad F X) cells slots (pc + 1) lv (.int (X 36 i) :: st)) : G E (RepM Γ A o ad F X) cells slots pc lv (.int (nI i) :: .ref (ad 36) :: st) := m_ldI (p := 18) 36 rfl rfl (Nat.le_of_ble_eq_true rfl) hi C d kk
theorem ms_36 {i : Nat} {v : Int32} (C : Cx E Γ A ρ cc nL RX4 rm) (d : decode cc pc = .ok (.iastore, 1)) (hi : i < 1024) (kk : G E (RepM Γ A o ad F (setX X 36 (upd (X 36) i v))) cells slots (pc + 1) lv st) : G E (RepM Γ A o ad F X) cells slots pc lv (.int v :: .int (nI i) :: .ref (ad 36) :: st) := m_stI (p := 18) 36 rfl rfl (Nat.le_of_ble_eq_true rfl) hi C d kk
theorem mg_37 (C : Cx E Γ A ρ cc nL RX4 rm) (d : decode cc pc = .ok (.getfield 76, 3)) (kk : G E (RepM Γ A o ad F X) cells slots (pc + 3) lv (.ref (ad 37) :: st)) : G E (RepM Γ A o ad F X) cells slots pc lv (.ref o :: st) := m_getV 37 (by decide) rfl q1671 C d kk
theorem ml_37 {i : Nat} (C : Cx E Γ A ρ cc nL RX4 rm) (d : decode cc pc = .ok (.iaload, 1)) (hi : i < 24) (kk : G E (RepM Γ A o ad F X) cells slots (pc + 1) lv (.int (X 37 i) :: st)) : G E (RepM Γ A o ad F X) cells slots pc lv (.int (nI i) :: .ref (ad 37) :: st) := m_ldI (p := 19) 37 rfl rfl (Nat.le_of_ble_eq_true rfl) hi C d kk
theorem ms_37 {i : Nat} {v : Int32} (C : Cx E Γ A ρ cc nL RX4 rm) (d : decode cc pc = .ok (.iastore, 1)) (hi : i < 24) (kk : G E (RepM Γ A o ad F (setX X 37 (upd (X 37) i v))) cells slots (pc + 1) lv st) : G E (RepM Γ A o ad F X) cells slots pc lv (.int v :: .int (nI i) :: .ref (ad 37) :: st) := m_stI (p := 19) 37 rfl rfl (Nat.le_of_ble_eq_true rfl) hi C d kk
theorem mg_38 (C : Cx E Γ A ρ cc nL RX4 rm) (d : decode cc pc = .ok (.getfield 79, 3)) (kk : G E (RepM Γ A o ad F X) cells slots (pc + 3) lv (.ref (ad 38) :: st)) : G E (RepM Γ A o ad F X) cells slots pc lv (.ref o :: st) := m_getV 38 (by decide) rfl q1672 C d kk
theorem ml_38 {i : Nat} (C : Cx E Γ A ρ cc nL RX4 rm) (d : decode cc pc = .ok (.iaload, 1)) (hi : i < 169) (kk : G E (RepM Γ A o ad F X) cells slots (pc + 1) lv (.int (X 38 i) :: st)) : G E (RepM Γ A o ad F X) cells slots pc lv (.int (nI i) :: .ref (ad 38) :: st) := m_ldI (p := 20) 38 rfl rfl (Nat.le_of_ble_eq_true rfl) hi C d kk
theorem ms_38 {i : Nat} {v : Int32} (C : Cx E Γ A ρ cc nL RX4 rm) (d : decode cc pc = .ok (.iastore, 1)) (hi : i < 169) (kk : G E (RepM Γ A o ad F (setX X 38 (upd (X 38) i v))) cells slots (pc + 1) lv st) : G E (RepM Γ A o ad F X) cells slots pc lv (.int v :: .int (nI i) :: .ref (ad 38) :: st) := m_stI (p := 20) 38 rfl rfl (Nat.le_of_ble_eq_true rfl) hi C d kk
theorem mg_39 (C : Cx E Γ A ρ cc nL RX4 rm) (d : decode cc pc = .ok (.getfield 82, 3)) (kk : G E (RepM Γ A o ad F X) cells slots (pc + 3) lv (.ref (ad 39) :: st)) : G E (RepM Γ A o ad F X) cells slots pc lv (.ref o :: st) := m_getV 39 (by decide) rfl q1673 C d kk
theorem ml_39 {i : Nat} (C : Cx E Γ A ρ cc nL RX4 rm) (d : decode cc pc = .ok (.iaload, 1)) (hi : i < 26) (kk : G E (RepM Γ A o ad F X) cells slots (pc + 1) lv (.int (X 39 i) :: st)) : G E (RepM Γ A o ad F X) cells slots pc lv (.int (nI i) :: .ref (ad 39) :: st) := m_ldI (p := 21) 39 rfl rfl (Nat.le_of_ble_eq_true rfl) hi C d kk
theorem ms_39 {i : Nat} {v : Int32} (C : Cx E Γ A ρ cc nL RX4 rm) (d : decode cc pc = .ok (.iastore, 1)) (hi : i < 26) (kk : G E (RepM Γ A o ad F (setX X 39 (upd (X 39) i v))) cells slots (pc + 1) lv st) : G E (RepM Γ A o ad F X) cells slots pc lv (.int v :: .int (nI i) :: .ref (ad 39) :: st) := m_stI (p := 21) 39 rfl rfl (Nat.le_of_ble_eq_true rfl) hi C d kk
theorem mg_40 (C : Cx E Γ A ρ cc nL RX4 rm) (d : decode cc pc = .ok (.getfield 340, 3)) (kk : G E (RepM Γ A o ad F X) cells slots (pc + 3) lv (.int (F 40) :: st)) : G E (RepM Γ A o ad F X) cells slots pc lv (.ref o :: st) := m_getV 40 (by decide) rfl q1674 C d kk
theorem mp_40 {v : Int32} (C : Cx E Γ A ρ cc nL RX4 rm) (d : decode cc pc = .ok (.putfield 340, 3)) (kk : G E (RepM Γ A o ad (upd F 40 v) X) cells slots (pc + 3) lv st) : G E (RepM Γ A o ad F X) cells slots pc lv (.int v :: .ref o :: st) := m_putI 40 (by decide) rfl rfl q1674 rfl (by decide +kernel) C d kk
theorem mg_41 (C : Cx E Γ A ρ cc nL RX4 rm) (d : decode cc pc = .ok (.getfield 231, 3)) (kk : G E (RepM Γ A o ad F X) cells slots (pc + 3) lv (.int (F 41) :: st)) : G E (RepM Γ A o ad F X) cells slots pc lv (.ref o :: st) := m_getV 41 (by decide) rfl q1675 C d kk
theorem mp_41 {v : Int32} (C : Cx E Γ A ρ cc nL RX4 rm) (d : decode cc pc = .ok (.putfield 231, 3)) (kk : G E (RepM Γ A o ad (upd F 41 v) X) cells slots (pc + 3) lv st) : G E (RepM Γ A o ad F X) cells slots pc lv (.int v :: .ref o :: st) := m_putI 41 (by decide) rfl rfl q1675 rfl (by decide +kernel) C d kk
theorem mg_42 (C : Cx E Γ A ρ cc nL RX4 rm) (d : decode cc pc = .ok (.getfield 85, 3)) (kk : G E (RepM Γ A o ad F X) cells slots (pc + 3) lv (.ref (ad 42) :: st)) : G E (RepM Γ A o ad F X) cells slots pc lv (.ref o :: st) := m_getV 42 (by decide) rfl q1676 C d kk
theorem ml_42 {i : Nat} (C : Cx E Γ A ρ cc nL RX4 rm) (d : decode cc pc = .ok (.iaload, 1)) (hi : i < 8124) (kk : G E (RepM Γ A o ad F X) cells slots (pc + 1) lv (.int (X 42 i) :: st)) : G E (RepM Γ A o ad F X) cells slots pc lv (.int (nI i) :: .ref (ad 42) :: st) := m_ldI (p := 22) 42 rfl rfl (Nat.le_of_ble_eq_true rfl) hi C d kk
theorem ms_42 {i : Nat} {v : Int32} (C : Cx E Γ A ρ cc nL RX4 rm) (d : decode cc pc = .ok (.iastore, 1)) (hi : i < 8124) (kk : G E (RepM Γ A o ad F (setX X 42 (upd (X 42) i v))) cells slots (pc + 1) lv st) : G E (RepM Γ A o ad F X) cells slots pc lv (.int v :: .int (nI i) :: .ref (ad 42) :: st) := m_stI (p := 22) 42 rfl rfl (Nat.le_of_ble_eq_true rfl) hi C d kk
theorem mg_43 (C : Cx E Γ A ρ cc nL RX4 rm) (d : decode cc pc = .ok (.getfield 88, 3)) (kk : G E (RepM Γ A o ad F X) cells slots (pc + 3) lv (.ref (ad 43) :: st)) : G E (RepM Γ A o ad F X) cells slots pc lv (.ref o :: st) := m_getV 43 (by decide) rfl q1677 C d kk
theorem ml_43 {i : Nat} (C : Cx E Γ A ρ cc nL RX4 rm) (d : decode cc pc = .ok (.iaload, 1)) (hi : i < 1354) (kk : G E (RepM Γ A o ad F X) cells slots (pc + 1) lv (.int (X 43 i) :: st)) : G E (RepM Γ A o ad F X) cells slots pc lv (.int (nI i) :: .ref (ad 43) :: st) := m_ldI (p := 23) 43 rfl rfl (Nat.le_of_ble_eq_true rfl) hi C d kk
theorem ms_43 {i : Nat} {v : Int32} (C : Cx E Γ A ρ cc nL RX4 rm) (d : decode cc pc = .ok (.iastore, 1)) (hi : i < 1354) (kk : G E (RepM Γ A o ad F (setX X 43 (upd (X 43) i v))) cells slots (pc + 1) lv st) : G E (RepM Γ A o ad F X) cells slots pc lv (.int v :: .int (nI i) :: .ref (ad 43) :: st) := m_stI (p := 23) 43 rfl rfl (Nat.le_of_ble_eq_true rfl) hi C d kk
theorem mg_44 (C : Cx E Γ A ρ cc nL RX4 rm) (d : decode cc pc = .ok (.getfield 91, 3)) (kk : G E (RepM Γ A o ad F X) cells slots (pc + 3) lv (.ref (ad 44) :: st)) : G E (RepM Γ A o ad F X) cells slots pc lv (.ref o :: st) := m_getV 44 (by decide) rfl q1678 C d kk
theorem ml_44 {i : Nat} (C : Cx E Γ A ρ cc nL RX4 rm) (d : decode cc pc = .ok (.baload, 1)) (hi : i < 2) (kk : G E (RepM Γ A o ad F X) cells slots (pc + 1) lv (.int (X 44 i) :: st)) : G E (RepM Γ A o ad F X) cells slots pc lv (.int (nI i) :: .ref (ad 44) :: st) := m_ldZ (p := 24) 44 rfl rfl (Nat.le_of_ble_eq_true rfl) hi C d kk
theorem ms_44 {i : Nat} {v : Int32} (C : Cx E Γ A ρ cc nL RX4 rm) (d : decode cc pc = .ok (.bastore, 1)) (hi : i < 2) (hv : vp_nar .boolean v = v) (kk : G E (RepM Γ A o ad F (setX X 44 (upd (X 44) i v))) cells slots (pc + 1) lv st) : G E (RepM Γ A o ad F X) cells slots pc lv (.int v :: .int (nI i) :: .ref (ad 44) :: st) := m_stZ (p := 24) 44 rfl rfl (Nat.le_of_ble_eq_true rfl) hi hv C d kk
end MW
