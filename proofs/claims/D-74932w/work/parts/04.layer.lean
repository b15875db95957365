/-! THE LAYER: one judgement G over the kit's W: the heap by a predicate I, the locals by a list, the method's own constants in one tuple E. -/
abbrev Gm : Type := va_G × (Nat → ClassId) × (Nat → Nat)
def tyA (Γ : Gm) : List (ClassId × FieldType) := [(Γ.2.1 0, .int), (Γ.2.1 1, .byte), (Γ.2.1 2, .boolean), (Γ.2.1 3, .long), (Γ.2.1 4, .object "java/lang/Object"), (Γ.2.1 5, .object "ScaleInspection$Entry"), (Γ.2.1 6, .object "ScaleInspection$Solver"), (Γ.2.1 7, .object "ScaleInspection$AccuracyClass")]
def clA : List vw_C := [(RX1, TX1, 10), (RX2, TX2, 6), (RX3, TX3, 2), (RJ2, TJ2, 3), (RX4, TX4, 45), (RX5, TX5, 5), (RX7, TX7, 3), (RX8, TX8, 3), (RX9, TX9, 3), (RX10, TX10, 8), (RX11, TX11, 5), (RX13, TX13, 2), (RX14, TX14, 4), (RX15, TX15, 7), (RX16, TX16, 4), (RX17, TX17, 10), (RJ8, TJ8, 4), (RJ9, TJ9, 4), (RJ18, TJ18, 6), (RJ6, TJ6, 6), (RJ20, TJ20, 6)]
abbrev Cf : Type := (Program × Launch × Env × Room) × (State × MethodId × Array Value × List Frame × Method × Code) × (Nat → Prop) × Nat × (State → Prop)
abbrev eP (E : Cf) : Program := E.1.1
abbrev eL (E : Cf) : Launch := E.1.2.1
abbrev eE (E : Cf) : Env := E.1.2.2.1
abbrev eR (E : Cf) : Room := E.1.2.2.2
abbrev eS (E : Cf) : State := E.2.1.1
abbrev eM (E : Cf) : MethodId := E.2.1.2.1
abbrev eG (E : Cf) : Array Value := E.2.1.2.2.1
abbrev eB (E : Cf) : List Frame := E.2.1.2.2.2.1
abbrev eH (E : Cf) : Method := E.2.1.2.2.2.2.1
abbrev eC (E : Cf) : Code := E.2.1.2.2.2.2.2
abbrev eA (E : Cf) : Nat → Prop := E.2.2.1
abbrev eN (E : Cf) : Nat := E.2.2.2.1
abbrev eQ (E : Cf) : State → Prop := E.2.2.2.2
/-- the locals: place by place, what is known -/
def lh (ls : Array Slot) (nL : Nat) (lv : List (Option Value)) : Prop := ls.size = nL ∧ lv_wf ls ∧ ∀ (i : Nat) (v : Value), lv[i]? = some (some v) → ls[i]? = some (.val v)
/-- a value of one word stored at a place -/
def lset (lv : List (Option Value)) (i : Nat) (v : Value) : List (Option Value) := match i with
  | 0 => lv.set 0 (some v)
  | j + 1 => match lv[j]? with
    | some (some u) => if u.category = 2 then (lv.set j none).set (j + 1) (some v) else lv.set (j + 1) (some v)
    | _ => lv.set (j + 1) (some v)
def lset2 (lv : List (Option Value)) (i : Nat) (v : Value) : List (Option Value) := (lset lv i v).set (i + 1) none
def lpairs (lv : List (Option Value)) : List (Nat × Value) := (List.range lv.length).filterMap (fun i => match lv[i]? with
  | some (some v) => some (i, v)
  | _ => none)
theorem lpairs_mem {lv : List (Option Value)} {q : Nat × Value} : q ∈ lpairs lv ↔ lv[q.1]? = some (some q.2) := by
  unfold lpairs
  constructor
  · intro h
    obtain ⟨i, hi, h⟩ := List.mem_filterMap.mp h
    split at h
    · rename_i v hv
      cases h
      exact hv
    · cases h
  · intro h
    refine List.mem_filterMap.mpr ⟨q.1, List.mem_range.mpr (List.getElem?_eq_some_iff.mp h).1, ?_⟩
    rw [h]
theorem lh_has {ls : Array Slot} {nL : Nat} {lv : List (Option Value)} (h : lh ls nL lv) : lv_has ls nL (lpairs lv) := ⟨h.1, h.2.1, fun q hq => h.2.2 q.1 q.2 (lpairs_mem.mp hq)⟩
theorem lset_get {lv : List (Option Value)} {i q : Nat} {v w : Value} (h : (lset lv i v)[q]? = some (some w)) : (q = i ∧ w = v) ∨ (q ≠ i ∧ lv[q]? = some (some w) ∧ ¬ (q + 1 = i ∧ w.category = 2)) := by
  have key : ∀ l : List (Option Value), (l.set i (some v))[q]? = some (some w) → (q = i ∧ w = v) ∨ (q ≠ i ∧ l[q]? = some (some w)) := by
    intro l h
    rw [List.getElem?_set] at h
    by_cases e : i = q
    · rw [if_pos e] at h
      split at h
      · cases h; exact Or.inl ⟨e.symm, rfl⟩
      · cases h
    · rw [if_neg e] at h
      exact Or.inr ⟨fun z => e z.symm, h⟩
  cases i with
  | zero =>
    rcases key lv h with h | ⟨h1, h2⟩
    · exact Or.inl h
    · exact Or.inr ⟨h1, h2, fun z => by omega⟩
  | succ j =>
    unfold lset at h
    simp only at h
    split at h
    · rename_i u hu
      split at h
      · rename_i hc
        rcases key _ h with h | ⟨h1, h2⟩
        · exact Or.inl h
        · rw [List.getElem?_set] at h2
          by_cases e : j = q
          · rw [if_pos e] at h2
            split at h2 <;> cases h2
          · rw [if_neg e] at h2
            exact Or.inr ⟨h1, h2, fun z => e (by omega)⟩
      · rename_i hc
        rcases key _ h with h | ⟨h1, h2⟩
        · exact Or.inl h
        · refine Or.inr ⟨h1, h2, fun z => ?_⟩
          have e : q = j := by omega
          subst e
          rw [hu] at h2
          cases h2
          exact hc z.2
    · rename_i hu
      rcases key _ h with h | ⟨h1, h2⟩
      · exact Or.inl h
      · refine Or.inr ⟨h1, h2, fun z => ?_⟩
        have e : q = j := by omega
        subst e
        exact hu w h2
theorem lh_store1 {ls : Array Slot} {nL : Nat} {lv : List (Option Value)} {i : Nat} {v : Value} (h : lv_has ls nL ((i, v) :: (lpairs lv).filter (fun q => !(q.1 == i) && !(q.1 + 1 == i && q.2.category == 2)))) : lh ls nL (lset lv i v) := by
  refine ⟨h.1, h.2.1, fun q w hq => ?_⟩
  rcases lset_get hq with ⟨rfl, rfl⟩ | ⟨h1, h2, h3⟩
  · exact h.2.2 (q, w) List.mem_cons_self
  · refine h.2.2 (q, w) (List.mem_cons_of_mem _ (List.mem_filter.mpr ⟨lpairs_mem.mpr h2, ?_⟩))
    have e1 : (q == i) = false := by simp [h1]
    have e2 : (q + 1 == i && w.category == 2) = false := by
      rw [Bool.eq_false_iff]
      intro z
      rw [Bool.and_eq_true, beq_iff_eq, beq_iff_eq] at z
      exact h3 z
    show (!(q == i) && !(q + 1 == i && w.category == 2)) = true
    rw [e1, e2]; rfl
theorem lh_store2 {ls : Array Slot} {nL : Nat} {lv : List (Option Value)} {i : Nat} {v : Value} (h : lv_has ls nL ((i, v) :: (lpairs lv).filter (fun q => !(q.1 == i) && (!(q.1 == i + 1) && !(q.1 + 1 == i && q.2.category == 2))))) : lh ls nL (lset2 lv i v) := by
  refine ⟨h.1, h.2.1, fun q w hq => ?_⟩
  unfold lset2 at hq
  rw [List.getElem?_set] at hq
  by_cases e : i + 1 = q
  · rw [if_pos e] at hq
    split at hq <;> cases hq
  · rw [if_neg e] at hq
    rcases lset_get hq with ⟨rfl, rfl⟩ | ⟨h1, h2, h3⟩
    · exact h.2.2 (q, w) List.mem_cons_self
    · refine h.2.2 (q, w) (List.mem_cons_of_mem _ (List.mem_filter.mpr ⟨lpairs_mem.mpr h2, ?_⟩))
      have e1 : (q == i) = false := by simp [h1]
      have e3 : (q == i + 1) = false := by simp; omega
      have e2 : (q + 1 == i && w.category == 2) = false := by
        rw [Bool.eq_false_iff]
        intro z
        rw [Bool.and_eq_true, beq_iff_eq, beq_iff_eq] at z
        exact h3 z
      show (!(q == i) && (!(q == i + 1) && !(q + 1 == i && w.category == 2))) = true
      rw [e1, e2, e3]; rfl
/-- a method's locals at its entry -/
def lvE : List Value → List (Option Value)
  | [] => []
  | v :: vs => if v.category = 2 then some v :: none :: lvE vs else some v :: lvE vs
theorem lvE_get : ∀ (vs : List Value) (b i : Nat) (v : Value), (lvE vs)[i]? = some (some v) → (b + i, v) ∈ lv_args b vs
  | [], b, i, v, h => by simp [lvE] at h
  | u :: us, b, i, v, h => by
    unfold lvE at h
    unfold lv_args
    by_cases c : u.category = 2
    · rw [if_pos c] at h
      rw [if_pos c]
      cases i with
      | zero => cases h; exact List.mem_cons_self
      | succ i =>
        cases i with
        | zero => cases h
        | succ i =>
          have := lvE_get us (b + 2) i v h
          rw [show b + (i + 1 + 1) = b + 2 + i by omega]
          exact List.mem_cons_of_mem _ this
    · rw [if_neg c] at h
      rw [if_neg c]
      cases i with
      | zero => cases h; exact List.mem_cons_self
      | succ i =>
        have := lvE_get us (b + 1) i v h
        rw [show b + (i + 1) = b + 1 + i by omega]
        exact List.mem_cons_of_mem _ this
theorem lvR_get (l : List (Option Value)) (n i : Nat) (v : Value) (h : (l ++ List.replicate n none)[i]? = some (some v)) : l[i]? = some (some v) := by
  by_cases c : i < l.length
  · rwa [List.getElem?_append_left c] at h
  · rw [List.getElem?_append_right (by omega), List.getElem?_replicate] at h
    split at h <;> cases h
/-- THE JUDGEMENT: from any heap with I, the machine at pc with these locals and this stack comes to the end -/
def G (E : Cf) (I : Heap → Prop) (cells slots pc : Nat) (lv : List (Option Value)) (st : List Value) : Prop :=
  ∀ (H : Heap) (locs : List Loc) (ls : Array Slot), I H → va_S (eA E) (eS E).heap H locs → lh ls (eN E) lv →
    W (eP E) (eL E) (eE E) (eR E) (eS E) (eM E) (eG E) (eB E) (eH E) (eC E) H locs cells slots (eQ E) (F0 (eM E) pc ls st)
/-- what rides along, kept by every step that writes in A alone -/
def Cl (A : Nat → Prop) (ρ : State → Prop) : Prop := (∀ s U : State, s.WarmedH U.vm → s.heap.size ≤ U.heap.size → (∀ q : Nat, q < s.heap.size → ¬ A q → U.heap[q]? = s.heap[q]?) → ρ s → ρ U) ∧ (∀ U V : State, U.vm = V.vm → U.heap = V.heap → ρ U → ρ V)
def Cx (E : Cf) (Γ : Gm) (A : Nat → Prop) (ρ : State → Prop) (cc : ByteArray) (nL : Nat) (own : String) (rm : Room) : Prop :=
  (eP E).tables.exec = Jvm.exec ∧ (eC E).code = cc ∧ (eC E).maxLocals = nL ∧ eN E = nL ∧ (eS E).vm.findClass own = some (eM E).cls ∧ (∀ w ∈ lw_all, w.before (eG E) (eS E) = true) ∧ eR E = rm ∧ eA E = A ∧ va_K Γ.1 clA (tyA Γ) (eS E) ∧ ρ (eS E) ∧ Cl A ρ ∧ (eL E).stackTraces = false
/-- the end that a contract asks for -/
def Qo (Post : Option Value → Heap → Prop) (A : Nat → Prop) : Array Value → State → Outcome → State → Prop := fun _ st o t => (∃ v, o = .returned v ∧ Post v t.heap) ∧ va_F A st t
def Rt (E : Cf) (ret : Option FieldType) (mc ms : Nat) (Post : Option Value → Heap → Prop) : Prop := (eH E).sig.returnType = ret ∧ (eH E).locks = false ∧ eQ E = MQ (eB E) (Qo Post (eA E)) (eG E) (eS E) mc ms (eA E)
/-- A CONTRACT: from a heap with I, y at av returns v, with a heap with Post v; old cells outside A stay -/
def Ct (l : Launch) (Γ : Gm) (A : Nat → Prop) (ρ : State → Prop) (y : MethodName) (cc : ByteArray) (nL : Nat) (ret : Option FieldType) (rm : Room) (av : List Value) (I : Heap → Prop) (Post : Option Value → Heap → Prop) : Prop :=
  Met l y (ws_ y cc nL ret) rm (va_Pc av (fun U => I U.heap ∧ va_K Γ.1 clA (tyA Γ) U ∧ ρ U)) (Qo Post A) rm.cells rm.slots A
theorem Ct.of {l : Launch} {Γ : Gm} {A : Nat → Prop} {ρ : State → Prop} {y : MethodName} {cc : ByteArray} {nL : Nat} {ret : Option FieldType} {rm : Room} {av : List Value} {I : Heap → Prop} {Post : Option Value → Heap → Prop} (hl : l.stackTraces = false) (hρ : Cl A ρ) (hy : plainName y.cls = true) (lv : List (Option Value)) (hn : (lg_sl av).length ≤ nL) (hlv : lvE av ++ List.replicate (nL - (lg_sl av).length) none = lv)
    (body : ∀ E : Cf, eL E = l → Cx E Γ A ρ cc nL y.cls rm → Rt E ret rm.cells rm.slots Post → G E I 0 0 0 lv []) : Ct l Γ A ρ y cc nL ret rm av I Post := by
  refine Met.ofW (cc := cc) (maxL := nL) (ret := ret) hy rfl ?_
  intro p e s m args below meth c s₁ B hml hv
  obtain ⟨rfl, hI, hK, hr⟩ := hv
  have hts := atoms_spec (ws := ws_ y cc nL ret) B.pre
  have hts : ∀ w ∈ lw_all, w.before _ s = true := fun w h => hts w (List.mem_cons_of_mem _ h)
  have hown : s.vm.findClass y.cls = some m.cls := findClass_of_methodNamed B.named
  have hl0 := lv_entry av hn
  rw [lg_entry_eq]
  generalize (lg_sl av ++ List.replicate (nL - (lg_sl av).length) Slot.unset).toArray = ls at hl0 ⊢
  have hlh : lh ls nL lv := by
    refine ⟨hl0.1, hl0.2.1, fun i v hi => ?_⟩
    rw [← hlv] at hi
    have h1 := lvE_get av 0 i v (lvR_get _ _ _ _ hi)
    rw [Nat.zero_add] at h1
    exact hl0.2.2 _ h1
  exact body ((p, l, e, (headSpec (ws_ y cc nL ret) rm).room), (s, m, av.toArray, below, meth, c), A, nL, MQ below (Qo Post A) av.toArray s rm.cells rm.slots A) rfl ⟨B.exec, B.bytes, hml, rfl, hown, hts, rfl, rfl, hK, hr, hρ, hl⟩ ⟨B.returns, B.notSynchronized, rfl⟩ s.heap [] ls hI va_S.rf hlh
section Rows
variable {E : Cf} {Γ : Gm} {A : Nat → Prop} {ρ : State → Prop} {cc : ByteArray} {nL : Nat} {own : String} {rm : Room} {I : Heap → Prop} {cells slots pc : Nat} {lv : List (Option Value)} {st : List Value}
theorem Cx.x (C : Cx E Γ A ρ cc nL own rm) : (eP E).tables.exec = Jvm.exec := C.1
theorem Cx.b (C : Cx E Γ A ρ cc nL own rm) : (eC E).code = cc := C.2.1
theorem Cx.ml (C : Cx E Γ A ρ cc nL own rm) : (eC E).maxLocals = nL := C.2.2.1
theorem Cx.n (C : Cx E Γ A ρ cc nL own rm) : eN E = nL := C.2.2.2.1
theorem Cx.ow (C : Cx E Γ A ρ cc nL own rm) : (eS E).vm.findClass own = some (eM E).cls := C.2.2.2.2.1
theorem Cx.ts (C : Cx E Γ A ρ cc nL own rm) : ∀ w ∈ lw_all, w.before (eG E) (eS E) = true := C.2.2.2.2.2.1
theorem Cx.R (C : Cx E Γ A ρ cc nL own rm) : eR E = rm := C.2.2.2.2.2.2.1
theorem Cx.hA (C : Cx E Γ A ρ cc nL own rm) : eA E = A := C.2.2.2.2.2.2.2.1
theorem Cx.K (C : Cx E Γ A ρ cc nL own rm) : va_K Γ.1 clA (tyA Γ) (eS E) := C.2.2.2.2.2.2.2.2.1
theorem Cx.r (C : Cx E Γ A ρ cc nL own rm) : ρ (eS E) := C.2.2.2.2.2.2.2.2.2.1
theorem Cx.cl (C : Cx E Γ A ρ cc nL own rm) : Cl A ρ := C.2.2.2.2.2.2.2.2.2.2.1
theorem Cx.tr (C : Cx E Γ A ρ cc nL own rm) : (eL E).stackTraces = false := C.2.2.2.2.2.2.2.2.2.2.2
theorem g_I {J : Heap → Prop} (h : ∀ H, I H → J H) (k : G E J cells slots pc lv st) : G E I cells slots pc lv st := fun H locs ls hI hS hl => k H locs ls (h H hI) hS hl
theorem g_ex {α : Sort _} {J : α → Heap → Prop} (k : ∀ x, G E (J x) cells slots pc lv st) : G E (fun H => ∃ x, J x H) cells slots pc lv st := fun H locs ls hI hS hl => hI.elim fun x hx => k x H locs ls hx hS hl
theorem g_pure {p : Prop} (k : p → G E I cells slots pc lv st) : G E (fun H => p ∧ I H) cells slots pc lv st := fun H locs ls hI hS hl => k hI.1 H locs ls hI.2 hS hl
theorem g_get {p : Prop} (h : ∀ H, I H → p) (k : p → G E I cells slots pc lv st) : G E I cells slots pc lv st := fun H locs ls hI hS hl => k (h H hI) H locs ls hI hS hl
theorem g_or {J1 J2 : Heap → Prop} (k1 : G E J1 cells slots pc lv st) (k2 : G E J2 cells slots pc lv st) : G E (fun H => J1 H ∨ J2 H) cells slots pc lv st := fun H locs ls hI hS hl => hI.elim (fun h => k1 H locs ls h hS hl) (fun h => k2 H locs ls h hS hl)
theorem g_widen {k n : Nat} (h1 : cells ≤ k) (h2 : slots ≤ n) (kk : G E I k n pc lv st) : G E I cells slots pc lv st := fun H locs ls hI hS hl => W.widen h1 h2 (kk H locs ls hI hS hl)
theorem g_topi {x y : Int32} (h : x = y) (k : G E I cells slots pc lv (.int y :: st)) : G E I cells slots pc lv (.int x :: st) := h ▸ k
theorem g_topl {x y : Int64} (h : x = y) (k : G E I cells slots pc lv (.long y :: st)) : G E I cells slots pc lv (.long x :: st) := h ▸ k
theorem g_eqs {st' : List Value} (h : st = st') (k : G E I cells slots pc lv st') : G E I cells slots pc lv st := h ▸ k
theorem g_eql {lv' : List (Option Value)} (h : lv = lv') (k : G E I cells slots pc lv' st) : G E I cells slots pc lv st := h ▸ k
theorem g_eqI {J : Heap → Prop} (h : I = J) (k : G E J cells slots pc lv st) : G E I cells slots pc lv st := h ▸ k
theorem g_nmi {x : Int32} (k : ∀ y : Int32, y = x → G E I cells slots pc lv (.int y :: st)) : G E I cells slots pc lv (.int x :: st) := k x rfl
/-- forget some of what the locals hold -/
theorem g_lv {lv' : List (Option Value)} (h : ∀ (i : Nat) (v : Value), lv'[i]? = some (some v) → lv[i]? = some (some v)) (k : G E I cells slots pc lv' st) : G E I cells slots pc lv st := fun H locs ls hI hS hl => k H locs ls hI hS ⟨hl.1, hl.2.1, fun i v hi => hl.2.2 i v (h i v hi)⟩
/-- a counted loop -/
theorem g_for {P : Nat → Prop} (n : Nat) (hx : P n) (hs : ∀ k, k < n → P (k + 1) → P k) : ∀ k, k ≤ n → P k := by
  intro k hk
  obtain ⟨d, hd⟩ : ∃ d, d = n - k := ⟨_, rfl⟩
  induction d generalizing k with
  | zero => rw [show k = n by omega]; exact hx
  | succ d ih => exact hs k (by omega) (ih (k + 1) (by omega) (by omega))

theorem g_iconst {n : Int} {v : Int32} (C : Cx E Γ A ρ cc nL own rm) (d : decode cc pc = .ok (.iconst n, 1)) (hv : Int32.ofInt n = v) (k : G E I cells slots (pc + 1) lv (.int v :: st)) : G E I cells slots pc lv (st) := fun H locs ls hI hS hl => lv_iconst C.x C.b d hv (k H locs ls hI hS hl)
theorem g_bipush {n : Int} {v : Int32} (C : Cx E Γ A ρ cc nL own rm) (d : decode cc pc = .ok (.bipush n, 2)) (hv : (Int8.ofInt n).toInt32 = v) (k : G E I cells slots (pc + 2) lv (.int v :: st)) : G E I cells slots pc lv (st) := fun H locs ls hI hS hl => lv_bipush C.x C.b d hv (k H locs ls hI hS hl)
theorem g_sipush {n : Int} {v : Int32} (C : Cx E Γ A ρ cc nL own rm) (d : decode cc pc = .ok (.sipush n, 3)) (hv : (Int16.ofInt n).toInt32 = v) (k : G E I cells slots (pc + 3) lv (.int v :: st)) : G E I cells slots pc lv (st) := fun H locs ls hI hS hl => lv_sipush C.x C.b d hv (k H locs ls hI hS hl)
theorem g_lconst {n : Fin 2} {v : Int64} (C : Cx E Γ A ρ cc nL own rm) (d : decode cc pc = .ok (.lconst n, 1)) (hv : Int64.ofNat (n : Nat) = v) (k : G E I cells slots (pc + 1) lv (.long v :: st)) : G E I cells slots pc lv (st) := fun H locs ls hI hS hl => lv_lconst C.x C.b d hv (k H locs ls hI hS hl)
theorem g_null (C : Cx E Γ A ρ cc nL own rm) (d : decode cc pc = .ok (.aconst_null, 1)) (k : G E I cells slots (pc + 1) lv (.null :: st)) : G E I cells slots pc lv (st) := fun H locs ls hI hS hl => lv_null C.x C.b d (k H locs ls hI hS hl)
theorem g_ldc {v : Int32} {index : Nat} (C : Cx E Γ A ρ cc nL own rm) (d : decode cc pc = .ok (.ldc index, 2)) (hq : Cond.constant own index v ∈ lw_all) (k : G E I cells slots (pc + 2) lv (.int v :: st)) : G E I cells slots pc lv (st) := fun H locs ls hI hS hl => lv_ldc C.x C.b C.ow (C.ts _ hq) d (k H locs ls hI hS hl)
theorem g_ldc2 {v : Int64} {index : Nat} (C : Cx E Γ A ρ cc nL own rm) (d : decode cc pc = .ok (.ldc2_w index, 3)) (hq : Cond.constantLong own index v ∈ lw_all) (k : G E I cells slots (pc + 3) lv (.long v :: st)) : G E I cells slots pc lv (st) := fun H locs ls hI hS hl => lv_ldc2 C.x C.b C.ow (C.ts _ hq) d (k H locs ls hI hS hl)
theorem g_iload_n {n : Fin 4} {i : Nat} {x : Int32} (C : Cx E Γ A ρ cc nL own rm) (d : decode cc pc = .ok (.iload_n n, 1)) (hi : (n : Nat) = i) (h : lv[i]? = some (some (.int x))) (k : G E I cells slots (pc + 1) lv (.int x :: st)) : G E I cells slots pc lv (st) := fun H locs ls hI hS hl => lv_iload_n C.x C.b d hi (hl.2.2 i _ h) (k H locs ls hI hS hl)
theorem g_iload {i : Nat} {x : Int32} (C : Cx E Γ A ρ cc nL own rm) (d : decode cc pc = .ok (.iload i, 2)) (h : lv[i]? = some (some (.int x))) (k : G E I cells slots (pc + 2) lv (.int x :: st)) : G E I cells slots pc lv (st) := fun H locs ls hI hS hl => lv_iload C.x C.b d (hl.2.2 i _ h) (k H locs ls hI hS hl)
theorem g_lload_n {n : Fin 4} {i : Nat} {x : Int64} (C : Cx E Γ A ρ cc nL own rm) (d : decode cc pc = .ok (.lload_n n, 1)) (hi : (n : Nat) = i) (h : lv[i]? = some (some (.long x))) (k : G E I cells slots (pc + 1) lv (.long x :: st)) : G E I cells slots pc lv (st) := fun H locs ls hI hS hl => lv_lload_n C.x C.b d hi (hl.2.2 i _ h) (k H locs ls hI hS hl)
theorem g_lload {i : Nat} {x : Int64} (C : Cx E Γ A ρ cc nL own rm) (d : decode cc pc = .ok (.lload i, 2)) (h : lv[i]? = some (some (.long x))) (k : G E I cells slots (pc + 2) lv (.long x :: st)) : G E I cells slots pc lv (st) := fun H locs ls hI hS hl => lv_lload C.x C.b d (hl.2.2 i _ h) (k H locs ls hI hS hl)
theorem g_aload_n {n : Fin 4} {i : Nat} {x : Nat} (C : Cx E Γ A ρ cc nL own rm) (d : decode cc pc = .ok (.aload_n n, 1)) (hi : (n : Nat) = i) (h : lv[i]? = some (some (.ref x))) (k : G E I cells slots (pc + 1) lv (.ref x :: st)) : G E I cells slots pc lv (st) := fun H locs ls hI hS hl => lv_aload_n C.x C.b d hi (hl.2.2 i _ h) (k H locs ls hI hS hl)
theorem g_aload {i : Nat} {x : Nat} (C : Cx E Γ A ρ cc nL own rm) (d : decode cc pc = .ok (.aload i, 2)) (h : lv[i]? = some (some (.ref x))) (k : G E I cells slots (pc + 2) lv (.ref x :: st)) : G E I cells slots pc lv (st) := fun H locs ls hI hS hl => lv_aload C.x C.b d (hl.2.2 i _ h) (k H locs ls hI hS hl)
theorem g_aload_nN {n : Fin 4} {i : Nat} (C : Cx E Γ A ρ cc nL own rm) (d : decode cc pc = .ok (.aload_n n, 1)) (hi : (n : Nat) = i) (h : lv[i]? = some (some .null)) (k : G E I cells slots (pc + 1) lv (.null :: st)) : G E I cells slots pc lv (st) := fun H locs ls hI hS hl => lv_aload_nN C.x C.b d hi (hl.2.2 i _ h) (k H locs ls hI hS hl)
theorem g_aloadN {i : Nat} (C : Cx E Γ A ρ cc nL own rm) (d : decode cc pc = .ok (.aload i, 2)) (h : lv[i]? = some (some .null)) (k : G E I cells slots (pc + 2) lv (.null :: st)) : G E I cells slots pc lv (st) := fun H locs ls hI hS hl => lv_aloadN C.x C.b d (hl.2.2 i _ h) (k H locs ls hI hS hl)
theorem g_istore_n {n : Fin 4} {i : Nat} {x : Int32} {lv' : List (Option Value)} (C : Cx E Γ A ρ cc nL own rm) (d : decode cc pc = .ok (.istore_n n, 1)) (hi : (n : Nat) = i) (hn : i < nL) (h : lset lv i (.int x) = lv') (k : G E I cells slots (pc + 1) lv' st) : G E I cells slots pc lv (.int x :: st) := fun H locs ls hI hS hl => lv_istore_n C.x C.b d hi (lh_has hl) (by rw [C.n]; exact hn) rfl (fun ls' h' => k H locs ls' hI hS (h ▸ lh_store1 h'))
theorem g_istore {i : Nat} {x : Int32} {lv' : List (Option Value)} (C : Cx E Γ A ρ cc nL own rm) (d : decode cc pc = .ok (.istore i, 2)) (hn : i < nL) (h : lset lv i (.int x) = lv') (k : G E I cells slots (pc + 2) lv' st) : G E I cells slots pc lv (.int x :: st) := fun H locs ls hI hS hl => lv_istore C.x C.b d (lh_has hl) (by rw [C.n]; exact hn) rfl (fun ls' h' => k H locs ls' hI hS (h ▸ lh_store1 h'))
theorem g_lstore_n {n : Fin 4} {i : Nat} {x : Int64} {lv' : List (Option Value)} (C : Cx E Γ A ρ cc nL own rm) (d : decode cc pc = .ok (.lstore_n n, 1)) (hi : (n : Nat) = i) (hn : i + 1 < nL) (h : lset2 lv i (.long x) = lv') (k : G E I cells slots (pc + 1) lv' st) : G E I cells slots pc lv (.long x :: st) := fun H locs ls hI hS hl => lv_lstore_n C.x C.b d hi (lh_has hl) (by rw [C.n]; exact hn) rfl (fun ls' h' => k H locs ls' hI hS (h ▸ lh_store2 h'))
theorem g_lstore {i : Nat} {x : Int64} {lv' : List (Option Value)} (C : Cx E Γ A ρ cc nL own rm) (d : decode cc pc = .ok (.lstore i, 2)) (hn : i + 1 < nL) (h : lset2 lv i (.long x) = lv') (k : G E I cells slots (pc + 2) lv' st) : G E I cells slots pc lv (.long x :: st) := fun H locs ls hI hS hl => lv_lstore C.x C.b d (lh_has hl) (by rw [C.n]; exact hn) rfl (fun ls' h' => k H locs ls' hI hS (h ▸ lh_store2 h'))
theorem g_astore_n {n : Fin 4} {i : Nat} {x : Nat} {lv' : List (Option Value)} (C : Cx E Γ A ρ cc nL own rm) (d : decode cc pc = .ok (.astore_n n, 1)) (hi : (n : Nat) = i) (hn : i < nL) (h : lset lv i (.ref x) = lv') (k : G E I cells slots (pc + 1) lv' st) : G E I cells slots pc lv (.ref x :: st) := fun H locs ls hI hS hl => lv_astore_n C.x C.b d hi (lh_has hl) (by rw [C.n]; exact hn) rfl (fun ls' h' => k H locs ls' hI hS (h ▸ lh_store1 h'))
theorem g_astore {i : Nat} {x : Nat} {lv' : List (Option Value)} (C : Cx E Γ A ρ cc nL own rm) (d : decode cc pc = .ok (.astore i, 2)) (hn : i < nL) (h : lset lv i (.ref x) = lv') (k : G E I cells slots (pc + 2) lv' st) : G E I cells slots pc lv (.ref x :: st) := fun H locs ls hI hS hl => lv_astore C.x C.b d (lh_has hl) (by rw [C.n]; exact hn) rfl (fun ls' h' => k H locs ls' hI hS (h ▸ lh_store1 h'))
theorem g_astore_nN {n : Fin 4} {i : Nat} {lv' : List (Option Value)} (C : Cx E Γ A ρ cc nL own rm) (d : decode cc pc = .ok (.astore_n n, 1)) (hi : (n : Nat) = i) (hn : i < nL) (h : lset lv i .null = lv') (k : G E I cells slots (pc + 1) lv' st) : G E I cells slots pc lv (.null :: st) := fun H locs ls hI hS hl => lv_astore_nN C.x C.b d hi (lh_has hl) (by rw [C.n]; exact hn) rfl (fun ls' h' => k H locs ls' hI hS (h ▸ lh_store1 h'))
theorem g_astoreN {i : Nat} {lv' : List (Option Value)} (C : Cx E Γ A ρ cc nL own rm) (d : decode cc pc = .ok (.astore i, 2)) (hn : i < nL) (h : lset lv i .null = lv') (k : G E I cells slots (pc + 2) lv' st) : G E I cells slots pc lv (.null :: st) := fun H locs ls hI hS hl => lv_astoreN C.x C.b d (lh_has hl) (by rw [C.n]; exact hn) rfl (fun ls' h' => k H locs ls' hI hS (h ▸ lh_store1 h'))
theorem g_iinc {i : Nat} {n : Int} {x v : Int32} {lv' : List (Option Value)} (C : Cx E Γ A ρ cc nL own rm) (d : decode cc pc = .ok (.iinc i n, 3)) (hk : lv[i]? = some (some (.int x))) (hv : x + Int32.ofInt n = v) (hn : i < nL) (h : lset lv i (.int v) = lv') (k : G E I cells slots (pc + 3) lv' st) : G E I cells slots pc lv st := by
  intro H locs ls hI hS hl
  obtain ⟨j, hj⟩ := List.getElem?_of_mem ((lpairs_mem (q := (i, Value.int x))).mpr hk)
  exact lv_iinc C.x C.b d (lh_has hl) hj hv (by rw [C.n]; exact hn) rfl (fun ls' h' => k H locs ls' hI hS (h ▸ lh_store1 h'))
theorem g_inc1 {i : Nat} {x : Nat} {lv' : List (Option Value)} (C : Cx E Γ A ρ cc nL own rm) (d : decode cc pc = .ok (.iinc i 1, 3)) (hk : lv[i]? = some (some (.int (nI x)))) (hn : i < nL) (h : lset lv i (.int (nI (x + 1))) = lv') (k : G E I cells slots (pc + 3) lv' st) : G E I cells slots pc lv st := g_iinc C d hk (nI_1 x) hn h k
theorem g_iadd {x y : Int32} (C : Cx E Γ A ρ cc nL own rm) (d : decode cc pc = .ok (.iadd, 1)) (k : G E I cells slots (pc + 1) lv (.int (x + y) :: st)) : G E I cells slots pc lv (.int y :: .int x :: st) := fun H locs ls hI hS hl => lv_iadd C.x C.b d (k H locs ls hI hS hl)
theorem g_isub {x y : Int32} (C : Cx E Γ A ρ cc nL own rm) (d : decode cc pc = .ok (.isub, 1)) (k : G E I cells slots (pc + 1) lv (.int (x - y) :: st)) : G E I cells slots pc lv (.int y :: .int x :: st) := fun H locs ls hI hS hl => lv_isub C.x C.b d (k H locs ls hI hS hl)
theorem g_imul {x y : Int32} (C : Cx E Γ A ρ cc nL own rm) (d : decode cc pc = .ok (.imul, 1)) (k : G E I cells slots (pc + 1) lv (.int (x * y) :: st)) : G E I cells slots pc lv (.int y :: .int x :: st) := fun H locs ls hI hS hl => lv_imul C.x C.b d (k H locs ls hI hS hl)
theorem g_iand {x y : Int32} (C : Cx E Γ A ρ cc nL own rm) (d : decode cc pc = .ok (.iand, 1)) (k : G E I cells slots (pc + 1) lv (.int (x &&& y) :: st)) : G E I cells slots pc lv (.int y :: .int x :: st) := fun H locs ls hI hS hl => lv_iand C.x C.b d (k H locs ls hI hS hl)
theorem g_ior {x y : Int32} (C : Cx E Γ A ρ cc nL own rm) (d : decode cc pc = .ok (.ior, 1)) (k : G E I cells slots (pc + 1) lv (.int (x ||| y) :: st)) : G E I cells slots pc lv (.int y :: .int x :: st) := fun H locs ls hI hS hl => lv_ior C.x C.b d (k H locs ls hI hS hl)
theorem g_ixor {x y : Int32} (C : Cx E Γ A ρ cc nL own rm) (d : decode cc pc = .ok (.ixor, 1)) (k : G E I cells slots (pc + 1) lv (.int (x ^^^ y) :: st)) : G E I cells slots pc lv (.int y :: .int x :: st) := fun H locs ls hI hS hl => lv_ixor C.x C.b d (k H locs ls hI hS hl)
theorem g_ishl {x y : Int32} (C : Cx E Γ A ρ cc nL own rm) (d : decode cc pc = .ok (.ishl, 1)) (k : G E I cells slots (pc + 1) lv (.int (x <<< (y &&& 31)) :: st)) : G E I cells slots pc lv (.int y :: .int x :: st) := fun H locs ls hI hS hl => lv_ishl C.x C.b d (k H locs ls hI hS hl)
theorem g_ishr {x y : Int32} (C : Cx E Γ A ρ cc nL own rm) (d : decode cc pc = .ok (.ishr, 1)) (k : G E I cells slots (pc + 1) lv (.int (x >>> (y &&& 31)) :: st)) : G E I cells slots pc lv (.int y :: .int x :: st) := fun H locs ls hI hS hl => lv_ishr C.x C.b d (k H locs ls hI hS hl)
theorem g_iushr {x y : Int32} (C : Cx E Γ A ρ cc nL own rm) (d : decode cc pc = .ok (.iushr, 1)) (k : G E I cells slots (pc + 1) lv (.int ((x.toUInt32 >>> (y.toUInt32 &&& Int32.toUInt32 31)).toInt32) :: st)) : G E I cells slots pc lv (.int y :: .int x :: st) := fun H locs ls hI hS hl => lv_iushr C.x C.b d rfl (k H locs ls hI hS hl)
theorem g_idiv {x y : Int32} (C : Cx E Γ A ρ cc nL own rm) (d : decode cc pc = .ok (.idiv, 1)) (hne : ¬ y = 0) (k : G E I cells slots (pc + 1) lv (.int (x / y) :: st)) : G E I cells slots pc lv (.int y :: .int x :: st) := fun H locs ls hI hS hl => lv_idiv C.x C.b d hne (k H locs ls hI hS hl)
theorem g_ineg {x : Int32} (C : Cx E Γ A ρ cc nL own rm) (d : decode cc pc = .ok (.ineg, 1)) (k : G E I cells slots (pc + 1) lv (.int (-x) :: st)) : G E I cells slots pc lv (.int x :: st) := fun H locs ls hI hS hl => lv_ineg C.x C.b d (k H locs ls hI hS hl)
theorem g_ladd {x y : Int64} (C : Cx E Γ A ρ cc nL own rm) (d : decode cc pc = .ok (.ladd, 1)) (k : G E I cells slots (pc + 1) lv (.long (x + y) :: st)) : G E I cells slots pc lv (.long y :: .long x :: st) := fun H locs ls hI hS hl => lv_ladd C.x C.b d (k H locs ls hI hS hl)
theorem g_lsub {x y : Int64} (C : Cx E Γ A ρ cc nL own rm) (d : decode cc pc = .ok (.lsub, 1)) (k : G E I cells slots (pc + 1) lv (.long (x - y) :: st)) : G E I cells slots pc lv (.long y :: .long x :: st) := fun H locs ls hI hS hl => lv_lsub C.x C.b d (k H locs ls hI hS hl)
theorem g_lmul {x y : Int64} (C : Cx E Γ A ρ cc nL own rm) (d : decode cc pc = .ok (.lmul, 1)) (k : G E I cells slots (pc + 1) lv (.long (x * y) :: st)) : G E I cells slots pc lv (.long y :: .long x :: st) := fun H locs ls hI hS hl => lv_lmul C.x C.b d (k H locs ls hI hS hl)
theorem g_ldiv {x y : Int64} (C : Cx E Γ A ρ cc nL own rm) (d : decode cc pc = .ok (.ldiv, 1)) (hne : ¬ y = 0) (k : G E I cells slots (pc + 1) lv (.long (x / y) :: st)) : G E I cells slots pc lv (.long y :: .long x :: st) := fun H locs ls hI hS hl => lv_ldiv C.x C.b d hne (k H locs ls hI hS hl)
theorem g_lrem {x y : Int64} (C : Cx E Γ A ρ cc nL own rm) (d : decode cc pc = .ok (.lrem, 1)) (hne : ¬ y = 0) (k : G E I cells slots (pc + 1) lv (.long (x - x / y * y) :: st)) : G E I cells slots pc lv (.long y :: .long x :: st) := fun H locs ls hI hS hl => lv_lrem C.x C.b d hne (k H locs ls hI hS hl)
theorem g_lcmp {x y : Int64} (C : Cx E Γ A ρ cc nL own rm) (d : decode cc pc = .ok (.lcmp, 1)) (k : G E I cells slots (pc + 1) lv (.int (lg_cmp x y) :: st)) : G E I cells slots pc lv (.long y :: .long x :: st) := fun H locs ls hI hS hl => W.lcmp C.x C.b d (k H locs ls hI hS hl)
theorem g_i2l {x : Int32} (C : Cx E Γ A ρ cc nL own rm) (d : decode cc pc = .ok (.i2l, 1)) (k : G E I cells slots (pc + 1) lv (.long x.toInt64 :: st)) : G E I cells slots pc lv (.int x :: st) := fun H locs ls hI hS hl => lv_i2l C.x C.b d rfl (k H locs ls hI hS hl)
theorem g_l2i {x : Int64} (C : Cx E Γ A ρ cc nL own rm) (d : decode cc pc = .ok (.l2i, 1)) (k : G E I cells slots (pc + 1) lv (.int x.toInt32 :: st)) : G E I cells slots pc lv (.long x :: st) := fun H locs ls hI hS hl => lv_l2i C.x C.b d rfl (k H locs ls hI hS hl)
theorem g_i2b {x : Int32} (C : Cx E Γ A ρ cc nL own rm) (d : decode cc pc = .ok (.i2b, 1)) (k : G E I cells slots (pc + 1) lv (.int x.toInt8.toInt32 :: st)) : G E I cells slots pc lv (.int x :: st) := fun H locs ls hI hS hl => lv_i2b C.x C.b d rfl (k H locs ls hI hS hl)
theorem g_i2c {x : Int32} (C : Cx E Γ A ρ cc nL own rm) (d : decode cc pc = .ok (.i2c, 1)) (k : G E I cells slots (pc + 1) lv (.int (x.toUInt32 % 65536).toInt32 :: st)) : G E I cells slots pc lv (.int x :: st) := fun H locs ls hI hS hl => lv_i2c C.x C.b d rfl (k H locs ls hI hS hl)
theorem g_dup {v : Value} (C : Cx E Γ A ρ cc nL own rm) (d : decode cc pc = .ok (.dup, 1)) (hv : v.category = 1) (k : G E I cells slots (pc + 1) lv (v :: v :: st)) : G E I cells slots pc lv (v :: st) := fun H locs ls hI hS hl => lv_dup C.x C.b d hv (k H locs ls hI hS hl)
theorem g_pop {v : Value} (C : Cx E Γ A ρ cc nL own rm) (d : decode cc pc = .ok (.pop, 1)) (hv : v.category = 1) (k : G E I cells slots (pc + 1) lv (st)) : G E I cells slots pc lv (v :: st) := fun H locs ls hI hS hl => lv_pop C.x C.b d hv (k H locs ls hI hS hl)
theorem g_dup_x1 {v u : Value} (C : Cx E Γ A ρ cc nL own rm) (d : decode cc pc = .ok (.dup_x1, 1)) (hv : v.category = 1) (hu : u.category = 1) (k : G E I cells slots (pc + 1) lv (v :: u :: v :: st)) : G E I cells slots pc lv (v :: u :: st) := fun H locs ls hI hS hl => lv_dup_x1 C.x C.b d hv hu (k H locs ls hI hS hl)
theorem g_dup2 {v u : Value} (C : Cx E Γ A ρ cc nL own rm) (d : decode cc pc = .ok (.dup2, 1)) (hv : v.category = 1) (hu : u.category = 1) (k : G E I cells slots (pc + 1) lv (v :: u :: v :: u :: st)) : G E I cells slots pc lv (v :: u :: st) := fun H locs ls hI hS hl => lv_dup2_11 C.x C.b d hv hu (k H locs ls hI hS hl)
theorem g_if_eq {x : Int32} {off : Int} (tgt : Nat) (C : Cx E Γ A ρ cc nL own rm) (d : decode cc pc = .ok (.ifCond .eq off, 3)) (ht : (pc : Int) + off = (tgt : Int)) (kt : x = 0 → G E I cells slots tgt lv st) (kf : ¬ x = 0 → G E I cells slots (pc + 3) lv st) : G E I cells slots pc lv (.int x :: st) := fun H locs ls hI hS hl => lv_if_eq C.x C.b d ht (fun q => kt q H locs ls hI hS hl) (fun q => kf q H locs ls hI hS hl)
theorem g_if_ne {x : Int32} {off : Int} (tgt : Nat) (C : Cx E Γ A ρ cc nL own rm) (d : decode cc pc = .ok (.ifCond .ne off, 3)) (ht : (pc : Int) + off = (tgt : Int)) (kt : ¬ x = 0 → G E I cells slots tgt lv st) (kf : x = 0 → G E I cells slots (pc + 3) lv st) : G E I cells slots pc lv (.int x :: st) := fun H locs ls hI hS hl => lv_if_ne C.x C.b d ht (fun q => kt q H locs ls hI hS hl) (fun q => kf q H locs ls hI hS hl)
theorem g_if_lt {x : Int32} {off : Int} (tgt : Nat) (C : Cx E Γ A ρ cc nL own rm) (d : decode cc pc = .ok (.ifCond .lt off, 3)) (ht : (pc : Int) + off = (tgt : Int)) (kt : x < 0 → G E I cells slots tgt lv st) (kf : ¬ x < 0 → G E I cells slots (pc + 3) lv st) : G E I cells slots pc lv (.int x :: st) := fun H locs ls hI hS hl => lv_if_lt C.x C.b d ht (fun q => kt q H locs ls hI hS hl) (fun q => kf q H locs ls hI hS hl)
theorem g_if_ge {x : Int32} {off : Int} (tgt : Nat) (C : Cx E Γ A ρ cc nL own rm) (d : decode cc pc = .ok (.ifCond .ge off, 3)) (ht : (pc : Int) + off = (tgt : Int)) (kt : 0 ≤ x → G E I cells slots tgt lv st) (kf : ¬ 0 ≤ x → G E I cells slots (pc + 3) lv st) : G E I cells slots pc lv (.int x :: st) := fun H locs ls hI hS hl => lv_if_ge C.x C.b d ht (fun q => kt q H locs ls hI hS hl) (fun q => kf q H locs ls hI hS hl)
theorem g_if_gt {x : Int32} {off : Int} (tgt : Nat) (C : Cx E Γ A ρ cc nL own rm) (d : decode cc pc = .ok (.ifCond .gt off, 3)) (ht : (pc : Int) + off = (tgt : Int)) (kt : 0 < x → G E I cells slots tgt lv st) (kf : ¬ 0 < x → G E I cells slots (pc + 3) lv st) : G E I cells slots pc lv (.int x :: st) := fun H locs ls hI hS hl => lv_if_gt C.x C.b d ht (fun q => kt q H locs ls hI hS hl) (fun q => kf q H locs ls hI hS hl)
theorem g_if_le {x : Int32} {off : Int} (tgt : Nat) (C : Cx E Γ A ρ cc nL own rm) (d : decode cc pc = .ok (.ifCond .le off, 3)) (ht : (pc : Int) + off = (tgt : Int)) (kt : x ≤ 0 → G E I cells slots tgt lv st) (kf : ¬ x ≤ 0 → G E I cells slots (pc + 3) lv st) : G E I cells slots pc lv (.int x :: st) := fun H locs ls hI hS hl => lv_if_le C.x C.b d ht (fun q => kt q H locs ls hI hS hl) (fun q => kf q H locs ls hI hS hl)
theorem g_icmp_eq {x y : Int32} {off : Int} (tgt : Nat) (C : Cx E Γ A ρ cc nL own rm) (d : decode cc pc = .ok (.if_icmp .eq off, 3)) (ht : (pc : Int) + off = (tgt : Int)) (kt : x = y → G E I cells slots tgt lv st) (kf : ¬ x = y → G E I cells slots (pc + 3) lv st) : G E I cells slots pc lv (.int y :: .int x :: st) := fun H locs ls hI hS hl => lv_icmp_eq C.x C.b d ht (fun q => kt q H locs ls hI hS hl) (fun q => kf q H locs ls hI hS hl)
theorem g_icmp_ne {x y : Int32} {off : Int} (tgt : Nat) (C : Cx E Γ A ρ cc nL own rm) (d : decode cc pc = .ok (.if_icmp .ne off, 3)) (ht : (pc : Int) + off = (tgt : Int)) (kt : ¬ x = y → G E I cells slots tgt lv st) (kf : x = y → G E I cells slots (pc + 3) lv st) : G E I cells slots pc lv (.int y :: .int x :: st) := fun H locs ls hI hS hl => lv_icmp_ne C.x C.b d ht (fun q => kt q H locs ls hI hS hl) (fun q => kf q H locs ls hI hS hl)
theorem g_icmp_lt {x y : Int32} {off : Int} (tgt : Nat) (C : Cx E Γ A ρ cc nL own rm) (d : decode cc pc = .ok (.if_icmp .lt off, 3)) (ht : (pc : Int) + off = (tgt : Int)) (kt : x < y → G E I cells slots tgt lv st) (kf : ¬ x < y → G E I cells slots (pc + 3) lv st) : G E I cells slots pc lv (.int y :: .int x :: st) := fun H locs ls hI hS hl => lv_icmp_lt C.x C.b d ht (fun q => kt q H locs ls hI hS hl) (fun q => kf q H locs ls hI hS hl)
theorem g_icmp_ge {x y : Int32} {off : Int} (tgt : Nat) (C : Cx E Γ A ρ cc nL own rm) (d : decode cc pc = .ok (.if_icmp .ge off, 3)) (ht : (pc : Int) + off = (tgt : Int)) (kt : y ≤ x → G E I cells slots tgt lv st) (kf : ¬ y ≤ x → G E I cells slots (pc + 3) lv st) : G E I cells slots pc lv (.int y :: .int x :: st) := fun H locs ls hI hS hl => lv_icmp_ge C.x C.b d ht (fun q => kt q H locs ls hI hS hl) (fun q => kf q H locs ls hI hS hl)
theorem g_icmp_gt {x y : Int32} {off : Int} (tgt : Nat) (C : Cx E Γ A ρ cc nL own rm) (d : decode cc pc = .ok (.if_icmp .gt off, 3)) (ht : (pc : Int) + off = (tgt : Int)) (kt : y < x → G E I cells slots tgt lv st) (kf : ¬ y < x → G E I cells slots (pc + 3) lv st) : G E I cells slots pc lv (.int y :: .int x :: st) := fun H locs ls hI hS hl => lv_icmp_gt C.x C.b d ht (fun q => kt q H locs ls hI hS hl) (fun q => kf q H locs ls hI hS hl)
theorem g_icmp_le {x y : Int32} {off : Int} (tgt : Nat) (C : Cx E Γ A ρ cc nL own rm) (d : decode cc pc = .ok (.if_icmp .le off, 3)) (ht : (pc : Int) + off = (tgt : Int)) (kt : x ≤ y → G E I cells slots tgt lv st) (kf : ¬ x ≤ y → G E I cells slots (pc + 3) lv st) : G E I cells slots pc lv (.int y :: .int x :: st) := fun H locs ls hI hS hl => lv_icmp_le C.x C.b d ht (fun q => kt q H locs ls hI hS hl) (fun q => kf q H locs ls hI hS hl)
theorem g_goto {off : Int} (tgt : Nat) (C : Cx E Γ A ρ cc nL own rm) (d : decode cc pc = .ok (.goto off, 3)) (ht : (pc : Int) + off = (tgt : Int)) (k : G E I cells slots tgt lv st) : G E I cells slots pc lv st := fun H locs ls hI hS hl => lv_goto C.x C.b d ht (k H locs ls hI hS hl)
theorem g_ifnonnull {x : Nat} {off : Int} (tgt : Nat) (C : Cx E Γ A ρ cc nL own rm) (d : decode cc pc = .ok (.ifnonnull off, 3)) (ht : (pc : Int) + off = (tgt : Int)) (k : G E I cells slots tgt lv st) : G E I cells slots pc lv (.ref x :: st) := fun H locs ls hI hS hl => lv_ifnonnull C.x C.b d ht (k H locs ls hI hS hl)
theorem g_ifnonnullN {off : Int} (C : Cx E Γ A ρ cc nL own rm) (d : decode cc pc = .ok (.ifnonnull off, 3)) (k : G E I cells slots (pc + 3) lv st) : G E I cells slots pc lv (.null :: st) := fun H locs ls hI hS hl => lv_ifnonnullN C.x C.b d (k H locs ls hI hS hl)
theorem g_ifnull {x : Nat} {off : Int} (C : Cx E Γ A ρ cc nL own rm) (d : decode cc pc = .ok (.ifnull off, 3)) (k : G E I cells slots (pc + 3) lv st) : G E I cells slots pc lv (.ref x :: st) := fun H locs ls hI hS hl => lv_ifnull C.x C.b d (k H locs ls hI hS hl)
theorem g_ifnullN {off : Int} (tgt : Nat) (C : Cx E Γ A ρ cc nL own rm) (d : decode cc pc = .ok (.ifnull off, 3)) (ht : (pc : Int) + off = (tgt : Int)) (k : G E I cells slots tgt lv st) : G E I cells slots pc lv (.null :: st) := fun H locs ls hI hS hl => lv_ifnullN C.x C.b d ht (k H locs ls hI hS hl)
/-- the ends -/
theorem g_iret {v : Int32} {mc ms : Nat} {Post : Option Value → Heap → Prop} (C : Cx E Γ A ρ cc nL own rm) (r : Rt E (some .int) mc ms Post) (hc : cells ≤ mc) (hs : slots ≤ ms) (d : decode cc pc = .ok (.ireturn, 1)) (hp : ∀ H, I H → Post (some (.int v)) H) : G E I cells slots pc lv [.int v] := by
  intro H locs ls hI hS hl
  rw [r.2.2]
  exact W.widen hc hs (W.iret (hlocks := r.2.1) C.x C.b r.1 (fun t ht hW => ⟨⟨_, rfl, by rw [ht]; exact hp H hI⟩, hS.F ht⟩) hS.2.2 d)
theorem g_zret {v : Int32} {mc ms : Nat} {Post : Option Value → Heap → Prop} (C : Cx E Γ A ρ cc nL own rm) (r : Rt E (some .boolean) mc ms Post) (hc : cells ≤ mc) (hs : slots ≤ ms) (d : decode cc pc = .ok (.ireturn, 1)) (hv : narrow .boolean (.int v) = .int v) (hp : ∀ H, I H → Post (some (.int v)) H) : G E I cells slots pc lv [.int v] := by
  intro H locs ls hI hS hl
  rw [r.2.2]
  exact W.widen hc hs (W.zret (hlocks := r.2.1) C.x C.b r.1 hv (fun t ht hW => ⟨⟨_, rfl, by rw [ht]; exact hp H hI⟩, hS.F ht⟩) hS.2.2 d)
theorem g_vret {mc ms : Nat} {Post : Option Value → Heap → Prop} (C : Cx E Γ A ρ cc nL own rm) (r : Rt E none mc ms Post) (hc : cells ≤ mc) (hs : slots ≤ ms) (d : decode cc pc = .ok (.return_, 1)) (hp : ∀ H, I H → Post none H) : G E I cells slots pc lv [] := by
  intro H locs ls hI hS hl
  rw [r.2.2]
  exact W.widen hc hs (W.vret (hlocks := r.2.1) C.x C.b r.1 (fun t ht hW => ⟨⟨_, rfl, by rw [ht]; exact hp H hI⟩, hS.F ht⟩) hS.2.2 d)
theorem g_aret {v : Value} {mc ms : Nat} {rt : FieldType} {Post : Option Value → Heap → Prop} (C : Cx E Γ A ρ cc nL own rm) (r : Rt E (some rt) mc ms Post) (hrt : (∃ n, rt = .object n) ∨ ∃ t, rt = .array t) (hv : v = .null ∨ ∃ a, v = .ref a) (hc : cells ≤ mc) (hs : slots ≤ ms) (d : decode cc pc = .ok (.areturn, 1)) (hp : ∀ H, I H → Post (some v) H) : G E I cells slots pc lv [v] := by
  intro H locs ls hI hS hl
  rw [r.2.2]
  exact W.widen hc hs (W.aret (hlocks := r.2.1) C.x C.b r.1 hrt hv (fun t ht hW => ⟨⟨_, rfl, by rw [ht]; exact hp H hI⟩, hS.F ht⟩) hS.2.2 d)
end Rows
/-- a contract's start doesn't see the frames -/
theorem ct_blind {Γ : Gm} {A : Nat → Prop} {ρ : State → Prop} (hρ : Cl A ρ) (av : List Value) (I : Heap → Prop) : FrameBlind (va_Pc av (fun U => I U.heap ∧ va_K Γ.1 clA (tyA Γ) U ∧ ρ U)) := by
  intro a U g mk q
  obtain ⟨q0, qI, qK, qr⟩ := q
  exact ⟨q0, qI, va_K.moved (u := U) (U := U.calling g mk a) (Vm.Alike.refl U.vm) qK, hρ.2 U (U.calling g mk a) rfl rfl qr⟩
section Calls
variable {E : Cf} {Γ : Gm} {A A' : Nat → Prop} {ρ ρ' : State → Prop} {cc : ByteArray} {nL : Nat} {own : String} {rm : Room} {I : Heap → Prop} {cells slots pc : Nat} {lv : List (Option Value)} {st rest : List Value}
variable {y : MethodName} {cc' : ByteArray} {nL' n index : Nat} {ret : Option FieldType} {rm' : Room} {As av : List Value} {b : Nat} {I' : Heap → Prop} {Post : Option Value → Heap → Prop}
/-- behind a call: the callee's heap, and what the caller had, its cells outside A' as they were -/
def Aft (A' : Nat → Prop) (I : Heap → Prop) (H1 : Heap) : Prop := ∃ H, I H ∧ H.size ≤ H1.size ∧ ∀ q : Nat, q < H.size → ¬ A' q → H1[q]? = H[q]?
theorem g_run {mc ms : Nat} {a : Array Value} (C : Cx E Γ A ρ cc nL own rm) (hA : ∀ q, A' q → A q)
    (hr : ∀ (H : Heap) (locs : List Loc) (ls : Array Slot), I H → va_S (eA E) (eS E).heap H locs → lh ls (eN E) lv → va_Run (eP E) (eL E) (eE E) (eR E) (eS E) (eM E) (eG E) (eB E) (eH E) (eC E) H locs cells slots mc ms (F0 (eM E) pc ls st) rest (Qo Post A' a) A')
    (k : ∀ v, G E (fun H1 => Post v H1 ∧ Aft A' I H1) (cells + mc) (slots + ms) (pc + 3) lv (v.toList ++ rest)) : G E I cells slots pc lv st := by
  intro H locs ls hI hS hl T hT X
  obtain ⟨v, st₀, t, T', L, h0, X', hL, e1, e2, ⟨⟨v', hv, hp⟩, hz, hk⟩, stp⟩ := hr H locs ls hI hS hl T hT X
  cases hv
  rw [h0] at hz hk
  have hSA := C.hA
  obtain ⟨t2, a1, b1⟩ := k v T'.heap (locs ++ L) ls ⟨by rw [e1]; exact hp, H, hI, by rw [e1]; exact hz, fun q h1 h2 => by rw [e1]; exact hk q h1 h2⟩
    ⟨Nat.le_trans hS.1 (by rw [e1]; exact hz), fun q h1 h2 => by rw [e1, hk q (Nat.lt_of_lt_of_le h1 hS.1) (fun z => h2 (by rw [hSA]; exact hA q z))]; exact hS.2.1 q h1 h2, fun q hq => by
      rcases List.mem_append.mp hq with h | h
      · exact hS.2.2 q h
      · rw [hSA]; exact hA _ (hL q h)⟩ hl T' rfl X'
  exact ⟨t2, stp t2 a1, b1⟩
theorem g_pre (C : Cx E Γ A ρ cc nL own rm) (hρ' : ρ (eS E) → ρ' (eS E)) (hc' : Cl A' ρ') (hA : ∀ q, A q → A' q) {H : Heap} {locs : List Loc} (hS : va_S (eA E) (eS E).heap H locs) (hI : I' H) : ∀ U : State, U.heap = H → (eS E).WarmedH U.vm → (va_Pc av (fun U => I' U.heap ∧ va_K Γ.1 clA (tyA Γ) U ∧ ρ' U)) av.toArray U := by
  intro U hU hW
  refine ⟨rfl, by rw [hU]; exact hI, va_K.moved hW.alike C.K, hc'.1 (eS E) U hW (by rw [hU]; exact hS.1) (fun q h1 h2 => by rw [hU]; exact hS.2.1 q h1 (fun z => h2 (hA q (by rw [← C.hA]; exact z)))) (hρ' C.r)⟩
/-- a call through an object whose class declares the method -/
theorem g_callVA (C : Cx E Γ A ρ cc nL own rm) (hρ' : Cl A' ρ) (hA : ∀ q, A' q → A q) (hr0 : ∀ (U : State), (eS E).WarmedH U.vm → (eS E).heap.size ≤ U.heap.size → (∀ q : Nat, q < (eS E).heap.size → ¬ A q → U.heap[q]? = (eS E).heap[q]?) → ρ U) (ct : Ct (eL E) Γ A' ρ y cc' nL' ret rm' (.ref b :: As) I' Post) (hw : GoodIn lw_all (wsV own index y.cls y (ws_ y cc' nL' ret)))
    (hd : y.cls ≠ "java/lang/invoke/MethodHandle" ∧ y.cls ≠ "java/lang/invoke/VarHandle" ∧ (parseMethodDescriptor y.desc).map (fun d => d.parameters.length) = some n) (hR : rm'.frames + 1 ≤ rm.frames ∧ 8 + (nL' + 11) + rm'.locals ≤ rm.locals) (hf : cells + rm'.cells ≤ rm.cells ∧ slots + rm'.slots ≤ rm.slots)
    (hI : ∀ H, I H → I' H) (hv : ∀ H, I H → ∃ cell : Cell, H[b]? = some cell ∧ cell.vm.isStatics = false ∧ (eS E).vm.findClass y.cls = some cell.cls) (hn : As.length = n) (hst : st = As.reverse ++ .ref b :: rest) (hW : (rest.map fun v => v.category).sum ≤ 8) (d : decode cc pc = .ok (.invokevirtual index, 3))
    (k : ∀ v, G E (fun H1 => Post v H1 ∧ Aft A' I H1) (cells + rm'.cells) (slots + rm'.slots) (pc + 3) lv (v.toList ++ rest)) : G E I cells slots pc lv st := by
  refine g_run (a := (Value.ref b :: As).toArray) C hA (fun H locs ls hH hS hl => ?_) k
  exact va_runV (b := b) (As := As) (rest := rest) ⟨C.x, C.b, C.ml, C.ow, C.ts⟩ ct (cwV n C.ts hw rfl rfl rfl ⟨rfl, hd⟩ (by rw [C.R]; exact hR)) ⟨ct_blind hρ' _ _, hv H hH, fun U hU hW => ⟨rfl, by rw [hU]; exact hI H hH, va_K.moved hW.alike C.K, hr0 U hW (by rw [hU]; exact hS.1) (fun q h1 h2 => by rw [hU]; exact hS.2.1 q h1 (by rw [C.hA]; exact h2))⟩⟩ rfl hn (by show ls.size = nL; rw [hl.1, C.n]) hst (lv_room hW) d (by rw [C.R]; exact hf)
theorem Cx.rU (C : Cx E Γ A ρ cc nL own rm) : ∀ (U : State), (eS E).WarmedH U.vm → (eS E).heap.size ≤ U.heap.size → (∀ q : Nat, q < (eS E).heap.size → ¬ A q → U.heap[q]? = (eS E).heap[q]?) → ρ U := fun U hW h1 h2 => C.cl.1 (eS E) U hW h1 h2 C.r
theorem g_callV (C : Cx E Γ A ρ cc nL own rm) (ct : Ct (eL E) Γ A ρ y cc' nL' ret rm' (.ref b :: As) I' Post) (hw : GoodIn lw_all (wsV own index y.cls y (ws_ y cc' nL' ret)))
    (hd : y.cls ≠ "java/lang/invoke/MethodHandle" ∧ y.cls ≠ "java/lang/invoke/VarHandle" ∧ (parseMethodDescriptor y.desc).map (fun d => d.parameters.length) = some n) (hR : rm'.frames + 1 ≤ rm.frames ∧ 8 + (nL' + 11) + rm'.locals ≤ rm.locals) (hf : cells + rm'.cells ≤ rm.cells ∧ slots + rm'.slots ≤ rm.slots)
    (hI : ∀ H, I H → I' H) (hv : ∀ H, I H → ∃ cell : Cell, H[b]? = some cell ∧ cell.vm.isStatics = false ∧ (eS E).vm.findClass y.cls = some cell.cls) (hn : As.length = n) (hst : st = As.reverse ++ .ref b :: rest) (hW : (rest.map fun v => v.category).sum ≤ 8) (d : decode cc pc = .ok (.invokevirtual index, 3))
    (k : ∀ v, G E (Post v) (cells + rm'.cells) (slots + rm'.slots) (pc + 3) lv (v.toList ++ rest)) : G E I cells slots pc lv st :=
  g_callVA C C.cl (fun _ h => h) C.rU ct hw hd hR hf hI hv hn hst hW d (fun v => g_I (fun H h => h.1) (k v))
/-- a static call -/
theorem g_callSA (C : Cx E Γ A ρ cc nL own rm) (hρ' : Cl A' ρ) (hA : ∀ q, A' q → A q) (hr0 : ∀ (U : State), (eS E).WarmedH U.vm → (eS E).heap.size ≤ U.heap.size → (∀ q : Nat, q < (eS E).heap.size → ¬ A q → U.heap[q]? = (eS E).heap[q]?) → ρ U) (ct : Ct (eL E) Γ A' ρ y cc' nL' ret rm' As I' Post) (hw : GoodIn lw_all (va_wsS own index y (ws_ y cc' nL' ret)))
    (hd : y.cls ≠ "java/lang/invoke/MethodHandle" ∧ y.cls ≠ "java/lang/invoke/VarHandle" ∧ (parseMethodDescriptor y.desc).map (fun d => d.parameters.length) = some n) (hR : rm'.frames + 1 ≤ rm.frames ∧ 8 + (nL' + 11) + rm'.locals ≤ rm.locals) (hf : cells + rm'.cells ≤ rm.cells ∧ slots + rm'.slots ≤ rm.slots)
    (hI : ∀ H, I H → I' H) (hn : As.length = n) (hst : st = As.reverse ++ rest) (hW : (rest.map fun v => v.category).sum ≤ 8) (d : decode cc pc = .ok (.invokestatic index, 3))
    (k : ∀ v, G E (fun H1 => Post v H1 ∧ Aft A' I H1) (cells + rm'.cells) (slots + rm'.slots) (pc + 3) lv (v.toList ++ rest)) : G E I cells slots pc lv st := by
  refine g_run (a := As.toArray) C hA (fun H locs ls hH hS hl => ?_) k
  exact va_runS (As := As) (rest := rest) ⟨C.x, C.b, C.ml, C.ow, C.ts⟩ ct (va_cwS n C.ts hw rfl rfl rfl hd (by rw [C.R]; exact hR)) ⟨ct_blind hρ' _ _, fun U hU hW => ⟨rfl, by rw [hU]; exact hI H hH, va_K.moved hW.alike C.K, hr0 U hW (by rw [hU]; exact hS.1) (fun q h1 h2 => by rw [hU]; exact hS.2.1 q h1 (by rw [C.hA]; exact h2))⟩⟩ rfl hn (by show ls.size = nL; rw [hl.1, C.n]) hst (lv_room hW) d (by rw [C.R]; exact hf)
theorem g_callS (C : Cx E Γ A ρ cc nL own rm) (ct : Ct (eL E) Γ A ρ y cc' nL' ret rm' As I' Post) (hw : GoodIn lw_all (va_wsS own index y (ws_ y cc' nL' ret)))
    (hd : y.cls ≠ "java/lang/invoke/MethodHandle" ∧ y.cls ≠ "java/lang/invoke/VarHandle" ∧ (parseMethodDescriptor y.desc).map (fun d => d.parameters.length) = some n) (hR : rm'.frames + 1 ≤ rm.frames ∧ 8 + (nL' + 11) + rm'.locals ≤ rm.locals) (hf : cells + rm'.cells ≤ rm.cells ∧ slots + rm'.slots ≤ rm.slots)
    (hI : ∀ H, I H → I' H) (hn : As.length = n) (hst : st = As.reverse ++ rest) (hW : (rest.map fun v => v.category).sum ≤ 8) (d : decode cc pc = .ok (.invokestatic index, 3))
    (k : ∀ v, G E (Post v) (cells + rm'.cells) (slots + rm'.slots) (pc + 3) lv (v.toList ++ rest)) : G E I cells slots pc lv st :=
  g_callSA C C.cl (fun _ h => h) C.rU ct hw hd hR hf hI hn hst hW d (fun v => g_I (fun H h => h.1) (k v))
end Calls
