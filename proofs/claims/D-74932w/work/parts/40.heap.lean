/-! THE TAGGED HEAP: what the component's cells hold, by address, each with a tag (role, owner) that keeps kinds apart -/
abbrev Tg : Type := Nat × Nat
abbrev Hp : Type := Nat → Option (Tg × va_E)
def hset (h : Hp) (q : Nat) (t : Tg) (e : va_E) : Hp := fun x => if x = q then some (t, e) else h x
theorem hset_self (h : Hp) (q : Nat) (t : Tg) (e : va_E) : hset h q t e q = some (t, e) := if_pos rfl
theorem hset_ne {h : Hp} {q x : Nat} {t : Tg} {e : va_E} (n : x ≠ q) : hset h q t e x = h x := if_neg n
theorem hset_hset (h : Hp) (q : Nat) (t t' : Tg) (e e' : va_E) : hset (hset h q t e) q t' e' = hset h q t' e' := by
  funext x
  unfold hset
  split <;> rfl
theorem hset_comm (h : Hp) {q p : Nat} (n : p ≠ q) (t t' : Tg) (e e' : va_E) : hset (hset h q t e) p t' e' = hset (hset h p t' e') q t e := by
  funext x
  unfold hset
  by_cases a : x = p <;> by_cases b : x = q
  · exact absurd (a.symm.trans b) n
  · rw [if_pos a, if_neg b, if_pos a]
  · rw [if_neg a, if_pos b, if_pos b]
  · rw [if_neg a, if_neg b, if_neg b, if_neg a]
theorem hset_id {h : Hp} {q : Nat} {t : Tg} {e : va_E} (a : h q = some (t, e)) : hset h q t e = h := by
  funext x
  unfold hset
  split
  · rename_i b; rw [b, a]
  · rfl
/-- an old cell stays where another is set -/
theorem hset_old {h : Hp} {q x : Nat} {t t' : Tg} {e e' : va_E} (n : h q = none) (a : h x = some (t', e')) : hset h q t e x = some (t', e') := by
  rw [hset_ne (fun z => by rw [z, n] at a; cases a), a]
/-- .. or where one of another tag is set -/
theorem hset_tag {h : Hp} {q x : Nat} {t t' s : Tg} {e e' u : va_E} (b : h q = some (s, u)) (n : t' ≠ s) (a : h x = some (t', e')) : hset h q t e x = some (t', e') := by
  rw [hset_ne (fun z => by rw [z, b] at a; cases a; exact n rfl), a]
def HP (Γ : Gm) (A : Nat → Prop) (h : Hp) (H : Heap) : Prop := ∃ ws : va_W, va_P Γ.1 clA ws H ∧ va_D A ws ∧ ∀ (q : Nat) (t : Tg) (e : va_E), h q = some (t, e) → ∃ k : Nat, ws[k]? = some (q, e)
theorem HP.of {Γ : Gm} {A : Nat → Prop} {h h' : Hp} {H : Heap} (a : HP Γ A h H) (b : ∀ (q : Nat) (t : Tg) (e : va_E), h' q = some (t, e) → ∃ t' : Tg, h q = some (t', e)) : HP Γ A h' H := by
  obtain ⟨ws, h1, h2, h3⟩ := a
  exact ⟨ws, h1, h2, fun q t e c => by obtain ⟨t', d⟩ := b q t e c; exact h3 q t' e d⟩
theorem HP.set {Γ : Gm} {A : Nat → Prop} {h : Hp} {H1 : Heap} {ws : va_W} {k q : Nat} {e0 e : va_E} (t : Tg) (hk : ws[k]? = some (q, e0)) (hP : va_P Γ.1 clA (ws.set k (q, e)) H1) (hD : va_D A (ws.set k (q, e))) (hc : ∀ (q : Nat) (t : Tg) (e : va_E), h q = some (t, e) → ∃ k : Nat, ws[k]? = some (q, e)) : HP Γ A (hset h q t e) H1 := by
  refine ⟨_, hP, hD, fun x t0 e1 hx => ?_⟩
  by_cases c : x = q
  · subst c
    rw [hset_self] at hx
    cases hx
    exact ⟨k, by rw [List.getElem?_set_self (List.getElem?_eq_some_iff.mp hk).1]⟩
  · rw [hset_ne c] at hx
    obtain ⟨k', h'⟩ := hc x t0 e1 hx
    refine ⟨k', ?_⟩
    have hn : k ≠ k' := fun z => by
      subst z
      rw [hk] at h'
      cases h'
      exact c rfl
    rw [List.getElem?_set_ne hn, h']
theorem HP.push {Γ : Gm} {A : Nat → Prop} {h : Hp} {H1 : Heap} {ws : va_W} {q : Nat} {e : va_E} (t : Tg) (hP : va_P Γ.1 clA (ws ++ [(q, e)]) H1) (hD : va_D A (ws ++ [(q, e)])) (hc : ∀ (q : Nat) (t : Tg) (e : va_E), h q = some (t, e) → ∃ k : Nat, ws[k]? = some (q, e)) : h q = none ∧ HP Γ A (hset h q t e) H1 := by
  have last : (ws ++ [(q, e)])[ws.length]? = some (q, e) := by rw [List.getElem?_append_right (Nat.le_refl _), Nat.sub_self]; rfl
  have old : ∀ {k : Nat} {x : Nat × va_E}, ws[k]? = some x → (ws ++ [(q, e)])[k]? = some x := fun {k x} hk => by rw [List.getElem?_append_left (List.getElem?_eq_some_iff.mp hk).1, hk]
  refine ⟨?_, _, hP, hD, fun x t0 e1 hx => ?_⟩
  · cases hq : h q with
    | none => rfl
    | some x =>
      exfalso
      obtain ⟨t0, e0⟩ := x
      obtain ⟨k, hk⟩ := hc q t0 e0 hq
      have := hD.1 _ _ _ _ (old hk) last rfl
      have := (List.getElem?_eq_some_iff.mp hk).1
      omega
  · by_cases c : x = q
    · subst c
      rw [hset_self] at hx
      cases hx
      exact ⟨_, last⟩
    · rw [hset_ne c] at hx
      obtain ⟨k', h'⟩ := hc x t0 e1 hx
      exact ⟨k', old h'⟩
/-- only cells whose tags are in T have changed -/
def Kp (T : Tg → Prop) (h h' : Hp) : Prop := ∀ (q : Nat) (t : Tg) (e : va_E), h q = some (t, e) → ¬ T t → h' q = some (t, e)
def T0 : Tg → Prop := fun _ => False
theorem Kp.rf {T : Tg → Prop} {h : Hp} : Kp T h h := fun _ _ _ a _ => a
theorem Kp.tr {T : Tg → Prop} {h h' h'' : Hp} (a : Kp T h h') (b : Kp T h' h'') : Kp T h h'' := fun q t e c d => b q t e (a q t e c d) d
theorem Kp.up {T T' : Tg → Prop} {h h' : Hp} (a : Kp T h h') (b : ∀ t, T t → T' t) : Kp T' h h' := fun q t e c d => a q t e c (fun z => d (b t z))
theorem Kp.up0 {T : Tg → Prop} {h h' : Hp} (a : Kp T0 h h') : Kp T h h' := fun q t e c _ => a q t e c (fun z => z)
theorem Kp.new {T : Tg → Prop} {h : Hp} {q : Nat} {t : Tg} {e : va_E} (n : h q = none) : Kp T h (hset h q t e) := fun _ _ _ c _ => hset_old n c
theorem Kp.put {T : Tg → Prop} {h : Hp} {q : Nat} {t s : Tg} {e u : va_E} (b : h q = some (s, u)) (c : T s) : Kp T h (hset h q t e) := fun x t' e' a d => by
  rw [hset_ne (fun z => by rw [z, b] at a; cases a; exact d c), a]
theorem Kp.get {h h' : Hp} {T : Tg → Prop} (a : Kp T h h') {q : Nat} {t : Tg} {e : va_E} (b : h q = some (t, e)) (c : ¬ T t) : h' q = some (t, e) := a q t e b c
theorem Kp.get0 {h h' : Hp} (a : Kp T0 h h') {q : Nat} {t : Tg} {e : va_E} (b : h q = some (t, e)) : h' q = some (t, e) := a q t e b (fun z => z)
theorem Kp.fresh {h h' : Hp} (a : Kp T0 h h') {q : Nat} (b : h' q = none) : h q = none := by
  cases c : h q with
  | none => rfl
  | some x => rw [a.get0 (t := x.1) (e := x.2) c] at b; cases b
/-- arrays -/
abbrev aI (Γ : Gm) (n : Nat) (f : Nat → Int32) : va_E := .inl (Γ.2.1 0, n, .inl f)
abbrev aB (Γ : Gm) (n : Nat) (f : Nat → Int32) : va_E := .inl (Γ.2.1 1, n, .inl f)
abbrev aZ (Γ : Gm) (n : Nat) (f : Nat → Int32) : va_E := .inl (Γ.2.1 2, n, .inl f)
abbrev aL (Γ : Gm) (n : Nat) (f : Nat → Int64) : va_E := .inl (Γ.2.1 3, n, .inr (.inl f))
abbrev aR (Γ : Gm) (j n : Nat) (f : Nat → Option Nat) : va_E := .inl (Γ.2.1 j, n, .inr (.inr (.inr (.inr f))))
/-- words of the tables that stay when the machine warms up -/
def wkW (w : Cond) : Bool := match w with
  | .fieldLinkNest .. => true
  | .methodLinkNest .. => true
  | .castable .. => true
  | .declares .. => true
  | _ => false
theorem wkW_warm {w : Cond} (hw : wkW w = true) {s U : State} (hW : s.WarmedH U.vm) (h : va_Nw w s) : va_Nw w U := by
  unfold wkW at hw
  split at hw
  · exact va_Nw.warmF hW h
  · exact va_Nw.warmM hW h
  · exact va_Nw.warmC hW h
  · exact va_Nw.warmD hW h
  · cases hw
theorem wkW_on {w : Cond} (hw : wkW w = true) : w.onTables = true := by
  unfold wkW at hw
  split at hw
  · rfl
  · rfl
  · rfl
  · rfl
  · cases hw
/-- the nest words and their like -/
def RN (U : State) : Prop := ∀ w ∈ lw_tbl, wkW w = true → va_Nw w U
/-- new cells are free to be written -/
def Al (A : Nat → Prop) (U : State) : Prop := ∀ q, U.heap.size ≤ q → A q
/-- what the component's methods ask of what rides along -/
def SC (Γ : Gm) (A : Nat → Prop) (U : State) : Prop := Al A U ∧ RN U ∧ va_AO "java/lang/Object" U ∧ va_AO "ScaleInspection$Entry" U ∧ va_AO "ScaleInspection$Solver" U ∧ va_Mi "[Ljava/lang/Object;" (Γ.2.2 0) U ∧ va_Fw "java/util/ArrayList" ⟨"java/util/Collection", "toArray", "()[Ljava/lang/Object;"⟩ ⟨"java/util/ArrayList", "toArray", "()[Ljava/lang/Object;"⟩ U
theorem SC.al {Γ : Gm} {A : Nat → Prop} {U : State} (h : SC Γ A U) : Al A U := h.1
theorem SC.n {Γ : Gm} {A : Nat → Prop} {U : State} (h : SC Γ A U) {w : Cond} (a : w ∈ lw_tbl) (b : wkW w = true) : va_Nw w U := h.2.1 w a b
def Bc (l : Launch) (Γ : Gm) (A : Nat → Prop) (ρ : State → Prop) : Prop := Bs l A ρ ∧ ∀ U, ρ U → SC Γ A U
/-- a contract over the tagged heap -/
def CtE (l : Launch) (Γ : Gm) (A : Nat → Prop) (ρ : State → Prop) (y : MethodName) (cc : ByteArray) (nL : Nat) (ret : Option FieldType) (rm : Room) (av : List Value) (h : Hp) (Rl : Option Value → Hp → Prop) : Prop := Ct l Γ A ρ y cc nL ret rm av (HP Γ A h) (fun v H => ∃ h', Rl v h' ∧ HP Γ A h' H)
def CtF (l : Launch) (Γ : Gm) (A : Nat → Prop) (ρ : State → Prop) (y : MethodName) (cc : ByteArray) (nL : Nat) (ret : Option FieldType) (rm : Room) (av : List Value) (h : Hp) (r : Option Value) (h' : Hp) : Prop := Ct l Γ A ρ y cc nL ret rm av (HP Γ A h) (fun v H => v = r ∧ HP Γ A h' H)
/-- a constructor's contract begins so -/
theorem Ct.ofI {l : Launch} {Γ : Gm} {A : Nat → Prop} {ρ : State → Prop} {y : MethodName} {cc : ByteArray} {nL : Nat} {ret : Option FieldType} {rm : Room} {av : List Value} {I : Heap → Prop} {Post : Option Value → Heap → Prop} (hl : l.stackTraces = false) (hρ : Cl A ρ) (hy : plainName y.cls = true) (lv : List (Option Value)) (hn : (lg_sl av).length ≤ nL) (hlv : lvE av ++ List.replicate (nL - (lg_sl av).length) none = lv)
    (body : ∀ E : Cf, eL E = l → Cx E Γ A ρ cc nL y.cls rm → Rt E ret rm.cells rm.slots Post → (eH E).name = y.name → G E I 0 0 0 lv []) : Ct l Γ A ρ y cc nL ret rm av I Post := by
  refine Met.ofW (cc := cc) (maxL := nL) (ret := ret) hy rfl ?_
  intro p e s m args below meth c s₁ B hml hv
  obtain ⟨rfl, hI, hK, hr⟩ := hv
  have hts := atoms_spec (ws := ws_ y cc nL ret) B.pre
  have hts : ∀ w ∈ lw_all, w.before _ s = true := fun w h => hts w (List.mem_cons_of_mem _ h)
  have hown : s.vm.findClass y.cls = some m.cls := findClass_of_methodNamed B.named
  have hnm : meth.name = y.name := (name_of_methodNamed B.named B.method).1
  have hl0 := lv_entry av hn
  rw [lg_entry_eq]
  generalize (lg_sl av ++ List.replicate (nL - (lg_sl av).length) Slot.unset).toArray = ls at hl0 ⊢
  have hlh : lh ls nL lv := by
    refine ⟨hl0.1, hl0.2.1, fun i v hi => ?_⟩
    rw [← hlv] at hi
    have h1 := lvE_get av 0 i v (lvR_get _ _ _ _ hi)
    rw [Nat.zero_add] at h1
    exact hl0.2.2 _ h1
  exact body ((p, l, e, (headSpec (ws_ y cc nL ret) rm).room), (s, m, av.toArray, below, meth, c), A, nL, MQ below (Qo Post A) av.toArray s rm.cells rm.slots A) rfl ⟨B.exec, B.bytes, hml, rfl, hown, hts, rfl, rfl, hK, hr, hρ, hl⟩ ⟨B.returns, B.notSynchronized, rfl⟩ hnm s.heap [] ls hI va_S.rf hlh
section HR
variable {E : Cf} {Γ : Gm} {A : Nat → Prop} {ρ : State → Prop} {cc : ByteArray} {nL : Nat} {own : String} {rm : Room} {cells slots pc : Nat} {lv : List (Option Value)} {st rest : List Value} {h : Hp} {t : Tg} {q : Nat} {I : Heap → Prop}
variable {CN : String} {T : u_T} {N index : Nat} {fs : List Value} {v : Value}
theorem HP.recv {b ci : Nat} {r : vw_C} (C : Cx E Γ A ρ cc nL own rm) (e : h b = some (t, .inr (ci, fs))) (hc : clA[ci]? = some r) : ∀ H, HP Γ A h H → ∃ cell : Cell, H[b]? = some cell ∧ cell.vm.isStatics = false ∧ (eS E).vm.findClass r.1 = some cell.cls := fun H a => by
  obtain ⟨ws, h1, h2, h3⟩ := a
  obtain ⟨k, hk⟩ := h3 b t _ e
  exact va_recv C.K h1 hc hk
theorem g_heq {h' : Hp} (e : h = h') (k : G E (HP Γ A h') cells slots pc lv st) : G E (HP Γ A h) cells slots pc lv st := e ▸ k
theorem c_get (ci k : Nat) (hc : clA[ci]? = some (CN, T, N)) (hin : ∀ w ∈ u_ws CN T N, w ∈ lw_all) (hk : k < N) {ref : String} (hs : ∀ x, (eS E).fieldFound? (T k).1 (T k).2.1 (T k).2.2.1 = some x → (eS E).fieldFound? ref (T k).2.1 (T k).2.2.1 = some x) (hq : Cond.fieldLink own index ref (T k).2.1 (T k).2.2.1 ∈ lw_all) (e : h q = some (t, .inr (ci, fs))) (hv : fs[k]? = some v) (C : Cx E Γ A ρ cc nL own rm) (d : decode cc pc = .ok (.getfield index, 3)) (kk : G E (HP Γ A h) cells slots (pc + 3) lv (v :: st)) : G E (HP Γ A h) cells slots pc lv (.ref q :: st) := by
  intro H locs ls hI hS hl
  obtain ⟨ws, h1, h2, h3⟩ := id hI
  obtain ⟨k0, hk0⟩ := h3 q t _ e
  exact va_get (D := Γ.1) (ci := ci) (C := CN) (T := T) (N := N) C.x C.b C.ts hin C.ow C.K h1 k0 hk0 hc k hk (C.ts _ hq) hs hv d (kk H locs ls hI hS hl)
theorem c_getN (ci k : Nat) (hc : clA[ci]? = some (CN, T, N)) (hin : ∀ w ∈ u_ws CN T N, w ∈ lw_all) (hk : k < N) {ref host : String} (hs : ∀ x, (eS E).fieldFound? (T k).1 (T k).2.1 (T k).2.2.1 = some x → (eS E).fieldFound? ref (T k).2.1 (T k).2.2.1 = some x) (hq : Cond.fieldLinkNest own index ref (T k).2.1 (T k).2.2.1 host ∈ lw_tbl) (S : SC Γ A (eS E)) (e : h q = some (t, .inr (ci, fs))) (hv : fs[k]? = some v) (C : Cx E Γ A ρ cc nL own rm) (d : decode cc pc = .ok (.getfield index, 3)) (kk : G E (HP Γ A h) cells slots (pc + 3) lv (v :: st)) : G E (HP Γ A h) cells slots pc lv (.ref q :: st) := by
  intro H locs ls hI hS hl
  obtain ⟨ws, h1, h2, h3⟩ := id hI
  obtain ⟨k0, hk0⟩ := h3 q t _ e
  exact va_getN (D := Γ.1) (ci := ci) (C := CN) (T := T) (N := N) C.x C.b C.ts hin C.ow C.K h1 k0 hk0 hc k hk (va_Nw.use rfl (S.n hq rfl)) hs hv d (kk H locs ls hI hS hl)
theorem c_put (ci k : Nat) (hc : clA[ci]? = some (CN, T, N)) (hin : ∀ w ∈ u_ws CN T N, w ∈ lw_all) (ty0 : Nat → FieldType) (hty : ∀ k, k < N → parseFieldDescriptor (T k).2.2.1 = some (ty0 k)) (hnm : ∀ a, a < N → ∀ b, b < N → a ≠ b → (T a).2.1 ≠ (T b).2.1) (hk : k < N) {ref : String} (hs : ∀ x, (eS E).fieldFound? (T k).1 (T k).2.1 (T k).2.2.1 = some x → (eS E).fieldFound? ref (T k).2.1 (T k).2.2.1 = some x) (hq : Cond.fieldLink own index ref (T k).2.1 (T k).2.2.1 ∈ lw_all) (hfin : (T k).2.2.2 = false) {ty : FieldType} (hd : parseFieldDescriptor (T k).2.2.1 = some ty) (hn : narrow ty v = v) (hfit : fits ty v = true) (hlt : k < fs.length) (e : h q = some (t, .inr (ci, fs))) (C : Cx E Γ A ρ cc nL own rm) (d : decode cc pc = .ok (.putfield index, 3)) (kk : G E (HP Γ A (hset h q t (.inr (ci, fs.set k v)))) cells slots (pc + 3) lv st) : G E (HP Γ A h) cells slots pc lv (v :: .ref q :: st) := by
  intro H locs ls hI hS hl
  obtain ⟨ws, h1, h2, h3⟩ := hI
  obtain ⟨k0, hk0⟩ := h3 q t _ e
  exact va_put (D := Γ.1) (ci := ci) (C := CN) (T := T) (N := N) C.x C.b C.ts hin ty0 hty hnm C.ow C.K h1 (C.hA.symm ▸ h2) hS k0 hk0 hc k hk (C.ts _ hq) hs hfin hd hn hfit hlt d (fun H1 locs1 hP hD hS1 => kk H1 locs1 ls (HP.set t hk0 hP (C.hA ▸ hD) h3) hS1 hl)
theorem c_putN (ci k : Nat) (hc : clA[ci]? = some (CN, T, N)) (hin : ∀ w ∈ u_ws CN T N, w ∈ lw_all) (ty0 : Nat → FieldType) (hty : ∀ k, k < N → parseFieldDescriptor (T k).2.2.1 = some (ty0 k)) (hnm : ∀ a, a < N → ∀ b, b < N → a ≠ b → (T a).2.1 ≠ (T b).2.1) (hk : k < N) {ref host : String} (hs : ∀ x, (eS E).fieldFound? (T k).1 (T k).2.1 (T k).2.2.1 = some x → (eS E).fieldFound? ref (T k).2.1 (T k).2.2.1 = some x) (hq : Cond.fieldLinkNest own index ref (T k).2.1 (T k).2.2.1 host ∈ lw_tbl) (S : SC Γ A (eS E)) (hfin : (T k).2.2.2 = false) {ty : FieldType} (hd : parseFieldDescriptor (T k).2.2.1 = some ty) (hn : narrow ty v = v) (hfit : fits ty v = true) (hlt : k < fs.length) (e : h q = some (t, .inr (ci, fs))) (C : Cx E Γ A ρ cc nL own rm) (d : decode cc pc = .ok (.putfield index, 3)) (kk : G E (HP Γ A (hset h q t (.inr (ci, fs.set k v)))) cells slots (pc + 3) lv st) : G E (HP Γ A h) cells slots pc lv (v :: .ref q :: st) := by
  intro H locs ls hI hS hl
  obtain ⟨ws, h1, h2, h3⟩ := hI
  obtain ⟨k0, hk0⟩ := h3 q t _ e
  exact va_putN (D := Γ.1) (ci := ci) (C := CN) (T := T) (N := N) C.x C.b C.ts hin ty0 hty hnm C.ow C.K h1 (C.hA.symm ▸ h2) hS k0 hk0 hc k hk (va_Nw.use rfl (S.n hq rfl)) hs hfin hd hn hfit hlt d (fun H1 locs1 hP hD hS1 => kk H1 locs1 ls (HP.set t hk0 hP (C.hA ▸ hD) h3) hS1 hl)
theorem c_putF (ci k : Nat) (hc : clA[ci]? = some (CN, T, N)) (hin : ∀ w ∈ u_ws CN T N, w ∈ lw_all) (ty0 : Nat → FieldType) (hty : ∀ k, k < N → parseFieldDescriptor (T k).2.2.1 = some (ty0 k)) (hnm : ∀ a, a < N → ∀ b, b < N → a ≠ b → (T a).2.1 ≠ (T b).2.1) (hk : k < N) {ref : String} (hs : ∀ x, (eS E).fieldFound? (T k).1 (T k).2.1 (T k).2.2.1 = some x → (eS E).fieldFound? ref (T k).2.1 (T k).2.2.1 = some x) (hq : Cond.fieldLink own index ref (T k).2.1 (T k).2.2.1 ∈ lw_all) (hfin : (T k).2.2.2 = true) (hi : (eH E).name = "<init>") (hdc : (T k).1 = own) {ty : FieldType} (hd : parseFieldDescriptor (T k).2.2.1 = some ty) (hn : narrow ty v = v) (hfit : fits ty v = true) (hlt : k < fs.length) (e : h q = some (t, .inr (ci, fs))) (C : Cx E Γ A ρ cc nL own rm) (d : decode cc pc = .ok (.putfield index, 3)) (kk : G E (HP Γ A (hset h q t (.inr (ci, fs.set k v)))) cells slots (pc + 3) lv st) : G E (HP Γ A h) cells slots pc lv (v :: .ref q :: st) := by
  intro H locs ls hI hS hl
  obtain ⟨ws, h1, h2, h3⟩ := hI
  obtain ⟨k0, hk0⟩ := h3 q t _ e
  exact va_putF (D := Γ.1) (ci := ci) (C := CN) (T := T) (N := N) C.x C.b C.ts hin ty0 hty hnm C.ow C.K h1 (C.hA.symm ▸ h2) hS k0 hk0 hc k hk (C.ts _ hq) hs hfin hi hdc hd hn hfit hlt d (fun H1 locs1 hP hD hS1 => kk H1 locs1 ls (HP.set t hk0 hP (C.hA ▸ hD) h3) hS1 hl)
theorem c_iald {n i : Nat} {f : Nat → Int32} (e : h q = some (t, aI Γ n f)) (hi : i < n) (hn : n < 2 ^ 31) (C : Cx E Γ A ρ cc nL own rm) (d : decode cc pc = .ok (.iaload, 1)) (kk : G E (HP Γ A h) cells slots (pc + 1) lv (.int (f i) :: st)) : G E (HP Γ A h) cells slots pc lv (.int (nI i) :: .ref q :: st) := by
  intro H locs ls hI hS hl
  obtain ⟨ws, h1, h2, h3⟩ := id hI
  obtain ⟨k0, hk0⟩ := h3 q t _ e
  refine va_iald (D := Γ.1) C.x C.b C.K h1 k0 0 hk0 rfl (vp_in_nI hi hn) d ?_
  rw [nI_clamp (by omega)]
  exact kk H locs ls hI hS hl
theorem c_bald {n i : Nat} {f : Nat → Int32} (e : h q = some (t, aB Γ n f)) (hi : i < n) (hn : n < 2 ^ 31) (C : Cx E Γ A ρ cc nL own rm) (d : decode cc pc = .ok (.baload, 1)) (kk : G E (HP Γ A h) cells slots (pc + 1) lv (.int (f i) :: st)) : G E (HP Γ A h) cells slots pc lv (.int (nI i) :: .ref q :: st) := by
  intro H locs ls hI hS hl
  obtain ⟨ws, h1, h2, h3⟩ := id hI
  obtain ⟨k0, hk0⟩ := h3 q t _ e
  refine va_bald (D := Γ.1) C.x C.b C.K h1 k0 1 hk0 rfl (vp_in_nI hi hn) d ?_
  rw [nI_clamp (by omega)]
  exact kk H locs ls hI hS hl
theorem c_zald {n i : Nat} {f : Nat → Int32} (e : h q = some (t, aZ Γ n f)) (hi : i < n) (hn : n < 2 ^ 31) (C : Cx E Γ A ρ cc nL own rm) (d : decode cc pc = .ok (.baload, 1)) (kk : G E (HP Γ A h) cells slots (pc + 1) lv (.int (f i) :: st)) : G E (HP Γ A h) cells slots pc lv (.int (nI i) :: .ref q :: st) := by
  intro H locs ls hI hS hl
  obtain ⟨ws, h1, h2, h3⟩ := id hI
  obtain ⟨k0, hk0⟩ := h3 q t _ e
  refine va_zald (D := Γ.1) C.x C.b C.K h1 k0 2 hk0 rfl (vp_in_nI hi hn) d ?_
  rw [nI_clamp (by omega)]
  exact kk H locs ls hI hS hl
theorem c_iast {n i : Nat} {f : Nat → Int32} {v0 : Int32} (e : h q = some (t, aI Γ n f)) (hi : i < n) (hn : n < 2 ^ 31) (C : Cx E Γ A ρ cc nL own rm) (d : decode cc pc = .ok (.iastore, 1)) (kk : G E (HP Γ A (hset h q t (aI Γ n (upd f i (v0))))) cells slots (pc + 1) lv st) : G E (HP Γ A h) cells slots pc lv (.int v0 :: .int (nI i) :: .ref q :: st) := by
  intro H locs ls hI hS hl
  obtain ⟨ws, h1, h2, h3⟩ := hI
  obtain ⟨k0, hk0⟩ := h3 q t _ e
  refine va_iast (D := Γ.1) C.x C.b C.K h1 (C.hA.symm ▸ h2) hS k0 0 hk0 rfl (vp_in_nI hi hn) d (fun H1 locs1 hP hD hS1 => ?_)
  rw [nI_clamp (by omega)] at hP hD
  exact kk H1 locs1 ls (HP.set t hk0 hP (C.hA ▸ hD) h3) hS1 hl
theorem c_bast {n i : Nat} {f : Nat → Int32} {v0 : Int32} (e : h q = some (t, aB Γ n f)) (hi : i < n) (hn : n < 2 ^ 31) (C : Cx E Γ A ρ cc nL own rm) (d : decode cc pc = .ok (.bastore, 1)) (kk : G E (HP Γ A (hset h q t (aB Γ n (upd f i (v0.toInt8.toInt32))))) cells slots (pc + 1) lv st) : G E (HP Γ A h) cells slots pc lv (.int v0 :: .int (nI i) :: .ref q :: st) := by
  intro H locs ls hI hS hl
  obtain ⟨ws, h1, h2, h3⟩ := hI
  obtain ⟨k0, hk0⟩ := h3 q t _ e
  refine va_bast (D := Γ.1) C.x C.b C.K h1 (C.hA.symm ▸ h2) hS k0 1 hk0 rfl (vp_in_nI hi hn) d (fun H1 locs1 hP hD hS1 => ?_)
  rw [nI_clamp (by omega), vp_nar_byte] at hP hD
  exact kk H1 locs1 ls (HP.set t hk0 hP (C.hA ▸ hD) h3) hS1 hl
theorem c_zast {n i : Nat} {f : Nat → Int32} {v0 : Int32} (e : h q = some (t, aZ Γ n f)) (hi : i < n) (hn : n < 2 ^ 31) (hv : vp_nar .boolean v0 = v0) (C : Cx E Γ A ρ cc nL own rm) (d : decode cc pc = .ok (.bastore, 1)) (kk : G E (HP Γ A (hset h q t (aZ Γ n (upd f i (v0))))) cells slots (pc + 1) lv st) : G E (HP Γ A h) cells slots pc lv (.int v0 :: .int (nI i) :: .ref q :: st) := by
  intro H locs ls hI hS hl
  obtain ⟨ws, h1, h2, h3⟩ := hI
  obtain ⟨k0, hk0⟩ := h3 q t _ e
  refine va_zast (D := Γ.1) C.x C.b C.K h1 (C.hA.symm ▸ h2) hS k0 2 hk0 rfl (vp_in_nI hi hn) d (fun H1 locs1 hP hD hS1 => ?_)
  rw [nI_clamp (by omega), hv] at hP hD
  exact kk H1 locs1 ls (HP.set t hk0 hP (C.hA ▸ hD) h3) hS1 hl
theorem c_last {n i : Nat} {f : Nat → Int64} {v0 : Int64} (e : h q = some (t, aL Γ n f)) (hi : i < n) (hn : n < 2 ^ 31) (C : Cx E Γ A ρ cc nL own rm) (d : decode cc pc = .ok (.lastore, 1)) (kk : G E (HP Γ A (hset h q t (aL Γ n (va_up f i v0)))) cells slots (pc + 1) lv st) : G E (HP Γ A h) cells slots pc lv (.long v0 :: .int (nI i) :: .ref q :: st) := by
  intro H locs ls hI hS hl
  obtain ⟨ws, h1, h2, h3⟩ := hI
  obtain ⟨k0, hk0⟩ := h3 q t _ e
  refine va_last (D := Γ.1) C.x C.b C.K h1 (C.hA.symm ▸ h2) hS k0 3 hk0 rfl (vp_in_nI hi hn) d (fun H1 locs1 hP hD hS1 => ?_)
  rw [nI_clamp (by omega)] at hP hD
  exact kk H1 locs1 ls (HP.set t hk0 hP (C.hA ▸ hD) h3) hS1 hl
theorem c_lald {n i : Nat} {f : Nat → Int64} (e : h q = some (t, aL Γ n f)) (hi : i < n) (hn : n < 2 ^ 31) (C : Cx E Γ A ρ cc nL own rm) (d : decode cc pc = .ok (.laload, 1)) (kk : G E (HP Γ A h) cells slots (pc + 1) lv (.long (f i) :: st)) : G E (HP Γ A h) cells slots pc lv (.int (nI i) :: .ref q :: st) := by
  intro H locs ls hI hS hl
  obtain ⟨ws, h1, h2, h3⟩ := id hI
  obtain ⟨k0, hk0⟩ := h3 q t _ e
  refine va_lald (D := Γ.1) C.x C.b C.K h1 k0 3 hk0 rfl (vp_in_nI hi hn) d ?_
  rw [nI_clamp (by omega)]
  exact kk H locs ls hI hS hl
theorem c_alen (j : Nat) {ty : FieldType} (hj : (tyA Γ)[j]? = some (Γ.2.1 j, ty)) {x : vp_A} (e : h q = some (t, .inl (Γ.2.1 j, x))) (C : Cx E Γ A ρ cc nL own rm) (d : decode cc pc = .ok (.arraylength, 1)) (kk : G E (HP Γ A h) cells slots (pc + 1) lv (.int (nI x.1) :: st)) : G E (HP Γ A h) cells slots pc lv (.ref q :: st) := by
  intro H locs ls hI hS hl
  obtain ⟨ws, h1, h2, h3⟩ := id hI
  obtain ⟨k0, hk0⟩ := h3 q t _ e
  exact va_alen (D := Γ.1) C.x C.b C.K h1 k0 j hk0 hj rfl d (kk H locs ls hI hS hl)
theorem c_aald (j : Nat) {D : String} (hj : (tyA Γ)[j]? = some (Γ.2.1 j, .object D)) {n i : Nat} {f : Nat → Option Nat} {v : Value} (hv : va_rf (f i) = v) (e : h q = some (t, aR Γ j n f)) (hi : i < n) (hn : n < 2 ^ 31) (C : Cx E Γ A ρ cc nL own rm) (d : decode cc pc = .ok (.aaload, 1)) (kk : G E (HP Γ A h) cells slots (pc + 1) lv (v :: st)) : G E (HP Γ A h) cells slots pc lv (.int (nI i) :: .ref q :: st) := by
  subst hv
  intro H locs ls hI hS hl
  obtain ⟨ws, h1, h2, h3⟩ := id hI
  obtain ⟨k0, hk0⟩ := h3 q t _ e
  refine va_aldq (D := Γ.1) C.x C.b C.K h1 k0 j hk0 hj (vp_in_nI hi hn) d ?_
  rw [nI_clamp (by omega)]
  exact kk H locs ls hI hS hl
theorem c_aast (j : Nat) {D : String} (hj : (tyA Γ)[j]? = some (Γ.2.1 j, .object D)) {n i ci b : Nat} {r : vw_C} (hc : clA[ci]? = some r) {f : Nat → Option Nat} {s : Tg} (S : SC Γ A (eS E)) (hca : Cond.castable r.1 D ∈ lw_tbl) (e : h q = some (t, aR Γ j n f)) (eb : h b = some (s, .inr (ci, fs))) (hi : i < n) (hn : n < 2 ^ 31) (C : Cx E Γ A ρ cc nL own rm) (d : decode cc pc = .ok (.aastore, 1)) (kk : G E (HP Γ A (hset h q t (aR Γ j n (va_up f i (some b))))) cells slots (pc + 1) lv st) : G E (HP Γ A h) cells slots pc lv (.ref b :: .int (nI i) :: .ref q :: st) := by
  intro H locs ls hI hS hl
  obtain ⟨ws, h1, h2, h3⟩ := hI
  obtain ⟨k0, hk0⟩ := h3 q t _ e
  obtain ⟨k1, hk1⟩ := h3 b s _ eb
  refine va_astqO (D := Γ.1) C.x C.b C.K h1 (C.hA.symm ▸ h2) hS k0 j k1 ci hk0 hj (S.n hca rfl) hk1 hc (vp_in_nI hi hn) d (fun H1 locs1 hP hD hS1 => ?_)
  rw [nI_clamp (by omega)] at hP hD
  exact kk H1 locs1 ls (HP.set t hk0 hP (C.hA ▸ hD) h3) hS1 hl
/-- .. into an array of the very class -/
theorem c_aastE (j : Nat) {n i ci b : Nat} {r : vw_C} (hc : clA[ci]? = some r) (hj : (tyA Γ)[j]? = some (Γ.2.1 j, .object r.1)) {f : Nat → Option Nat} {s : Tg} (e : h q = some (t, aR Γ j n f)) (eb : h b = some (s, .inr (ci, fs))) (hi : i < n) (hn : n < 2 ^ 31) (C : Cx E Γ A ρ cc nL own rm) (d : decode cc pc = .ok (.aastore, 1)) (kk : G E (HP Γ A (hset h q t (aR Γ j n (va_up f i (some b))))) cells slots (pc + 1) lv st) : G E (HP Γ A h) cells slots pc lv (.ref b :: .int (nI i) :: .ref q :: st) := by
  intro H locs ls hI hS hl
  obtain ⟨ws, h1, h2, h3⟩ := hI
  obtain ⟨k0, hk0⟩ := h3 q t _ e
  obtain ⟨k1, hk1⟩ := h3 b s _ eb
  refine va_astq (D := Γ.1) C.x C.b C.K h1 (C.hA.symm ▸ h2) hS k0 j k1 ci hk0 hj hk1 hc (vp_in_nI hi hn) d (fun H1 locs1 hP hD hS1 => ?_)
  rw [nI_clamp (by omega)] at hP hD
  exact kk H1 locs1 ls (HP.set t hk0 hP (C.hA ▸ hD) h3) hS1 hl
theorem c_aastN (j : Nat) {D : String} (hj : (tyA Γ)[j]? = some (Γ.2.1 j, .object D)) {n i : Nat} {f : Nat → Option Nat} (e : h q = some (t, aR Γ j n f)) (hi : i < n) (hn : n < 2 ^ 31) (C : Cx E Γ A ρ cc nL own rm) (d : decode cc pc = .ok (.aastore, 1)) (kk : G E (HP Γ A (hset h q t (aR Γ j n (va_up f i none)))) cells slots (pc + 1) lv st) : G E (HP Γ A h) cells slots pc lv (.null :: .int (nI i) :: .ref q :: st) := by
  intro H locs ls hI hS hl
  obtain ⟨ws, h1, h2, h3⟩ := hI
  obtain ⟨k0, hk0⟩ := h3 q t _ e
  refine va_astqN (D := Γ.1) C.x C.b C.K h1 (C.hA.symm ▸ h2) hS k0 j hk0 hj (vp_in_nI hi hn) d (fun H1 locs1 hP hD hS1 => ?_)
  rw [nI_clamp (by omega)] at hP hD
  exact kk H1 locs1 ls (HP.set t hk0 hP (C.hA ▸ hD) h3) hS1 hl
theorem c_newaI (t : Tg) {n : Nat} (harr : Cond.arrayClass .int ∈ lw_all) (S : SC Γ A (eS E)) (hn : n < 100000000) (hc : cells + 1 ≤ rm.cells) (hs : slots + n ≤ rm.slots) (C : Cx E Γ A ρ cc nL own rm) (d : decode cc pc = .ok (.newarray .int, 2)) (kk : ∀ q, h q = none → G E (HP Γ A (hset h q t (aI Γ n (fun _ => 0)))) (cells + 1) (slots + n) (pc + 2) lv (.ref q :: st)) : G E (HP Γ A h) cells slots pc lv (.int (nI n) :: st) := by
  intro H locs ls hI hS hl
  obtain ⟨ws, h1, h2, h3⟩ := hI
  refine va_newa (D := Γ.1) (atype := .int) (a0 := (n, .inl (fun _ => 0))) C.x C.b (C.ts _ harr) rfl C.K h1 (C.hA.symm ▸ h2) hS (C.hA.symm ▸ S.al) (fun _ => rfl) (nI_pos (by omega)) (nI_clamp (by omega)) (by show n * 4 ≤ _; omega) (by rw [C.R]; exact hc) (by rw [C.R]; exact hs) d (fun q cA H1 hK hP hD hS1 => ?_)
  have hcA : cA = Γ.2.1 0 := by
    have e1 := (hK.2 (tyA Γ).length (cA, .int) (by rw [List.getElem?_append_right (Nat.le_refl _), Nat.sub_self]; rfl)).2
    have e2 := (C.K.2 0 (Γ.2.1 0, .int) rfl).2
    exact Option.some.inj (e1.symm.trans e2)
  subst hcA
  obtain ⟨a, b⟩ := HP.push t hP (C.hA ▸ hD) h3
  exact kk q a H1 locs ls b hS1 hl
theorem c_newaB (t : Tg) {n : Nat} (harr : Cond.arrayClass .byte ∈ lw_all) (S : SC Γ A (eS E)) (hn : n < 100000000) (hc : cells + 1 ≤ rm.cells) (hs : slots + n ≤ rm.slots) (C : Cx E Γ A ρ cc nL own rm) (d : decode cc pc = .ok (.newarray .byte, 2)) (kk : ∀ q, h q = none → G E (HP Γ A (hset h q t (aB Γ n (fun _ => 0)))) (cells + 1) (slots + n) (pc + 2) lv (.ref q :: st)) : G E (HP Γ A h) cells slots pc lv (.int (nI n) :: st) := by
  intro H locs ls hI hS hl
  obtain ⟨ws, h1, h2, h3⟩ := hI
  refine va_newa (D := Γ.1) (atype := .byte) (a0 := (n, .inl (fun _ => 0))) C.x C.b (C.ts _ harr) rfl C.K h1 (C.hA.symm ▸ h2) hS (C.hA.symm ▸ S.al) (fun _ => rfl) (nI_pos (by omega)) (nI_clamp (by omega)) (by show n * 1 ≤ _; omega) (by rw [C.R]; exact hc) (by rw [C.R]; exact hs) d (fun q cA H1 hK hP hD hS1 => ?_)
  have hcA : cA = Γ.2.1 1 := by
    have e1 := (hK.2 (tyA Γ).length (cA, .byte) (by rw [List.getElem?_append_right (Nat.le_refl _), Nat.sub_self]; rfl)).2
    have e2 := (C.K.2 1 (Γ.2.1 1, .byte) rfl).2
    exact Option.some.inj (e1.symm.trans e2)
  subst hcA
  obtain ⟨a, b⟩ := HP.push t hP (C.hA ▸ hD) h3
  exact kk q a H1 locs ls b hS1 hl
theorem c_newaZ (t : Tg) {n : Nat} (harr : Cond.arrayClass .boolean ∈ lw_all) (S : SC Γ A (eS E)) (hn : n < 100000000) (hc : cells + 1 ≤ rm.cells) (hs : slots + n ≤ rm.slots) (C : Cx E Γ A ρ cc nL own rm) (d : decode cc pc = .ok (.newarray .boolean, 2)) (kk : ∀ q, h q = none → G E (HP Γ A (hset h q t (aZ Γ n (fun _ => 0)))) (cells + 1) (slots + n) (pc + 2) lv (.ref q :: st)) : G E (HP Γ A h) cells slots pc lv (.int (nI n) :: st) := by
  intro H locs ls hI hS hl
  obtain ⟨ws, h1, h2, h3⟩ := hI
  refine va_newa (D := Γ.1) (atype := .boolean) (a0 := (n, .inl (fun _ => 0))) C.x C.b (C.ts _ harr) rfl C.K h1 (C.hA.symm ▸ h2) hS (C.hA.symm ▸ S.al) (fun _ => rfl) (nI_pos (by omega)) (nI_clamp (by omega)) (by show n * 1 ≤ _; omega) (by rw [C.R]; exact hc) (by rw [C.R]; exact hs) d (fun q cA H1 hK hP hD hS1 => ?_)
  have hcA : cA = Γ.2.1 2 := by
    have e1 := (hK.2 (tyA Γ).length (cA, .boolean) (by rw [List.getElem?_append_right (Nat.le_refl _), Nat.sub_self]; rfl)).2
    have e2 := (C.K.2 2 (Γ.2.1 2, .boolean) rfl).2
    exact Option.some.inj (e1.symm.trans e2)
  subst hcA
  obtain ⟨a, b⟩ := HP.push t hP (C.hA ▸ hD) h3
  exact kk q a H1 locs ls b hS1 hl
theorem c_newq (t : Tg) (j : Nat) {D : String} (hj : (tyA Γ)[j]? = some (Γ.2.1 j, .object D)) {n : Nat} (hcl : Cond.classLink own index D ∈ lw_all) (hao : va_AO D (eS E)) (S : SC Γ A (eS E)) (hn : n < 100000000) (hc : cells + 1 ≤ rm.cells) (hs : slots + n ≤ rm.slots) (C : Cx E Γ A ρ cc nL own rm) (d : decode cc pc = .ok (.anewarray index, 3)) (kk : ∀ q, h q = none → G E (HP Γ A (hset h q t (aR Γ j n (fun _ => none)))) (cells + 1) (slots + n) (pc + 3) lv (.ref q :: st)) : G E (HP Γ A h) cells slots pc lv (.int (nI n) :: st) := by
  intro H locs ls hI hS hl
  obtain ⟨ws, h1, h2, h3⟩ := hI
  refine va_newq (D := Γ.1) C.x C.b C.ow (C.ts _ hcl) hao C.K h1 (C.hA.symm ▸ h2) hS (C.hA.symm ▸ S.al) (nI_pos (by omega)) (nI_clamp (by omega)) (by omega) (by rw [C.R]; exact hc) (by rw [C.R]; exact hs) d (fun q cA H1 hK hP hD hS1 => ?_)
  have hcA : cA = Γ.2.1 j := by
    obtain ⟨_, _, _, _, _, e1⟩ := (hK.2 (tyA Γ).length (cA, .object D) (by rw [List.getElem?_append_right (Nat.le_refl _), Nat.sub_self]; rfl)).2
    obtain ⟨_, _, _, _, _, e2⟩ := (C.K.2 j (Γ.2.1 j, .object D) hj).2
    exact Option.some.inj (e1.symm.trans e2)
  subst hcA
  obtain ⟨a, b⟩ := HP.push t hP (C.hA ▸ hD) h3
  exact kk q a H1 locs ls b hS1 hl
theorem c_new (t : Tg) (ci : Nat) (hc : clA[ci]? = some (CN, T, N)) (hin : ∀ w ∈ u_ws CN T N, w ∈ lw_all) (ty : Nat → FieldType) (hty : ∀ k, k < N → parseFieldDescriptor (T k).2.2.1 = some (ty k)) (hcl : Cond.classLink own index CN ∈ lw_all) (hinst : Cond.instantiable CN N ∈ lw_all) (hini : Cond.initialized CN ∈ lw_all) (S : SC Γ A (eS E)) (hfs : ∀ j, j < N → defaultValue (ty j) = vp_V fs j) (hcs : cells + 1 ≤ rm.cells) (hss : slots + N ≤ rm.slots) (C : Cx E Γ A ρ cc nL own rm) (d : decode cc pc = .ok (.new index, 3)) (kk : ∀ q, h q = none → G E (HP Γ A (hset h q t (.inr (ci, fs)))) (cells + 1) (slots + N) (pc + 3) lv (.ref q :: st)) : G E (HP Γ A h) cells slots pc lv st := by
  intro H locs ls hI hS hl
  obtain ⟨ws, h1, h2, h3⟩ := hI
  refine va_new (D := Γ.1) (ci := ci) (C := CN) (T := T) (N := N) C.x C.b C.ts hin ty hty C.ow (C.ts _ hcl) (C.ts _ hinst) (C.ts _ hini) C.K h1 (C.hA.symm ▸ h2) hS (C.hA.symm ▸ S.al) hc hfs (by rw [C.R]; exact hcs) (by rw [C.R]; exact hss) d (fun q H1 hP hD hS1 => ?_)
  obtain ⟨a, b⟩ := HP.push t hP (C.hA ▸ hD) h3
  exact kk q a H1 locs ls b hS1 hl
theorem c_objInit {b : Nat} (hlink : Cond.methodLink own index Lib.objectInit ∈ lw_all) (hinst : Cond.instanceMethod Lib.objectInit ∈ lw_all) (hcode : Cond.code Lib.objectInit ⟨#[0xb1]⟩ 1 none ∈ lw_all) (C : Cx E Γ A ρ cc nL own rm) (hst : (st.map fun v => v.category).sum ≤ 8) (hR : 1 ≤ rm.frames ∧ 20 ≤ rm.locals) (d : decode cc pc = .ok (.invokespecial index, 3)) (kk : G E I cells slots (pc + 3) lv st) : G E I cells slots pc lv (.ref b :: st) := by
  intro H locs ls hI hS hl
  refine W.objInit C.x C.b C.ow (C.ts _ hlink) (C.ts _ hinst) (C.ts _ hcode) (a := b) (rest := st) rfl (by show ls.size = _; rw [hl.1, C.n, C.ml]) rfl d (by rw [C.R]; exact hR.1) (by rw [C.R]; show 2 * 0 + (st.map fun v => v.category).sum + 12 ≤ rm.locals; omega) (kk H locs ls hI hS hl)
theorem c_cast {b ci : Nat} {r : vw_C} {nm : String} (e : h b = some (t, .inr (ci, fs))) (hc : clA[ci]? = some r) (hcl : Cond.classLink own index nm ∈ lw_all) (S : SC Γ A (eS E)) (hca : Cond.castable r.1 nm ∈ lw_tbl) (C : Cx E Γ A ρ cc nL own rm) (d : decode cc pc = .ok (.checkcast index, 3)) (kk : G E (HP Γ A h) cells slots (pc + 3) lv (.ref b :: st)) : G E (HP Γ A h) cells slots pc lv (.ref b :: st) := by
  intro H locs ls hI hS hl
  exact va_castY C.x C.b C.ow (C.ts _ hcl) (S.n hca rfl) (HP.recv C e hc H hI) d (kk H locs ls hI hS hl)
theorem c_castS {b ci : Nat} {r : vw_C} (e : h b = some (t, .inr (ci, fs))) (hc : clA[ci]? = some r) (hcl : Cond.classLink own index r.1 ∈ lw_all) (C : Cx E Γ A ρ cc nL own rm) (d : decode cc pc = .ok (.checkcast index, 3)) (kk : G E (HP Γ A h) cells slots (pc + 3) lv (.ref b :: st)) : G E (HP Γ A h) cells slots pc lv (.ref b :: st) := by
  intro H locs ls hI hS hl
  obtain ⟨_, hfc, kC, hkC, hkind⟩ := C.K.1 ci _ hc
  exact va_castS C.x C.b C.ow (C.ts _ hcl) ⟨hfc, kC, hkC, hkind⟩ (HP.recv C e hc H hI) d (kk H locs ls hI hS hl)
theorem c_inst {b ci : Nat} {r : vw_C} {nm : String} (e : h b = some (t, .inr (ci, fs))) (hc : clA[ci]? = some r) (hcl : Cond.classLink own index nm ∈ lw_all) (S : SC Γ A (eS E)) (hca : Cond.castable r.1 nm ∈ lw_tbl) (C : Cx E Γ A ρ cc nL own rm) (d : decode cc pc = .ok (.instanceof index, 3)) (kk : G E (HP Γ A h) cells slots (pc + 3) lv (.int 1 :: st)) : G E (HP Γ A h) cells slots pc lv (.ref b :: st) := by
  intro H locs ls hI hS hl
  exact va_instY C.x C.b C.ow (C.ts _ hcl) (S.n hca rfl) (HP.recv C e hc H hI) d (kk H locs ls hI hS hl)
theorem g_castN (C : Cx E Γ A ρ cc nL own rm) (d : decode cc pc = .ok (.checkcast index, 3)) (kk : G E I cells slots (pc + 3) lv (.null :: st)) : G E I cells slots pc lv (.null :: st) := fun H locs ls hI hS hl => lv_castN C.x C.b d (kk H locs ls hI hS hl)
end HR
section HC
variable {E : Cf} {Γ : Gm} {A : Nat → Prop} {ρ : State → Prop} {cc : ByteArray} {nL : Nat} {own : String} {rm : Room} {I : Heap → Prop} {cells slots pc : Nat} {lv : List (Option Value)} {st rest : List Value} {h : Hp} {t : Tg}
variable {y : MethodName} {cc' : ByteArray} {nL' index : Nat} {ret : Option FieldType} {rm' : Room} {As : List Value} {b : Nat} {I' : Heap → Prop} {Post : Option Value → Heap → Prop} {host : String}
/-- what a callee is handed besides its own words -/
def Hd (y : MethodName) (n nL' : Nat) (rm' rm : Room) (cells slots : Nat) : Prop := ((y.cls ≠ "java/lang/invoke/MethodHandle" ∧ y.cls ≠ "java/lang/invoke/VarHandle" ∧ (parseMethodDescriptor y.desc).map (fun d => d.parameters.length) = some n)) ∧ (rm'.frames + 1 ≤ rm.frames ∧ 8 + (nL' + 11) + rm'.locals ≤ rm.locals) ∧ (cells + rm'.cells ≤ rm.cells ∧ slots + rm'.slots ≤ rm.slots)
theorem h_callV (n : Nat) (C : Cx E Γ A ρ cc nL own rm) (ct : Ct (eL E) Γ A ρ y cc' nL' ret rm' (.ref b :: As) I' Post) (hw : GoodIn lw_all (wsV own index y.cls y (ws_ y cc' nL' ret))) (hd : Hd y n nL' rm' rm cells slots) (hI : ∀ H, I H → I' H) (hv : ∀ H, I H → ∃ cell : Cell, H[b]? = some cell ∧ cell.vm.isStatics = false ∧ (eS E).vm.findClass y.cls = some cell.cls) (hn : As.length = n) (hst : st = As.reverse ++ .ref b :: rest) (hW : (rest.map fun v => v.category).sum ≤ 8) (d : decode cc pc = .ok (.invokevirtual index, 3)) (k : ∀ v, G E (Post v) (cells + rm'.cells) (slots + rm'.slots) (pc + 3) lv (v.toList ++ rest)) : G E I cells slots pc lv st := by
  refine g_run (A' := A) (a := (Value.ref b :: As).toArray) C (fun _ h => h) (fun H locs ls hH hS hl => ?_) (fun v => g_I (fun H h => h.1) (k v))
  exact va_runV (b := b) (As := As) (rest := rest) ⟨C.x, C.b, C.ml, C.ow, C.ts⟩ ct (cwV n C.ts hw rfl rfl rfl ⟨rfl, hd.1⟩ (by rw [C.R]; exact hd.2.1)) ⟨ct_blind C.cl _ _, hv H hH, g_pre C id C.cl (fun _ h => h) hS (hI H hH)⟩ rfl hn (by show ls.size = nL; rw [hl.1, C.n]) hst (lv_room hW) d (by rw [C.R]; exact hd.2.2)
theorem h_callS (n : Nat) (C : Cx E Γ A ρ cc nL own rm) (ct : Ct (eL E) Γ A ρ y cc' nL' ret rm' As I' Post) (hw : GoodIn lw_all (va_wsS own index y (ws_ y cc' nL' ret))) (hd : Hd y n nL' rm' rm cells slots) (hI : ∀ H, I H → I' H) (hn : As.length = n) (hst : st = As.reverse ++ rest) (hW : (rest.map fun v => v.category).sum ≤ 8) (d : decode cc pc = .ok (.invokestatic index, 3)) (k : ∀ v, G E (Post v) (cells + rm'.cells) (slots + rm'.slots) (pc + 3) lv (v.toList ++ rest)) : G E I cells slots pc lv st := by
  refine g_run (A' := A) (a := As.toArray) C (fun _ h => h) (fun H locs ls hH hS hl => ?_) (fun v => g_I (fun H h => h.1) (k v))
  exact va_runS (As := As) (rest := rest) ⟨C.x, C.b, C.ml, C.ow, C.ts⟩ ct (va_cwS n C.ts hw rfl rfl rfl hd.1 (by rw [C.R]; exact hd.2.1)) ⟨ct_blind C.cl _ _, g_pre C id C.cl (fun _ h => h) hS (hI H hH)⟩ rfl hn (by show ls.size = nL; rw [hl.1, C.n]) hst (lv_room hW) d (by rw [C.R]; exact hd.2.2)
theorem h_callI (n : Nat) (C : Cx E Γ A ρ cc nL own rm) (ct : Ct (eL E) Γ A ρ y cc' nL' none rm' (.ref b :: As) I' Post) (hw : GoodIn lw_all (ws_ y cc' nL' none)) (hini : Cond.initialized y.cls ∈ lw_all) (hlk : Cond.methodLink own index y ∈ lw_all) (hin : Cond.instanceMethod y ∈ lw_all) (hy1 : y.name = "<init>") (hd : Hd y n nL' rm' rm cells slots) (hI : ∀ H, I H → I' H) (hn : As.length = n) (hst : st = As.reverse ++ .ref b :: rest) (hW : (rest.map fun v => v.category).sum ≤ 8) (d : decode cc pc = .ok (.invokespecial index, 3)) (k : ∀ v, G E (Post v) (cells + rm'.cells) (slots + rm'.slots) (pc + 3) lv (v.toList ++ rest)) : G E I cells slots pc lv st := by
  refine g_run (A' := A) (a := (Value.ref b :: As).toArray) C (fun _ h => h) (fun H locs ls hH hS hl => ?_) (fun v => g_I (fun H h => h.1) (k v))
  exact va_runI (b := b) (As := As) (rest := rest) ⟨C.x, C.b, C.ml, C.ow, C.ts⟩ ct (cwI n C.ts hw rfl rfl rfl (C.ts _ hini) (C.ts _ hlk) (C.ts _ hin) hy1 hd.1 (by rw [C.R]; exact hd.2.1)) ⟨ct_blind C.cl _ _, g_pre C id C.cl (fun _ h => h) hS (hI H hH)⟩ rfl hn (by show ls.size = nL; rw [hl.1, C.n]) hst (lv_room hW) d (by rw [C.R]; exact hd.2.2)
theorem h_callVN (n : Nat) (C : Cx E Γ A ρ cc nL own rm) (ct : Ct (eL E) Γ A ρ y cc' nL' ret rm' (.ref b :: As) I' Post) (S : SC Γ A (eS E)) (hw : GoodIn lw_all (ws_ y cc' nL' ret)) (hlk : Cond.methodLinkNest own index y host ∈ lw_tbl) (hini : Cond.initialized y.cls ∈ lw_all) (hin : Cond.instanceMethod y ∈ lw_all) (hse : Cond.selects y.cls y y ∈ lw_all) (hd : Hd y n nL' rm' rm cells slots) (hI : ∀ H, I H → I' H) (hv : ∀ H, I H → ∃ cell : Cell, H[b]? = some cell ∧ cell.vm.isStatics = false ∧ (eS E).vm.findClass y.cls = some cell.cls) (hn : As.length = n) (hst : st = As.reverse ++ .ref b :: rest) (hW : (rest.map fun v => v.category).sum ≤ 8) (d : decode cc pc = .ok (.invokevirtual index, 3)) (k : ∀ v, G E (Post v) (cells + rm'.cells) (slots + rm'.slots) (pc + 3) lv (v.toList ++ rest)) : G E I cells slots pc lv st := by
  refine g_run (A' := A) (a := (Value.ref b :: As).toArray) C (fun _ h => h) (fun H locs ls hH hS hl => ?_) (fun v => g_I (fun H h => h.1) (k v))
  exact va_runVN (b := b) (C := y.cls) (As := As) (rest := rest) ⟨C.x, C.b, C.ml, C.ow, C.ts⟩ ct ⟨(va_cnB n C.ts hw rfl rfl rfl (S.n hlk rfl) (C.ts _ hini) hd.1 (by rw [C.R]; exact hd.2.1)), C.ts _ hin, C.ts _ hse⟩ ⟨ct_blind C.cl _ _, hv H hH, g_pre C id C.cl (fun _ h => h) hS (hI H hH)⟩ rfl hn (by show ls.size = nL; rw [hl.1, C.n]) hst (lv_room hW) d (by rw [C.R]; exact hd.2.2)
theorem h_callSN (n : Nat) (C : Cx E Γ A ρ cc nL own rm) (ct : Ct (eL E) Γ A ρ y cc' nL' ret rm' As I' Post) (S : SC Γ A (eS E)) (hw : GoodIn lw_all (ws_ y cc' nL' ret)) (hlk : Cond.methodLinkNest own index y host ∈ lw_tbl) (hini : Cond.initialized y.cls ∈ lw_all) (hst0 : Cond.static y ∈ lw_all) (hd : Hd y n nL' rm' rm cells slots) (hI : ∀ H, I H → I' H) (hn : As.length = n) (hst : st = As.reverse ++ rest) (hW : (rest.map fun v => v.category).sum ≤ 8) (d : decode cc pc = .ok (.invokestatic index, 3)) (k : ∀ v, G E (Post v) (cells + rm'.cells) (slots + rm'.slots) (pc + 3) lv (v.toList ++ rest)) : G E I cells slots pc lv st := by
  refine g_run (A' := A) (a := As.toArray) C (fun _ h => h) (fun H locs ls hH hS hl => ?_) (fun v => g_I (fun H h => h.1) (k v))
  exact va_runSN (As := As) (rest := rest) ⟨C.x, C.b, C.ml, C.ow, C.ts⟩ ct ⟨(va_cnB n C.ts hw rfl rfl rfl (S.n hlk rfl) (C.ts _ hini) hd.1 (by rw [C.R]; exact hd.2.1)), C.ts _ hst0, trivial⟩ ⟨ct_blind C.cl _ _, g_pre C id C.cl (fun _ h => h) hS (hI H hH)⟩ rfl hn (by show ls.size = nL; rw [hl.1, C.n]) hst (lv_room hW) d (by rw [C.R]; exact hd.2.2)
theorem h_callIN (n : Nat) (C : Cx E Γ A ρ cc nL own rm) (ct : Ct (eL E) Γ A ρ y cc' nL' none rm' (.ref b :: As) I' Post) (S : SC Γ A (eS E)) (hw : GoodIn lw_all (ws_ y cc' nL' none)) (hlk : Cond.methodLinkNest own index y host ∈ lw_tbl) (hini : Cond.initialized y.cls ∈ lw_all) (hin : Cond.instanceMethod y ∈ lw_all) (hy1 : y.name = "<init>") (hd : Hd y n nL' rm' rm cells slots) (hI : ∀ H, I H → I' H) (hn : As.length = n) (hst : st = As.reverse ++ .ref b :: rest) (hW : (rest.map fun v => v.category).sum ≤ 8) (d : decode cc pc = .ok (.invokespecial index, 3)) (k : ∀ v, G E (Post v) (cells + rm'.cells) (slots + rm'.slots) (pc + 3) lv (v.toList ++ rest)) : G E I cells slots pc lv st := by
  refine g_run (A' := A) (a := (Value.ref b :: As).toArray) C (fun _ h => h) (fun H locs ls hH hS hl => ?_) (fun v => g_I (fun H h => h.1) (k v))
  exact va_runIN (b := b) (As := As) (rest := rest) ⟨C.x, C.b, C.ml, C.ow, C.ts⟩ ct ⟨(va_cnB n C.ts hw rfl rfl rfl (S.n hlk rfl) (C.ts _ hini) hd.1 (by rw [C.R]; exact hd.2.1)), hy1, C.ts _ hin⟩ ⟨ct_blind C.cl _ _, g_pre C id C.cl (fun _ h => h) hS (hI H hH)⟩ rfl hn (by show ls.size = nL; rw [hl.1, C.n]) hst (lv_room hW) d (by rw [C.R]; exact hd.2.2)
theorem h_callU (n : Nat) {D owner : String} {x : MethodName} (C : Cx E Γ A ρ cc nL own rm) (ct : Ct (eL E) Γ A ρ y cc' nL' ret rm' (.ref b :: As) I' Post) (hcw : va_CU (eR E) (eS E) (eG E) own D owner index x y cc' nL' ret (ws_ y cc' nL' ret) rm' rm'.cells rm'.slots n) (hf : cells + rm'.cells ≤ rm.cells ∧ slots + rm'.slots ≤ rm.slots) (hI : ∀ H, I H → I' H) (hv : ∀ (H : Heap) (locs : List Loc), I H → va_S A (eS E).heap H locs → ∃ cell : Cell, H[b]? = some cell ∧ cell.vm.isStatics = false ∧ (eS E).vm.findClass D = some cell.cls) (hn : As.length = n) (hst : st = As.reverse ++ .ref b :: rest) (hW : (rest.map fun v => v.category).sum ≤ 8) (d : decode cc pc = .ok (.invokevirtual index, 3)) (k : ∀ v, G E (Post v) (cells + rm'.cells) (slots + rm'.slots) (pc + 3) lv (v.toList ++ rest)) : G E I cells slots pc lv st := by
  refine g_run (A' := A) (a := (Value.ref b :: As).toArray) C (fun _ h => h) (fun H locs ls hH hS hl => ?_) (fun v => g_I (fun H h => h.1) (k v))
  exact va_runU (b := b) (As := As) (rest := rest) ⟨C.x, C.b, C.ml, C.ow, C.ts⟩ ct hcw ⟨ct_blind C.cl _ _, hv H locs hH (C.hA ▸ hS), g_pre C id C.cl (fun _ h => h) hS (hI H hH)⟩ rfl hn (by show ls.size = nL; rw [hl.1, C.n]) hst (lv_room hW) d (by rw [C.R]; exact hf)
/-- what comes back of a contract over the tagged heap -/
theorem h_E {Rl : Option Value → Hp → Prop} (k : ∀ v h', Rl v h' → G E (HP Γ A h') cells slots pc lv (v.toList ++ rest)) : ∀ v, G E (fun H => ∃ h', Rl v h' ∧ HP Γ A h' H) cells slots pc lv (v.toList ++ rest) := fun v => g_ex (fun h' => g_pure (fun a => k v h' a))
theorem h_F {r : Option Value} {h' : Hp} (k : G E (HP Γ A h') cells slots pc lv (r.toList ++ rest)) : ∀ v, G E (fun H => v = r ∧ HP Γ A h' H) cells slots pc lv (v.toList ++ rest) := fun v => g_pure (fun a => by subst a; exact k)
theorem h_P {r : Value} {J : Heap → Prop} (k : G E J cells slots pc lv (r :: rest)) : ∀ v, G E (fun H => v = some r ∧ J H) cells slots pc lv (v.toList ++ rest) := fun v => g_pure (fun a => by subst a; exact k)
end HC
