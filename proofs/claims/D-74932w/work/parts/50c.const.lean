/-! A CALL OF A BODY 'return a constant' : the class of the body need not be said to be initialized -/
theorem st_const {p : Program} {e : Env} {s : State} {g : JFrame} {c : Code} {below : List Frame} {target : State} (h : At s g.method c below) (hexec : p.tables.exec = Jvm.exec) {m : MethodId} {meth : Method} {code : Code} {args : Array Value} {ig : Instr} {len : Nat} {v : Int32} {cc : ByteArray}
    (hm : s.vm.method? m = some meth) (hc : meth.code = some code) (hl : meth.locks = false) (hp : s.plainMethod m) (hr : meth.sig.returnType = some .int) (hb : code.code = cc) (d0 : (∃ w, decode cc 0 = .ok (.sipush w, 3) ∧ (Int16.ofInt w).toInt32 = v ∧ decode cc 3 = .ok (.ireturn, 1)) ∨ (∃ w, decode cc 0 = .ok (.bipush w, 2) ∧ (Int8.ofInt w).toInt32 = v ∧ decode cc 2 = .ok (.ireturn, 1)))
    (hroom : e.platform.stackFull (((s.setTop g).threads[(s.setTop g).cur]?).getD { frames := [] }) (s.setTop g).frames code.maxLocals = false) (hdg : decode c.code g.pc = .ok (ig, len))
    (hrest : Steps p.tables e below (s.setTop { g with pc := g.pc + len, stack := .int v :: g.stack }) target) :
    Steps p.tables e below (doInvoke e (s.setTop g) [] m args).1 target := by
  rw [doInvoke_enter h.top [] hm hc hl hroom]
  have hf := frames_entered (g := g) h.top (.java (entryFrame m args code.maxLocals))
  have h' := h.enter (g := g) args hm hc hp
  have hm' : (((s.setTop g).pushFrame (.java (entryFrame m args code.maxLocals)))).vm.method? m = some meth := by simpa [State.pushFrame, State.setFrames] using hm
  have hcg : (((s.setTop g).pushFrame (.java (entryFrame m args code.maxLocals)))).code? g.method = some c := by have := h.code; rw [State.code?_eq] at this ⊢; simpa [State.pushFrame, State.setFrames] using this
  have fin : ∀ (f : JFrame), f.method = m → f.locked = none → f.entered = [] → ∀ acts, Steps p.tables e below (doReturn e ((((s.setTop g).pushFrame (.java (entryFrame m args code.maxLocals)))).setTop f) acts (some (.int v))).1 target := by
    intro f hf1 hf2 hf3 acts
    rw [doReturn_leave (g := g) (meth := meth) (cg := c) (ig := ig) (len := len) acts hf (by rw [hf1]; exact hm') hl hf2 hf3 hcg hdg, setFrames_entered h.top, State.setTop_setTop]
    exact hrest
  generalize hu : ((s.setTop g).pushFrame (.java (entryFrame m args code.maxLocals))) = u at h' hm' hcg fin ⊢
  unfold entryFrame
  rcases d0 with ⟨w, e0, ew, e3⟩ | ⟨w, e0, ew, e3⟩
  · subst ew
    jvm_step h' [h'.top, hexec, hb, e0]
    jvm_step h' [h'.top, hexec, hb, e3, hm', hr, narrow]
    (try refine ⟨rfl, ?_⟩); (try refine ⟨rfl, ?_⟩)
    first | exact fin _ rfl rfl rfl | (intro acts; exact fin _ rfl rfl rfl acts) | exact fin _ rfl rfl rfl _
  · subst ew
    jvm_step h' [h'.top, hexec, hb, e0]
    jvm_step h' [h'.top, hexec, hb, e3, hm', hr, narrow]
    (try refine ⟨rfl, ?_⟩); (try refine ⟨rfl, ?_⟩)
    first | exact fin _ rfl rfl rfl | (intro acts; exact fin _ rfl rfl rfl acts) | exact fin _ rfl rfl rfl _
/-- .. as a callee: nothing changes, the constant comes back -/
theorem back_const {l : Launch} {R : Room} {p : Program} {e : Env} {below : List Frame} {s : State} {sargs : Array Value} {y : MethodName} {len : Nat} (hexec : p.tables.exec = Jvm.exec) {cc : ByteArray} {v : Int32} (hpl : plainName y.cls = true) (hcode : ∀ a' U, s.WarmedH U.vm → (Cond.code y cc 1 (some .int)).before a' U = true)
    (d0 : (∃ w, decode cc 0 = .ok (.sipush w, 3) ∧ (Int16.ofInt w).toInt32 = v ∧ decode cc 3 = .ok (.ireturn, 1)) ∨ (∃ w, decode cc 0 = .ok (.bipush w, 2) ∧ (Int8.ofInt w).toInt32 = v ∧ decode cc 2 = .ok (.ireturn, 1))) (hR : 1 ≤ R.frames ∧ 20 ≤ R.locals) :
    Back l R p e below s sargs y len 8 (fun _ _ => True) (fun A a r B => r = some (.int v) ∧ B = A) := by
  intro m meth c A g ig mk a X hg hsize hdg hW hn _
  obtain ⟨methY, cY, hmY, hcY, hbY, hlY, hrY, hlockY, -, -⟩ := Cond.code_spec hn (hcode a _ X.warmed)
  refine ⟨some (.int v), A, X, ⟨rfl, rfl⟩, ?_⟩
  refine st_const (c := c) (by rw [hg]; exact X.here) hexec hmY hcY hlockY ?_ hrY hbY d0 ?_ hdg (Steps.refl _)
  · refine State.plainMethod.of_name ?_
    intro k hk
    obtain ⟨kY, hkY, hnY⟩ := className_of_methodNamed hn
    cases hk.symm.trans hkY
    rw [hnY]; exact hpl
  · exact X.notFull (g := g) (vars := cY.maxLocals) hsize hR.1 (by rw [hlY]; omega)
/-- the row: an abstract method of owner, the receiver of class D whose body of it returns v -/
theorem h_const {E : Cf} {Γ : Gm} {A : Nat → Prop} {ρ : State → Prop} {cc : ByteArray} {nL : Nat} {own : String} {rm : Room} {I : Heap → Prop} {cells slots pc : Nat} {lv : List (Option Value)} {rest : List Value} {index b : Nat} {D owner : String} {x y : MethodName} {cc' : ByteArray} {v : Int32} (C : Cx E Γ A ρ cc nL own rm)
    (hpl : plainName y.cls = true) (hcode : Cond.code y cc' 1 (some .int) ∈ lw_all) (hlk : Cond.methodLink own index x ∈ lw_all) (hsm : Cond.sameMethod x.cls owner x.name x.desc ∈ lw_all) (hse : Cond.selects D x y ∈ lw_all) (hin : Cond.instanceMethod y ∈ lw_all) (hz : va_Nw (.declares ⟨owner, x.name, x.desc⟩) (eS E)) (how : owner ≠ "java/lang/invoke/MethodHandle" ∧ owner ≠ "java/lang/invoke/VarHandle") (hx : (parseMethodDescriptor x.desc).map (fun d => d.parameters.length) = some 0)
    (d0 : (∃ w, decode cc' 0 = .ok (.sipush w, 3) ∧ (Int16.ofInt w).toInt32 = v ∧ decode cc' 3 = .ok (.ireturn, 1)) ∨ (∃ w, decode cc' 0 = .ok (.bipush w, 2) ∧ (Int8.ofInt w).toInt32 = v ∧ decode cc' 2 = .ok (.ireturn, 1))) (hR : 1 ≤ rm.frames ∧ 20 ≤ rm.locals) (hO : va_O D b A (eS E) (eS E).heap) (hW : (rest.map fun v => v.category).sum ≤ 8) (d : decode cc pc = .ok (.invokevirtual index, 3))
    (k : G E I cells slots (pc + 3) lv (.int v :: rest)) : G E I cells slots pc lv (.ref b :: rest) := by
  intro H locs ls hI hS hl T hT X
  obtain ⟨cell, o1, o2, o3, -⟩ := va_O.kept hO (C.hA ▸ hS.2.1)
  have hK : Back (eL E) (eR E) (eP E) (eE E) (eB E) (eS E) (eG E) y 3 8 (fun _ _ => True) (fun A a r B => r = some (.int v) ∧ B = A) := back_const C.x hpl (fun a' U hW => word_at hW (Or.inl rfl) (C.ts _ hcode)) d0 (by rw [C.R]; exact hR)
  obtain ⟨r, vm1, B, hW1, X', ⟨e1, e2⟩, st⟩ := va_callVU (l := eL E) (C := D) X C.x C.ow (C.ts _ hlk) (C.ts _ hsm) (va_Decl.abs hz) how (C.ts _ hse) (C.ts _ hin) (C.ts _ hcode) hK (b := b) (by rw [hT]; exact o1) o2 o3 (g := F0 (eM E) pc ls (.ref b :: rest)) rfl (by show ls.size = _; rw [hl.1, C.n, C.ml]) (argsL := []) (rest := rest) (fun sig hs => by rw [hs] at hx; exact (Option.some.inj hx).symm) rfl (lv_room hW) (by rw [C.b]; exact d) (fun _ _ => trivial)
  subst e1
  subst e2
  obtain ⟨t, a1, b1⟩ := k H locs ls hI hS hl (T.setVm vm1) hT X'
  exact ⟨t, st t a1, b1⟩
