/-! CONTRACTS THAT RETURN OR THROW -/
def XQ (A : Nat → Prop) (XP : String → Heap → Prop) : String → State → State → Prop := fun E st t => XP E t.heap ∧ va_F A st t
def CtX (l : Launch) (Γ : Gm) (A : Nat → Prop) (ρ : State → Prop) (y : MethodName) (cc : ByteArray) (nL : Nat) (ret : Option FieldType) (rm : Room) (av : List Value) (I : Heap → Prop) (Post : Option Value → Heap → Prop) (XP : String → Heap → Prop) : Prop :=
  vx_Met l y (ws_ y cc nL ret) rm (va_Pc av (fun U => I U.heap ∧ va_K Γ.1 clA (tyA Γ) U ∧ ρ U)) (Qo Post A) (XQ A XP) rm.cells rm.slots A
def RtX (E : Cf) (ret : Option FieldType) (mc ms : Nat) (Post : Option Value → Heap → Prop) (XP : String → Heap → Prop) : Prop := (eH E).sig.returnType = ret ∧ (eH E).locks = false ∧ eQ E = vx_MQ (eB E) (Qo Post (eA E)) (XQ (eA E) XP) (eG E) (eS E) mc ms (eA E) ∧ ∀ x ∈ (eC E).exceptionTable.toList, False
theorem CtX.of {l : Launch} {Γ : Gm} {A : Nat → Prop} {ρ : State → Prop} {y : MethodName} {cc : ByteArray} {nL : Nat} {ret : Option FieldType} {rm : Room} {av : List Value} {I : Heap → Prop} {Post : Option Value → Heap → Prop} {XP : String → Heap → Prop} (hl : l.stackTraces = false) (hρ : Cl A ρ) (hy : plainName y.cls = true) (lv : List (Option Value)) (hn : (lg_sl av).length ≤ nL) (hlv : lvE av ++ List.replicate (nL - (lg_sl av).length) none = lv)
    (body : ∀ E : Cf, eL E = l → Cx E Γ A ρ cc nL y.cls rm → RtX E ret rm.cells rm.slots Post XP → G E I 0 0 0 lv []) : CtX l Γ A ρ y cc nL ret rm av I Post XP := by
  refine vx_ofW (cc := cc) (maxL := nL) (ret := ret) hy rfl ?_
  intro p e s m args below meth c s₁ B hml htab hv
  obtain ⟨rfl, hI, hK, hr⟩ := hv
  have hts := atoms_spec (ws := ws_ y cc nL ret) B.pre
  have hts : ∀ w ∈ lw_all, w.before _ s = true := fun w h => hts w (List.mem_cons_of_mem _ h)
  have hown : s.vm.findClass y.cls = some m.cls := findClass_of_methodNamed B.named
  have hl0 := lv_entry av hn
  rw [lg_entry_eq]
  generalize (lg_sl av ++ List.replicate (nL - (lg_sl av).length) Slot.unset).toArray = ls at hl0 ⊢
  have hlh : lh ls nL lv := by
    refine ⟨hl0.1, hl0.2.1, fun i v hi => ?_⟩
    rw [← hlv] at hi
    have h1 := lvE_get av 0 i v (lvR_get _ _ _ _ hi)
    rw [Nat.zero_add] at h1
    exact hl0.2.2 _ h1
  exact body ((p, l, e, (headSpec (ws_ y cc nL ret) rm).room), (s, m, av.toArray, below, meth, c), A, nL, vx_MQ below (Qo Post A) (XQ A XP) av.toArray s rm.cells rm.slots A) rfl ⟨B.exec, B.bytes, hml, rfl, hown, hts, rfl, rfl, hK, hr, hρ, hl⟩ ⟨B.returns, B.notSynchronized, rfl, htab⟩ s.heap [] ls hI va_S.rf hlh
section XR
variable {E : Cf} {Γ : Gm} {A : Nat → Prop} {ρ : State → Prop} {cc : ByteArray} {nL : Nat} {own : String} {rm : Room} {I : Heap → Prop} {cells slots pc : Nat} {lv : List (Option Value)} {st rest : List Value} {Post : Option Value → Heap → Prop} {XP : String → Heap → Prop} {mc ms : Nat}
theorem gx_iret {v : Int32} (C : Cx E Γ A ρ cc nL own rm) (r : RtX E (some .int) mc ms Post XP) (hc : cells ≤ mc) (hs : slots ≤ ms) (d : decode cc pc = .ok (.ireturn, 1)) (hp : ∀ H, I H → Post (some (.int v)) H) : G E I cells slots pc lv [.int v] := by
  intro H locs ls hI hS hl
  rw [r.2.2.1]
  exact vx_ret (W.widen hc hs (W.iret (hlocks := r.2.1) C.x C.b r.1 (fun t ht hW => ⟨⟨_, rfl, by rw [ht]; exact hp H hI⟩, hS.F ht⟩) hS.2.2 d))
theorem gx_zret {v : Int32} (C : Cx E Γ A ρ cc nL own rm) (r : RtX E (some .boolean) mc ms Post XP) (hc : cells ≤ mc) (hs : slots ≤ ms) (d : decode cc pc = .ok (.ireturn, 1)) (hv : narrow .boolean (.int v) = .int v) (hp : ∀ H, I H → Post (some (.int v)) H) : G E I cells slots pc lv [.int v] := by
  intro H locs ls hI hS hl
  rw [r.2.2.1]
  exact vx_ret (W.widen hc hs (W.zret (hlocks := r.2.1) C.x C.b r.1 hv (fun t ht hW => ⟨⟨_, rfl, by rw [ht]; exact hp H hI⟩, hS.F ht⟩) hS.2.2 d))
theorem gx_aret {v : Value} {rt : FieldType} (C : Cx E Γ A ρ cc nL own rm) (r : RtX E (some rt) mc ms Post XP) (hrt : (∃ n, rt = .object n) ∨ ∃ t, rt = .array t) (hv : v = .null ∨ ∃ a, v = .ref a) (hc : cells ≤ mc) (hs : slots ≤ ms) (d : decode cc pc = .ok (.areturn, 1)) (hp : ∀ H, I H → Post (some v) H) : G E I cells slots pc lv [v] := by
  intro H locs ls hI hS hl
  rw [r.2.2.1]
  exact vx_ret (W.widen hc hs (W.aret (hlocks := r.2.1) C.x C.b r.1 hrt hv (fun t ht hW => ⟨⟨_, rfl, by rw [ht]; exact hp H hI⟩, hS.F ht⟩) hS.2.2 d))
theorem gx_vret (C : Cx E Γ A ρ cc nL own rm) (r : RtX E none mc ms Post XP) (hc : cells ≤ mc) (hs : slots ≤ ms) (d : decode cc pc = .ok (.return_, 1)) (hp : ∀ H, I H → Post none H) : G E I cells slots pc lv [] := by
  intro H locs ls hI hS hl
  rw [r.2.2.1]
  exact vx_ret (W.widen hc hs (W.vret (hlocks := r.2.1) C.x C.b r.1 (fun t ht hW => ⟨⟨_, rfl, by rw [ht]; exact hp H hI⟩, hS.F ht⟩) hS.2.2 d))
/-- thrown over this frame: an object of class N -/
def GX (E : Cf) (I : Heap → Prop) (cells slots pc : Nat) (lv : List (Option Value)) (st : List Value) (N : String) : Prop :=
  ∀ (H : Heap) (locs : List Loc) (ls : Array Slot) (q : Addr) (ce : Cell), I H → va_S (eA E) (eS E).heap H locs → lh ls (eN E) lv → H[q]? = some ce → ce.vm = .none → (eS E).vm.findClass N = some ce.cls →
    vx_W (eP E) (eL E) (eE E) (eR E) (eS E) (eM E) (eG E) (eB E) (eH E) (eC E) H locs cells slots (eQ E) (F0 (eM E) pc ls st) q
/-- .. and not caught here -/
theorem gx_out {N : String} {ret : Option FieldType} (r : RtX E ret mc ms Post XP) (hc : cells ≤ mc) (hs : slots ≤ ms) (hp : ∀ H, I H → XP N H) : GX E I cells slots pc lv st N := by
  intro H locs ls q ce hI hS hl h1 h2 h3
  rw [r.2.2.1]
  exact vx_out (fun x hx => (r.2.2.2 x hx).elim) r.2.1 h1 h2 h3 (fun t ht hW => ⟨by rw [ht]; exact hp H hI, hS.F ht⟩) hS.2.2 hc hs
variable {y : MethodName} {cc' : ByteArray} {nL' index : Nat} {ret : Option FieldType} {rm' : Room} {As : List Value} {b : Nat} {I' : Heap → Prop}
theorem gx_run {a : Array Value} {mc' ms' : Nat} (C : Cx E Γ A ρ cc nL own rm)
    (hr : ∀ (H : Heap) (locs : List Loc) (ls : Array Slot), I H → va_S (eA E) (eS E).heap H locs → lh ls (eN E) lv → vx_Run (eP E) (eL E) (eE E) (eR E) (eS E) (eM E) (eG E) (eB E) (eH E) (eC E) H locs cells slots mc' ms' (F0 (eM E) pc ls st) rest (Qo Post A a) (XQ A XP) A)
    (k : ∀ v, G E (Post v) (cells + mc') (slots + ms') (pc + 3) lv (v.toList ++ rest)) (kx : ∀ N, GX E (XP N) (cells + mc') (slots + ms') pc lv rest N) : G E I cells slots pc lv st := by
  intro H locs ls hI hS hl T hT X
  have hSA := C.hA
  have S1 : ∀ (T' t : State) (L : List Loc), T'.heap = t.heap → (∀ q ∈ L, A q.base) → H.size ≤ t.heap.size → (∀ q : Nat, q < H.size → ¬ A q → t.heap[q]? = H[q]?) → va_S (eA E) (eS E).heap T'.heap (locs ++ L) := fun T' t L e1 hL hz hk =>
    ⟨Nat.le_trans hS.1 (by rw [e1]; exact hz), fun q h1 h2 => by rw [e1, hk q (Nat.lt_of_lt_of_le h1 hS.1) (fun z => h2 (by rw [hSA]; exact z))]; exact hS.2.1 q h1 h2, fun q hq => by
      rcases List.mem_append.mp hq with h | h
      · exact hS.2.2 q h
      · rw [hSA]; exact hL q h⟩
  rcases hr H locs ls hI hS hl T hT X with ⟨v, st₀, t, T', L, h0, X', hL, e1, e2, ⟨⟨v', hv, hp⟩, hz, hk⟩, stp⟩ | ⟨q, st₀, t, T', L, N, ce, h0, X', hL, e1, e2, ⟨hp, hz, hk⟩, h1, h2, h3, stp⟩
  · cases hv
    rw [h0] at hz hk
    obtain ⟨t2, a1, b1⟩ := k v T'.heap (locs ++ L) ls (by rw [e1]; exact hp) (S1 T' t L e1 hL hz hk) hl T' rfl X'
    exact ⟨t2, stp t2 a1, b1⟩
  · rw [h0] at hz hk
    obtain ⟨t2, a1, b1⟩ := kx N T'.heap (locs ++ L) ls q ce (by rw [e1]; exact hp) (S1 T' t L e1 hL hz hk) hl (by rw [e1]; exact h1) h2 h3 T' rfl X'
    exact ⟨t2, stp.trans a1, b1⟩
theorem hx_callV (n : Nat) (C : Cx E Γ A ρ cc nL own rm) (ct : CtX (eL E) Γ A ρ y cc' nL' ret rm' (.ref b :: As) I' Post XP) (hw : GoodIn lw_all (wsV own index y.cls y (ws_ y cc' nL' ret))) (hd : Hd y n nL' rm' rm cells slots) (hI : ∀ H, I H → I' H) (hv : ∀ H, I H → ∃ cell : Cell, H[b]? = some cell ∧ cell.vm.isStatics = false ∧ (eS E).vm.findClass y.cls = some cell.cls) (hn : As.length = n) (hst : st = As.reverse ++ .ref b :: rest) (hW : (rest.map fun v => v.category).sum ≤ 8) (d : decode cc pc = .ok (.invokevirtual index, 3))
    (k : ∀ v, G E (Post v) (cells + rm'.cells) (slots + rm'.slots) (pc + 3) lv (v.toList ++ rest)) (kx : ∀ N, GX E (XP N) (cells + rm'.cells) (slots + rm'.slots) pc lv rest N) : G E I cells slots pc lv st := by
  refine gx_run (a := (Value.ref b :: As).toArray) C (fun H locs ls hH hS hl => ?_) k kx
  exact vx_runV (b := b) (As := As) (rest := rest) ⟨C.x, C.b, C.ml, C.ow, C.ts⟩ ct (cwV n C.ts hw rfl rfl rfl ⟨rfl, hd.1⟩ (by rw [C.R]; exact hd.2.1)) ⟨ct_blind C.cl _ _, hv H hH, g_pre C id C.cl (fun _ h => h) hS (hI H hH)⟩ rfl hn (by show ls.size = nL; rw [hl.1, C.n]) hst (lv_room hW) d (by rw [C.R]; exact hd.2.2)
end XR
/-- Throwable's statics -/
def SY (A : Nat → Prop) (U : State) : Prop := vx_Zq Bundle.tN "UNASSIGNED_STACK" Bundle.steD A U U.heap ∧ vx_Zq Bundle.tN "SUPPRESSED_SENTINEL" Bundle.listD A U U.heap
def Be (l : Launch) (Γ : Gm) (A : Nat → Prop) (ρ : State → Prop) : Prop := Bd l Γ A ρ ∧ ∀ U, ρ U → SY A U
theorem af_c {args : Array Value} {s : State} {w : Cond} {L : List Cond} (h : vx_no w = true → w.before args s = true) (t : ∀ w ∈ L, vx_no w = true → w.before args s = true) : ∀ w' ∈ w :: L, vx_no w' = true → w'.before args s = true := fun w' h' => (List.mem_cons.mp h').elim (fun e => by rw [e]; exact h) (t w')
theorem af_n {args : Array Value} {s : State} : ∀ w ∈ ([] : List Cond), vx_no w = true → w.before args s = true := fun _ h => nomatch h
theorem af_u {args : Array Value} {s : State} {L : List Cond} (h : ∀ w ∈ L, vx_no w = true → w.before args s = true) : ∀ w ∈ L.filter vx_no, w.before args s = true := fun w hw => h w (List.mem_filter.mp hw).1 (List.mem_filter.mp hw).2
theorem no1 : vx_no (.isRef (.static Bundle.tN "UNASSIGNED_STACK" Bundle.steD)) = false := by simp [vx_no]
theorem no2 : vx_no (.isRef (.static Bundle.tN "SUPPRESSED_SENTINEL" Bundle.listD)) = false := by simp [vx_no]
theorem no3 : vx_no (.laysStatic Bundle.tN "UNASSIGNED_STACK" Bundle.steD) = false := by simp [vx_no]
theorem no4 : vx_no (.laysStatic Bundle.tN "SUPPRESSED_SENTINEL" Bundle.listD) = false := by simp [vx_no]
set_option maxRecDepth 100000 in
theorem at_IO {E : Cf} {Γ : Gm} {A : Nat → Prop} {ρ : State → Prop} {cc : ByteArray} {nL : Nat} {rm : Room} (C : Cx E Γ A ρ cc nL RX1 rm) (S : SC Γ A (eS E)) : ∀ w ∈ vx_at0 "ScaleInspection" 139 "java/lang/IndexOutOfBoundsException" ["java/lang/RuntimeException", "java/lang/Exception"], w.before (eG E) (eS E) = true := af_u (af_c (fun _ => C.ts _ q91) (af_c (fun _ => C.ts _ q178) (af_c (fun _ => C.ts _ q187) (af_c (fun _ => C.ts _ q193) (af_c (fun _ => C.ts _ q196) (af_c (fun _ => C.ts _ q198) (af_c (fun _ => C.ts _ q179) (af_c (fun _ => C.ts _ q180) (af_c (fun _ => C.ts _ q132) (af_c (fun _ => C.ts _ q133) (af_c (fun _ => C.ts _ q181) (af_c (fun _ => C.ts _ q186) (af_c (fun _ => C.ts _ q194) (af_c (fun _ => C.ts _ q434) (af_c (fun _ => C.ts _ q168) (af_c (fun _ => C.ts _ q435) (af_c (fun _ => C.ts _ q170) (af_c (fun _ => C.ts _ q436) (af_c (fun _ => C.ts _ q172) (af_c (fun _ => C.ts _ q182) (af_c (fun h => by rw [no3] at h; cases h) (af_c (fun _ => C.ts _ q184) (af_c (fun h => by rw [no4] at h; cases h) (af_c (fun _ => C.ts _ q174) (af_c (fun _ => C.ts _ q1560) (af_c (fun _ => C.ts _ q1561) (af_c (fun _ => C.ts _ q1562) (af_c (fun _ => C.ts _ q1563) (af_c (fun _ => va_Nw.use rfl (S.n q159 rfl)) (af_c (fun _ => C.ts _ q1563) (af_c (fun _ => C.ts _ q1564) (af_c (fun _ => C.ts _ q1565) (af_c (fun _ => C.ts _ q1566) (af_c (fun _ => va_Nw.use rfl (S.n q161 rfl)) (af_c (fun _ => C.ts _ q1566) (af_c (fun _ => C.ts _ q1567) (af_c (fun _ => C.ts _ q1568) (af_c (fun _ => C.ts _ q179) (af_c (fun _ => va_Nw.use rfl (S.n q163 rfl)) (af_c (fun _ => C.ts _ q1559) (af_c (fun _ => C.ts _ q1551) (af_c (fun _ => va_Nw.use rfl (S.n q1552 rfl)) (af_c (fun _ => C.ts _ q1553) (af_c (fun _ => C.ts _ q192) (af_c (fun _ => C.ts _ q1554) (af_c (fun _ => C.ts _ q1555) (af_c (fun _ => C.ts _ q1556) (af_c (fun _ => C.ts _ q1557) (af_c (fun h => by rw [no1] at h; cases h) (af_c (fun h => by rw [no2] at h; cases h) (af_c (fun _ => C.ts _ q177) (af_c (fun _ => C.ts _ q176) (af_c (fun _ => C.ts _ q1558) af_n)))))))))))))))))))))))))))))))))))))))))))))))))))))
set_option maxRecDepth 100000 in
theorem ot_IO : ∀ w ∈ Cond.classLink "ScaleInspection" 137 "java/lang/IndexOutOfBoundsException" :: Cond.initialized "java/lang/IndexOutOfBoundsException" :: vx_at0 "ScaleInspection" 139 "java/lang/IndexOutOfBoundsException" ["java/lang/RuntimeException", "java/lang/Exception"], vx_ot w = true := by decide +kernel
theorem gx_throwIO {E : Cf} {Γ : Gm} {A : Nat → Prop} {ρ : State → Prop} {cc : ByteArray} {nL : Nat} {rm : Room} {I : Heap → Prop} {cells slots pc : Nat} {lv : List (Option Value)} {st : List Value} {Post : Option Value → Heap → Prop} {XP : String → Heap → Prop} {mc ms : Nat} {ret : Option FieldType} (C : Cx E Γ A ρ cc nL RX1 rm) (r : RtX E ret mc ms Post XP) (S : SC Γ A (eS E)) (Y : SY A (eS E)) (d0 : decode cc pc = .ok (.new 137, 3)) (d3 : decode cc (pc + 3) = .ok (.dup, 1)) (d4 : decode cc (pc + 4) = .ok (.invokespecial 139, 3)) (d7 : decode cc (pc + 7) = .ok (.athrow, 1)) (hR : 6 ≤ rm.frames ∧ (st.map fun v => v.category).sum + 81 ≤ rm.locals ∧ cells + 1 ≤ rm.cells ∧ slots + 6 ≤ rm.slots) (hc : cells + 1 ≤ mc) (hs : slots + 6 ≤ ms) (hp : ∀ H H', I H → H.size ≤ H'.size → (∀ q : Nat, q < H.size → H'[q]? = H[q]?) → XP "java/lang/IndexOutOfBoundsException" H') : G E I cells slots pc lv st := by
  intro H locs ls hI hS hl
  rw [r.2.2.1]
  refine vx_throw0 (own := "ScaleInspection") (cls := "java/lang/IndexOutOfBoundsException") (names := ["java/lang/RuntimeException", "java/lang/Exception"]) C.x C.b C.tr C.ow (by decide) (by decide) (C.ts _ q1550) (C.ts _ q120) (at_IO C S) ot_IO Y.1 Y.2 (C.hA ▸ hS) (by rw [hl.1, C.n, C.ml]) d0 d3 d4 d7 (fun x hx => (r.2.2.2 x hx).elim) (by rw [C.R]; exact hR.1) (by rw [C.R]; exact hR.2.1) (by rw [C.R]; exact hR.2.2.1) (by rw [C.R]; exact hR.2.2.2) r.2.1 (fun t hW hz hk => ⟨hp H t.heap hI hz hk, ?_⟩) hS.2.2 hc hs
  exact ⟨Nat.le_trans hS.1 hz, fun q h1 h2 => (hk q (Nat.lt_of_lt_of_le h1 hS.1)).trans (hS.2.1 q h1 h2)⟩

set_option maxRecDepth 100000 in
theorem at_IA {E : Cf} {Γ : Gm} {A : Nat → Prop} {ρ : State → Prop} {cc : ByteArray} {nL : Nat} {rm : Room} (C : Cx E Γ A ρ cc nL RX1 rm) (S : SC Γ A (eS E)) : ∀ w ∈ vx_at0 "ScaleInspection" 142 "java/lang/IllegalArgumentException" ["java/lang/RuntimeException", "java/lang/Exception"], w.before (eG E) (eS E) = true := af_u (af_c (fun _ => C.ts _ q91) (af_c (fun _ => C.ts _ q178) (af_c (fun _ => C.ts _ q187) (af_c (fun _ => C.ts _ q193) (af_c (fun _ => C.ts _ q196) (af_c (fun _ => C.ts _ q198) (af_c (fun _ => C.ts _ q179) (af_c (fun _ => C.ts _ q180) (af_c (fun _ => C.ts _ q132) (af_c (fun _ => C.ts _ q133) (af_c (fun _ => C.ts _ q181) (af_c (fun _ => C.ts _ q186) (af_c (fun _ => C.ts _ q194) (af_c (fun _ => C.ts _ q434) (af_c (fun _ => C.ts _ q168) (af_c (fun _ => C.ts _ q435) (af_c (fun _ => C.ts _ q170) (af_c (fun _ => C.ts _ q436) (af_c (fun _ => C.ts _ q172) (af_c (fun _ => C.ts _ q182) (af_c (fun h => by rw [no3] at h; cases h) (af_c (fun _ => C.ts _ q184) (af_c (fun h => by rw [no4] at h; cases h) (af_c (fun _ => C.ts _ q174) (af_c (fun _ => C.ts _ q1573) (af_c (fun _ => C.ts _ q1574) (af_c (fun _ => C.ts _ q1575) (af_c (fun _ => C.ts _ q1563) (af_c (fun _ => va_Nw.use rfl (S.n q159 rfl)) (af_c (fun _ => C.ts _ q1563) (af_c (fun _ => C.ts _ q1564) (af_c (fun _ => C.ts _ q1565) (af_c (fun _ => C.ts _ q1566) (af_c (fun _ => va_Nw.use rfl (S.n q161 rfl)) (af_c (fun _ => C.ts _ q1566) (af_c (fun _ => C.ts _ q1567) (af_c (fun _ => C.ts _ q1568) (af_c (fun _ => C.ts _ q179) (af_c (fun _ => va_Nw.use rfl (S.n q163 rfl)) (af_c (fun _ => C.ts _ q1572) (af_c (fun _ => C.ts _ q157) (af_c (fun _ => va_Nw.use rfl (S.n q158 rfl)) (af_c (fun _ => C.ts _ q165) (af_c (fun _ => C.ts _ q166) (af_c (fun _ => C.ts _ q167) (af_c (fun _ => C.ts _ q169) (af_c (fun _ => C.ts _ q171) (af_c (fun _ => C.ts _ q173) (af_c (fun h => by rw [no1] at h; cases h) (af_c (fun h => by rw [no2] at h; cases h) (af_c (fun _ => C.ts _ q177) (af_c (fun _ => C.ts _ q176) (af_c (fun _ => C.ts _ q175) af_n)))))))))))))))))))))))))))))))))))))))))))))))))))))
set_option maxRecDepth 100000 in
theorem ot_IA : ∀ w ∈ Cond.classLink "ScaleInspection" 140 "java/lang/IllegalArgumentException" :: Cond.initialized "java/lang/IllegalArgumentException" :: vx_at0 "ScaleInspection" 142 "java/lang/IllegalArgumentException" ["java/lang/RuntimeException", "java/lang/Exception"], vx_ot w = true := by decide +kernel
theorem gx_throwIA {E : Cf} {Γ : Gm} {A : Nat → Prop} {ρ : State → Prop} {cc : ByteArray} {nL : Nat} {rm : Room} {I : Heap → Prop} {cells slots pc : Nat} {lv : List (Option Value)} {st : List Value} {Post : Option Value → Heap → Prop} {XP : String → Heap → Prop} {mc ms : Nat} {ret : Option FieldType} (C : Cx E Γ A ρ cc nL RX1 rm) (r : RtX E ret mc ms Post XP) (S : SC Γ A (eS E)) (Y : SY A (eS E)) (d0 : decode cc pc = .ok (.new 140, 3)) (d3 : decode cc (pc + 3) = .ok (.dup, 1)) (d4 : decode cc (pc + 4) = .ok (.invokespecial 142, 3)) (d7 : decode cc (pc + 7) = .ok (.athrow, 1)) (hR : 6 ≤ rm.frames ∧ (st.map fun v => v.category).sum + 81 ≤ rm.locals ∧ cells + 1 ≤ rm.cells ∧ slots + 6 ≤ rm.slots) (hc : cells + 1 ≤ mc) (hs : slots + 6 ≤ ms) (hp : ∀ H H', I H → H.size ≤ H'.size → (∀ q : Nat, q < H.size → H'[q]? = H[q]?) → XP "java/lang/IllegalArgumentException" H') : G E I cells slots pc lv st := by
  intro H locs ls hI hS hl
  rw [r.2.2.1]
  refine vx_throw0 (own := "ScaleInspection") (cls := "java/lang/IllegalArgumentException") (names := ["java/lang/RuntimeException", "java/lang/Exception"]) C.x C.b C.tr C.ow (by decide) (by decide) (C.ts _ q1571) (C.ts _ q94) (at_IA C S) ot_IA Y.1 Y.2 (C.hA ▸ hS) (by rw [hl.1, C.n, C.ml]) d0 d3 d4 d7 (fun x hx => (r.2.2.2 x hx).elim) (by rw [C.R]; exact hR.1) (by rw [C.R]; exact hR.2.1) (by rw [C.R]; exact hR.2.2.1) (by rw [C.R]; exact hR.2.2.2) r.2.1 (fun t hW hz hk => ⟨hp H t.heap hI hz hk, ?_⟩) hS.2.2 hc hs
  exact ⟨Nat.le_trans hS.1 hz, fun q h1 h2 => (hk q (Nat.lt_of_lt_of_le h1 hS.1)).trans (hS.2.1 q h1 h2)⟩

set_option maxRecDepth 100000 in
theorem at_IS {E : Cf} {Γ : Gm} {A : Nat → Prop} {ρ : State → Prop} {cc : ByteArray} {nL : Nat} {rm : Room} (C : Cx E Γ A ρ cc nL RX1 rm) (S : SC Γ A (eS E)) : ∀ w ∈ vx_at0 "ScaleInspection" 272 "java/lang/IllegalStateException" ["java/lang/RuntimeException", "java/lang/Exception"], w.before (eG E) (eS E) = true := af_u (af_c (fun _ => C.ts _ q91) (af_c (fun _ => C.ts _ q178) (af_c (fun _ => C.ts _ q187) (af_c (fun _ => C.ts _ q193) (af_c (fun _ => C.ts _ q196) (af_c (fun _ => C.ts _ q198) (af_c (fun _ => C.ts _ q179) (af_c (fun _ => C.ts _ q180) (af_c (fun _ => C.ts _ q132) (af_c (fun _ => C.ts _ q133) (af_c (fun _ => C.ts _ q181) (af_c (fun _ => C.ts _ q186) (af_c (fun _ => C.ts _ q194) (af_c (fun _ => C.ts _ q434) (af_c (fun _ => C.ts _ q168) (af_c (fun _ => C.ts _ q435) (af_c (fun _ => C.ts _ q170) (af_c (fun _ => C.ts _ q436) (af_c (fun _ => C.ts _ q172) (af_c (fun _ => C.ts _ q182) (af_c (fun h => by rw [no3] at h; cases h) (af_c (fun _ => C.ts _ q184) (af_c (fun h => by rw [no4] at h; cases h) (af_c (fun _ => C.ts _ q174) (af_c (fun _ => C.ts _ q1619) (af_c (fun _ => C.ts _ q1620) (af_c (fun _ => C.ts _ q1621) (af_c (fun _ => C.ts _ q1563) (af_c (fun _ => va_Nw.use rfl (S.n q159 rfl)) (af_c (fun _ => C.ts _ q1563) (af_c (fun _ => C.ts _ q1564) (af_c (fun _ => C.ts _ q1565) (af_c (fun _ => C.ts _ q1566) (af_c (fun _ => va_Nw.use rfl (S.n q161 rfl)) (af_c (fun _ => C.ts _ q1566) (af_c (fun _ => C.ts _ q1567) (af_c (fun _ => C.ts _ q1568) (af_c (fun _ => C.ts _ q179) (af_c (fun _ => va_Nw.use rfl (S.n q163 rfl)) (af_c (fun _ => C.ts _ q1618) (af_c (fun _ => C.ts _ q1610) (af_c (fun _ => va_Nw.use rfl (S.n q1611 rfl)) (af_c (fun _ => C.ts _ q1612) (af_c (fun _ => C.ts _ q191) (af_c (fun _ => C.ts _ q1613) (af_c (fun _ => C.ts _ q1614) (af_c (fun _ => C.ts _ q1615) (af_c (fun _ => C.ts _ q1616) (af_c (fun h => by rw [no1] at h; cases h) (af_c (fun h => by rw [no2] at h; cases h) (af_c (fun _ => C.ts _ q177) (af_c (fun _ => C.ts _ q176) (af_c (fun _ => C.ts _ q1617) af_n)))))))))))))))))))))))))))))))))))))))))))))))))))))
set_option maxRecDepth 100000 in
theorem ot_IS : ∀ w ∈ Cond.classLink "ScaleInspection" 270 "java/lang/IllegalStateException" :: Cond.initialized "java/lang/IllegalStateException" :: vx_at0 "ScaleInspection" 272 "java/lang/IllegalStateException" ["java/lang/RuntimeException", "java/lang/Exception"], vx_ot w = true := by decide +kernel
theorem gx_throwIS {E : Cf} {Γ : Gm} {A : Nat → Prop} {ρ : State → Prop} {cc : ByteArray} {nL : Nat} {rm : Room} {I : Heap → Prop} {cells slots pc : Nat} {lv : List (Option Value)} {st : List Value} {Post : Option Value → Heap → Prop} {XP : String → Heap → Prop} {mc ms : Nat} {ret : Option FieldType} (C : Cx E Γ A ρ cc nL RX1 rm) (r : RtX E ret mc ms Post XP) (S : SC Γ A (eS E)) (Y : SY A (eS E)) (d0 : decode cc pc = .ok (.new 270, 3)) (d3 : decode cc (pc + 3) = .ok (.dup, 1)) (d4 : decode cc (pc + 4) = .ok (.invokespecial 272, 3)) (d7 : decode cc (pc + 7) = .ok (.athrow, 1)) (hR : 6 ≤ rm.frames ∧ (st.map fun v => v.category).sum + 81 ≤ rm.locals ∧ cells + 1 ≤ rm.cells ∧ slots + 6 ≤ rm.slots) (hc : cells + 1 ≤ mc) (hs : slots + 6 ≤ ms) (hp : ∀ H H', I H → H.size ≤ H'.size → (∀ q : Nat, q < H.size → H'[q]? = H[q]?) → XP "java/lang/IllegalStateException" H') : G E I cells slots pc lv st := by
  intro H locs ls hI hS hl
  rw [r.2.2.1]
  refine vx_throw0 (own := "ScaleInspection") (cls := "java/lang/IllegalStateException") (names := ["java/lang/RuntimeException", "java/lang/Exception"]) C.x C.b C.tr C.ow (by decide) (by decide) (C.ts _ q1609) (C.ts _ q123) (at_IS C S) ot_IS Y.1 Y.2 (C.hA ▸ hS) (by rw [hl.1, C.n, C.ml]) d0 d3 d4 d7 (fun x hx => (r.2.2.2 x hx).elim) (by rw [C.R]; exact hR.1) (by rw [C.R]; exact hR.2.1) (by rw [C.R]; exact hR.2.2.1) (by rw [C.R]; exact hR.2.2.2) r.2.1 (fun t hW hz hk => ⟨hp H t.heap hI hz hk, ?_⟩) hS.2.2 hc hs
  exact ⟨Nat.le_trans hS.1 hz, fun q h1 h2 => (hk q (Nat.lt_of_lt_of_le h1 hS.1)).trans (hS.2.1 q h1 h2)⟩

