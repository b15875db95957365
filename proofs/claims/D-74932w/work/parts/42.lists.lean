/-- a member of a class that has entries of the machine's own, itself none -/
theorem Ct.ofF {l : Launch} {Γ : Gm} {A : Nat → Prop} {ρ : State → Prop} {y : MethodName} {cc : ByteArray} {nL : Nat} {ret : Option FieldType} {rm : Room} {av : List Value} {I : Heap → Prop} {Post : Option Value → Heap → Prop} (hl : l.stackTraces = false) (hρ : Cl A ρ) (hy : plainFor y = true) (lv : List (Option Value)) (hn : (lg_sl av).length ≤ nL) (hlv : lvE av ++ List.replicate (nL - (lg_sl av).length) none = lv)
    (body : ∀ E : Cf, eL E = l → Cx E Γ A ρ cc nL y.cls rm → Rt E ret rm.cells rm.slots Post → G E I 0 0 0 lv []) : Ct l Γ A ρ y cc nL ret rm av I Post := by
  refine va_MetF (cc := cc) (maxL := nL) (ret := ret) hy rfl ?_
  intro p e s m args below meth c s₁ B hml hv
  obtain ⟨rfl, hI, hK, hr⟩ := hv
  have hts := atoms_spec (ws := ws_ y cc nL ret) B.pre
  have hts : ∀ w ∈ lw_all, w.before _ s = true := fun w h => hts w (List.mem_cons_of_mem _ h)
  have hown : s.vm.findClass y.cls = some m.cls := findClass_of_methodNamed B.named
  have hl0 := lv_entry av hn
  rw [lg_entry_eq]
  generalize (lg_sl av ++ List.replicate (nL - (lg_sl av).length) Slot.unset).toArray = ls at hl0 ⊢
  have hlh : lh ls nL lv := by
    refine ⟨hl0.1, hl0.2.1, fun i v hi => ?_⟩
    rw [← hlv] at hi
    have h1 := lvE_get av 0 i v (lvR_get _ _ _ _ hi)
    rw [Nat.zero_add] at h1
    exact hl0.2.2 _ h1
  exact body ((p, l, e, (headSpec (ws_ y cc nL ret) rm).room), (s, m, av.toArray, below, meth, c), A, nL, MQ below (Qo Post A) av.toArray s rm.cells rm.slots A) rfl ⟨B.exec, B.bytes, hml, rfl, hown, hts, rfl, rfl, hK, hr, hρ, hl⟩ ⟨B.returns, B.notSynchronized, rfl⟩ s.heap [] ls hI va_S.rf hlh
theorem g_wid {E : Cf} {I : Heap → Prop} {cells slots pc : Nat} {lv : List (Option Value)} {st : List Value} {c z : Nat} (h1 : cells ≤ c) (h2 : slots ≤ z) (k : G E I c z pc lv st) : G E I cells slots pc lv st := fun H locs ls hI hS hl => W.widen h1 h2 (k H locs ls hI hS hl)
theorem lst_ar {i j : Nat} (h : i < j) (hj : j < 2 ^ 31) : nI j - nI i = nI (j - i) := pk_sub (by omega)
def jmx (a b : Int32) : Int32 := if a < b then b else a
def jmn (a b : Int32) : Int32 := if b < a then b else a
def jab (a : Int32) : Int32 := if a < 0 then -a else a
theorem jmx_N {a b : Nat} (ha : a < 2 ^ 31) (hb : b < 2 ^ 31) : jmx (nI a) (nI b) = nI (max a b) := by
  unfold jmx
  by_cases c : a < b
  · rw [if_pos ((nI_ltI ha hb).mpr c), Nat.max_eq_right (by omega)]
  · rw [if_neg (fun z => c ((nI_ltI ha hb).mp z)), Nat.max_eq_left (by omega)]
theorem jmn_N {a b : Nat} (ha : a < 2 ^ 31) (hb : b < 2 ^ 31) : jmn (nI a) (nI b) = nI (min a b) := by
  unfold jmn
  by_cases c : b < a
  · rw [if_pos ((nI_ltI hb ha).mpr c), Nat.min_eq_right (by omega)]
  · rw [if_neg (fun z => c ((nI_ltI hb ha).mp z)), Nat.min_eq_left (by omega)]
set_option maxRecDepth 100000 in
theorem cc_max {l : Launch} {Γ : Gm} {A : Nat → Prop} {ρ : State → Prop} (B : Bs l A ρ) (a b : Int32) : CtP l Γ A ρ yJ12_max cJ12_max 2 (some .int) 0 0 [.int a, .int b] (.int (jmx a b)) := by
  intro J
  refine Ct.ofF B.1 B.2 (by decide +kernel) [some (.int a), some (.int b)] (Nat.le_of_ble_eq_true rfl) rfl ?_
  intro E hE C R
  subst hE
  refine g_iload_n C dJ12_max_0 rfl rfl ?_
  refine g_iload_n C dJ12_max_1 rfl rfl ?_
  refine g_icmp_lt 9 C dJ12_max_2 rfl (fun c2 => ?_) (fun c2 => ?_)
  · refine g_iload_n C dJ12_max_9 rfl rfl ?_
    exact g_iret C R (Nat.le_of_ble_eq_true rfl) (Nat.le_of_ble_eq_true rfl) dJ12_max_10 (fun H hH => ⟨by unfold jmx; rw [if_pos c2], hH⟩)
  · refine g_iload_n C dJ12_max_5 rfl rfl ?_
    refine g_goto 10 C dJ12_max_6 rfl ?_
    exact g_iret C R (Nat.le_of_ble_eq_true rfl) (Nat.le_of_ble_eq_true rfl) dJ12_max_10 (fun H hH => ⟨by unfold jmx; rw [if_neg c2], hH⟩)
set_option maxRecDepth 100000 in
theorem cc_min {l : Launch} {Γ : Gm} {A : Nat → Prop} {ρ : State → Prop} (B : Bs l A ρ) (a b : Int32) : CtP l Γ A ρ yJ12_min cJ12_min 2 (some .int) 0 0 [.int a, .int b] (.int (jmn a b)) := by
  intro J
  refine Ct.ofF B.1 B.2 (by decide +kernel) [some (.int a), some (.int b)] (Nat.le_of_ble_eq_true rfl) rfl ?_
  intro E hE C R
  subst hE
  refine g_iload_n C dJ12_min_0 rfl rfl ?_
  refine g_iload_n C dJ12_min_1 rfl rfl ?_
  refine g_icmp_gt 9 C dJ12_min_2 rfl (fun c2 => ?_) (fun c2 => ?_)
  · refine g_iload_n C dJ12_min_9 rfl rfl ?_
    exact g_iret C R (Nat.le_of_ble_eq_true rfl) (Nat.le_of_ble_eq_true rfl) dJ12_min_10 (fun H hH => ⟨by unfold jmn; rw [if_pos c2], hH⟩)
  · refine g_iload_n C dJ12_min_5 rfl rfl ?_
    refine g_goto 10 C dJ12_min_6 rfl ?_
    exact g_iret C R (Nat.le_of_ble_eq_true rfl) (Nat.le_of_ble_eq_true rfl) dJ12_min_10 (fun H hH => ⟨by unfold jmn; rw [if_neg c2], hH⟩)
set_option maxRecDepth 100000 in
theorem cc_abs {l : Launch} {Γ : Gm} {A : Nat → Prop} {ρ : State → Prop} (B : Bs l A ρ) (a : Int32) : CtP l Γ A ρ yJ12_abs cJ12_abs 1 (some .int) 0 0 [.int a] (.int (jab a)) := by
  intro J
  refine Ct.ofF B.1 B.2 (by decide +kernel) [some (.int a)] (Nat.le_of_ble_eq_true rfl) rfl ?_
  intro E hE C R
  subst hE
  refine g_iload_n C dJ12_abs_0 rfl rfl ?_
  refine g_if_ge 9 C dJ12_abs_1 rfl (fun c1 => ?_) (fun c1 => ?_)
  · refine g_iload_n C dJ12_abs_9 rfl rfl ?_
    exact g_iret C R (Nat.le_of_ble_eq_true rfl) (Nat.le_of_ble_eq_true rfl) dJ12_abs_10 (fun H hH => ⟨by unfold jab; rw [if_neg (fun z => by rw [fa_le] at c1; rw [fa_lt] at z; omega)], hH⟩)
  · refine g_iload_n C dJ12_abs_4 rfl rfl ?_
    refine g_ineg C dJ12_abs_5 ?_
    refine g_goto 10 C dJ12_abs_6 rfl ?_
    exact g_iret C R (Nat.le_of_ble_eq_true rfl) (Nat.le_of_ble_eq_true rfl) dJ12_abs_10 (fun H hH => ⟨by unfold jab; rw [if_pos (by rw [fa_le] at c1; rw [fa_lt]; omega)], hH⟩)
set_option maxRecDepth 100000 in
theorem cc_newLength {l : Launch} {Γ : Gm} {A : Nat → Prop} {ρ : State → Prop} (B : Bs l A ρ) (o a b : Nat) (ho : 1 ≤ o + max a b) (hb : o + max a b < 2147483639) : CtP l Γ A ρ yJ11_newLength cJ11_newLength 4 (some .int) 1 21 [.int (nI o), .int (nI a), .int (nI b)] (.int (nI (o + max a b))) := by
  intro J
  refine Ct.of B.1 B.2 (by decide) [some (.int (nI o)), some (.int (nI a)), some (.int (nI b)), none] (Nat.le_of_ble_eq_true rfl) rfl ?_
  intro E hE C R
  subst hE
  refine g_iload_n C dJ11_newLength_0 rfl rfl ?_
  refine g_iload_n C dJ11_newLength_1 rfl rfl ?_
  refine g_iload_n C dJ11_newLength_2 rfl rfl ?_
  refine h_callS (rest := [.int (nI o)]) 2 C (cc_max B _ _ _) (lw_S q254 q255 q100 q256) ⟨⟨by decide, by decide, by decide +kernel⟩, ⟨Nat.le_of_ble_eq_true rfl, Nat.le_of_ble_eq_true rfl⟩, ⟨Nat.le_of_ble_eq_true rfl, Nat.le_of_ble_eq_true rfl⟩⟩ (fun _ h => h) rfl rfl (Nat.le_of_ble_eq_true rfl) dJ11_newLength_3 (h_P ?_)
  refine g_topi (y := nI (max a b)) (jmx_N (by omega) (by omega)) ?_
  refine g_iadd C dJ11_newLength_6 ?_
  refine g_topi (y := nI (o + max a b)) (nI_add o (max a b)) ?_
  refine g_istore_n (lv' := [some (.int (nI o)), some (.int (nI a)), some (.int (nI b)), some (.int (nI (o + max a b)))]) C dJ11_newLength_7 rfl (by decide) rfl ?_
  refine g_iconst (v := 0) C dJ11_newLength_8 rfl ?_
  refine g_iload_n C dJ11_newLength_9 rfl rfl ?_
  refine g_icmp_ge 21 C dJ11_newLength_10 rfl (fun c10 => ?_) (fun c10 => ?_)
  · exact absurd c10 (by have := nI_pos (n := o + max a b) (by omega); intro z; rw [fa_le] at z; rw [fa_lt] at this; have h0 : (0 : Int32).toInt = 0 := rfl; rw [nI_toInt (by omega)] at z; omega)
  · refine g_iload_n C dJ11_newLength_13 rfl rfl ?_
    refine g_ldc (v := 2147483639) C dJ11_newLength_14 q257 ?_
    refine gN_gt (a := o + max a b) (b := 2147483639) 21 C dJ11_newLength_16 rfl (by omega) (by omega) (fun c16 => ?_) (fun c16 => ?_)
    · exfalso; omega
    · refine g_iload_n C dJ11_newLength_19 rfl rfl ?_
      exact g_iret C R (Nat.le_of_ble_eq_true rfl) (Nat.le_of_ble_eq_true rfl) dJ11_newLength_20 (fun H hH => ⟨rfl, hH⟩)
set_option maxRecDepth 100000 in
theorem cc_chk {l : Launch} {Γ : Gm} {A : Nat → Prop} {ρ : State → Prop} (B : Bs l A ρ) (i n : Nat) (hi : i < n) (hn : n < 2 ^ 31) : CtP l Γ A ρ yJ17_checkIndex cJ17_checkIndex 2 (some .int) 1 22 [.int (nI i), .int (nI n)] (.int (nI i)) := by
  intro J
  refine Ct.of B.1 B.2 (by decide) [some (.int (nI i)), some (.int (nI n))] (Nat.le_of_ble_eq_true rfl) rfl ?_
  intro E hE C R
  subst hE
  refine g_iload_n C dJ17_checkIndex_0 rfl rfl ?_
  refine g_iload_n C dJ17_checkIndex_1 rfl rfl ?_
  refine g_null C dJ17_checkIndex_2 ?_
  refine h_callS (rest := []) 3 C (ct_chkN B _ _ (by omega) (by omega) _) (lw_S q947 q627 q103 q628) ⟨⟨by decide, by decide, by decide +kernel⟩, ⟨Nat.le_of_ble_eq_true rfl, Nat.le_of_ble_eq_true rfl⟩, ⟨Nat.le_of_ble_eq_true rfl, Nat.le_of_ble_eq_true rfl⟩⟩ (fun _ h => h) rfl rfl (Nat.le_of_ble_eq_true rfl) dJ17_checkIndex_3 (h_P ?_)
  exact g_iret C R (Nat.le_of_ble_eq_true rfl) (Nat.le_of_ble_eq_true rfl) dJ17_checkIndex_6 (fun H hH => ⟨rfl, hH⟩)
set_option maxRecDepth 100000 in
theorem cc_size {l : Launch} {Γ : Gm} {A : Nat → Prop} {ρ : State → Prop} (B : Bc l Γ A ρ) {h : Hp} {a : Nat} {t : Tg} {ci n : Nat} {f : Nat → Nat} (L : Lst Γ h a t ci n f) : CtF l Γ A ρ yJ2_size cJ2_size 1 (some .int) { frames := 0, cells := 0, slots := 0, locals := 0 } [.ref a] h (some (.int (nI n))) h := by
  refine Ct.of B.1.1 B.1.2 (by decide) [some (.ref a)] (Nat.le_of_ble_eq_true rfl) rfl ?_
  intro E hE C R
  subst hE
  have SC_ := B.2 _ C.r
  obtain ⟨ea, cap, g, mo, h1, h2, h3, h4, h5, h6, h7, h8⟩ := id L
  refine g_aload_n C dJ2_size_0 rfl rfl ?_
  refine c_get 3 2 k_J2 in_J2 (by decide) (fun _ h => h) q471 h1 rfl C dJ2_size_1 ?_
  exact g_iret C R (Nat.le_of_ble_eq_true rfl) (Nat.le_of_ble_eq_true rfl) dJ2_size_4 (fun H hH => ⟨rfl, hH⟩)
set_option maxRecDepth 100000 in
theorem cc_isEmpty {l : Launch} {Γ : Gm} {A : Nat → Prop} {ρ : State → Prop} (B : Bc l Γ A ρ) {h : Hp} {a : Nat} {t : Tg} {ci n : Nat} {f : Nat → Nat} (L : Lst Γ h a t ci n f) : CtF l Γ A ρ yJ2_isEmpty cJ2_isEmpty 1 (some .boolean) { frames := 0, cells := 0, slots := 0, locals := 0 } [.ref a] h (some (.int (if n = 0 then 1 else 0))) h := by
  refine Ct.of B.1.1 B.1.2 (by decide) [some (.ref a)] (Nat.le_of_ble_eq_true rfl) rfl ?_
  intro E hE C R
  subst hE
  have SC_ := B.2 _ C.r
  obtain ⟨ea, cap, g, mo, h1, h2, h3, h4, h5, h6, h7, h8⟩ := id L
  by_cases c : n = 0
  · subst c
    refine g_aload_n C dJ2_isEmpty_0 rfl rfl ?_
    refine c_get 3 2 k_J2 in_J2 (by decide) (fun _ h => h) q471 h1 rfl C dJ2_isEmpty_1 ?_
    refine g_if_ne 11 C dJ2_isEmpty_4 rfl (fun c4 => ?_) (fun c4 => ?_)
    · exact absurd rfl c4
    · refine g_iconst (v := 1) C dJ2_isEmpty_7 rfl ?_
      refine g_goto 12 C dJ2_isEmpty_8 rfl ?_
      exact g_zret C R (Nat.le_of_ble_eq_true rfl) (Nat.le_of_ble_eq_true rfl) dJ2_isEmpty_12 rfl (fun H hH => ⟨rfl, hH⟩)
  · refine g_aload_n C dJ2_isEmpty_0 rfl rfl ?_
    refine c_get 3 2 k_J2 in_J2 (by decide) (fun _ h => h) q471 h1 rfl C dJ2_isEmpty_1 ?_
    refine g_if_ne 11 C dJ2_isEmpty_4 rfl (fun c4 => ?_) (fun c4 => ?_)
    · refine g_iconst (v := 0) C dJ2_isEmpty_11 rfl ?_
      exact g_zret C R (Nat.le_of_ble_eq_true rfl) (Nat.le_of_ble_eq_true rfl) dJ2_isEmpty_12 rfl (fun H hH => ⟨by rw [if_neg c], hH⟩)
    · exact absurd c4 (fun z => c ((nI_eq (by omega) (by omega)).mp z))
set_option maxRecDepth 100000 in
theorem cc_elementData {l : Launch} {Γ : Gm} {A : Nat → Prop} {ρ : State → Prop} (B : Bc l Γ A ρ) {h : Hp} {a : Nat} {t : Tg} {ci n : Nat} {f : Nat → Nat} (L : Lst Γ h a t ci n f) (i : Nat) (hi : i < n) : CtF l Γ A ρ yJ2_elementData cJ2_elementData 2 (some (.object "java/lang/Object")) { frames := 0, cells := 0, slots := 0, locals := 0 } [.ref a, .int (nI i)] h (some (.ref (f i))) h := by
  refine Ct.of B.1.1 B.1.2 (by decide) [some (.ref a), some (.int (nI i))] (Nat.le_of_ble_eq_true rfl) rfl ?_
  intro E hE C R
  subst hE
  have SC_ := B.2 _ C.r
  obtain ⟨ea, cap, g, mo, h1, h2, h3, h4, h5, h6, h7, h8⟩ := id L
  refine g_aload_n C dJ2_elementData_0 rfl rfl ?_
  refine c_get 3 1 k_J2 in_J2 (by decide) (fun _ h => h) q470 h1 rfl C dJ2_elementData_1 ?_
  refine g_iload_n C dJ2_elementData_4 rfl rfl ?_
  refine c_aald 4 rfl (i := i) (v := .ref (f i)) (by rw [h6 i hi]; rfl) h2 (by omega) (by omega) C dJ2_elementData_5 ?_
  exact g_aret C R (Or.inl ⟨_, rfl⟩) (Or.inr ⟨_, rfl⟩) (Nat.le_of_ble_eq_true rfl) (Nat.le_of_ble_eq_true rfl) dJ2_elementData_6 (fun H hH => ⟨rfl, hH⟩)
set_option maxRecDepth 100000 in
theorem cc_get {l : Launch} {Γ : Gm} {A : Nat → Prop} {ρ : State → Prop} (B : Bc l Γ A ρ) {h : Hp} {a : Nat} {t : Tg} {ci n : Nat} {f : Nat → Nat} (L : Lst Γ h a t ci n f) (i : Nat) (hi : i < n) : CtF l Γ A ρ yJ2_get cJ2_get 2 (some (.object "java/lang/Object")) { frames := 2, cells := 0, slots := 0, locals := 43 } [.ref a, .int (nI i)] h (some (.ref (f i))) h := by
  refine Ct.of B.1.1 B.1.2 (by decide) [some (.ref a), some (.int (nI i))] (Nat.le_of_ble_eq_true rfl) rfl ?_
  intro E hE C R
  subst hE
  have SC_ := B.2 _ C.r
  obtain ⟨ea, cap, g, mo, h1, h2, h3, h4, h5, h6, h7, h8⟩ := id L
  refine g_iload_n C dJ2_get_0 rfl rfl ?_
  refine g_aload_n C dJ2_get_1 rfl rfl ?_
  refine c_get 3 2 k_J2 in_J2 (by decide) (fun _ h => h) q471 h1 rfl C dJ2_get_2 ?_
  refine h_callS (rest := []) 2 C (cc_chk B.1 _ _ (by omega) (by omega) _) (lw_S q944 q945 q118 q946) ⟨⟨by decide, by decide, by decide +kernel⟩, ⟨Nat.le_of_ble_eq_true rfl, Nat.le_of_ble_eq_true rfl⟩, ⟨Nat.le_of_ble_eq_true rfl, Nat.le_of_ble_eq_true rfl⟩⟩ (fun _ h => h) rfl rfl (Nat.le_of_ble_eq_true rfl) dJ2_get_5 (h_P ?_)
  refine g_pop C dJ2_get_8 rfl ?_
  refine g_aload_n C dJ2_get_9 rfl rfl ?_
  refine g_iload_n C dJ2_get_10 rfl rfl ?_
  refine h_callV (rest := []) 1 C (cc_elementData B L _ hi) (lw_V q948 q949 q950 q90 q951) ⟨⟨by decide, by decide, by decide +kernel⟩, ⟨Nat.le_of_ble_eq_true rfl, Nat.le_of_ble_eq_true rfl⟩, ⟨Nat.le_of_ble_eq_true rfl, Nat.le_of_ble_eq_true rfl⟩⟩ (fun _ h => h) (HP.recv C h1 k_J2) rfl rfl (Nat.le_of_ble_eq_true rfl) dJ2_get_11 (h_F ?_)
  exact g_aret C R (Or.inl ⟨_, rfl⟩) (Or.inr ⟨_, rfl⟩) (Nat.le_of_ble_eq_true rfl) (Nat.le_of_ble_eq_true rfl) dJ2_get_14 (fun H hH => ⟨rfl, hH⟩)
