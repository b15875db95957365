/-! THE COMPONENT'S CELLS over the model's numbers F, X -/
/-- a visit's tag: an open one is its entry's own, a closed one may be shared -/
def vTag (r : Nat → Int32) (k en : Nat) : Tg := if r (61 + k) = 0 then (100 + k, en) else (1, 0)
def vVd (r : Nat → Int32) (k : Nat) : Int32 := if r (61 + k) = 0 then -2 else r (91 + k)
def RepV (Γ : Gm) (Ld : Int32 → Int32) (r : Nat → Int32) (k : Nat) (h : Hp) (en v : Nat) : Prop :=
  ∃ (ma er : Nat) (fm fe : Nat → Int32), h v = some (vTag r k en, .inr (13, [.int (r (1 + k)), .int (r (31 + k)), .int (r (121 + k) + 1), .ref ma, .ref er, .int (r (151 + k)), .int (vVd r k)])) ∧ h ma = some ((40, v), aI Γ 8 fm) ∧ h er = some ((41, v), aI Γ 8 fe) ∧ ∀ i, i < (r (151 + k)).toNatClampNeg → fm i = r (181 + 8 * k + i) ∧ fe i = r (421 + 8 * k + i) - Ld (r (181 + 8 * k + i))
/-- an entry -/
def RepE (Γ : Gm) (Ld : Int32 → Int32) (r : Nat → Int32) (nv ne : Nat) (h : Hp) (en : Nat) : Prop :=
  ∃ (vl el : Nat) (vs es : Nat → Nat), h en = some ((30, 0), .inr (2, [.ref vl, .ref el])) ∧ r 0 = nI nv ∧ Lst Γ h vl (31, en) 13 nv vs ∧ Lst Γ h el (33, en) 12 ne es ∧ (∀ k, k < nv → RepV Γ Ld r k h en (vs k)) ∧ ∀ k, k < ne → h (es k) = some ((0, 0), .inr (12, [.int (r (661 + k)), .int (r (665 + k)), .int (r (673 + k)), .int (r (669 + k))]))
/-- the market -/
def RepK (Γ : Gm) (X : Nat → Nat → Int32) (nt ns nm ne : Nat) (h : Hp) (m : Nat) : Prop :=
  ∃ (sl wl ma te : Nat) (fm ft : Nat → Int32) (ss wq : Nat → Nat), h m = some ((20, 0), .inr (1, [.ref sl, .ref wl, .ref ma, .ref te, .int (nI nt), .int (nI nm)])) ∧ h ma = some ((21, m), aI Γ 10 fm) ∧ (∀ k, k < nm → fm k = X 9 k) ∧ h te = some ((22, m), aI Γ 3 ft) ∧ (∀ k, k < 3 → ft k = X 13 k) ∧ Lst Γ h sl (23, m) 10 ns ss ∧ (∀ k, k < ns → h (ss k) = some ((0, 0), .inr (10, [.int (X 4 k), .int (X 5 k), .int (X 6 k), .int (X 7 k), .ref (Γ.2.2 (1 + (X 5 k).toNatClampNeg))]))) ∧ Lst Γ h wl (25, m) 11 ne wq ∧ ∀ k, k < ne → h (wq k) = some ((0, 0), .inr (11, [.int (X 11 k), .int (X 12 k)]))
/-- a solver's table: what is known is right -/
def RepS (Γ : Gm) (c : Nat) (h : Hp) (sv : Nat) : Prop :=
  ∃ (nd le ri : Nat) (f : Nat → Int32), h sv = some ((60, c), .inr (14, [.int (nI c), .ref nd, .ref le, .ref ri])) ∧ h nd = some ((61, c), aI Γ 4394 f) ∧ (∀ p q, p + q ≤ c → f (13 * p + q) = -1 ∨ f (13 * p + q) = nI (oneN c p q)) ∧ ∀ u g, 1 ≤ u → u ≤ c → g ≤ 1 → f (2197 * g + 169 * u) = -1 ∨ f (2197 * g + 169 * u) = nI (bothN c g u)
abbrev LdX (X : Nat → Nat → Int32) (nm : Nat) : Int32 → Int32 := fun s => loadN (X 9) s nm
def RepH (Γ : Gm) (X : Nat → Nat → Int32) (nm ne nu : Nat) (h : Hp) (hi : Nat) (hs : Nat → Nat) : Prop := Lst Γ h hi (52, 0) 2 nu hs ∧ ∀ j, j < nu → ∃ nv, RepE Γ (LdX X nm) (fun i => X 42 (677 * j + i)) nv ne h (hs j)
def RepN (Γ : Gm) (X : Nat → Nat → Int32) (nm ne : Nat) (h : Hp) (sn : Nat) (fsn : Nat → Option Nat) : Prop := h sn = some ((54, 0), aR Γ 5 2 fsn) ∧ ∀ j, j < 2 → (X 44 j = 0 ∧ fsn j = none) ∨ (X 44 j = 1 ∧ ∃ e nv, fsn j = some e ∧ RepE Γ (LdX X nm) (fun i => X 43 (677 * j + i)) nv ne h e)
def RepO (Γ : Gm) (h : Hp) (so : Nat) (fso : Nat → Option Nat) : Prop := h so = some ((55, 0), aR Γ 6 13 fso) ∧ ∀ c, c < 13 → ∀ sv, fso c = some sv → RepS Γ c h sv
/-- the entries are different ones -/
def Apt (en nu : Nat) (hs : Nat → Nat) (fsn : Nat → Option Nat) : Prop := (∀ j, j < nu → hs j ≠ en) ∧ (∀ i j, i < nu → j < nu → hs i = hs j → i = j) ∧ ∀ j, j < 2 → ∀ e, fsn j = some e → e ≠ en ∧ ∀ i, i < nu → e ≠ hs i
def RepC (Γ : Gm) (F : Nat → Int32) (X : Nat → Nat → Int32) (nt ns nm ne nv nu : Nat) (h : Hp) (x : Nat) : Prop :=
  ∃ (bu mk en hi sn so : Nat) (b7 b8 : Int32) (hs : Nat → Nat) (fsn fso : Nat → Option Nat), h x = some ((50, 0), .inr (0, [.ref bu, .int (F 15), .int (F 22), .ref mk, .ref en, .ref hi, .ref sn, .int b7, .int b8, .ref so])) ∧ h bu = some ((51, 0), aB Γ 800 (X 14)) ∧ RepK Γ X nt ns nm ne h mk ∧ RepE Γ (LdX X nm) (X 1) nv ne h en ∧ RepH Γ X nm ne nu h hi hs ∧ RepN Γ X nm ne h sn fsn ∧ Apt en nu hs fsn ∧ RepO Γ h so fso
theorem loadN_congr {f g : Nat → Int32} {n : Nat} (e : ∀ k, k < n → f k = g k) (s : Int32) : loadN f s n = loadN g s n := by
  induction n with
  | zero => rfl
  | succ n ih =>
    simp only [loadN]
    rw [ih (fun k hk => e k (by omega)), e n (by omega)]
set_option maxRecDepth 100000 in
theorem cc_inRange {l : Launch} {Γ : Gm} {A : Nat → Prop} {ρ : State → Prop} (B : Bs l A ρ) (v lo hi : Int64) : CtP l Γ A ρ yX1_inRange cX1_inRange 6 (some .boolean) 0 0 [.long v, .long lo, .long hi] (.int (wi v lo hi)) := by
  intro J
  refine Ct.of B.1 B.2 (by decide) [some (.long v), none, some (.long lo), none, some (.long hi), none] (Nat.le_of_ble_eq_true rfl) rfl ?_
  intro E hE C R
  subst hE
  refine g_lload_n C dX1_inRange_0 rfl rfl ?_
  refine g_lload_n C dX1_inRange_1 rfl rfl ?_
  refine g_lcmp C dX1_inRange_2 ?_
  refine g_if_lt 17 C dX1_inRange_3 rfl (fun c3 => ?_) (fun c3 => ?_)
  · refine g_iconst (v := 0) C dX1_inRange_17 rfl ?_
    exact g_zret C R (Nat.le_of_ble_eq_true rfl) (Nat.le_of_ble_eq_true rfl) dX1_inRange_18 rfl (fun H hH => ⟨by unfold wi; rw [if_neg (fun z => by have := (lg_cmp_lt _ _).mp c3; rw [fa_lt64] at this; have z1 := z.1; rw [fa_le64] at z1; omega)], hH⟩)
  · refine g_lload_n C dX1_inRange_6 rfl rfl ?_
    refine g_lload C dX1_inRange_7 rfl ?_
    refine g_lcmp C dX1_inRange_9 ?_
    refine g_if_gt 17 C dX1_inRange_10 rfl (fun c10 => ?_) (fun c10 => ?_)
    · refine g_iconst (v := 0) C dX1_inRange_17 rfl ?_
      exact g_zret C R (Nat.le_of_ble_eq_true rfl) (Nat.le_of_ble_eq_true rfl) dX1_inRange_18 rfl (fun H hH => ⟨by unfold wi; rw [if_neg (fun z => by have := (lg_cmp_gt _ _).mp c10; rw [fa_lt64] at this; have z1 := z.2; rw [fa_le64] at z1; omega)], hH⟩)
    · refine g_iconst (v := 1) C dX1_inRange_13 rfl ?_
      refine g_goto 18 C dX1_inRange_14 rfl ?_
      exact g_zret C R (Nat.le_of_ble_eq_true rfl) (Nat.le_of_ble_eq_true rfl) dX1_inRange_18 rfl (fun H hH => ⟨by unfold wi; rw [if_pos ⟨by have := mt (lg_cmp_lt _ _).mpr c3; rw [fa_lt64] at this; rw [fa_le64]; omega, by have := mt (lg_cmp_gt _ _).mpr c10; rw [fa_lt64] at this; rw [fa_le64]; omega⟩], hH⟩)
def inI (set k : Int32) : Int32 := if (set >>> (k &&& 31)) &&& 1 = 1 then 1 else 0
set_option maxRecDepth 100000 in
theorem cc_isIn {l : Launch} {Γ : Gm} {A : Nat → Prop} {ρ : State → Prop} (B : Bs l A ρ) (set k : Int32) : CtP l Γ A ρ yX1_isIn cX1_isIn 2 (some .boolean) 0 0 [.int set, .int k] (.int (inI set k)) := by
  intro J
  refine Ct.of B.1 B.2 (by decide) [some (.int set), some (.int k)] (Nat.le_of_ble_eq_true rfl) rfl ?_
  intro E hE C R
  subst hE
  refine g_iload_n C dX1_isIn_0 rfl rfl ?_
  refine g_iload_n C dX1_isIn_1 rfl rfl ?_
  refine g_ishr C dX1_isIn_2 ?_
  refine g_iconst (v := 1) C dX1_isIn_3 rfl ?_
  refine g_iand C dX1_isIn_4 ?_
  refine g_iconst (v := 1) C dX1_isIn_5 rfl ?_
  refine g_icmp_ne 13 C dX1_isIn_6 rfl (fun c6 => ?_) (fun c6 => ?_)
  · refine g_iconst (v := 0) C dX1_isIn_13 rfl ?_
    exact g_zret C R (Nat.le_of_ble_eq_true rfl) (Nat.le_of_ble_eq_true rfl) dX1_isIn_14 rfl (fun H hH => ⟨by unfold inI; rw [if_neg c6], hH⟩)
  · refine g_iconst (v := 1) C dX1_isIn_9 rfl ?_
    refine g_goto 14 C dX1_isIn_10 rfl ?_
    exact g_zret C R (Nat.le_of_ble_eq_true rfl) (Nat.le_of_ble_eq_true rfl) dX1_isIn_14 rfl (fun H hH => ⟨by unfold inI; rw [if_pos c6], hH⟩)
set_option maxRecDepth 100000 in
theorem cc_isDay {l : Launch} {Γ : Gm} {A : Nat → Prop} {ρ : State → Prop} (B : Bs l A ρ) (day : Int32) : CtP l Γ A ρ yX1_isDay cX1_isDay 1 (some .boolean) 1 25 [.int day] (.int (ixI day 10000)) := by
  intro J
  refine Ct.of B.1 B.2 (by decide) [some (.int day)] (Nat.le_of_ble_eq_true rfl) rfl ?_
  intro E hE C R
  subst hE
  refine g_iload_n C dX1_isDay_0 rfl rfl ?_
  refine g_i2l C dX1_isDay_1 ?_
  refine g_lconst (v := 0) C dX1_isDay_2 rfl ?_
  refine g_ldc2 (v := 9999) C dX1_isDay_3 q1063 ?_
  refine h_callS (rest := []) 3 C (cc_inRange B _ _ _ _) (lw_S q580 q581 q86 q582) ⟨⟨by decide, by decide, by decide +kernel⟩, ⟨Nat.le_of_ble_eq_true rfl, Nat.le_of_ble_eq_true rfl⟩, ⟨Nat.le_of_ble_eq_true rfl, Nat.le_of_ble_eq_true rfl⟩⟩ (fun _ h => h) rfl rfl (Nat.le_of_ble_eq_true rfl) dX1_isDay_6 (h_P ?_)
  refine g_topi (y := ixI day 10000) (wi_lit (n := 9999) (by decide)) ?_
  exact g_zret C R (Nat.le_of_ble_eq_true rfl) (Nat.le_of_ble_eq_true rfl) dX1_isDay_9 (ixI_nar _ _) (fun H hH => ⟨rfl, hH⟩)
set_option maxRecDepth 100000 in
theorem cc_isScale {l : Launch} {Γ : Gm} {A : Nat → Prop} {ρ : State → Prop} (B : Bc l Γ A ρ) {h : Hp} {F : Nat → Int32} {X : Nat → Nat → Int32} {nt ns nm ne nv nu ln : Nat} (J : Iv F X nt ns nm ne nv nu ln) {x : Nat} (R_ : RepC Γ F X nt ns nm ne nv nu h x) (s : Int32) : CtF l Γ A ρ yX1_isScale cX1_isScale 2 (some .boolean) { frames := 1, cells := 0, slots := 0, locals := 25 } [.ref x, .int s] h (some (.int (ixI s ns))) h := by
  refine Ct.of B.1.1 B.1.2 (by decide) [some (.ref x), some (.int s)] (Nat.le_of_ble_eq_true rfl) rfl ?_
  intro E hE C R
  subst hE
  have SC_ := B.2 _ C.r
  have ht_ := J.lt
  have hs_ := J.ls
  have hm_ := J.lm
  have he_ := J.le
  have hu_ := J.lu
  have hl_ := J.ll
  have hv_ := J.lv
  obtain ⟨bu, mk, en, hi, sn, so, b7, b8, hs, fsn, fso, Rx, Rb, RK, RE, RH, RS, RA, RO⟩ := id R_
  obtain ⟨sl, wl, ma, te, fm, ft, ss, wq, Km, Kma, Kfm, Kte, Kft, Ksl, Kss, Kwl, Kws⟩ := id RK
  refine g_iload_n C dX1_isScale_0 rfl rfl ?_
  refine g_i2l C dX1_isScale_1 ?_
  refine g_lconst (v := 0) C dX1_isScale_2 rfl ?_
  refine g_aload_n C dX1_isScale_3 rfl rfl ?_
  refine c_get 0 3 k_X1 in_X1 (by decide) (fun _ h => h) q539 Rx rfl C dX1_isScale_4 ?_
  refine c_getN 1 0 k_X2 in_X2 (by decide) (fun _ h => h) q483 SC_ Km rfl C dX1_isScale_7 ?_
  refine h_callV (rest := [.long 0, .long s.toInt64]) 0 C (cc_size B Ksl) (lw_V q939 q770 q771 q90 q772) ⟨⟨by decide, by decide, by decide +kernel⟩, ⟨Nat.le_of_ble_eq_true rfl, Nat.le_of_ble_eq_true rfl⟩, ⟨Nat.le_of_ble_eq_true rfl, Nat.le_of_ble_eq_true rfl⟩⟩ (fun _ h => h) (Ksl.recv C) rfl rfl (Nat.le_of_ble_eq_true rfl) dX1_isScale_10 (h_F ?_)
  refine g_iconst (v := 1) C dX1_isScale_13 rfl ?_
  refine g_isub C dX1_isScale_14 ?_
  refine g_i2l C dX1_isScale_15 ?_
  refine h_callS (rest := []) 3 C (cc_inRange B.1 _ _ _ _) (lw_S q580 q581 q86 q582) ⟨⟨by decide, by decide, by decide +kernel⟩, ⟨Nat.le_of_ble_eq_true rfl, Nat.le_of_ble_eq_true rfl⟩, ⟨Nat.le_of_ble_eq_true rfl, Nat.le_of_ble_eq_true rfl⟩⟩ (fun _ h => h) rfl rfl (Nat.le_of_ble_eq_true rfl) dX1_isScale_16 (h_P ?_)
  refine g_topi (y := ixI s ns) (wi_ix (by omega)) ?_
  exact g_zret C R (Nat.le_of_ble_eq_true rfl) (Nat.le_of_ble_eq_true rfl) dX1_isScale_19 (ixI_nar _ _) (fun H hH => ⟨rfl, hH⟩)
set_option maxRecDepth 100000 in
theorem cc_isSet {l : Launch} {Γ : Gm} {A : Nat → Prop} {ρ : State → Prop} (B : Bc l Γ A ρ) {h : Hp} {F : Nat → Int32} {X : Nat → Nat → Int32} {nt ns nm ne nv nu ln : Nat} (J : Iv F X nt ns nm ne nv nu ln) {x : Nat} (R_ : RepC Γ F X nt ns nm ne nv nu h x) (s : Int32) : CtF l Γ A ρ yX1_isSet cX1_isSet 2 (some .boolean) { frames := 1, cells := 0, slots := 0, locals := 25 } [.ref x, .int s] h (some (.int (ixI s ne))) h := by
  refine Ct.of B.1.1 B.1.2 (by decide) [some (.ref x), some (.int s)] (Nat.le_of_ble_eq_true rfl) rfl ?_
  intro E hE C R
  subst hE
  have SC_ := B.2 _ C.r
  have ht_ := J.lt
  have hs_ := J.ls
  have hm_ := J.lm
  have he_ := J.le
  have hu_ := J.lu
  have hl_ := J.ll
  have hv_ := J.lv
  obtain ⟨bu, mk, en, hi, sn, so, b7, b8, hs, fsn, fso, Rx, Rb, RK, RE, RH, RS, RA, RO⟩ := id R_
  obtain ⟨sl, wl, ma, te, fm, ft, ss, wq, Km, Kma, Kfm, Kte, Kft, Ksl, Kss, Kwl, Kws⟩ := id RK
  refine g_iload_n C dX1_isSet_0 rfl rfl ?_
  refine g_i2l C dX1_isSet_1 ?_
  refine g_lconst (v := 0) C dX1_isSet_2 rfl ?_
  refine g_aload_n C dX1_isSet_3 rfl rfl ?_
  refine c_get 0 3 k_X1 in_X1 (by decide) (fun _ h => h) q539 Rx rfl C dX1_isSet_4 ?_
  refine c_getN 1 1 k_X2 in_X2 (by decide) (fun _ h => h) q486 SC_ Km rfl C dX1_isSet_7 ?_
  refine h_callV (rest := [.long 0, .long s.toInt64]) 0 C (cc_size B Kwl) (lw_V q939 q770 q771 q90 q772) ⟨⟨by decide, by decide, by decide +kernel⟩, ⟨Nat.le_of_ble_eq_true rfl, Nat.le_of_ble_eq_true rfl⟩, ⟨Nat.le_of_ble_eq_true rfl, Nat.le_of_ble_eq_true rfl⟩⟩ (fun _ h => h) (Kwl.recv C) rfl rfl (Nat.le_of_ble_eq_true rfl) dX1_isSet_10 (h_F ?_)
  refine g_iconst (v := 1) C dX1_isSet_13 rfl ?_
  refine g_isub C dX1_isSet_14 ?_
  refine g_i2l C dX1_isSet_15 ?_
  refine h_callS (rest := []) 3 C (cc_inRange B.1 _ _ _ _) (lw_S q580 q581 q86 q582) ⟨⟨by decide, by decide, by decide +kernel⟩, ⟨Nat.le_of_ble_eq_true rfl, Nat.le_of_ble_eq_true rfl⟩, ⟨Nat.le_of_ble_eq_true rfl, Nat.le_of_ble_eq_true rfl⟩⟩ (fun _ h => h) rfl rfl (Nat.le_of_ble_eq_true rfl) dX1_isSet_16 (h_P ?_)
  refine g_topi (y := ixI s ne) (wi_ix (by omega)) ?_
  exact g_zret C R (Nat.le_of_ble_eq_true rfl) (Nat.le_of_ble_eq_true rfl) dX1_isSet_19 (ixI_nar _ _) (fun H hH => ⟨rfl, hH⟩)
set_option maxRecDepth 100000 in
theorem cc_isVisit {l : Launch} {Γ : Gm} {A : Nat → Prop} {ρ : State → Prop} (B : Bc l Γ A ρ) {h : Hp} {F : Nat → Int32} {X : Nat → Nat → Int32} {nt ns nm ne nv nu ln : Nat} (J : Iv F X nt ns nm ne nv nu ln) {x : Nat} (R_ : RepC Γ F X nt ns nm ne nv nu h x) (v : Int32) : CtF l Γ A ρ yX1_isVisit cX1_isVisit 2 (some .boolean) { frames := 1, cells := 0, slots := 0, locals := 25 } [.ref x, .int v] h (some (.int (ixI v nv))) h := by
  refine Ct.of B.1.1 B.1.2 (by decide) [some (.ref x), some (.int v)] (Nat.le_of_ble_eq_true rfl) rfl ?_
  intro E hE C R
  subst hE
  have SC_ := B.2 _ C.r
  have ht_ := J.lt
  have hs_ := J.ls
  have hm_ := J.lm
  have he_ := J.le
  have hu_ := J.lu
  have hl_ := J.ll
  have hv_ := J.lv
  obtain ⟨bu, mk, en, hi, sn, so, b7, b8, hs, fsn, fso, Rx, Rb, RK, RE, RH, RS, RA, RO⟩ := id R_
  obtain ⟨vl, el, vs, es, Ee, E0, Evl, Eel, Evs, Ees⟩ := id RE
  refine g_iload_n C dX1_isVisit_0 rfl rfl ?_
  refine g_i2l C dX1_isVisit_1 ?_
  refine g_lconst (v := 0) C dX1_isVisit_2 rfl ?_
  refine g_aload_n C dX1_isVisit_3 rfl rfl ?_
  refine c_get 0 4 k_X1 in_X1 (by decide) (fun _ h => h) q540 Rx rfl C dX1_isVisit_4 ?_
  refine c_getN 2 0 k_X3 in_X3 (by decide) (fun _ h => h) q522 SC_ Ee rfl C dX1_isVisit_7 ?_
  refine h_callV (rest := [.long 0, .long v.toInt64]) 0 C (cc_size B Evl) (lw_V q939 q770 q771 q90 q772) ⟨⟨by decide, by decide, by decide +kernel⟩, ⟨Nat.le_of_ble_eq_true rfl, Nat.le_of_ble_eq_true rfl⟩, ⟨Nat.le_of_ble_eq_true rfl, Nat.le_of_ble_eq_true rfl⟩⟩ (fun _ h => h) (Evl.recv C) rfl rfl (Nat.le_of_ble_eq_true rfl) dX1_isVisit_10 (h_F ?_)
  refine g_iconst (v := 1) C dX1_isVisit_13 rfl ?_
  refine g_isub C dX1_isVisit_14 ?_
  refine g_i2l C dX1_isVisit_15 ?_
  refine h_callS (rest := []) 3 C (cc_inRange B.1 _ _ _ _) (lw_S q580 q581 q86 q582) ⟨⟨by decide, by decide, by decide +kernel⟩, ⟨Nat.le_of_ble_eq_true rfl, Nat.le_of_ble_eq_true rfl⟩, ⟨Nat.le_of_ble_eq_true rfl, Nat.le_of_ble_eq_true rfl⟩⟩ (fun _ h => h) rfl rfl (Nat.le_of_ble_eq_true rfl) dX1_isVisit_16 (h_P ?_)
  refine g_topi (y := ixI v nv) (wi_ix (by omega)) ?_
  exact g_zret C R (Nat.le_of_ble_eq_true rfl) (Nat.le_of_ble_eq_true rfl) dX1_isVisit_19 (ixI_nar _ _) (fun H hH => ⟨rfl, hH⟩)
