/-! what holds of the model's numbers all along -/
/-- the market: nt traders, ns scales, nm masses, ne sets -/
def Mk (X : Nat → Nat → Int32) (nt ns nm ne : Nat) : Prop :=
  (∀ s, s < ns → ∃ t, t < nt ∧ X 4 s = nI t) ∧ (∀ s, s < ns → ∃ c, c < 3 ∧ X 5 s = nI c) ∧ (∀ s, s < ns → ∃ d, 1 ≤ d ∧ d ≤ 1000 ∧ X 6 s = nI d) ∧ (∀ s, s < ns → ∃ c, c ≤ 999999 ∧ X 7 s = nI c) ∧
  (∀ m, m < nm → ∃ w, 1 ≤ w ∧ w ≤ 1000098 ∧ X 9 m = nI w) ∧ (∀ e, e < ne → ∃ w, 2 ≤ w ∧ w ≤ 12 ∧ X 11 e = nI w) ∧ (∀ e, e < ne → X 12 e = 0 ∨ X 12 e = 1) ∧ (∀ c, c < 3 → ∃ t, 1 ≤ t ∧ t ≤ 5 ∧ X 13 c = nI t)
/-- a test: what was put on, what was read -/
def TsB (nm : Nat) (r : Nat → Int32) (v i : Nat) : Prop := (∃ p, p < 2 ^ nm ∧ r (181 + 8 * v + i) = nI p) ∧ -1999999 ≤ (r (421 + 8 * v + i)).toInt ∧ (r (421 + 8 * v + i)).toInt ≤ 1999999
/-- a visit -/
def ViB (ns nm : Nat) (r : Nat → Int32) (v : Nat) : Prop :=
  (∃ sc, sc < ns ∧ r (1 + v) = nI sc) ∧ (∃ d, d ≤ 9999 ∧ r (31 + v) = nI d) ∧ (r (61 + v) = 0 ∨ r (61 + v) = 1) ∧ (∃ q, q ≤ 5 ∧ r (91 + v) = nI q) ∧ (r (121 + v) = 0 ∨ r (121 + v) = 1) ∧ (∃ t, t ≤ 8 ∧ r (151 + v) = nI t ∧ ∀ i, i < t → TsB nm r v i)
/-- a set's hypotheses -/
def HyB (wt : Nat → Int32) (r : Nat → Int32) (e : Nat) : Prop :=
  ∃ w h l g q : Nat, (wt e = nI w ∧ w ≤ 12) ∧ h < 2 ^ w ∧ l < 2 ^ w ∧ g ≤ 1 ∧ q ≤ 20 ∧ r (661 + e) = nI h ∧ r (665 + e) = nI l ∧ r (669 + e) = nI g ∧ r (673 + e) = nI q ∧ (h = l ∨ (h &&& l = 0 ∧ g = 0)) ∧ 1 ≤ h + l + g
/-- a whole row: nv visits -/
def Rw (ns nm ne : Nat) (wt : Nat → Int32) (r : Nat → Int32) (nv : Nat) : Prop := r 0 = nI nv ∧ nv ≤ 30 ∧ (∀ v, v < nv → ViB ns nm r v) ∧ (∀ e, e < ne → HyB wt r e)
def Iv (F : Nat → Int32) (X : Nat → Nat → Int32) (nt ns nm ne nv nu ln : Nat) : Prop :=
  (F 2 = nI nt ∧ nt ≤ 8) ∧ (F 3 = nI ns ∧ ns ≤ 24) ∧ (F 8 = nI nm ∧ nm ≤ 10) ∧ (F 10 = nI ne ∧ ne ≤ 4) ∧ (F 41 = nI nu ∧ nu ≤ 12) ∧ (F 15 = nI ln ∧ ln ≤ 800) ∧ Mk X nt ns nm ne ∧ Rw ns nm ne (X 11) (X 1) nv ∧
  (∀ j, j < nu → ∃ nv', Rw ns nm ne (X 11) (fun i => X 42 (677 * j + i)) nv') ∧ (∀ j, j < 2 → X 44 j = 0 ∨ (X 44 j = 1 ∧ ∃ nv', Rw ns nm ne (X 11) (fun i => X 43 (677 * j + i)) nv'))
section IvP
variable {F : Nat → Int32} {X : Nat → Nat → Int32} {nt ns nm ne nv nu ln : Nat}
theorem Iv.f2 (J : Iv F X nt ns nm ne nv nu ln) : F 2 = nI nt := J.1.1
theorem Iv.lt (J : Iv F X nt ns nm ne nv nu ln) : nt ≤ 8 := J.1.2
theorem Iv.f3 (J : Iv F X nt ns nm ne nv nu ln) : F 3 = nI ns := J.2.1.1
theorem Iv.ls (J : Iv F X nt ns nm ne nv nu ln) : ns ≤ 24 := J.2.1.2
theorem Iv.f8 (J : Iv F X nt ns nm ne nv nu ln) : F 8 = nI nm := J.2.2.1.1
theorem Iv.lm (J : Iv F X nt ns nm ne nv nu ln) : nm ≤ 10 := J.2.2.1.2
theorem Iv.f10 (J : Iv F X nt ns nm ne nv nu ln) : F 10 = nI ne := J.2.2.2.1.1
theorem Iv.le (J : Iv F X nt ns nm ne nv nu ln) : ne ≤ 4 := J.2.2.2.1.2
theorem Iv.f41 (J : Iv F X nt ns nm ne nv nu ln) : F 41 = nI nu := J.2.2.2.2.1.1
theorem Iv.lu (J : Iv F X nt ns nm ne nv nu ln) : nu ≤ 12 := J.2.2.2.2.1.2
theorem Iv.f15 (J : Iv F X nt ns nm ne nv nu ln) : F 15 = nI ln := J.2.2.2.2.2.1.1
theorem Iv.ll (J : Iv F X nt ns nm ne nv nu ln) : ln ≤ 800 := J.2.2.2.2.2.1.2
theorem Iv.mk (J : Iv F X nt ns nm ne nv nu ln) : Mk X nt ns nm ne := J.2.2.2.2.2.2.1
theorem Iv.rw (J : Iv F X nt ns nm ne nv nu ln) : Rw ns nm ne (X 11) (X 1) nv := J.2.2.2.2.2.2.2.1
theorem Iv.x0 (J : Iv F X nt ns nm ne nv nu ln) : X 1 0 = nI nv := J.rw.1
theorem Iv.lv (J : Iv F X nt ns nm ne nv nu ln) : nv ≤ 30 := J.rw.2.1
theorem Iv.vi (J : Iv F X nt ns nm ne nv nu ln) {v : Nat} (h : v < nv) : ViB ns nm (X 1) v := J.rw.2.2.1 v h
theorem Iv.hy (J : Iv F X nt ns nm ne nv nu ln) {e : Nat} (h : e < ne) : HyB (X 11) (X 1) e := J.rw.2.2.2 e h
theorem Iv.thr (J : Iv F X nt ns nm ne nv nu ln) (v : Int32) : Iv (upd F 0 v) X nt ns nm ne nv nu ln := J
end IvP
