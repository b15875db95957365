theorem T05 : T5 T0 := fun t h => absurd h (fun z => z)
theorem RepC.k0 {Γ : Gm} {F : Nat → Int32} {X : Nat → Nat → Int32} {nt ns nm ne nv nu : Nat} {h h' : Hp} {x : Nat} (R : RepC Γ F X nt ns nm ne nv nu h x) (K : Kp T0 h h') : RepC Γ F X nt ns nm ne nv nu h' x := by
  obtain ⟨bu, mk, en, hi, sn, so, b7, b8, hs, fsn, fso, Rx, Rb, RK, RE, RH, RS, RA, RO⟩ := R
  exact ⟨bu, mk, en, hi, sn, so, b7, b8, hs, fsn, fso, K.get0 Rx, K.get0 Rb, RK.k5 K T05, RE.k5 K T05, RH.k5 K T05 (fun z => z) (fun z => z), RS.k5 K T05 (fun z => z), RA, RO.k5 K T05 (fun z => z)⟩
/-- lists of the entry en are changed -/
def TOw (en : Nat) (T : Tg → Prop) : Prop := ∀ t, T t → t.2 = en ∧ 31 ≤ t.1 ∧ t.1 ≤ 34
theorem TOw.n {en : Nat} {T : Tg → Prop} (h : TOw en T) {t : Tg} (c : t.2 ≠ en ∨ t.1 < 31 ∨ 34 < t.1) : ¬ T t := fun z => by have := h t z; omega
theorem TOw_a (en : Nat) : TOw en (TL (31, en)) := fun t z => by rcases z with z | z <;> (rw [z]; exact ⟨rfl, Nat.le_of_ble_eq_true rfl, Nat.le_of_ble_eq_true rfl⟩)
theorem TOw_b (en : Nat) : TOw en (TL (33, en)) := fun t z => by rcases z with z | z <;> (rw [z]; exact ⟨rfl, Nat.le_of_ble_eq_true rfl, Nat.le_of_ble_eq_true rfl⟩)
theorem TOw.E {en : Nat} {T : Tg → Prop} (h : TOw en T) : TE T := fun r o hr => h.n (by show o ≠ en ∨ r < 31 ∨ 34 < r; omega)
theorem RepV.kO {Γ : Gm} {Ld : Int32 → Int32} {r : Nat → Int32} {i en en' w : Nat} {T : Tg → Prop} {h h' : Hp} (V : RepV Γ Ld r i h en' w) (K : Kp T h h') (hT : TOw en T) : RepV Γ Ld r i h' en' w := by
  refine V.kp K (hT.n ?_) (hT.n (Or.inr (Or.inr (by show 34 < 40; decide)))) (hT.n (Or.inr (Or.inr (by show 34 < 41; decide))))
  unfold vTag
  split
  · exact Or.inr (Or.inr (by show 34 < 100 + i; omega))
  · exact Or.inr (Or.inl (by decide))
theorem RepE.kO {Γ : Gm} {Ld : Int32 → Int32} {r : Nat → Int32} {nv ne en en' : Nat} {T : Tg → Prop} {h h' : Hp} (V : RepE Γ Ld r nv ne h en') (K : Kp T h h') (n : en' ≠ en) (hT : TOw en T) : RepE Γ Ld r nv ne h' en' := by
  obtain ⟨vl, el, vs, es, h1, h2, h3, h4, h5, h6⟩ := V
  have hv' : ∀ i, i < nv → RepV Γ Ld r i h' en' (vs i) := fun i hi => (h5 i hi).kO K hT
  have he : ∀ i, i < ne → h' (es i) = some ((0, 0), .inr (12, [.int (r (661 + i)), .int (r (665 + i)), .int (r (673 + i)), .int (r (669 + i))])) := fun i hi => K.get (h6 i hi) (hT.n (Or.inr (Or.inl (by decide))))
  exact ⟨vl, el, vs, es, K.get h1 (hT.n (Or.inr (Or.inl (by decide)))), h2, h3.kp K (hT.n (Or.inl n)) (hT.n (Or.inl n)) (fun i hi => (hv' i hi).obj), h4.kp K (hT.n (Or.inl n)) (hT.n (Or.inl n)) (fun i hi => ⟨_, _, he i hi⟩), hv', he⟩
/-- a set's hypotheses are replaced -/
theorem RepE.wg {Γ : Gm} {Ld : Int32 → Int32} {r : Nat → Int32} {nv ne en k q : Nat} {h h' : Hp} {vl el : Nat} {vs es : Nat → Nat} {a b c d : Int32} (hk : k < ne) (hv : nv ≤ 30) (hne : ne ≤ 4) (ht : ∀ i, i < nv → (r (151 + i)).toNatClampNeg ≤ 8)
    (Ee : h en = some ((30, 0), .inr (2, [.ref vl, .ref el]))) (E0 : r 0 = nI nv) (Evl : Lst Γ h vl (31, en) 13 nv vs) (Evs : ∀ i, i < nv → RepV Γ Ld r i h en (vs i)) (Ees : ∀ i, i < ne → h (es i) = some ((0, 0), .inr (12, [.int (r (661 + i)), .int (r (665 + i)), .int (r (673 + i)), .int (r (669 + i))])))
    (K : Kp (TL (33, en)) h h') (L : Lst Γ h' el (33, en) 12 ne (va_up es k q)) (hq : h' q = some ((0, 0), .inr (12, [.int a, .int b, .int d, .int c]))) : RepE Γ Ld (upd (upd (upd (upd r (661 + k) a) (665 + k) b) (669 + k) c) (673 + k) d) nv ne h' en := by
  have hT := TOw_b en
  have u : ∀ i, i ≠ 661 + k → i ≠ 665 + k → i ≠ 669 + k → i ≠ 673 + k → upd (upd (upd (upd r (661 + k) a) (665 + k) b) (669 + k) c) (673 + k) d i = r i := fun i a b c d => (upd_ne d).trans ((upd_ne c).trans ((upd_ne b).trans (upd_ne a)))
  have hv' : ∀ i, i < nv → RepV Γ Ld (upd (upd (upd (upd r (661 + k) a) (665 + k) b) (669 + k) c) (673 + k) d) i h' en (vs i) := by
    intro i hi
    have := ht i hi
    obtain ⟨m2, e2, f2, g2, a1, a2, a3, a4⟩ := (Evs i hi).kO K hT
    refine ⟨m2, e2, f2, g2, ?_, a2, a3, fun j hj => ?_⟩
    · unfold vTag vVd at a1 ⊢
      rw [u (61 + i) (by omega) (by omega) (by omega) (by omega), u (1 + i) (by omega) (by omega) (by omega) (by omega), u (31 + i) (by omega) (by omega) (by omega) (by omega), u (121 + i) (by omega) (by omega) (by omega) (by omega), u (151 + i) (by omega) (by omega) (by omega) (by omega), u (91 + i) (by omega) (by omega) (by omega) (by omega)]
      exact a1
    · rw [u _ (by omega) (by omega) (by omega) (by omega)] at hj
      rw [u _ (by omega) (by omega) (by omega) (by omega), u _ (by omega) (by omega) (by omega) (by omega)]
      exact a4 j hj
  refine ⟨vl, el, vs, va_up es k q, K.get Ee (hT.n (Or.inr (Or.inl (by decide)))), by rw [u _ (by omega) (by omega) (by omega) (by omega)]; exact E0, Evl.kp K (fun z => by rcases z with z | z <;> cases z) (fun z => by rcases z with z | z <;> cases z) (fun i hi => (hv' i hi).obj), L, hv', fun i hi => ?_⟩
  by_cases cc : i = k
  · subst cc
    rw [va_up_self, hq]
    have e1 : upd (upd (upd (upd r (661 + i) a) (665 + i) b) (669 + i) c) (673 + i) d (661 + i) = a := (upd_ne (by omega)).trans ((upd_ne (by omega)).trans ((upd_ne (by omega)).trans (upd_self _ _ _)))
    have e2 : upd (upd (upd (upd r (661 + i) a) (665 + i) b) (669 + i) c) (673 + i) d (665 + i) = b := (upd_ne (by omega)).trans ((upd_ne (by omega)).trans (upd_self _ _ _))
    have e3 : upd (upd (upd (upd r (661 + i) a) (665 + i) b) (669 + i) c) (673 + i) d (669 + i) = c := (upd_ne (by omega)).trans (upd_self _ _ _)
    rw [e1, e2, e3, upd_self]
  · rw [va_up_ne _ _ cc, u _ (by omega) (by omega) (by omega) (by omega), u _ (by omega) (by omega) (by omega) (by omega), u _ (by omega) (by omega) (by omega) (by omega), u _ (by omega) (by omega) (by omega) (by omega)]
    exact K.get (Ees i hi) (hT.n (Or.inr (Or.inl (by decide))))
theorem mlt_to {x : Int32} {n : Nat} (h0 : 0 ≤ x.toInt) (h1 : x.toInt < 2 ^ n) : mlt x n := by
  unfold mlt
  have e : x.toInt = if 2 * x.toBitVec.toNat < 2 ^ 32 then (x.toBitVec.toNat : Int) else (x.toBitVec.toNat : Int) - ((2 ^ 32 : Nat) : Int) := BitVec.toInt_eq_toNat_cond _
  have h2 : ((2 ^ n : Nat) : Int) = (2 : Int) ^ n := by norm_cast
  split at e
  · omega
  · have := x.toBitVec.isLt
    omega
theorem wg_in {x c : Int32} {n : Nat} (h : ¬ rnI x 1 (1 <<< (c &&& 31) - 1) = 0) (e : c = nI n) (hn : n ≤ 12) : mlt x n := by
  have hp : 2 ^ n ≤ 2 ^ 12 := Nat.pow_le_pow_right (by decide) hn
  have hq : 1 ≤ 2 ^ n := Nat.one_le_two_pow
  unfold rnI at h
  by_cases cc : 1 ≤ x ∧ x ≤ 1 <<< (c &&& 31) - 1
  · subst e
    rw [fa_le, fa_le, shl1 (by omega), show (1 : Int32) = nI 1 from rfl, pk_sub (by omega), nI_toInt (by omega), nI_toInt (by omega)] at cc
    have h2 : ((2 ^ n : Nat) : Int) = (2 : Int) ^ n := by norm_cast
    exact mlt_to (by omega) (by omega)
  · rw [if_neg cc] at h; exact absurd rfl h
