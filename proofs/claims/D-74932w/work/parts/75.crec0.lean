/-- the current entry is changed, by tags of T: the market, the other entries, the rest stay -/
def TE (T : Tg → Prop) : Prop := ∀ r o, r = 0 ∨ (20 ≤ r ∧ r ≤ 26) ∨ (50 ≤ r ∧ r ≤ 61) → ¬ T (r, o)
theorem RepK.kT {Γ : Gm} {X : Nat → Nat → Int32} {nt ns nm ne m : Nat} {T : Tg → Prop} {h h' : Hp} (V : RepK Γ X nt ns nm ne h m) (K : Kp T h h') (n0 : TE T) : RepK Γ X nt ns nm ne h' m := by
  obtain ⟨sl, wl, ma, te, fm, ft, ss, wq, h1, h2, h3, h4, h5, h6, h7, h8, h9⟩ := V
  have hs : ∀ k, k < ns → h' (ss k) = _ := fun k hk => K.get (h7 k hk) (n0 _ _ (by decide))
  have hw : ∀ k, k < ne → h' (wq k) = _ := fun k hk => K.get (h9 k hk) (n0 _ _ (by decide))
  exact ⟨sl, wl, ma, te, fm, ft, ss, wq, K.get h1 (n0 _ _ (by decide)), K.get h2 (n0 _ _ (by decide)), h3, K.get h4 (n0 _ _ (by decide)), h5, h6.kp K (n0 23 m (by decide)) (n0 24 m (by decide)) (fun k hk => ⟨_, _, hs k hk⟩), hs, h8.kp K (n0 25 m (by decide)) (n0 26 m (by decide)) (fun k hk => ⟨_, _, hw k hk⟩), hw⟩
theorem RepC.rowT {Γ : Gm} {F : Nat → Int32} {X : Nat → Nat → Int32} {nt ns nm ne nv' nu : Nat} {T : Tg → Prop} {r' : Nat → Int32} {h h' : Hp} {x bu mk en hi sn so : Nat} {b7 b8 : Int32} {hs : Nat → Nat} {fsn fso : Nat → Option Nat}
    (Rx : h x = some ((50, 0), .inr (0, [.ref bu, .int (F 15), .int (F 22), .ref mk, .ref en, .ref hi, .ref sn, .int b7, .int b8, .ref so]))) (Rb : h bu = some ((51, 0), aB Γ 800 (X 14))) (RK : RepK Γ X nt ns nm ne h mk) (RH : RepH Γ X nm ne nu h hi hs) (RS : RepN Γ X nm ne h sn fsn) (RA : Apt en nu hs fsn) (RO : RepO Γ h so fso)
    (K : Kp T h h') (n0 : TE T) (hE : ∀ (r : Nat → Int32) (nv9 e9 : Nat), e9 ≠ en → RepE Γ (LdX X nm) r nv9 ne h e9 → RepE Γ (LdX X nm) r nv9 ne h' e9) (RE' : RepE Γ (LdX X nm) r' nv' ne h' en) : RepC Γ F (setX X 1 r') nt ns nm ne nv' nu h' x := by
  refine ⟨bu, mk, en, hi, sn, so, b7, b8, hs, fsn, fso, K.get Rx (n0 _ _ (by decide)), K.get Rb (n0 _ _ (by decide)), RK.kT K n0, RE', ⟨RH.1.kp K (n0 52 0 (by decide)) (n0 53 0 (by decide)) (fun j hj => ?_), fun j hj => ?_⟩, ⟨K.get RS.1 (n0 _ _ (by decide)), fun j hj => ?_⟩, RA, ⟨K.get RO.1 (n0 _ _ (by decide)), fun c hc sv e => ?_⟩⟩
  · obtain ⟨nv9, E⟩ := RH.2 j hj
    obtain ⟨fs, e⟩ := (hE _ _ _ (RA.1 j hj) E).obj
    exact ⟨_, _, e⟩
  · obtain ⟨nv9, E⟩ := RH.2 j hj
    exact ⟨nv9, hE _ _ _ (RA.1 j hj) E⟩
  · rcases RS.2 j hj with a | ⟨a, e, nv9, b, c⟩
    · exact Or.inl a
    · exact Or.inr ⟨a, e, nv9, b, hE _ _ _ (RA.2.2 j hj e b).1 c⟩
  · obtain ⟨nd, le, ri, f, h1, h2, h3, h4⟩ := RO.2 c hc sv e
    exact ⟨nd, le, ri, f, K.get h1 (n0 60 c (by decide)), K.get h2 (n0 61 c (by decide)), h3, h4⟩
/-- tags of one open visit and its arrays -/
def T3v (k en v : Nat) : Tg → Prop := fun t => t = (100 + k, en) ∨ t = (40, v) ∨ t = (41, v)
theorem T3v_E (k en v : Nat) : TE (T3v k en v) := fun r o h z => by
  rcases z with z | z | z <;> (have := (Prod.mk.inj z).1; omega)
theorem T3v_r {k en v r o : Nat} (h : r < 40) : ¬ T3v k en v (r, o) := fun z => by
  rcases z with z | z | z <;> (have := (Prod.mk.inj z).1; omega)
theorem RepV.k3 {Γ : Gm} {Ld : Int32 → Int32} {r : Nat → Int32} {i k en en' v w : Nat} {e : va_E} {h h' : Hp} (V : RepV Γ Ld r i h en' w) (K : Kp (T3v k en v) h h') (n : i ≠ k ∨ en' ≠ en) (hv : h v = some ((100 + k, en), e)) : RepV Γ Ld r i h' en' w := by
  have hw : w ≠ v := fun z => by
    obtain ⟨ma, er, fm, fe, h1, -⟩ := V
    rw [z, hv] at h1
    exact vTag_1 (r := r) n (Prod.mk.inj (Option.some.inj h1)).1.symm
  refine V.kp K (fun z => ?_) (fun z => ?_) (fun z => ?_)
  · rcases z with z | z | z
    · exact vTag_1 n z
    · unfold vTag at z; split at z <;> (have := (Prod.mk.inj z).1; omega)
    · unfold vTag at z; split at z <;> (have := (Prod.mk.inj z).1; omega)
  · rcases z with z | z | z
    · have := (Prod.mk.inj z).1; omega
    · exact hw (Prod.mk.inj z).2
    · have := (Prod.mk.inj z).1; omega
  · rcases z with z | z | z
    · have := (Prod.mk.inj z).1; omega
    · have := (Prod.mk.inj z).1; omega
    · exact hw (Prod.mk.inj z).2
theorem RepE.k3 {Γ : Gm} {Ld : Int32 → Int32} {r : Nat → Int32} {nv ne en en' k v : Nat} {e : va_E} {h h' : Hp} (V : RepE Γ Ld r nv ne h en') (K : Kp (T3v k en v) h h') (n : en' ≠ en) (hv : h v = some ((100 + k, en), e)) : RepE Γ Ld r nv ne h' en' := by
  obtain ⟨vl, el, vs, es, h1, h2, h3, h4, h5, h6⟩ := V
  have hv' : ∀ i, i < nv → RepV Γ Ld r i h' en' (vs i) := fun i hi => (h5 i hi).k3 K (Or.inr n) hv
  have he : ∀ i, i < ne → h' (es i) = some ((0, 0), .inr (12, [.int (r (661 + i)), .int (r (665 + i)), .int (r (673 + i)), .int (r (669 + i))])) := fun i hi => K.get (h6 i hi) (T3v_r (by decide))
  exact ⟨vl, el, vs, es, K.get h1 (T3v_r (by decide)), h2, h3.kp K (T3v_r (by decide)) (T3v_r (r := 32) (by decide)) (fun i hi => (hv' i hi).obj), h4.kp K (T3v_r (by decide)) (T3v_r (r := 34) (by decide)) (fun i hi => ⟨_, _, he i hi⟩), hv', he⟩
/-- a test is recorded in an open visit -/
theorem RepE.rec {Γ : Gm} {Ld : Int32 → Int32} {r : Nat → Int32} {nv ne en k ma er tn : Nat} {h h' : Hp} {vl el : Nat} {vs es : Nat → Nat} {fm fe : Nat → Int32} {put reading : Int32} {e0 : va_E} (hk : k < nv) (hv : nv ≤ 30) (hne : ne ≤ 4) (ho : r (61 + k) = 0) (et : r (151 + k) = nI tn) (htn : tn < 8) (ht : ∀ i, i < nv → (r (151 + i)).toNatClampNeg ≤ 8)
    (Ee : h en = some ((30, 0), .inr (2, [.ref vl, .ref el]))) (E0 : r 0 = nI nv) (Evl : Lst Γ h vl (31, en) 13 nv vs) (Eel : Lst Γ h el (33, en) 12 ne es) (Evs : ∀ i, i < nv → RepV Γ Ld r i h en (vs i)) (Ees : ∀ i, i < ne → h (es i) = some ((0, 0), .inr (12, [.int (r (661 + i)), .int (r (665 + i)), .int (r (673 + i)), .int (r (669 + i))])))
    (hv0 : h (vs k) = some ((100 + k, en), e0)) (K : Kp (T3v k en (vs k)) h h') (Vm : h' ma = some ((40, vs k), aI Γ 8 (upd fm tn put))) (Ve : h' er = some ((41, vs k), aI Γ 8 (upd fe tn (reading - Ld put)))) (Vt : ∀ i, i < (r (151 + k)).toNatClampNeg → fm i = r (181 + 8 * k + i) ∧ fe i = r (421 + 8 * k + i) - Ld (r (181 + 8 * k + i))) (Vo : h' (vs k) = some ((100 + k, en), .inr (13, [.int (r (1 + k)), .int (r (31 + k)), .int (r (121 + k) + 1), .ref ma, .ref er, .int (nI (tn + 1)), .int (vVd r k)]))) : RepE Γ Ld (upd (upd (upd r (181 + 8 * k + tn) put) (421 + 8 * k + tn) reading) (151 + k) (nI (tn + 1))) nv ne h' en := by
  have u : ∀ i, i ≠ 181 + 8 * k + tn → i ≠ 421 + 8 * k + tn → i ≠ 151 + k → upd (upd (upd r (181 + 8 * k + tn) put) (421 + 8 * k + tn) reading) (151 + k) (nI (tn + 1)) i = r i := fun i a b c => (upd_ne c).trans ((upd_ne b).trans (upd_ne a))
  have hv' : ∀ i, i < nv → RepV Γ Ld (upd (upd (upd r (181 + 8 * k + tn) put) (421 + 8 * k + tn) reading) (151 + k) (nI (tn + 1))) i h' en (vs i) := by
    intro i hi
    by_cases c : i = k
    · subst c
      refine ⟨ma, er, _, _, ?_, Vm, Ve, fun j hj => ?_⟩
      · unfold vTag vVd at *
        rw [u (61 + i) (by omega) (by omega) (by omega), if_pos ho, if_pos ho, u (1 + i) (by omega) (by omega) (by omega), u (31 + i) (by omega) (by omega) (by omega), u (121 + i) (by omega) (by omega) (by omega), upd_self]
        rw [if_pos ho] at Vo
        exact Vo
      · rw [upd_self, nI_clamp (by omega)] at hj
        by_cases cj : j = tn
        · subst cj
          have e1 : upd (upd (upd r (181 + 8 * i + j) put) (421 + 8 * i + j) reading) (151 + i) (nI (j + 1)) (181 + 8 * i + j) = put := (upd_ne (by omega)).trans ((upd_ne (by omega)).trans (upd_self _ _ _))
          have e2 : upd (upd (upd r (181 + 8 * i + j) put) (421 + 8 * i + j) reading) (151 + i) (nI (j + 1)) (421 + 8 * i + j) = reading := (upd_ne (by omega)).trans (upd_self _ _ _)
          rw [e1, e2, upd_self, upd_self]
          exact ⟨rfl, rfl⟩
        · rw [u _ (by omega) (by omega) (by omega), u _ (by omega) (by omega) (by omega), upd_ne cj, upd_ne cj]
          exact Vt j (by rw [et, nI_clamp (by omega)]; omega)
    · obtain ⟨m2, e2, f2, g2, a1, a2, a3, a4⟩ := (Evs i hi).k3 K (Or.inl c) hv0
      refine ⟨m2, e2, f2, g2, ?_, a2, a3, fun j hj => ?_⟩
      · unfold vTag vVd at a1 ⊢
        rw [u (61 + i) (by omega) (by omega) (by omega), u (1 + i) (by omega) (by omega) (by omega), u (31 + i) (by omega) (by omega) (by omega), u (121 + i) (by omega) (by omega) (by omega), u (151 + i) (by omega) (by omega) (by omega), u (91 + i) (by omega) (by omega) (by omega)]
        exact a1
      · rw [u _ (by omega) (by omega) (by omega)] at hj
        have := ht i hi
        rw [u _ (by omega) (by omega) (by omega), u _ (by omega) (by omega) (by omega)]
        exact a4 j hj
  have he : ∀ i, i < ne → h' (es i) = _ := fun i hi => K.get (Ees i hi) (T3v_r (by decide))
  refine ⟨vl, el, vs, es, K.get Ee (T3v_r (by decide)), by rw [u _ (by omega) (by omega) (by omega)]; exact E0, Evl.kp K (T3v_r (by decide)) (T3v_r (r := 32) (by decide)) (fun i hi => (hv' i hi).obj), Eel.kp K (T3v_r (by decide)) (T3v_r (r := 34) (by decide)) (fun i hi => ⟨_, _, he i hi⟩), hv', fun i hi => ?_⟩
  rw [u _ (by omega) (by omega) (by omega), u _ (by omega) (by omega) (by omega), u _ (by omega) (by omega) (by omega), u _ (by omega) (by omega) (by omega)]
  exact he i hi
