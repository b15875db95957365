/-- one open visit of one entry is touched -/
def T1v (k en : Nat) : Tg → Prop := fun t => t = (100 + k, en)
theorem T1v_r {k en : Nat} {t : Tg} (h : t.1 < 100) : ¬ T1v k en t := fun z => by rw [z] at h; have : (100 + k, en).1 = 100 + k := rfl; omega
theorem vTag_1 {r : Nat → Int32} {i k en en' : Nat} (h : i ≠ k ∨ en' ≠ en) : ¬ T1v k en (vTag r i en') := by
  unfold vTag
  split
  · intro z
    have := Prod.mk.inj z
    rcases h with h | h
    · omega
    · exact h this.2
  · exact T1v_r (by decide)
theorem RepV.k1 {Γ : Gm} {Ld : Int32 → Int32} {r : Nat → Int32} {i k en en' v : Nat} {h h' : Hp} (V : RepV Γ Ld r i h en' v) (K : Kp (T1v k en) h h') (n : i ≠ k ∨ en' ≠ en) : RepV Γ Ld r i h' en' v := V.kp K (vTag_1 n) (T1v_r (by show 40 < 100; decide)) (T1v_r (by show 41 < 100; decide))
theorem RepE.k1 {Γ : Gm} {Ld : Int32 → Int32} {r : Nat → Int32} {nv ne en en' k : Nat} {h h' : Hp} (V : RepE Γ Ld r nv ne h en') (K : Kp (T1v k en) h h') (n : en' ≠ en) : RepE Γ Ld r nv ne h' en' := by
  obtain ⟨vl, el, vs, es, h1, h2, h3, h4, h5, h6⟩ := V
  have hv : ∀ i, i < nv → RepV Γ Ld r i h' en' (vs i) := fun i hi => (h5 i hi).k1 K (Or.inr n)
  have he : ∀ i, i < ne → h' (es i) = some ((0, 0), .inr (12, [.int (r (661 + i)), .int (r (665 + i)), .int (r (673 + i)), .int (r (669 + i))])) := fun i hi => K.get (h6 i hi) (T1v_r (by show 0 < 100; decide))
  exact ⟨vl, el, vs, es, K.get h1 (T1v_r (by show 30 < 100; decide)), h2, h3.kp K (T1v_r (by show 31 < 100; decide)) (T1v_r (by show 32 < 100; decide)) (fun i hi => (hv i hi).obj), h4.kp K (T1v_r (by show 33 < 100; decide)) (T1v_r (by show 34 < 100; decide)) (fun i hi => ⟨_, _, he i hi⟩), hv, he⟩
theorem RepK.k1 {Γ : Gm} {X : Nat → Nat → Int32} {nt ns nm ne m k en : Nat} {h h' : Hp} (V : RepK Γ X nt ns nm ne h m) (K : Kp (T1v k en) h h') : RepK Γ X nt ns nm ne h' m := by
  obtain ⟨sl, wl, ma, te, fm, ft, ss, wq, h1, h2, h3, h4, h5, h6, h7, h8, h9⟩ := V
  have n0 : ∀ (r o : Nat), r < 31 → ¬ T1v k en (r, o) := fun r o hr => T1v_r (by show r < 100; omega)
  have hs : ∀ k, k < ns → h' (ss k) = _ := fun k hk => K.get (h7 k hk) (n0 _ _ (by decide))
  have hw : ∀ k, k < ne → h' (wq k) = _ := fun k hk => K.get (h9 k hk) (n0 _ _ (by decide))
  exact ⟨sl, wl, ma, te, fm, ft, ss, wq, K.get h1 (n0 _ _ (by decide)), K.get h2 (n0 _ _ (by decide)), h3, K.get h4 (n0 _ _ (by decide)), h5, h6.kp K (n0 23 m (by decide)) (n0 24 m (by decide)) (fun k hk => ⟨_, _, hs k hk⟩), hs, h8.kp K (n0 25 m (by decide)) (n0 26 m (by decide)) (fun k hk => ⟨_, _, hw k hk⟩), hw⟩
/-- the current entry's row is set anew; all else stays -/
theorem RepC.row1 {Γ : Gm} {F : Nat → Int32} {X : Nat → Nat → Int32} {nt ns nm ne nv' nu k : Nat} {r' : Nat → Int32} {h h' : Hp} {x bu mk en hi sn so : Nat} {b7 b8 : Int32} {hs : Nat → Nat} {fsn fso : Nat → Option Nat}
    (Rx : h x = some ((50, 0), .inr (0, [.ref bu, .int (F 15), .int (F 22), .ref mk, .ref en, .ref hi, .ref sn, .int b7, .int b8, .ref so]))) (Rb : h bu = some ((51, 0), aB Γ 800 (X 14))) (RK : RepK Γ X nt ns nm ne h mk) (RH : RepH Γ X nm ne nu h hi hs) (RS : RepN Γ X nm ne h sn fsn) (RA : Apt en nu hs fsn) (RO : RepO Γ h so fso)
    (K : Kp (T1v k en) h h') (RE' : RepE Γ (LdX X nm) r' nv' ne h' en) : RepC Γ F (setX X 1 r') nt ns nm ne nv' nu h' x := by
  have n0 : ∀ (r o : Nat), r < 100 → ¬ T1v k en (r, o) := fun r o hr => T1v_r hr
  refine ⟨bu, mk, en, hi, sn, so, b7, b8, hs, fsn, fso, K.get Rx (n0 _ _ (by decide)), K.get Rb (n0 _ _ (by decide)), RK.k1 K, RE', ⟨RH.1.kp K (n0 52 0 (by decide)) (n0 53 0 (by decide)) (fun j hj => ?_), fun j hj => ?_⟩, ⟨K.get RS.1 (n0 _ _ (by decide)), fun j hj => ?_⟩, RA, ⟨K.get RO.1 (n0 _ _ (by decide)), fun c hc sv e => ?_⟩⟩
  · obtain ⟨nv9, E⟩ := RH.2 j hj
    obtain ⟨fs, e⟩ := (E.k1 K (RA.1 j hj)).obj
    exact ⟨_, _, e⟩
  · obtain ⟨nv9, E⟩ := RH.2 j hj
    exact ⟨nv9, E.k1 K (RA.1 j hj)⟩
  · rcases RS.2 j hj with a | ⟨a, e, nv9, b, c⟩
    · exact Or.inl a
    · exact Or.inr ⟨a, e, nv9, b, c.k1 K (RA.2.2 j hj e b).1⟩
  · obtain ⟨nd, le, ri, f, h1, h2, h3, h4⟩ := RO.2 c hc sv e
    exact ⟨nd, le, ri, f, K.get h1 (n0 60 c (by decide)), K.get h2 (n0 61 c (by decide)), h3, h4⟩
/-- a visit is closed: its cell set anew and given over to all -/
theorem RepE.close {Γ : Gm} {Ld : Int32 → Int32} {r : Nat → Int32} {nv ne en k ma er : Nat} {h h' : Hp} {vl el : Nat} {vs es : Nat → Nat} {fm fe : Nat → Int32} {vd : Int32} (hk : k < nv) (hv : nv ≤ 30) (hne : ne ≤ 4) (ht : ∀ i, i < nv → (r (151 + i)).toNatClampNeg ≤ 8)
    (Ee : h en = some ((30, 0), .inr (2, [.ref vl, .ref el]))) (E0 : r 0 = nI nv) (Evl : Lst Γ h vl (31, en) 13 nv vs) (Eel : Lst Γ h el (33, en) 12 ne es) (Evs : ∀ i, i < nv → RepV Γ Ld r i h en (vs i)) (Ees : ∀ i, i < ne → h (es i) = some ((0, 0), .inr (12, [.int (r (661 + i)), .int (r (665 + i)), .int (r (673 + i)), .int (r (669 + i))])))
    (K : Kp (T1v k en) h h') (Vm : h' ma = some ((40, vs k), aI Γ 8 fm)) (Ve : h' er = some ((41, vs k), aI Γ 8 fe)) (Vt : ∀ i, i < (r (151 + k)).toNatClampNeg → fm i = r (181 + 8 * k + i) ∧ fe i = r (421 + 8 * k + i) - Ld (r (181 + 8 * k + i))) (Vo : h' (vs k) = some ((1, 0), .inr (13, [.int (r (1 + k)), .int (r (31 + k)), .int (r (121 + k) + 1), .ref ma, .ref er, .int (r (151 + k)), .int vd]))) : RepE Γ Ld (upd (upd r (61 + k) 1) (91 + k) vd) nv ne h' en := by
  have u : ∀ i, i ≠ 61 + k → i ≠ 91 + k → upd (upd r (61 + k) 1) (91 + k) vd i = r i := fun i a b => (upd_ne b).trans (upd_ne a)
  have hv' : ∀ i, i < nv → RepV Γ Ld (upd (upd r (61 + k) 1) (91 + k) vd) i h' en (vs i) := by
    intro i hi
    by_cases c : i = k
    · subst c
      refine ⟨ma, er, fm, fe, ?_, Vm, Ve, fun j hj => ?_⟩
      · have e61 : upd (upd r (61 + i) 1) (91 + i) vd (61 + i) = 1 := (upd_ne (by omega)).trans (upd_self _ _ _)
        unfold vTag vVd
        rw [e61, if_neg (by decide), if_neg (by decide), upd_self, u _ (by omega) (by omega), u _ (by omega) (by omega), u _ (by omega) (by omega), u _ (by omega) (by omega)]
        exact Vo
      · rw [u _ (by omega) (by omega)] at hj
        have := ht i hi
        rw [u _ (by omega) (by omega), u _ (by omega) (by omega)]
        exact Vt j hj
    · obtain ⟨m2, e2, f2, g2, a1, a2, a3, a4⟩ := (Evs i hi).k1 K (Or.inl c)
      refine ⟨m2, e2, f2, g2, ?_, a2, a3, fun j hj => ?_⟩
      · unfold vTag vVd at a1 ⊢
        rw [u _ (by omega) (by omega), u _ (by omega) (by omega), u _ (by omega) (by omega), u _ (by omega) (by omega), u _ (by omega) (by omega), u (91 + i) (by omega) (by omega)]
        exact a1
      · rw [u _ (by omega) (by omega)] at hj
        have := ht i hi
        rw [u _ (by omega) (by omega), u _ (by omega) (by omega)]
        exact a4 j hj
  have he : ∀ i, i < ne → h' (es i) = _ := fun i hi => K.get (Ees i hi) (T1v_r (by show 0 < 100; decide))
  refine ⟨vl, el, vs, es, K.get Ee (T1v_r (by show 30 < 100; decide)), by rw [u _ (by omega) (by omega)]; exact E0, Evl.kp K (T1v_r (by show 31 < 100; decide)) (T1v_r (by show 32 < 100; decide)) (fun i hi => (hv' i hi).obj), Eel.kp K (T1v_r (by show 33 < 100; decide)) (T1v_r (by show 34 < 100; decide)) (fun i hi => ⟨_, _, he i hi⟩), hv', fun i hi => ?_⟩
  rw [u _ (by omega) (by omega), u _ (by omega) (by omega), u _ (by omega) (by omega), u _ (by omega) (by omega)]
  exact he i hi
