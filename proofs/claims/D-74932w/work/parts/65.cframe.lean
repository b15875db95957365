/-! FRAMES: what stays of the component's cells when only tags of roles 50..59 (the component's own) change -/
def T5 (T : Tg → Prop) : Prop := ∀ t, T t → 50 ≤ t.1 ∧ t.1 < 60
theorem T5.n {T : Tg → Prop} (h : T5 T) {t : Tg} (c : t.1 < 50 ∨ 60 ≤ t.1) : ¬ T t := fun z => by have := h t z; omega
theorem vTag_5 (r : Nat → Int32) (k en : Nat) : (vTag r k en).1 < 50 ∨ 60 ≤ (vTag r k en).1 := by
  unfold vTag
  split
  · right; show 60 ≤ 100 + k; omega
  · left; decide
theorem RepV.k5 {Γ : Gm} {Ld : Int32 → Int32} {r : Nat → Int32} {k en v : Nat} {h h' : Hp} {T : Tg → Prop} (V : RepV Γ Ld r k h en v) (K : Kp T h h') (hT : T5 T) : RepV Γ Ld r k h' en v := by
  obtain ⟨ma, er, fm, fe, h1, h2, h3, h4⟩ := V
  exact ⟨ma, er, fm, fe, K.get h1 (hT.n (vTag_5 r k en)), K.get h2 (hT.n (Or.inl (by show 40 < 50; decide))), K.get h3 (hT.n (Or.inl (by show 41 < 50; decide))), h4⟩
theorem RepE.k5 {Γ : Gm} {Ld : Int32 → Int32} {r : Nat → Int32} {nv ne en : Nat} {h h' : Hp} {T : Tg → Prop} (V : RepE Γ Ld r nv ne h en) (K : Kp T h h') (hT : T5 T) : RepE Γ Ld r nv ne h' en := by
  obtain ⟨vl, el, vs, es, h1, h2, h3, h4, h5, h6⟩ := V
  have hv : ∀ k, k < nv → RepV Γ Ld r k h' en (vs k) := fun k hk => (h5 k hk).k5 K hT
  have he : ∀ k, k < ne → h' (es k) = some ((0, 0), .inr (12, [.int (r (661 + k)), .int (r (665 + k)), .int (r (673 + k)), .int (r (669 + k))])) := fun k hk => K.get (h6 k hk) (hT.n (Or.inl (by show 0 < 50; decide)))
  refine ⟨vl, el, vs, es, K.get h1 (hT.n (Or.inl (by show 30 < 50; decide))), h2, h3.kp K (hT.n (Or.inl (by show 31 < 50; decide))) (hT.n (Or.inl (by show 32 < 50; decide))) (fun k hk => ?_), h4.kp K (hT.n (Or.inl (by show 33 < 50; decide))) (hT.n (Or.inl (by show 34 < 50; decide))) (fun k hk => ⟨_, _, he k hk⟩), hv, he⟩
  obtain ⟨ma, er, fm, fe, h1, -⟩ := hv k hk
  exact ⟨_, _, h1⟩
theorem RepK.k5 {Γ : Gm} {X : Nat → Nat → Int32} {nt ns nm ne m : Nat} {h h' : Hp} {T : Tg → Prop} (V : RepK Γ X nt ns nm ne h m) (K : Kp T h h') (hT : T5 T) : RepK Γ X nt ns nm ne h' m := by
  obtain ⟨sl, wl, ma, te, fm, ft, ss, wq, h1, h2, h3, h4, h5, h6, h7, h8, h9⟩ := V
  have hs : ∀ k, k < ns → h' (ss k) = _ := fun k hk => K.get (h7 k hk) (hT.n (Or.inl (by show 0 < 50; decide)))
  have hw : ∀ k, k < ne → h' (wq k) = _ := fun k hk => K.get (h9 k hk) (hT.n (Or.inl (by show 0 < 50; decide)))
  exact ⟨sl, wl, ma, te, fm, ft, ss, wq, K.get h1 (hT.n (Or.inl (by show 20 < 50; decide))), K.get h2 (hT.n (Or.inl (by show 21 < 50; decide))), h3, K.get h4 (hT.n (Or.inl (by show 22 < 50; decide))), h5, h6.kp K (hT.n (Or.inl (by show 23 < 50; decide))) (hT.n (Or.inl (by show 24 < 50; decide))) (fun k hk => ⟨_, _, hs k hk⟩), hs, h8.kp K (hT.n (Or.inl (by show 25 < 50; decide))) (hT.n (Or.inl (by show 26 < 50; decide))) (fun k hk => ⟨_, _, hw k hk⟩), hw⟩
theorem RepS.k5 {Γ : Gm} {c sv : Nat} {h h' : Hp} {T : Tg → Prop} (V : RepS Γ c h sv) (K : Kp T h h') (hT : T5 T) : RepS Γ c h' sv := by
  obtain ⟨nd, le, ri, f, h1, h2, h3, h4⟩ := V
  exact ⟨nd, le, ri, f, K.get h1 (hT.n (Or.inr (by show 60 ≤ 60; decide))), K.get h2 (hT.n (Or.inr (by show 60 ≤ 61; decide))), h3, h4⟩
theorem RepE.obj {Γ : Gm} {Ld : Int32 → Int32} {r : Nat → Int32} {nv ne en : Nat} {h : Hp} (V : RepE Γ Ld r nv ne h en) : ∃ fs, h en = some ((30, 0), .inr (2, fs)) := by
  obtain ⟨vl, el, vs, es, h1, -⟩ := V
  exact ⟨_, h1⟩
theorem RepH.k5 {Γ : Gm} {X : Nat → Nat → Int32} {nm ne nu hi : Nat} {hs : Nat → Nat} {h h' : Hp} {T : Tg → Prop} (V : RepH Γ X nm ne nu h hi hs) (K : Kp T h h') (hT : T5 T) (n1 : ¬ T (52, 0)) (n2 : ¬ T (53, 0)) : RepH Γ X nm ne nu h' hi hs := by
  have he : ∀ j, j < nu → ∃ nv, RepE Γ (LdX X nm) (fun i => X 42 (677 * j + i)) nv ne h' (hs j) := fun j hj => by
    obtain ⟨nv, E⟩ := V.2 j hj
    exact ⟨nv, E.k5 K hT⟩
  refine ⟨V.1.kp K n1 n2 (fun k hk => ?_), he⟩
  obtain ⟨nv, E⟩ := he k hk
  obtain ⟨fs, e⟩ := E.obj
  exact ⟨_, _, e⟩
theorem RepN.k5 {Γ : Gm} {X : Nat → Nat → Int32} {nm ne sn : Nat} {fsn : Nat → Option Nat} {h h' : Hp} {T : Tg → Prop} (V : RepN Γ X nm ne h sn fsn) (K : Kp T h h') (hT : T5 T) (n1 : ¬ T (54, 0)) : RepN Γ X nm ne h' sn fsn := by
  refine ⟨K.get V.1 n1, fun j hj => ?_⟩
  rcases V.2 j hj with a | ⟨a, e, nv, b, c⟩
  · exact Or.inl a
  · exact Or.inr ⟨a, e, nv, b, c.k5 K hT⟩
theorem RepO.k5 {Γ : Gm} {so : Nat} {fso : Nat → Option Nat} {h h' : Hp} {T : Tg → Prop} (V : RepO Γ h so fso) (K : Kp T h h') (hT : T5 T) (n1 : ¬ T (55, 0)) : RepO Γ h' so fso := ⟨K.get V.1 n1, fun c hc sv e => (V.2 c hc sv e).k5 K hT⟩
/-- the component's own cell and its buffer are set anew -/
def TB : Tg → Prop := fun t => t = (50, 0) ∨ t = (51, 0)
theorem TB5 : T5 TB := fun t h => by rcases h with h | h <;> (rw [h]; exact ⟨by decide, by decide⟩)
theorem RepC.buf {Γ : Gm} {F : Nat → Int32} {X : Nat → Nat → Int32} {nt ns nm ne nv nu : Nat} {h h' : Hp} {x : Nat} {v : Int32} {f : Nat → Int32} (R : RepC Γ F X nt ns nm ne nv nu h x) (K : Kp TB h h')
    (hx : ∀ bu mk en hi sn so b7 b8, h x = some ((50, 0), .inr (0, [.ref bu, .int (F 15), .int (F 22), .ref mk, .ref en, .ref hi, .ref sn, .int b7, .int b8, .ref so])) → h' x = some ((50, 0), .inr (0, [.ref bu, .int v, .int (F 22), .ref mk, .ref en, .ref hi, .ref sn, .int b7, .int b8, .ref so])) ∧ h' bu = some ((51, 0), aB Γ 800 f)) : RepC Γ (upd F 15 v) (setX X 14 f) nt ns nm ne nv nu h' x := by
  obtain ⟨bu, mk, en, hi, sn, so, b7, b8, hs, fsn, fso, Rx, Rb, RK, RE, RH, RS, RA, RO⟩ := R
  obtain ⟨p, q⟩ := hx bu mk en hi sn so b7 b8 Rx
  exact ⟨bu, mk, en, hi, sn, so, b7, b8, hs, fsn, fso, p, q, RK.k5 K TB5, RE.k5 K TB5, RH.k5 K TB5 (fun z => by rcases z with z | z <;> cases z) (fun z => by rcases z with z | z <;> cases z), RS.k5 K TB5 (fun z => by rcases z with z | z <;> cases z), RA, RO.k5 K TB5 (fun z => by rcases z with z | z <;> cases z)⟩
