theorem b2i_or (a b : Bool) : b2i a ||| b2i b = b2i (a || b) := by cases a <;> cases b <;> rfl
theorem se_eq {ns nm : Nat} {r : Nat → Int32} {k : Nat} (V : ViB ns nm r k) : (decide (r (61 + k) = 1) && decide (r (91 + k) = 0)) = decide (vVd r k = 0) := by
  unfold vVd
  rcases V.c01 with h | h
  · rw [if_pos h, h]; rfl
  · rw [if_neg (by rw [h]; decide), h]; simp
/-- a visit is begun -/
theorem RepE.sv {Γ : Gm} {Ld : Int32 → Int32} {r : Nat → Int32} {nv ne en q m e : Nat} {h h' : Hp} {vl el : Nat} {vs es : Nat → Nat} {sc dy se : Int32} (hv : nv < 30) (hne : ne ≤ 4) (ht : ∀ i, i < nv → (r (151 + i)).toNatClampNeg ≤ 8)
    (Ee : h en = some ((30, 0), .inr (2, [.ref vl, .ref el]))) (Eel : Lst Γ h el (33, en) 12 ne es) (Evs : ∀ i, i < nv → RepV Γ Ld r i h en (vs i)) (Ees : ∀ i, i < ne → h (es i) = some ((0, 0), .inr (12, [.int (r (661 + i)), .int (r (665 + i)), .int (r (673 + i)), .int (r (669 + i))])))
    (K : Kp (TL (31, en)) h h') (L : Lst Γ h' vl (31, en) 13 (nv + 1) (va_up vs nv q)) (Vq : h' q = some ((100 + nv, en), .inr (13, [.int sc, .int dy, .int (se + 1), .ref m, .ref e, .int 0, .int (-2)]))) (Vm : h' m = some ((40, q), aI Γ 8 (fun _ => 0))) (Ve : h' e = some ((41, q), aI Γ 8 (fun _ => 0)))
    {r' : Nat → Int32} (u : ∀ i, i ≠ 1 + nv → i ≠ 31 + nv → i ≠ 61 + nv → i ≠ 91 + nv → i ≠ 121 + nv → i ≠ 151 + nv → i ≠ 0 → r' i = r i) (u0 : r' 0 = nI (nv + 1)) (u1 : r' (1 + nv) = sc) (u2 : r' (31 + nv) = dy) (u3 : r' (61 + nv) = 0) (u5 : r' (121 + nv) = se) (u6 : r' (151 + nv) = 0) : RepE Γ Ld r' (nv + 1) ne h' en := by
  have hT := TOw_a en
  have U : ∀ i, i < nv → ∀ b, (b = 1 ∨ b = 31 ∨ b = 61 ∨ b = 91 ∨ b = 121 ∨ b = 151) → r' (b + i) = r (b + i) := fun i hi b hb => u _ (by omega) (by omega) (by omega) (by omega) (by omega) (by omega) (by omega)
  have U9 : ∀ i, 181 ≤ i → r' i = r i := fun i hi => u _ (by omega) (by omega) (by omega) (by omega) (by omega) (by omega) (by omega)
  have hv' : ∀ i, i < nv + 1 → RepV Γ Ld r' i h' en (va_up vs nv q i) := by
    intro i hi
    by_cases c : i = nv
    · subst c
      rw [va_up_self]
      refine ⟨m, e, _, _, ?_, Vm, Ve, fun j hj => ?_⟩
      · unfold vTag vVd
        rw [u3, if_pos rfl, if_pos rfl, u1, u2, u5, u6]
        exact Vq
      · rw [u6] at hj
        exact absurd hj (Nat.not_lt_zero _)
    · rw [va_up_ne _ _ c]
      have hi' : i < nv := by omega
      obtain ⟨m2, e2, f2, g2, a1, a2, a3, a4⟩ := (Evs i hi').kO K hT
      refine ⟨m2, e2, f2, g2, ?_, a2, a3, fun j hj => ?_⟩
      · unfold vTag vVd at a1 ⊢
        rw [U i hi' 61 (by omega), U i hi' 1 (by omega), U i hi' 31 (by omega), U i hi' 121 (by omega), U i hi' 151 (by omega), U i hi' 91 (by omega)]
        exact a1
      · rw [U i hi' 151 (by omega)] at hj
        rw [U9 _ (by omega), U9 _ (by omega)]
        exact a4 j hj
  have he : ∀ i, i < ne → h' (es i) = _ := fun i hi => K.get (Ees i hi) (hT.n (Or.inr (Or.inl (by decide))))
  refine ⟨vl, el, _, es, K.get Ee (hT.n (Or.inr (Or.inl (by decide)))), u0, L, Eel.kp K (fun z => by rcases z with z | z <;> cases z) (fun z => by rcases z with z | z <;> cases z) (fun i hi => ⟨_, _, he i hi⟩), hv', fun i hi => ?_⟩
  rw [U9 _ (by omega), U9 _ (by omega), U9 _ (by omega), U9 _ (by omega)]
  exact he i hi
theorem RepE.svR {Γ : Gm} {Ld : Int32 → Int32} {r : Nat → Int32} {nv ne en q m e : Nat} {h h' : Hp} {vl el : Nat} {vs es : Nat → Nat} {sc dy : Int32} (hv : nv < 30) (hne : ne ≤ 4) (ht : ∀ i, i < nv → (r (151 + i)).toNatClampNeg ≤ 8)
    (Ee : h en = some ((30, 0), .inr (2, [.ref vl, .ref el]))) (Eel : Lst Γ h el (33, en) 12 ne es) (Evs : ∀ i, i < nv → RepV Γ Ld r i h en (vs i)) (Ees : ∀ i, i < ne → h (es i) = some ((0, 0), .inr (12, [.int (r (661 + i)), .int (r (665 + i)), .int (r (673 + i)), .int (r (669 + i))])))
    (K : Kp (TL (31, en)) h h') (L : Lst Γ h' vl (31, en) 13 (nv + 1) (va_up vs nv q)) (Vq : h' q = some ((100 + nv, en), .inr (13, [.int sc, .int dy, .int (b2i (svSe r sc nv) + 1), .ref m, .ref e, .int 0, .int (-2)]))) (Vm : h' m = some ((40, q), aI Γ 8 (fun _ => 0))) (Ve : h' e = some ((41, q), aI Γ 8 (fun _ => 0))) : RepE Γ Ld (svR r nv sc dy) (nv + 1) ne h' en := by
  refine RepE.sv hv hne ht Ee Eel Evs Ees K L Vq Vm Ve (fun i a b c d e f g => ?_) ?_ ?_ ?_ ?_ ?_ ?_
  · exact (upd_ne g).trans ((upd_ne f).trans ((upd_ne e).trans ((upd_ne d).trans ((upd_ne c).trans ((upd_ne b).trans (upd_ne a))))))
  · exact upd_self _ _ _
  · exact (upd_ne (by omega)).trans ((upd_ne (by omega)).trans ((upd_ne (by omega)).trans ((upd_ne (by omega)).trans ((upd_ne (by omega)).trans ((upd_ne (by omega)).trans (upd_self _ _ _))))))
  · exact (upd_ne (by omega)).trans ((upd_ne (by omega)).trans ((upd_ne (by omega)).trans ((upd_ne (by omega)).trans ((upd_ne (by omega)).trans (upd_self _ _ _)))))
  · exact (upd_ne (by omega)).trans ((upd_ne (by omega)).trans ((upd_ne (by omega)).trans ((upd_ne (by omega)).trans (upd_self _ _ _))))
  · exact (upd_ne (by omega)).trans ((upd_ne (by omega)).trans (upd_self _ _ _))
  · exact (upd_ne (by omega)).trans (upd_self _ _ _)
