/-! what a line keeps -/
/-- the drafts hold numbers within bounds -/
def Dr (Y : Nat → Nat → Int32) (c : Cn) : Prop :=
  (∀ s, s < c.2.1 → ∃ t, t < c.1 ∧ Y 26 s = nI t) ∧ (∀ s, s < c.2.1 → ∃ k, k < 3 ∧ Y 27 s = nI k) ∧ (∀ s, s < c.2.1 → ∃ d, 1 ≤ d ∧ d ≤ 1000 ∧ Y 28 s = nI d) ∧ (∀ s, s < c.2.1 → ∃ k, k ≤ 999999 ∧ Y 29 s = nI k) ∧
  (∀ m, m < c.2.2.1 → ∃ w, 1 ≤ w ∧ w ≤ 1000098 ∧ Y 31 m = nI w) ∧ (∀ e, e < c.2.2.2 → ∃ w, 2 ≤ w ∧ w ≤ 12 ∧ Y 33 e = nI w) ∧ (∀ e, e < c.2.2.2 → Y 34 e = 0 ∨ Y 34 e = 1) ∧ (∀ k, k < 3 → ∃ t, t ≤ 5 ∧ Y 35 k = nI t)
theorem tkS_3 {buf : Nat → Int32} {n s : Nat} (h : (tkS buf n s).2.2.1 = 3) : (tkS buf n s).2.1 = (tkS buf n s).1 + 1 := by
  unfold tkS at h ⊢
  split at h
  · cases h
  · rename_i a
    rw [if_neg a]
    split at h
    · rename_i b
      have : (if leN buf n s - s ≤ 8 then 1 else 4) = 3 := h
      split at this <;> cases this
    · rename_i b
      rw [if_neg b]
      split at h
      · have : (if diN buf n s - s ≤ 6 then 2 else 4) = 3 := h
        split at this <;> cases this
      · rename_i d
        rw [if_neg d]
/-- a token that the scanner made -/
def Tok (buf : Nat → Int32) (n : Nat) (t : Tk) : Prop := ∃ p, p ≤ n ∧ t = tkAt buf n p
theorem Tok.B {buf : Nat → Int32} {n : Nat} {t : Tk} (h : Tok buf n t) : TkB n t := by
  obtain ⟨p, hp, rfl⟩ := h
  obtain ⟨a, b, c, d, e⟩ := tkAt_b buf (n := n) (p := p) hp
  exact ⟨b, c, d, e⟩
theorem Tok.N {buf : Nat → Int32} {n : Nat} {t : Tk} (h : Tok buf n t) : Tok buf n (tkN buf n t) := ⟨t.2.1, h.B.2.1, rfl⟩
theorem Tok.s3 {buf : Nat → Int32} {n : Nat} {t : Tk} (h : Tok buf n t) (k : t.2.2.1 = 3) : t.2.1 = t.1 + 1 := by
  obtain ⟨p, hp, rfl⟩ := h
  exact tkS_3 k
theorem Tok.N' {buf : Nat → Int32} {n : Nat} {t : Tk} (h : Tok buf n t) : Tok buf n (tkN buf n t) ∧ t.2.1 ≤ (tkN buf n t).1 := ⟨h.N, (tkN_B h.B).2⟩
/-- what a line keeps -/
def LnB (buf : Nat → Int32) (n : Nat) (t : Tk) (c : Cn) (Y : Nat → Nat → Int32) (r : PR) : Prop := ∀ t' c' Y', r = .inr (t', c', Y') → Tok buf n t' ∧ CnB c' ∧ t.2.1 ≤ t'.1 ∧ XR Y Y' ∧ (Dr Y c → Dr Y' c')
theorem pTake_V {buf : Nat → Int32} {n : Nat} {t t2 : Tk} {lo hi v : Nat} (hlo : lo < 2 ^ 31) (hhi : hi < 2 ^ 31) (h : Tok buf n t) (e : pTake buf n t (nI lo) (nI hi) = .inr (v, t2)) : Tok buf n t2 ∧ t.2.1 ≤ t2.1 ∧ t2.1 ≤ t2.2.1 ∧ lo ≤ v ∧ v ≤ hi ∧ v < 1000000 := by
  obtain ⟨a, b, c, d, f, g⟩ := pTake_B h.B e
  have hv : v < 1000000 := by rw [b]; exact h.B.2.2.2
  obtain ⟨p, q⟩ := rnI_nat (by omega) hlo hhi d
  exact ⟨c ▸ h.N, g, f.1, p, q, hv⟩
theorem pTake_T {buf : Nat → Int32} {n : Nat} {t t2 : Tk} {k v : Nat} (hk : k < 2 ^ 31) (h : Tok buf n t) (e : pTake buf n t 0 (nI k - 1) = .inr (v, t2)) : Tok buf n t2 ∧ t.2.1 ≤ t2.1 ∧ t2.1 ≤ t2.2.1 ∧ v < k ∧ v < 1000000 := by
  obtain ⟨a, b, c, d, f, g⟩ := pTake_B h.B e
  have hv : v < 1000000 := by rw [b]; exact h.B.2.2.2
  refine ⟨c ▸ h.N, g, f.1, ?_, hv⟩
  unfold rnI at d
  by_cases z : (0 : Int32) ≤ nI v ∧ nI v ≤ nI k - 1
  · have := Int32.le_iff_toInt_le.mp z.2
    rw [nI_toInt (by omega), nI_sub1 hk] at this
    omega
  · rw [if_neg z] at d; exact absurd rfl d
theorem all_up {p : Nat → Int32 → Prop} {f : Nat → Int32} {n : Nat} {v : Int32} (h : ∀ s, s < n → p s (f s)) (hv : p n v) : ∀ s, s < n + 1 → p s (upd f n v s) := by
  intro s hs
  by_cases e : s = n
  · subst e; rw [upd_self]; exact hv
  · unfold upd; rw [if_neg e]; exact h s (by omega)
theorem all_up' {p : Nat → Int32 → Prop} {f : Nat → Int32} {n k : Nat} {v : Int32} (h : ∀ s, s < n → p s (f s)) (hv : p k v) : ∀ s, s < n → p s (upd f k v s) := by
  intro s hs
  unfold upd
  split
  · rename_i e; subst e; exact hv
  · exact h s hs
theorem pTrader_L {buf : Nat → Int32} {n : Nat} {t : Tk} {c : Cn} {Y : Nat → Nat → Int32} (hb : Tok buf n t) (hc : CnB c) : LnB buf n t c Y (pTrader buf n t c Y) := by
  intro t' c' Y' e
  unfold pTrader at e
  split at e
  · rename_i q
    cases e
    obtain ⟨b1, g1⟩ := Tok.N' hb
    refine ⟨b1, ⟨q, hc.2⟩, g1, XR.rf, fun D => ⟨fun s hs => ?_, D.2⟩⟩
    obtain ⟨x, h1, h2⟩ := D.1 s hs
    exact ⟨x, Nat.lt_succ_of_lt h1, h2⟩
  · cases e
theorem pScale_L {buf : Nat → Int32} {n : Nat} {t : Tk} {c : Cn} {Y : Nat → Nat → Int32} (hb : Tok buf n t) (hc : CnB c) : LnB buf n t c Y (pScale buf n t c Y) := by
  intro t' c' Y' e
  unfold pScale at e
  split at e
  · rename_i q
    obtain ⟨b1, g1⟩ := Tok.N' hb
    split at e
    · cases e
    · rename_i a t2 r2
      obtain ⟨b2, g2, l2, u2, -⟩ := pTake_T (by have := hc.1; omega) b1 r2
      split at e
      · cases e
      · rename_i cl t3 r3
        obtain ⟨b3, g3, l3, -, u3, -⟩ := pTake_V (lo := 0) (hi := 2) (by decide) (by decide) b2 r3
        split at e
        · cases e
        · rename_i dv t4 r4
          obtain ⟨b4, g4, l4, w4, u4, -⟩ := pTake_V (lo := 1) (hi := 1000) (by decide) (by decide) b3 r4
          split at e
          · cases e
          · rename_i cp t5 r5
            obtain ⟨b5, g5, l5, -, u5, -⟩ := pTake_V (lo := 20 * dv) (hi := 999999) (by omega) (by decide) b4 r5
            cases e
            have hl1 := b1.B.1
            refine ⟨b5, ⟨hc.1, q, hc.2.2⟩, by omega, (XR.up (XR.up (XR.up (XR.up XR.rf rfl) rfl) rfl) rfl), fun D => ⟨?_, ?_, ?_, ?_, D.2.2.2.2⟩⟩
            · exact all_up (p := fun _ v => ∃ t, t < c.1 ∧ v = nI t) D.1 ⟨a, u2, rfl⟩
            · exact all_up (p := fun _ v => ∃ t, t < 3 ∧ v = nI t) D.2.1 ⟨cl, by omega, rfl⟩
            · exact all_up (p := fun _ v => ∃ d, 1 ≤ d ∧ d ≤ 1000 ∧ v = nI d) D.2.2.1 ⟨dv, w4, u4, rfl⟩
            · exact all_up (p := fun _ v => ∃ t, t ≤ 999999 ∧ v = nI t) D.2.2.2.1 ⟨cp, u5, rfl⟩
  · cases e
theorem pMass_L {buf : Nat → Int32} {n : Nat} {t : Tk} {c : Cn} {Y : Nat → Nat → Int32} (hb : Tok buf n t) (hc : CnB c) : LnB buf n t c Y (pMass buf n t c Y) := by
  have fin : ∀ (t' : Tk) (v : Int32) (w : Nat), Tok buf n t' → t.2.1 ≤ t'.1 → v = nI w → 1 ≤ w → w ≤ 1000098 → c.2.2.1 < 10 → Tok buf n t' ∧ CnB (c.1, c.2.1, c.2.2.1 + 1, c.2.2.2) ∧ t.2.1 ≤ t'.1 ∧ XR Y (setX Y 31 (upd (Y 31) c.2.2.1 v)) ∧ (Dr Y c → Dr (setX Y 31 (upd (Y 31) c.2.2.1 v)) (c.1, c.2.1, c.2.2.1 + 1, c.2.2.2)) := by
    intro t' v w h1 h2 h3 h4 h5 h6
    refine ⟨h1, ⟨hc.1, hc.2.1, h6, hc.2.2.2⟩, h2, XR.up XR.rf rfl, fun D => ⟨D.1, D.2.1, D.2.2.1, D.2.2.2.1, ?_, D.2.2.2.2.2⟩⟩
    exact all_up (p := fun _ v => ∃ d, 1 ≤ d ∧ d ≤ 1000098 ∧ v = nI d) D.2.2.2.2.1 ⟨w, h4, h5, h3⟩
  intro t' c' Y' e
  unfold pMass at e
  split at e
  · rename_i q
    obtain ⟨b1, g1⟩ := Tok.N' hb
    have l1 := b1.B.1
    split at e
    · cases e
    · rename_i nom t2 r2
      obtain ⟨b2, g2, l2, w2, u2, -⟩ := pTake_V (lo := 1) (hi := 999999) (by decide) (by decide) b1 r2
      obtain ⟨b3, g3⟩ := Tok.N' b2
      have l3 := b3.B.1
      split at e
      · split at e
        · cases e
        · rename_i d t4 r4
          obtain ⟨b4, g4, l4, w4, u4, -⟩ := pTake_V (lo := 0) (hi := 99) (by decide) (by decide) b3 r4
          cases e
          exact fin _ _ (nom + d) b4 (by omega) (nI_add _ _) (by omega) (by omega) q
      · split at e
        · split at e
          · cases e
          · rename_i d t4 r4
            have key : Tok buf n t4 ∧ (tkN buf n t2).2.1 ≤ t4.1 ∧ d < nom := by
              by_cases z : nom ≤ 99
              · rw [if_pos z] at r4
                obtain ⟨x1, x2, x3, x4, x5⟩ := pTake_T (by omega) b3 r4
                exact ⟨x1, x2, x4⟩
              · rw [if_neg z] at r4
                obtain ⟨x1, x2, x3, x4, x5, x6⟩ := pTake_V (lo := 0) (hi := 99) (by decide) (by decide) b3 r4
                exact ⟨x1, x2, by omega⟩
            cases e
            refine fin _ _ (nom - d) key.1 (by omega) ?_ (by omega) (by omega) q
            rw [show nI nom + -nI d = nI nom - nI d from (Int32.sub_eq_add_neg _ _).symm]
            exact pk_sub (by omega)
        · cases e
          exact fin _ _ nom b2 (by omega) rfl w2 (by omega) q
  · cases e
theorem pSet_L {buf : Nat → Int32} {n : Nat} {t : Tk} {c : Cn} {Y : Nat → Nat → Int32} (hb : Tok buf n t) (hc : CnB c) : LnB buf n t c Y (pSet buf n t c Y) := by
  intro t' c' Y' e
  unfold pSet at e
  split at e
  · rename_i q
    obtain ⟨b1, g1⟩ := Tok.N' hb
    have l1 := b1.B.1
    split at e
    · cases e
    · rename_i w t2 r2
      obtain ⟨b2, g2, l2, w2, u2, -⟩ := pTake_V (lo := 2) (hi := 12) (by decide) (by decide) b1 r2
      obtain ⟨b3, g3⟩ := Tok.N' b2
      cases e
      have key : Tok buf n (if wdB buf t2 5 = true then tkN buf n t2 else t2) ∧ t2.1 ≤ (if wdB buf t2 5 = true then tkN buf n t2 else t2).1 := by
        split
        · exact ⟨b3, by omega⟩
        · exact ⟨b2, Nat.le_refl _⟩
      refine ⟨key.1, ⟨hc.1, hc.2.1, hc.2.2.1, q⟩, by have := key.2; omega, XR.up (XR.up XR.rf rfl) rfl, fun D => ⟨D.1, D.2.1, D.2.2.1, D.2.2.2.1, D.2.2.2.2.1, ?_, ?_, D.2.2.2.2.2.2.2⟩⟩
      · exact all_up (p := fun _ v => ∃ d, 2 ≤ d ∧ d ≤ 12 ∧ v = nI d) D.2.2.2.2.2.1 ⟨w, w2, u2, rfl⟩
      · exact all_up (p := fun _ v => v = 0 ∨ v = 1) D.2.2.2.2.2.2.1 (by unfold b2i; split; exact Or.inr rfl; exact Or.inl rfl)
  · cases e
theorem pTerm_L {buf : Nat → Int32} {n : Nat} {t : Tk} {c : Cn} {Y : Nat → Nat → Int32} (hb : Tok buf n t) (hc : CnB c) : LnB buf n t c Y (pTerm buf n t c Y) := by
  intro t' c' Y' e
  unfold pTerm at e
  split at e
  · cases e
  · obtain ⟨b1, g1⟩ := Tok.N' hb
    have l1 := b1.B.1
    unfold pTerm2 at e
    split at e
    · cases e
    · rename_i k t2 r2
      obtain ⟨b2, g2, l2, w2, u2, -⟩ := pTake_V (lo := 0) (hi := 2) (by decide) (by decide) b1 r2
      split at e
      · cases e
      · rename_i m t3 r3
        obtain ⟨b3, g3, l3, w3, u3, -⟩ := pTake_V (lo := 1) (hi := 5) (by decide) (by decide) b2 r3
        cases e
        refine ⟨b3, hc, by omega, XR.up XR.rf rfl, fun D => ⟨D.1, D.2.1, D.2.2.1, D.2.2.2.1, D.2.2.2.2.1, D.2.2.2.2.2.1, D.2.2.2.2.2.2.1, ?_⟩⟩
        exact all_up' (p := fun _ v => ∃ d, d ≤ 5 ∧ v = nI d) D.2.2.2.2.2.2.2 ⟨m, u3, rfl⟩
theorem pLine_L {buf : Nat → Int32} {n : Nat} {t : Tk} {c : Cn} {Y : Nat → Nat → Int32} (hb : Tok buf n t) (hc : CnB c) : LnB buf n t c Y (pLine buf n t c Y) := by
  unfold pLine
  split
  · exact pTrader_L hb hc
  split
  · exact pScale_L hb hc
  split
  · exact pMass_L hb hc
  split
  · exact pSet_L hb hc
  split
  · exact pTerm_L hb hc
  · intro t' c' Y' e; cases e
theorem pStmt_L {buf : Nat → Int32} {n : Nat} {t : Tk} {c : Cn} {Y : Nat → Nat → Int32} (hb : Tok buf n t) (hc : CnB c) {t' : Tk} {c' : Cn} {Y' : Nat → Nat → Int32} (e : pStmt buf n t c Y = .inr (t', c', Y')) : Tok buf n t' ∧ CnB c' ∧ t.2.1 < t'.2.1 ∧ XR Y Y' ∧ (Dr Y c → Dr Y' c') := by
  unfold pStmt at e
  split at e
  · cases e
  · rename_i t1 c1 Y1 r
    obtain ⟨b1, hc1, g1, x1, d1⟩ := pLine_L hb hc _ _ _ r
    split at e
    · rename_i k
      cases e
      obtain ⟨b2, g2⟩ := Tok.N' b1
      have := b1.s3 k
      have := b2.B.1
      exact ⟨b2, hc1, by omega, x1, d1⟩
    · cases e
