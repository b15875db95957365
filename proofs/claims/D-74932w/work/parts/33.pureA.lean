/-! the parser, plainly -/
/-- the words of the language: trader scale mass set term maybe plus minus -/
def swL (k : Nat) : List Int32 := match k with
  | 0 => [116, 114, 97, 100, 101, 114]
  | 1 => [115, 99, 97, 108, 101]
  | 2 => [109, 97, 115, 115]
  | 3 => [115, 101, 116]
  | 4 => [116, 101, 114, 109]
  | 5 => [109, 97, 121, 98, 101]
  | 6 => [112, 108, 117, 115]
  | _ => [109, 105, 110, 117, 115]
def swB (k j : Nat) : Int32 := (swL k).getD j 0
def swn (k : Nat) : Nat := (swL k).length
theorem swn_le (k : Nat) : swn k ≤ 6 := by unfold swn swL; split <;> decide
/-- the token t is the word k -/
def wdB (buf : Nat → Int32) (t : Tk) (k : Nat) : Bool := (decide (t.2.2.1 = 1) && decide (t.2.1 - t.1 = swn k)) && allN (fun i => decide (buf (t.1 + i) = swB k i &&& 255)) (swn k)
def wdK (buf : Nat → Int32) (t : Tk) (k i : Nat) : Bool := (decide (t.2.2.1 = 1) && decide (t.2.1 - t.1 = swn k)) && allN (fun i => decide (buf (t.1 + i) = swB k i &&& 255)) i
theorem wdK_s (buf : Nat → Int32) (t : Tk) (k i : Nat) : wdK buf t k (i + 1) = (wdK buf t k i && decide (buf (t.1 + i) = swB k i &&& 255)) := (Bool.and_assoc _ _ _).symm
theorem wdK_mono {buf : Nat → Int32} {t : Tk} {k i j : Nat} (h : i ≤ j) (e : wdK buf t k i = false) : wdK buf t k j = false := by
  induction j with
  | zero => rw [show 0 = i by omega]; exact e
  | succ j ih =>
    by_cases c : i = j + 1
    · rw [← c]; exact e
    · rw [wdK_s, ih (by omega), Bool.false_and]
abbrev Cn : Type := Nat × Nat × Nat × Nat
abbrev PR : Type := (Nat × Nat) ⊕ (Tk × Cn × (Nat → Nat → Int32))
def pTake (buf : Nat → Int32) (n : Nat) (t : Tk) (lo hi : Int32) : (Nat × Nat) ⊕ (Nat × Tk) :=
  if t.2.2.1 = 2 then (if rnI (nI t.2.2.2) lo hi = 0 then .inl (3, t.1) else .inr (t.2.2.2, tkN buf n t)) else .inl (1, t.1)
def pTrader (buf : Nat → Int32) (n : Nat) (t : Tk) (c : Cn) (Y : Nat → Nat → Int32) : PR := if c.1 < 8 then .inr (tkN buf n t, (c.1 + 1, c.2), Y) else .inl (4, t.1)
def yS (Y : Nat → Nat → Int32) (s a cl dv cp : Nat) : Nat → Nat → Int32 := setX (setX (setX (setX Y 26 (upd (Y 26) s (nI a))) 27 (upd (Y 27) s (nI cl))) 28 (upd (Y 28) s (nI dv))) 29 (upd (Y 29) s (nI cp))
def pScale (buf : Nat → Int32) (n : Nat) (t : Tk) (c : Cn) (Y : Nat → Nat → Int32) : PR :=
  if c.2.1 < 24 then
    match pTake buf n (tkN buf n t) 0 (nI c.1 - 1) with
    | .inl e => .inl e
    | .inr (a, t2) => match pTake buf n t2 0 2 with
      | .inl e => .inl e
      | .inr (cl, t3) => match pTake buf n t3 1 1000 with
        | .inl e => .inl e
        | .inr (dv, t4) => match pTake buf n t4 (nI (20 * dv)) 999999 with
          | .inl e => .inl e
          | .inr (cp, t5) => .inr (t5, (c.1, c.2.1 + 1, c.2.2), yS Y c.2.1 a cl dv cp)
  else .inl (4, t.1)
def pMass (buf : Nat → Int32) (n : Nat) (t : Tk) (c : Cn) (Y : Nat → Nat → Int32) : PR :=
  if c.2.2.1 < 10 then
    match pTake buf n (tkN buf n t) 1 999999 with
    | .inl e => .inl e
    | .inr (nom, t2) =>
      if wdB buf t2 6 = true then match pTake buf n (tkN buf n t2) 0 99 with
        | .inl e => .inl e
        | .inr (d, t4) => .inr (t4, (c.1, c.2.1, c.2.2.1 + 1, c.2.2.2), setX Y 31 (upd (Y 31) c.2.2.1 (nI nom + nI d)))
      else if wdB buf t2 7 = true then match pTake buf n (tkN buf n t2) 0 (if nom ≤ 99 then nI nom - 1 else 99) with
        | .inl e => .inl e
        | .inr (d, t4) => .inr (t4, (c.1, c.2.1, c.2.2.1 + 1, c.2.2.2), setX Y 31 (upd (Y 31) c.2.2.1 (nI nom + -nI d)))
      else .inr (t2, (c.1, c.2.1, c.2.2.1 + 1, c.2.2.2), setX Y 31 (upd (Y 31) c.2.2.1 (nI nom)))
  else .inl (4, t.1)
def pSet (buf : Nat → Int32) (n : Nat) (t : Tk) (c : Cn) (Y : Nat → Nat → Int32) : PR :=
  if c.2.2.2 < 4 then
    match pTake buf n (tkN buf n t) 2 12 with
    | .inl e => .inl e
    | .inr (w, t2) => .inr (if wdB buf t2 5 = true then tkN buf n t2 else t2, (c.1, c.2.1, c.2.2.1, c.2.2.2 + 1), setX (setX Y 33 (upd (Y 33) c.2.2.2 (nI w))) 34 (upd (Y 34) c.2.2.2 (b2i (wdB buf t2 5))))
  else .inl (4, t.1)
def pTerm2 (buf : Nat → Int32) (n : Nat) (t : Tk) (c : Cn) (Y : Nat → Nat → Int32) : PR :=
  match pTake buf n t 0 2 with
  | .inl e => .inl e
  | .inr (k, t2) => match pTake buf n t2 1 5 with
    | .inl e => .inl e
    | .inr (m, t3) => .inr (t3, c, setX Y 35 (upd (Y 35) k (nI m)))
def pTerm (buf : Nat → Int32) (n : Nat) (t : Tk) (c : Cn) (Y : Nat → Nat → Int32) : PR :=
  if (tkN buf n t).2.2.1 = 2 ∧ (tkN buf n t).2.2.2 < 3 ∧ ¬ Y 35 (tkN buf n t).2.2.2 ≤ 0 then .inl (2, (tkN buf n t).1) else pTerm2 buf n (tkN buf n t) c Y
def pLine (buf : Nat → Int32) (n : Nat) (t : Tk) (c : Cn) (Y : Nat → Nat → Int32) : PR :=
  if wdB buf t 0 = true then pTrader buf n t c Y else if wdB buf t 1 = true then pScale buf n t c Y else if wdB buf t 2 = true then pMass buf n t c Y else if wdB buf t 3 = true then pSet buf n t c Y else if wdB buf t 4 = true then pTerm buf n t c Y else .inl (1, t.1)
def pStmt (buf : Nat → Int32) (n : Nat) (t : Tk) (c : Cn) (Y : Nat → Nat → Int32) : PR :=
  match pLine buf n t c Y with
  | .inl e => .inl e
  | .inr (t', c', Y') => if t'.2.2.1 = 3 then .inr (tkN buf n t', c', Y') else .inl (1, t'.1)
/-- statement by statement; f: fuel -/
def pRun (buf : Nat → Int32) (n : Nat) : Nat → Tk → Cn → (Nat → Nat → Int32) → (Nat × Nat) ⊕ (Cn × (Nat → Nat → Int32))
  | 0, _, c, Y => .inr (c, Y)
  | f + 1, t, c, Y => if t.2.2.1 = 0 then .inr (c, Y) else match pStmt buf n t c Y with
    | .inl e => .inl e
    | .inr (t', c', Y') => pRun buf n f t' c' Y'
/-- a token within the text -/
def TkB (n : Nat) (t : Tk) : Prop := t.1 ≤ t.2.1 ∧ t.2.1 ≤ n ∧ t.2.2.1 ≤ 4 ∧ t.2.2.2 < 1000000
theorem tkN_B {buf : Nat → Int32} {n : Nat} {t : Tk} (h : TkB n t) : TkB n (tkN buf n t) ∧ t.2.1 ≤ (tkN buf n t).1 := by
  obtain ⟨a, b, c, d, e⟩ := tkAt_b buf (n := n) (p := t.2.1) h.2.1
  exact ⟨⟨b, c, d, e⟩, a⟩
theorem pTake_B {buf : Nat → Int32} {n : Nat} {t t2 : Tk} {lo hi : Int32} {v : Nat} (h : TkB n t) (e : pTake buf n t lo hi = .inr (v, t2)) : t.2.2.1 = 2 ∧ v = t.2.2.2 ∧ t2 = tkN buf n t ∧ ¬ rnI (nI v) lo hi = 0 ∧ TkB n t2 ∧ t.2.1 ≤ t2.1 := by
  unfold pTake at e
  split at e
  · split at e
    · cases e
    · cases e
      exact ⟨by assumption, rfl, rfl, by assumption, tkN_B h⟩
  · cases e
