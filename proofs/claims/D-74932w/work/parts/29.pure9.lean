/-! the text: bytes, tokens, lines -/
def by8 (buf : Nat → Int32) (k : Nat) : Nat := (buf k).toBitVec.toNat % 256
theorem by8_I (buf : Nat → Int32) (k : Nat) : buf k &&& 255 = nI (by8 buf k) := pk_and (buf k) 8 rfl
theorem by8_lt (buf : Nat → Int32) (k : Nat) : by8 buf k < 256 := Nat.mod_lt _ (by decide)
def isSp (b : Nat) : Bool := decide (b = 32) || decide (b = 10)
def isLe (b : Nat) : Bool := decide (97 ≤ b) && decide (b ≤ 122)
def isDi (b : Nat) : Bool := decide (48 ≤ b) && decide (b ≤ 57)
def scF (q : Nat → Bool) : Nat → Nat → Nat
  | 0, p => p
  | f + 1, p => if q p = true then scF q f (p + 1) else p
/-- the first place from p on, below n, that hasn't q; n if all have -/
def scN (q : Nat → Bool) (n p : Nat) : Nat := scF q (n - p) p
theorem scN_go {q : Nat → Bool} {n p : Nat} (h : p < n) (hq : q p = true) : scN q n p = scN q n (p + 1) := by
  unfold scN
  rw [show n - p = (n - (p + 1)) + 1 by omega]
  show (if q p = true then scF q (n - (p + 1)) (p + 1) else p) = _
  rw [if_pos hq]
theorem scN_st {q : Nat → Bool} {n p : Nat} (hq : q p = false) : scN q n p = p := by
  unfold scN
  cases n - p with
  | zero => rfl
  | succ f =>
    show (if q p = true then scF q f (p + 1) else p) = p
    rw [if_neg (by rw [hq]; decide)]
theorem scN_end {q : Nat → Bool} {n p : Nat} (h : n ≤ p) : scN q n p = p := by
  unfold scN
  rw [show n - p = 0 by omega]
  rfl
theorem scN_b (q : Nat → Bool) (n : Nat) : ∀ d p, n - p ≤ d → p ≤ scN q n p ∧ (p ≤ n → scN q n p ≤ n) := by
  intro d
  induction d with
  | zero => intro p h; rw [scN_end (by omega)]; exact ⟨Nat.le_refl _, fun h => h⟩
  | succ d ih =>
    intro p h
    by_cases c : p < n
    · cases hq : q p with
      | true =>
        rw [scN_go c hq]
        have := ih (p + 1) (by omega)
        exact ⟨by omega, fun _ => this.2 (by omega)⟩
      | false => rw [scN_st hq]; exact ⟨Nat.le_refl _, fun h => h⟩
    · rw [scN_end (by omega)]; exact ⟨Nat.le_refl _, fun h => h⟩
theorem scN_ge (q : Nat → Bool) (n p : Nat) : p ≤ scN q n p := (scN_b q n (n - p) p (Nat.le_refl _)).1
theorem scN_le (q : Nat → Bool) {n p : Nat} (h : p ≤ n) : scN q n p ≤ n := (scN_b q n (n - p) p (Nat.le_refl _)).2 h
/-- a number's value: its first six digits -/
def nvF (buf : Nat → Int32) (st : Nat) : Nat → Nat → Nat → Nat
  | 0, _, v => v
  | f + 1, p, v => if isDi (by8 buf p) = true then nvF buf st f (p + 1) (if p - st < 6 then 10 * v + by8 buf p - 48 else v) else v
def nvN (buf : Nat → Int32) (n st p v : Nat) : Nat := nvF buf st (n - p) p v
theorem nvN_go {buf : Nat → Int32} {n st p v : Nat} (h : p < n) (hq : isDi (by8 buf p) = true) : nvN buf n st p v = nvN buf n st (p + 1) (if p - st < 6 then 10 * v + by8 buf p - 48 else v) := by
  unfold nvN
  rw [show n - p = (n - (p + 1)) + 1 by omega]
  show (if isDi (by8 buf p) = true then nvF buf st (n - (p + 1)) (p + 1) (if p - st < 6 then 10 * v + by8 buf p - 48 else v) else v) = _
  rw [if_pos hq]
theorem nvN_st {buf : Nat → Int32} {n st p v : Nat} (hq : isDi (by8 buf p) = false) : nvN buf n st p v = v := by
  unfold nvN
  cases n - p with
  | zero => rfl
  | succ f =>
    show (if isDi (by8 buf p) = true then _ else v) = v
    rw [if_neg (by rw [hq]; decide)]
theorem nvN_end {buf : Nat → Int32} {n st p v : Nat} (h : n ≤ p) : nvN buf n st p v = v := by
  unfold nvN
  rw [show n - p = 0 by omega]
  rfl
/-- start, next, kind (0 end, 1 word, 2 number, 3 semicolon, 4 bad), value -/
abbrev Tk : Type := Nat × Nat × Nat × Nat
def spN (buf : Nat → Int32) (n p : Nat) : Nat := scN (fun i => isSp (by8 buf i)) n p
def leN (buf : Nat → Int32) (n p : Nat) : Nat := scN (fun i => isLe (by8 buf i)) n p
def diN (buf : Nat → Int32) (n p : Nat) : Nat := scN (fun i => isDi (by8 buf i)) n p
def tkS (buf : Nat → Int32) (n s : Nat) : Tk :=
  if n ≤ s then (s, s, 0, 0)
  else if isLe (by8 buf s) = true then (s, leN buf n s, if leN buf n s - s ≤ 8 then 1 else 4, 0)
  else if isDi (by8 buf s) = true then (s, diN buf n s, if diN buf n s - s ≤ 6 then 2 else 4, nvN buf n s s 0)
  else (s, s + 1, if by8 buf s = 59 then 3 else 4, 0)
def tkAt (buf : Nat → Int32) (n p : Nat) : Tk := tkS buf n (spN buf n p)
/-- the token behind t -/
def tkN (buf : Nat → Int32) (n : Nat) (t : Tk) : Tk := tkAt buf n t.2.1
theorem nvN_b {buf : Nat → Int32} {n st : Nat} : ∀ d p v, n - p ≤ d → st ≤ p → (p - st ≤ 6 → v < 10 ^ (p - st)) → (6 ≤ p - st → v < 1000000) → nvN buf n st p v < 1000000 := by
  intro d
  induction d with
  | zero =>
    intro p v h h1 h2 h3
    rw [nvN_end (by omega)]
    by_cases c : p - st ≤ 6
    · exact Nat.lt_of_lt_of_le (h2 c) (Nat.pow_le_pow_right (by decide) c)
    · exact h3 (by omega)
  | succ d ih =>
    intro p v h h1 h2 h3
    have hv : v < 1000000 := by
      by_cases c : p - st ≤ 6
      · exact Nat.lt_of_lt_of_le (h2 c) (Nat.pow_le_pow_right (by decide) c)
      · exact h3 (by omega)
    by_cases c : p < n
    · cases hq : isDi (by8 buf p) with
      | false => rw [nvN_st hq]; exact hv
      | true =>
        rw [nvN_go c hq]
        have hd := hq
        unfold isDi at hd
        simp only [Bool.and_eq_true, decide_eq_true_eq] at hd
        refine ih (p + 1) _ (by omega) (by omega) (fun c2 => ?_) (fun c2 => ?_)
        · rw [if_pos (by omega), show p + 1 - st = (p - st) + 1 by omega, Nat.pow_succ]
          have := h2 (by omega)
          omega
        · by_cases c3 : p - st < 6
          · rw [if_pos c3]
            have := h2 (by omega)
            have e : p - st = 5 := by omega
            rw [e] at this
            omega
          · rw [if_neg c3]; exact hv
    · rw [nvN_end (by omega)]; exact hv
theorem tkS_b {buf : Nat → Int32} {n s : Nat} (h : s ≤ n) : (tkS buf n s).1 = s ∧ s ≤ (tkS buf n s).2.1 ∧ (tkS buf n s).2.1 ≤ n ∧ (tkS buf n s).2.2.1 ≤ 4 ∧ (tkS buf n s).2.2.2 < 1000000 := by
  unfold tkS
  split
  · exact ⟨rfl, Nat.le_refl _, h, Nat.zero_le _, Nat.succ_pos _⟩
  · split
    · refine ⟨rfl, scN_ge _ _ _, scN_le _ h, ?_, Nat.succ_pos _⟩
      show (if _ then 1 else 4) ≤ 4
      split <;> omega
    · split
      · refine ⟨rfl, scN_ge _ _ _, scN_le _ h, ?_, nvN_b (n - s) s 0 (Nat.le_refl _) (Nat.le_refl _) (fun _ => Nat.pow_pos (by decide)) (fun _ => by decide)⟩
        show (if _ then 2 else 4) ≤ 4
        split <;> omega
      · refine ⟨rfl, by show s ≤ s + 1; omega, by show s + 1 ≤ n; omega, ?_, Nat.succ_pos _⟩
        show (if _ then 3 else 4) ≤ 4
        split <;> omega
theorem tkAt_b (buf : Nat → Int32) {n p : Nat} (h : p ≤ n) : p ≤ (tkAt buf n p).1 ∧ (tkAt buf n p).1 ≤ (tkAt buf n p).2.1 ∧ (tkAt buf n p).2.1 ≤ n ∧ (tkAt buf n p).2.2.1 ≤ 4 ∧ (tkAt buf n p).2.2.2 < 1000000 := by
  have h1 : spN buf n p ≤ n := scN_le _ h
  have h2 : p ≤ spN buf n p := scN_ge _ _ _
  obtain ⟨a, b, c, d, e⟩ := tkS_b (buf := buf) h1
  unfold tkAt
  rw [a]
  exact ⟨h2, b, c, d, e⟩
/-- the token's numbers in the model's fields -/
def tkF (F : Nat → Int32) (t : Tk) : Nat → Int32 := upd (upd (upd (upd F 17 (nI t.1)) 18 (nI t.2.1)) 19 (nI t.2.2.1)) 20 (nI t.2.2.2)
theorem upd_same {f : Nat → Int32} {k : Nat} {a : Int32} (h : f k = a) : upd f k a = f := by
  funext j; unfold upd; split
  · rename_i e; rw [e, h]
  · rfl
theorem wi_b {b lo hi : Nat} (hb : b < 2 ^ 31) (hlo : lo < 2 ^ 31) (hhi : hi < 2 ^ 31) : wi (nI b).toInt64 (lN lo) (lN hi) = b2i (decide (lo ≤ b) && decide (b ≤ hi)) := by
  unfold wi b2i
  rw [nI_l hb]
  by_cases c : lo ≤ b ∧ b ≤ hi
  · rw [if_pos ⟨(lN_le hlo hb).mpr c.1, (lN_le hb hhi).mpr c.2⟩, if_pos (by simp [c])]
  · rw [if_neg (fun z => c ⟨(lN_le hlo hb).mp z.1, (lN_le hb hhi).mp z.2⟩), if_neg (by simpa using c)]
