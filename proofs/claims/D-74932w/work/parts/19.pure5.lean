/-! plain words, fifth part: two pans, lots -/
def smF (f : Nat → Int32) (nm : Nat) (g : Nat → Int32) : Nat → Nat → Int32
  | 0 => g
  | k + 1 => upd (smF f nm g k) k (loadN f (nI k) nm)
theorem smF_get (f : Nat → Int32) (nm : Nat) (g : Nat → Int32) {n i : Nat} (h : i < n) : smF f nm g n i = loadN f (nI i) nm := by
  induction n with
  | zero => omega
  | succ n ih =>
    show upd (smF f nm g n) n (loadN f (nI n) nm) i = _
    by_cases e : i = n
    · rw [e, upd_self]
    · rw [upd_ne e, ih (by omega)]
def tpL (f : Nat → Int32) (nm : Nat) (goods : Int32) (r : Nat) (b : Int32 × Nat) : Nat → Int32 × Nat
  | 0 => b
  | l + 1 => if nI l &&& nI r = 0 then (if loadN f (nI r) nm - loadN f (nI l) nm = goods then (if (tpL f nm goods r b l).2 ≤ pcI (nI l ||| nI r) then tpL f nm goods r b l else (nI (r + 1024 * l), pcI (nI l ||| nI r))) else tpL f nm goods r b l) else tpL f nm goods r b l
def tpO (f : Nat → Int32) (nm : Nat) (goods : Int32) : Nat → Int32 × Nat
  | 0 => (-2, 99)
  | r + 1 => if loadN f (nI r) nm < goods then tpO f nm goods r else tpL f nm goods r (tpO f nm goods r) (2 ^ nm)
def tpI (f : Nat → Int32) (nm : Nat) (goods : Int32) : Int32 := if 0 ≤ goods then (tpO f nm goods (2 ^ nm)).1 else -1
theorem tpL_b (f : Nat → Int32) (nm : Nat) (goods : Int32) (r : Nat) (b : Int32 × Nat) (hb : b.2 ≤ 99) (l : Nat) : (tpL f nm goods r b l).2 ≤ 99 := by
  induction l with
  | zero => exact hb
  | succ l ih =>
    unfold tpL
    split
    · split
      · split
        · exact ih
        · exact Nat.le_trans (pcI_le _) (by decide)
      · exact ih
    · exact ih
theorem tpO_b (f : Nat → Int32) (nm : Nat) (goods : Int32) (r : Nat) : (tpO f nm goods r).2 ≤ 99 := by
  induction r with
  | zero => exact Nat.le_refl _
  | succ r ih =>
    unfold tpO
    split
    · exact ih
    · exact tpL_b _ _ _ _ _ ih _
/-! lots: the risks of all scales, drawn one by one -/
def rsF (X : Nat → Nat → Int32) (ns nv : Nat) (day : Int32) (g : Nat → Int32) : Nat → Nat → Int32
  | 0 => g
  | k + 1 => upd (rsF X ns nv day g k) k (nI (riN X ns nv k day))
def rsS (X : Nat → Nat → Int32) (ns nv : Nat) (day : Int32) : Nat → Nat
  | 0 => 0
  | k + 1 => rsS X ns nv day k + riN X ns nv k day
theorem rsF_get (X : Nat → Nat → Int32) (ns nv : Nat) (day : Int32) (g : Nat → Int32) {n i : Nat} (h : i < n) : rsF X ns nv day g n i = nI (riN X ns nv i day) := by
  induction n with
  | zero => omega
  | succ n ih =>
    show upd (rsF X ns nv day g n) n (nI (riN X ns nv n day)) i = _
    by_cases e : i = n
    · rw [e, upd_self]
    · rw [upd_ne e, ih (by omega)]
theorem rsS_b (X : Nat → Nat → Int32) (ns nv : Nat) (day : Int32) (k : Nat) : rsS X ns nv day k ≤ k * (6 + nv + ns) := by
  induction k with
  | zero => exact Nat.zero_le _
  | succ k ih =>
    have := (riN_b X ns nv k day).2
    rw [Nat.succ_mul]
    unfold rsS
    omega
/-- which one is drawn: from place d on, with this left over; n: how many places are there yet -/
def drN (rk : Nat → Nat) : Nat → Nat → Nat → Nat
  | 0, d, _ => d
  | n + 1, d, left => if left < rk d then d else drN rk n (d + 1) (left - rk d)
/-- the sum of the risks from place d on, n places -/
def tlN (rk : Nat → Nat) (d : Nat) : Nat → Nat
  | 0 => 0
  | n + 1 => rk d + tlN rk (d + 1) n
theorem drN_lt (rk : Nat → Nat) : ∀ (n d left : Nat), left < tlN rk d n → drN rk n d left < d + n := by
  intro n
  induction n with
  | zero => intro d left h; exact absurd h (Nat.not_lt_zero _)
  | succ n ih =>
    intro d left h
    unfold drN
    split
    · omega
    · have h2 : left < rk d + tlN rk (d + 1) n := h
      have := ih (d + 1) (left - rk d) (by omega)
      omega
theorem tlN_congr {rk rk' : Nat → Nat} : ∀ (n d : Nat), (∀ i, d ≤ i → i < d + n → rk i = rk' i) → tlN rk d n = tlN rk' d n := by
  intro n
  induction n with
  | zero => intro d _; rfl
  | succ n ih =>
    intro d h
    show rk d + tlN rk (d + 1) n = rk' d + tlN rk' (d + 1) n
    rw [h d (by omega) (by omega), ih (d + 1) (fun i h1 h2 => h i (by omega) (by omega))]
theorem tlN_app (rk : Nat → Nat) : ∀ (n m d : Nat), tlN rk d (n + m) = tlN rk d n + tlN rk (d + n) m := by
  intro n
  induction n with
  | zero => intro m d; rw [Nat.zero_add]; exact (Nat.zero_add _).symm
  | succ n ih =>
    intro m d
    rw [show n + 1 + m = (n + m) + 1 by omega]
    show rk d + tlN rk (d + 1) (n + m) = rk d + tlN rk (d + 1) n + _
    rw [ih, show d + 1 + n = d + (n + 1) by omega]
    omega
theorem rsS_tl (X : Nat → Nat → Int32) (ns nv : Nat) (day : Int32) (n : Nat) : rsS X ns nv day n = tlN (fun i => riN X ns nv i day) 0 n := by
  induction n with
  | zero => rfl
  | succ n ih =>
    rw [tlN_app, ← ih]
    show _ = _ + (riN X ns nv (0 + n) day + 0)
    rw [Nat.zero_add, Nat.add_zero]
    rfl
def upN (f : Nat → Nat) (k v : Nat) : Nat → Nat := fun j => if j = k then v else f j
theorem tlN_up (rk : Nat → Nat) {k n : Nat} (hk : k < n) : tlN (upN rk k 0) 0 n + rk k = tlN rk 0 n := by
  have e1 := tlN_app (upN rk k 0) k (n - k) 0
  have e2 := tlN_app rk k (n - k) 0
  rw [show k + (n - k) = n by omega] at e1 e2
  rw [e1, e2, tlN_congr k 0 (rk := upN rk k 0) (rk' := rk) (fun i h1 h2 => if_neg (by omega)), show n - k = (n - k - 1) + 1 by omega]
  show _ + (upN rk k 0 (0 + k) + tlN (upN rk k 0) (0 + k + 1) (n - k - 1)) + rk k = _ + (rk (0 + k) + tlN rk (0 + k + 1) (n - k - 1))
  rw [tlN_congr (n - k - 1) (0 + k + 1) (rk := upN rk k 0) (rk' := rk) (fun i h1 h2 => if_neg (by omega)), Nat.zero_add, show upN rk k 0 k = 0 from if_pos rfl]
  omega
/-- the generator's step -/
def lcN (x : Nat) : Nat := (x * 1103515245 + 12345) % 2147483648
/-- j draws: the generator's number, the risks left, the last one drawn -/
def ltX (seed : Nat) : Nat → Nat
  | 0 => seed
  | j + 1 => lcN (ltX seed j)
def ltR (ns seed : Nat) (rk : Nat → Nat) : Nat → Nat → Nat
  | 0 => rk
  | j + 1 => upN (ltR ns seed rk j) (drN (ltR ns seed rk j) ns 0 (ltX seed (j + 1) / 65536 % tlN (ltR ns seed rk j) 0 ns)) 0
def ltD (ns seed : Nat) (rk : Nat → Nat) (j : Nat) : Nat := drN (ltR ns seed rk j) ns 0 (ltX seed (j + 1) / 65536 % tlN (ltR ns seed rk j) 0 ns)
theorem ltX_b {seed : Nat} (h : seed ≤ 999999) (j : Nat) : ltX seed j < 2147483648 := by
  cases j with
  | zero => exact Nat.lt_of_le_of_lt h (by decide)
  | succ j => exact Nat.mod_lt _ (by decide)
/-- each place is as it was, or nothing: of ns places at most j are nothing -/
theorem ltR_or (ns seed : Nat) (rk : Nat → Nat) (j i : Nat) : ltR ns seed rk j i = rk i ∨ ltR ns seed rk j i = 0 := by
  induction j with
  | zero => exact Or.inl rfl
  | succ j ih =>
    show upN _ _ 0 i = rk i ∨ upN _ _ 0 i = 0
    unfold upN
    split
    · exact Or.inr rfl
    · exact ih
theorem ct_upN (rk : Nat → Nat) (k : Nat) : ∀ n, fb_ct (fun i => decide (upN rk k 0 i = 0)) n ≤ fb_ct (fun i => decide (rk i = 0)) n + 1 := by
  intro n
  rcases Nat.lt_or_ge k n with h | h
  · have e := fb_ct_upd (fun i => decide (rk i = 0)) true h
    rw [fb_ct_cong (q := fun i => if i = k then true else decide (rk i = 0)) (fun i _ => by
      by_cases z : i = k
      · rw [if_pos z, show upN rk k 0 i = 0 from if_pos z]; rfl
      · rw [if_neg z, show upN rk k 0 i = rk i from if_neg z])]
    simp only [if_true] at e
    omega
  · rw [fb_ct_cong (q := fun i => decide (rk i = 0)) (fun i hi => by
      rw [show upN rk k 0 i = rk i from if_neg (by omega)])]
    omega
theorem ltR_ct (ns seed : Nat) (rk : Nat → Nat) (hrk : ∀ i, i < ns → 1 ≤ rk i) (j : Nat) : fb_ct (fun i => decide (ltR ns seed rk j i = 0)) ns ≤ j := by
  induction j with
  | zero =>
    have : fb_ct (fun i => decide (ltR ns seed rk 0 i = 0)) ns = 0 := fb_ct_zero.mpr (fun k hk => by
      have := hrk k hk
      show decide (rk k = 0) = false
      simp; omega)
    omega
  | succ j ih =>
    have := ct_upN (ltR ns seed rk j) (drN (ltR ns seed rk j) ns 0 (ltX seed (j + 1) / 65536 % tlN (ltR ns seed rk j) 0 ns)) ns
    show fb_ct (fun i => decide (upN (ltR ns seed rk j) _ 0 i = 0)) ns ≤ j + 1
    omega
theorem tlN_pos (rk : Nat → Nat) : ∀ (n d : Nat), (∃ i, d ≤ i ∧ i < d + n ∧ 1 ≤ rk i) → 1 ≤ tlN rk d n := by
  intro n
  induction n with
  | zero => rintro d ⟨i, h1, h2, h3⟩; omega
  | succ n ih =>
    rintro d ⟨i, h1, h2, h3⟩
    show 1 ≤ rk d + tlN rk (d + 1) n
    by_cases e : i = d
    · rw [← e]; omega
    · have := ih (d + 1) ⟨i, by omega, by omega, h3⟩
      omega
/-- there is something left to draw -/
theorem ltR_pos (ns seed : Nat) (rk : Nat → Nat) (hrk : ∀ i, i < ns → 1 ≤ rk i) {j : Nat} (hj : j < ns) : 1 ≤ tlN (ltR ns seed rk j) 0 ns := by
  have h := ltR_ct ns seed rk hrk j
  have h2 := fb_ct_not (fun i => decide (ltR ns seed rk j i = 0)) ns
  have h3 : 0 < fb_ct (fun k => !decide (ltR ns seed rk j k = 0)) ns := by omega
  obtain ⟨k, hk, e⟩ := fb_ct_pos.mp h3
  refine tlN_pos _ _ _ ⟨k, by omega, by omega, ?_⟩
  simp at e
  omega
theorem ltR_le (ns seed : Nat) (rk : Nat → Nat) (j : Nat) : tlN (ltR ns seed rk j) 0 ns ≤ tlN rk 0 ns := by
  have : ∀ n d, tlN (ltR ns seed rk j) d n ≤ tlN rk d n := by
    intro n
    induction n with
    | zero => intro d; exact Nat.le_refl _
    | succ n ih =>
      intro d
      show ltR ns seed rk j d + _ ≤ rk d + _
      have := ih (d + 1)
      rcases ltR_or ns seed rk j d with e | e <;> rw [e] <;> omega
  exact this ns 0
def loC (X : Nat → Nat → Int32) (ns nv seed t : Nat) (position : Int32) : Int32 := if position.toInt < (ns : Int) then nI (ltD ns seed (fun i => riN X ns nv i (nI t)) position.toNatClampNeg) else -2
def loI (X : Nat → Nat → Int32) (ns nv : Nat) (seed position day : Int32) : Int32 := atI seed 1000000 (fun q => if 0 ≤ position then atI day 10000 (fun t => loC X ns nv q t position) else -1)
