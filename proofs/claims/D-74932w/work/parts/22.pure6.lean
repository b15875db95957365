/-! plain words, sixth part: how many weighings are needed -/
def foldN (g : Nat → Nat → Nat) (b : Nat) : Nat → Nat
  | 0 => b
  | k + 1 => g k (foldN g b k)
theorem foldN_le {g : Nat → Nat → Nat} {m b : Nat} (hb : b ≤ m) (hg : ∀ k a, a ≤ m → g k a ≤ m) (n : Nat) : foldN g b n ≤ m := by
  induction n with
  | zero => exact hb
  | succ n ih => exact hg n _ ih
theorem foldN_congr {g g' : Nat → Nat → Nat} {b : Nat} {n : Nat} (h : ∀ k, k < n → ∀ a, g k a = g' k a) : foldN g b n = foldN g' b n := by
  induction n with
  | zero => rfl
  | succ n ih =>
    show g n (foldN g b n) = g' n (foldN g' b n)
    rw [ih (fun k hk => h k (by omega)), h n (by omega)]
/-- the distance -/
def adf (p q : Nat) : Nat := if p < q then q - p else p - q
theorem sz_adf {p q r : Nat} (hp : p < 1000) (hq : q < 1000) (hr : r < 1000) : szI (nI p - nI q - nI r) = nI (adf p (q + r)) := by
  have e1 : (nI p - nI q).toInt = (p : Int) - q := pk_sub_toInt (by omega) (by omega)
  have e2 : (nI p - nI q - nI r).toInt = (p : Int) - q - r := by
    rw [fb_subI] <;> rw [e1, nI_toInt (by omega)] <;> omega
  have h0 : (0 : Int32).toInt = 0 := rfl
  unfold szI adf
  by_cases c : p < q + r
  · rw [if_pos c, if_pos (by rw [fa_lt, e2, h0]; omega), fa_eq, fb_negI (by rw [e2]; omega), e2, nI_toInt (by omega)]
    omega
  · rw [if_neg c, if_neg (by rw [fa_lt, e2, h0]; omega), fa_eq, e2, nI_toInt (by omega)]
    omega
theorem sz_adf2 {p q : Nat} (hp : p < 1000) (hq : q < 1000) : szI (nI p - nI q) = nI (adf p q) := by
  have h := sz_adf (p := p) (q := q) (r := 0) hp hq (by omega)
  have e : nI p - nI q - nI 0 = nI p - nI q := by
    have e1 : (nI p - nI q).toInt = (p : Int) - q := pk_sub_toInt (by omega) (by omega)
    rw [fa_eq, fb_subI] <;> rw [e1, show (nI 0).toInt = 0 from rfl] <;> omega
  rw [e] at h
  exact h
theorem mx_nI {a b : Nat} (ha : a < 2 ^ 31) (hb : b < 2 ^ 31) : mxI (nI a) (nI b) = nI (max a b) := by
  unfold mxI
  by_cases c : b < a
  · rw [if_pos (nI_lt c ha), Nat.max_eq_left (by omega)]
  · rw [if_neg (nI_nlt (by omega) hb), Nat.max_eq_right (by omega)]
/-- what is needed for h that can be heavier alone, l lighter alone, by the table T -/
def T1 (T : Nat → Nat → Nat) (h l : Nat) : Nat := if h + l < 2 then 0 else T h l
def tl1 (h l a b c d : Nat) : Bool := decide (a + d < h + l) && (decide (b + c < h + l) && decide (0 < a + b + c + d))
def wo1 (T : Nat → Nat → Nat) (h l a b c d : Nat) : Nat := max (T1 T (h - a - b) (l - c - d)) (max (T1 T a d) (T1 T b c))
def stp1 (T : Nat → Nat → Nat) (h l gen a b c d acc : Nat) : Nat := if tl1 h l a b c d = true then (if gen < adf (a + c) (b + d) then acc else if acc ≤ wo1 T h l a b c d + 1 then acc else wo1 T h l a b c d + 1) else acc
def loD (T : Nat → Nat → Nat) (h l gen a b c acc n : Nat) : Nat := foldN (fun d x => stp1 T h l gen a b c d x) acc n
def loCc (T : Nat → Nat → Nat) (h l gen a b acc n : Nat) : Nat := foldN (fun c x => loD T h l gen a b c x (l - c + 1)) acc n
def loB (T : Nat → Nat → Nat) (h l gen a acc n : Nat) : Nat := foldN (fun b x => loCc T h l gen a b x (l + 1)) acc n
def loA (T : Nat → Nat → Nat) (h l gen n : Nat) : Nat := foldN (fun a x => loB T h l gen a x (h - a + 1)) 99 n
def lo1 (T : Nat → Nat → Nat) (h l gen : Nat) : Nat := loA T h l gen (h + 1)
theorem stp1_le (T : Nat → Nat → Nat) (h l gen a b c d : Nat) {acc : Nat} (ha : acc ≤ 99) : stp1 T h l gen a b c d acc ≤ 99 := by
  unfold stp1
  split
  · split
    · exact ha
    · split
      · exact ha
      · omega
  · exact ha
theorem loD_le (T : Nat → Nat → Nat) (h l gen a b c : Nat) {acc : Nat} (ha : acc ≤ 99) (n : Nat) : loD T h l gen a b c acc n ≤ 99 := foldN_le ha (fun _ _ h => stp1_le _ _ _ _ _ _ _ _ h) n
theorem loCc_le (T : Nat → Nat → Nat) (h l gen a b : Nat) {acc : Nat} (ha : acc ≤ 99) (n : Nat) : loCc T h l gen a b acc n ≤ 99 := foldN_le ha (fun _ _ h => loD_le _ _ _ _ _ _ _ h _) n
theorem loB_le (T : Nat → Nat → Nat) (h l gen a : Nat) {acc : Nat} (ha : acc ≤ 99) (n : Nat) : loB T h l gen a acc n ≤ 99 := foldN_le ha (fun _ _ h => loCc_le _ _ _ _ _ _ h _) n
theorem loA_le (T : Nat → Nat → Nat) (h l gen : Nat) (n : Nat) : loA T h l gen n ≤ 99 := foldN_le (Nat.le_refl _) (fun _ _ h => loB_le _ _ _ _ _ h _) n
/-- only smaller ones of the table matter -/
theorem T1_congr {T T' : Nat → Nat → Nat} {m : Nat} (hT : ∀ p q, 2 ≤ p + q → p + q < m → T p q = T' p q) {u v : Nat} (h : u + v < m) : T1 T u v = T1 T' u v := by
  unfold T1
  by_cases e : u + v < 2
  · rw [if_pos e, if_pos e]
  · rw [if_neg e, if_neg e, hT u v (by omega) h]
theorem stp1_congr {T T' : Nat → Nat → Nat} {h l gen a b c d : Nat} (hT : ∀ p q, 2 ≤ p + q → p + q < h + l → T p q = T' p q) (hab : a + b ≤ h) (hcd : c + d ≤ l) (acc : Nat) : stp1 T h l gen a b c d acc = stp1 T' h l gen a b c d acc := by
  unfold stp1
  by_cases e : tl1 h l a b c d = true
  · have e2 := e
    unfold tl1 at e2
    simp only [Bool.and_eq_true, decide_eq_true_eq] at e2
    have w : wo1 T h l a b c d = wo1 T' h l a b c d := by
      unfold wo1
      rw [T1_congr hT (show h - a - b + (l - c - d) < h + l by omega), T1_congr hT (show a + d < h + l by omega), T1_congr hT (show b + c < h + l by omega)]
    rw [w]
  · rw [if_neg e, if_neg e]
theorem lo1_congr {T T' : Nat → Nat → Nat} {h l : Nat} (hT : ∀ p q, 2 ≤ p + q → p + q < h + l → T p q = T' p q) (gen : Nat) : lo1 T h l gen = lo1 T' h l gen := by
  unfold lo1 loA
  refine foldN_congr fun a ha x => ?_
  unfold loB
  refine foldN_congr fun b hb x => ?_
  unfold loCc
  refine foldN_congr fun c hc x => ?_
  unfold loD
  exact foldN_congr fun d hd x => stp1_congr hT (by omega) (by omega) x
/-- the table of n weights, by fuel -/
def o1F (n : Nat) : Nat → Nat → Nat → Nat
  | 0, _, _ => 0
  | f + 1, h, l => lo1 (o1F n f) h l (n - h - l)
def oneN (n h l : Nat) : Nat := o1F n (h + l) h l
theorem o1F_st (n : Nat) : ∀ (f g h l : Nat), h + l ≤ f → h + l ≤ g → 1 ≤ h + l → o1F n f h l = o1F n g h l := by
  intro f
  induction f with
  | zero => intro g h l h1 h2 h3; omega
  | succ f ih =>
    intro g h l h1 h2 h3
    obtain ⟨g', rfl⟩ : ∃ g', g = g' + 1 := ⟨g - 1, by omega⟩
    show lo1 (o1F n f) h l (n - h - l) = lo1 (o1F n g') h l (n - h - l)
    exact lo1_congr (fun p q e1 e2 => ih g' p q (by omega) (by omega) (by omega)) _
theorem oneN_eq (n : Nat) {h l : Nat} (h1 : 1 ≤ h + l) : oneN n h l = lo1 (oneN n) h l (n - h - l) := by
  unfold oneN
  obtain ⟨s, hs⟩ : ∃ s, h + l = s + 1 := ⟨h + l - 1, by omega⟩
  rw [hs]
  show lo1 (o1F n s) h l (n - h - l) = _
  exact lo1_congr (fun p q e1 e2 => o1F_st n s (p + q) p q (by omega) (by omega) (by omega)) _
theorem oneN_le (n : Nat) {h l : Nat} (h1 : 1 ≤ h + l) : oneN n h l ≤ 99 := by rw [oneN_eq n h1]; exact loA_le _ _ _ _ _
theorem T1_le (n h l : Nat) : T1 (oneN n) h l ≤ 99 := by
  unfold T1
  split
  · omega
  · exact oneN_le n (by omega)
/-- .. for u that can be both, with all genuine possible or not -/
def B1 (B : Nat → Nat) (u g : Nat) : Nat := if 2 * u + g < 2 then 0 else B u
def woB (T : Nat → Nat → Nat) (B : Nat → Nat) (u g a b : Nat) : Nat := max (B1 B (u - a - b) g) (max (T1 T a b) (T1 T b a))
def stpB (T : Nat → Nat → Nat) (B : Nat → Nat) (u g gen a b acc : Nat) : Nat := if 0 < a + b then (if gen < adf a b then acc else if acc ≤ woB T B u g a b + 1 then acc else woB T B u g a b + 1) else acc
def lbB (T : Nat → Nat → Nat) (B : Nat → Nat) (u g gen a acc n : Nat) : Nat := foldN (fun b x => stpB T B u g gen a b x) acc n
def lbA (T : Nat → Nat → Nat) (B : Nat → Nat) (u g gen n : Nat) : Nat := foldN (fun a x => lbB T B u g gen a x (u - a + 1)) 99 n
def lb1 (T : Nat → Nat → Nat) (B : Nat → Nat) (u g gen : Nat) : Nat := lbA T B u g gen (u + 1)
theorem stpB_le (T : Nat → Nat → Nat) (B : Nat → Nat) (u g gen a b : Nat) {acc : Nat} (ha : acc ≤ 99) : stpB T B u g gen a b acc ≤ 99 := by
  unfold stpB
  split
  · split
    · exact ha
    · split
      · exact ha
      · omega
  · exact ha
theorem lbB_le (T : Nat → Nat → Nat) (B : Nat → Nat) (u g gen a : Nat) {acc : Nat} (ha : acc ≤ 99) (n : Nat) : lbB T B u g gen a acc n ≤ 99 := foldN_le ha (fun _ _ h => stpB_le _ _ _ _ _ _ _ h) n
theorem lbA_le (T : Nat → Nat → Nat) (B : Nat → Nat) (u g gen n : Nat) : lbA T B u g gen n ≤ 99 := foldN_le (Nat.le_refl _) (fun _ _ h => lbB_le _ _ _ _ _ _ h _) n
theorem lb1_congr {T : Nat → Nat → Nat} {B B' : Nat → Nat} {u : Nat} (g : Nat) (hB : ∀ p, p < u → 2 ≤ 2 * p + g → B p = B' p) (gen : Nat) : lb1 T B u g gen = lb1 T B' u g gen := by
  unfold lb1 lbA
  refine foldN_congr fun a ha x => ?_
  unfold lbB
  refine foldN_congr fun b hb x => ?_
  unfold stpB
  by_cases e : 0 < a + b
  · have w : woB T B u g a b = woB T B' u g a b := by
      unfold woB B1
      by_cases e2 : 2 * (u - a - b) + g < 2
      · rw [if_pos e2, if_pos e2]
      · rw [if_neg e2, if_neg e2, hB _ (by omega) (by omega)]
    rw [w]
  · rw [if_neg e, if_neg e]
def bF (n g : Nat) : Nat → Nat → Nat
  | 0, _ => 0
  | f + 1, u => lb1 (oneN n) (bF n g f) u g (n - u)
def bothN (n g u : Nat) : Nat := bF n g u u
theorem bF_st (n : Nat) {g : Nat} (hg : g ≤ 1) : ∀ (f f' u : Nat), u ≤ f → u ≤ f' → 1 ≤ u → bF n g f u = bF n g f' u := by
  intro f
  induction f with
  | zero => intro f' u h1 h2 h3; omega
  | succ f ih =>
    intro f' u h1 h2 h3
    obtain ⟨k, rfl⟩ : ∃ k, f' = k + 1 := ⟨f' - 1, by omega⟩
    show lb1 (oneN n) (bF n g f) u g (n - u) = lb1 (oneN n) (bF n g k) u g (n - u)
    refine lb1_congr g (fun p e1 e2 => ?_) _
    by_cases e3 : 1 ≤ p
    · exact ih k p (by omega) (by omega) e3
    · have : p = 0 := by omega
      subst this
      omega
theorem bothN_eq (n : Nat) {g u : Nat} (hg : g ≤ 1) (h1 : 1 ≤ u) : bothN n g u = lb1 (oneN n) (bothN n g) u g (n - u) := by
  unfold bothN
  obtain ⟨s, hs⟩ : ∃ s, u = s + 1 := ⟨u - 1, by omega⟩
  subst hs
  show lb1 (oneN n) (bF n g s) (s + 1) g (n - (s + 1)) = _
  exact lb1_congr g (fun p e1 e2 => bF_st n hg s p p (by omega) (by omega) (by omega)) _
theorem bothN_le (n : Nat) {g u : Nat} (hg : g ≤ 1) (h1 : 1 ≤ u) : bothN n g u ≤ 99 := by rw [bothN_eq n hg h1]; exact lbA_le _ _ _ _ _ _
theorem B1_le (n : Nat) {g : Nat} (hg : g ≤ 1) (u : Nat) : B1 (bothN n g) u g ≤ 99 := by
  unfold B1
  split
  · omega
  · exact bothN_le n hg (by omega)
/-- the rows as they are laid: one[13 h + l] for h + l < s, and of s those with fewer than k heavy -/
def layO (n s k : Nat) (g0 : Nat → Int32) : Nat → Int32 := fun i => if (2 ≤ i / 13 + i % 13 ∧ i / 13 + i % 13 < s) ∨ (i / 13 + i % 13 = s ∧ i / 13 < k) then nI (oneN n (i / 13) (i % 13)) else g0 i
theorem layO_get {n s k : Nat} {g0 : Nat → Int32} {h l : Nat} (hl : l < 13) (h1 : 2 ≤ h + l) (h2 : h + l < s) : layO n s k g0 (13 * h + l) = nI (oneN n h l) := by
  unfold layO
  rw [show (13 * h + l) / 13 = h by omega, show (13 * h + l) % 13 = l by omega, if_pos (Or.inl ⟨h1, h2⟩)]
theorem layO_0 (n : Nat) (g0 : Nat → Int32) : layO n 2 0 g0 = g0 := by
  funext i
  unfold layO
  rw [if_neg (by omega)]
theorem layO_row (n s : Nat) (hs : 2 ≤ s) (g0 : Nat → Int32) : layO n s (s + 1) g0 = layO n (s + 1) 0 g0 := by
  funext i
  unfold layO
  by_cases c : (2 ≤ i / 13 + i % 13 ∧ i / 13 + i % 13 < s) ∨ (i / 13 + i % 13 = s ∧ i / 13 < s + 1)
  · rw [if_pos c, if_pos (by omega)]
  · rw [if_neg c, if_neg (by omega)]
theorem layO_step {n s k : Nat} (hs : 2 ≤ s) (hs2 : s ≤ 12) (hk : k ≤ s) (g0 : Nat → Int32) : upd (layO n s k g0) (13 * k + s - k) (nI (oneN n k (s - k))) = layO n s (k + 1) g0 := by
  funext i
  unfold upd layO
  by_cases c : i = 13 * k + s - k
  · have e1 : i / 13 = k := by omega
    have e2 : i % 13 = s - k := by omega
    rw [if_pos c, e1, e2, if_pos (by omega)]
  · rw [if_neg c]
    by_cases c2 : (2 ≤ i / 13 + i % 13 ∧ i / 13 + i % 13 < s) ∨ (i / 13 + i % 13 = s ∧ i / 13 < k)
    · rw [if_pos c2, if_pos (by omega)]
    · rw [if_neg c2, if_neg (by omega)]
def layB (n m : Nat) (g0 : Nat → Int32) : Nat → Int32 := fun i => if 2 ≤ i ∧ i < m then nI (bothN n (i % 2) (i / 2)) else g0 i
theorem layB_get {n m : Nat} {g0 : Nat → Int32} {u g : Nat} (hg : g ≤ 1) (h1 : 2 ≤ 2 * u + g) (h2 : 2 * u + g < m) : layB n m g0 (2 * u + g) = nI (bothN n g u) := by
  unfold layB
  rw [if_pos ⟨h1, h2⟩, show (2 * u + g) / 2 = u by omega, show (2 * u + g) % 2 = g by omega]
theorem layB_0 (n : Nat) (g0 : Nat → Int32) : layB n 2 g0 = g0 := by
  funext i; unfold layB; rw [if_neg (by omega)]
theorem layB_step {n m : Nat} (hm : 2 ≤ m) (g0 : Nat → Int32) : upd (layB n m g0) m (nI (bothN n (m % 2) (m / 2))) = layB n (m + 1) g0 := by
  funext i
  unfold upd layB
  by_cases c : i = m
  · rw [if_pos c, c, if_pos (by omega)]
  · rw [if_neg c]
    by_cases c2 : 2 ≤ i ∧ i < m
    · rw [if_pos c2, if_pos (by omega)]
    · rw [if_neg c2, if_neg (by omega)]
/-- both arrays laid for n weights -/
def layX (X : Nat → Nat → Int32) (n : Nat) : Nat → Nat → Int32 := setX (setX X 38 (layO n (n + 1) 0 (X 38))) 39 (layB n (2 * n + 2) (X 39))
/-- what is needed for suspects hm, lm, by n weights -/
def neN (n : Nat) (hm lm : Int32) (g : Nat) : Nat := if pcI hm + pcI lm + g < 2 then 0 else if hm &&& lm = 0 then T1 (oneN n) (pcI hm) (pcI lm) else B1 (bothN n g) (pcI hm) g
theorem neN_le (n : Nat) (hm lm : Int32) {g : Nat} (hg : g ≤ 1) : neN n hm lm g ≤ 99 := by
  unfold neN
  split
  · omega
  · split
    · exact T1_le _ _ _
    · exact B1_le n hg _
theorem loD_s (T : Nat → Nat → Nat) (h l gen a b c acc d : Nat) : loD T h l gen a b c acc (d + 1) = stp1 T h l gen a b c d (loD T h l gen a b c acc d) := rfl
theorem stp1_no {T : Nat → Nat → Nat} {h l gen a b c d acc : Nat} (e : tl1 h l a b c d = false) : stp1 T h l gen a b c d acc = acc := if_neg (by rw [e]; decide)
theorem stp1_gt {T : Nat → Nat → Nat} {h l gen a b c d acc : Nat} (e : tl1 h l a b c d = true) (e2 : gen < adf (a + c) (b + d)) : stp1 T h l gen a b c d acc = acc := by
  unfold stp1; rw [if_pos e, if_pos e2]
theorem stp1_ge {T : Nat → Nat → Nat} {h l gen a b c d acc : Nat} (e : tl1 h l a b c d = true) (e2 : adf (a + c) (b + d) ≤ gen) (e3 : acc ≤ wo1 T h l a b c d + 1) : stp1 T h l gen a b c d acc = acc := by
  unfold stp1; rw [if_pos e, if_neg (Nat.not_lt.mpr e2), if_pos e3]
theorem stp1_lt {T : Nat → Nat → Nat} {h l gen a b c d acc : Nat} (e : tl1 h l a b c d = true) (e2 : adf (a + c) (b + d) ≤ gen) (e3 : wo1 T h l a b c d + 1 < acc) : stp1 T h l gen a b c d acc = wo1 T h l a b c d + 1 := by
  unfold stp1; rw [if_pos e, if_neg (Nat.not_lt.mpr e2), if_neg (Nat.not_le.mpr e3)]
theorem lbB_s (T : Nat → Nat → Nat) (B : Nat → Nat) (u g gen a acc b : Nat) : lbB T B u g gen a acc (b + 1) = stpB T B u g gen a b (lbB T B u g gen a acc b) := rfl
theorem stpB_no {T : Nat → Nat → Nat} {B : Nat → Nat} {u g gen a b acc : Nat} (e : a + b ≤ 0) : stpB T B u g gen a b acc = acc := if_neg (by omega)
theorem stpB_gt {T : Nat → Nat → Nat} {B : Nat → Nat} {u g gen a b acc : Nat} (e2 : gen < adf a b) : stpB T B u g gen a b acc = acc := by
  unfold stpB
  by_cases e : 0 < a + b
  · rw [if_pos e, if_pos e2]
  · rw [if_neg e]
theorem stpB_ge {T : Nat → Nat → Nat} {B : Nat → Nat} {u g gen a b acc : Nat} (e : 0 < a + b) (e2 : adf a b ≤ gen) (e3 : acc ≤ woB T B u g a b + 1) : stpB T B u g gen a b acc = acc := by
  unfold stpB; rw [if_pos e, if_neg (Nat.not_lt.mpr e2), if_pos e3]
theorem stpB_lt {T : Nat → Nat → Nat} {B : Nat → Nat} {u g gen a b acc : Nat} (e : 0 < a + b) (e2 : adf a b ≤ gen) (e3 : woB T B u g a b + 1 < acc) : stpB T B u g gen a b acc = woB T B u g a b + 1 := by
  unfold stpB; rw [if_pos e, if_neg (Nat.not_lt.mpr e2), if_neg (Nat.not_le.mpr e3)]
