section
/-! ===== plain geometry: points, the turn, the key of the order by x, then y ===== -/
def gh_K (q : Int × Int) : Int := 65536 * q.1 + q.2
def gh_T (a b c : Int × Int) : Int := (b.1 - a.1) * (c.2 - a.2) - (b.2 - a.2) * (c.1 - a.1)
def gh_S (σ : Int) (a b c : Int × Int) : Int := σ * gh_T a b c
def gh_ok (q : Int × Int) : Prop := -16383 ≤ q.1 ∧ q.1 ≤ 16383 ∧ -16383 ≤ q.2 ∧ q.2 ≤ 16383
theorem gh_Kinj {a b : Int × Int} (ha : gh_ok a) (hb : gh_ok b) (h : gh_K a = gh_K b) : a = b := by
  obtain ⟨a1, a2⟩ := a
  obtain ⟨b1, b2⟩ := b
  simp only [gh_ok, gh_K] at ha hb h
  have e1 : a1 = b1 := by omega
  have e2 : a2 = b2 := by omega
  rw [e1, e2]
theorem gh_Klt {a b : Int × Int} (ha : gh_ok a) (hb : gh_ok b) : gh_K a < gh_K b ↔ a.1 < b.1 ∨ (a.1 = b.1 ∧ a.2 < b.2) := by
  obtain ⟨a1, a2⟩ := a
  obtain ⟨b1, b2⟩ := b
  simp only [gh_ok, gh_K] at ha hb ⊢
  omega
/-! signs out of a product -/
theorem gh_nn {k t r : Int} (hk : 0 < k) (h : k * t = r) (hr : 0 ≤ r) : 0 ≤ t := by
  rcases Int.lt_or_le t 0 with q | q
  · have := Int.mul_neg_of_pos_of_neg hk q
    omega
  · exact q
theorem gh_ps {k t r : Int} (hk : 0 < k) (h : k * t = r) (hr : 0 < r) : 0 < t := by
  rcases Int.lt_or_le 0 t with q | q
  · exact q
  · have := Int.mul_nonpos_of_nonneg_of_nonpos (Int.le_of_lt hk) q
    omega
theorem gh_np {a b : Int} (ha : 0 ≤ a) (hb : b ≤ 0) : a * b ≤ 0 := Int.mul_nonpos_of_nonneg_of_nonpos ha hb
/-! the identities -/
theorem gh_G (σ : Int) (a b c q : Int × Int) : (gh_K c - gh_K b) * gh_S σ a b q = (gh_K q - gh_K b) * gh_S σ a b c + (gh_K b - gh_K a) * gh_S σ b c q := by
  obtain ⟨a1, a2⟩ := a
  obtain ⟨b1, b2⟩ := b
  obtain ⟨c1, c2⟩ := c
  obtain ⟨q1, q2⟩ := q
  simp only [gh_K, gh_S, gh_T]
  grind
theorem gh_G2 (σ : Int) (a b c q : Int × Int) : (gh_K b - gh_K a) * gh_S σ b c q = (gh_K c - gh_K b) * gh_S σ a b q + (gh_K b - gh_K q) * gh_S σ a b c := by
  have h := gh_G σ a b c q
  grind
theorem gh_G3 (σ : Int) (a b c d : Int × Int) : (gh_K c - gh_K b) * gh_S σ a c d = (gh_K d - gh_K c) * gh_S σ a b c + (gh_K c - gh_K a) * gh_S σ b c d := by
  obtain ⟨a1, a2⟩ := a
  obtain ⟨b1, b2⟩ := b
  obtain ⟨c1, c2⟩ := c
  obtain ⟨d1, d2⟩ := d
  simp only [gh_K, gh_S, gh_T]
  grind
theorem gh_I1 (σ : Int) (a b p q : Int × Int) : (gh_K b - gh_K a) * gh_S σ a p q = (gh_K p - gh_K a) * gh_S σ a b q + (gh_K q - gh_K a) * (- gh_S σ a b p) := by
  obtain ⟨a1, a2⟩ := a
  obtain ⟨b1, b2⟩ := b
  obtain ⟨p1, p2⟩ := p
  obtain ⟨q1, q2⟩ := q
  simp only [gh_K, gh_S, gh_T]
  grind
theorem gh_I3 (σ : Int) (a b p q : Int × Int) : (gh_K b - gh_K a) * gh_S σ p b q = (gh_K b - gh_K p) * gh_S σ a b q + (gh_K b - gh_K q) * (- gh_S σ a b p) := by
  obtain ⟨a1, a2⟩ := a
  obtain ⟨b1, b2⟩ := b
  obtain ⟨p1, p2⟩ := p
  obtain ⟨q1, q2⟩ := q
  simp only [gh_K, gh_S, gh_T]
  grind
theorem gh_E (σ : Int) (A Z a b q : Int × Int) : (gh_K Z - gh_K A) * gh_S σ a b q = (gh_K b - gh_K a) * gh_S σ A Z q + (gh_K b - gh_K q) * (- gh_S σ A Z a) + (gh_K q - gh_K a) * (- gh_S σ A Z b) := by
  obtain ⟨A1, A2⟩ := A
  obtain ⟨Z1, Z2⟩ := Z
  obtain ⟨a1, a2⟩ := a
  obtain ⟨b1, b2⟩ := b
  obtain ⟨q1, q2⟩ := q
  simp only [gh_K, gh_S, gh_T]
  grind
theorem gh_Scyc (σ : Int) (a b c : Int × Int) : gh_S σ b c a = gh_S σ a b c := by
  obtain ⟨a1, a2⟩ := a
  obtain ⟨b1, b2⟩ := b
  obtain ⟨c1, c2⟩ := c
  simp only [gh_S, gh_T]
  grind
theorem gh_Sneg (σ : Int) (a b c : Int × Int) : gh_S σ a c b = - gh_S σ a b c := by
  obtain ⟨a1, a2⟩ := a
  obtain ⟨b1, b2⟩ := b
  obtain ⟨c1, c2⟩ := c
  simp only [gh_S, gh_T]
  grind
theorem gh_Sneg2 (σ : Int) (a b c : Int × Int) : gh_S σ b a c = - gh_S σ a b c := by
  obtain ⟨a1, a2⟩ := a
  obtain ⟨b1, b2⟩ := b
  obtain ⟨c1, c2⟩ := c
  simp only [gh_S, gh_T]
  grind
theorem gh_Ssig (σ : Int) (a b c : Int × Int) : gh_S (-σ) a b c = - gh_S σ a b c := by
  simp only [gh_S]
  grind
theorem gh_S1 (a b c : Int × Int) : gh_S 1 a b c = gh_T a b c := by
  simp only [gh_S]
  grind
theorem gh_Sm (a b c : Int × Int) : gh_S (-1) a b c = - gh_T a b c := by
  simp only [gh_S]
  grind
theorem gh_S_0 (σ : Int) (a b : Int × Int) : gh_S σ a b a = 0 := by
  simp only [gh_S, gh_T]
  grind
theorem gh_S_1 (σ : Int) (a b : Int × Int) : gh_S σ a b b = 0 := by
  simp only [gh_S, gh_T]
  grind
theorem gh_four {σ : Int} {a b c d : Int × Int} (h1 : gh_K a < gh_K b) (h2 : gh_K b < gh_K c) (h3 : gh_K c < gh_K d) (hp : 0 < gh_S σ a b c) (hq : 0 < gh_S σ b c d) : 0 < gh_S σ a b d ∧ 0 < gh_S σ a c d := by
  refine ⟨gh_ps (by omega) (gh_G σ a b c d) ?_, gh_ps (by omega) (gh_G3 σ a b c d) ?_⟩
  · exact Int.add_pos (Int.mul_pos (by omega) hp) (Int.mul_pos (by omega) hq)
  · exact Int.add_pos (Int.mul_pos (by omega) hp) (Int.mul_pos (by omega) hq)
/-! ===== chains ===== -/
/-- f 0 .. f (n-1): the keys rise, and it turns all along -/
def gh_C (σ : Int) (n : Nat) (f : Nat → Int × Int) : Prop := (∀ i, i + 1 < n → gh_K (f i) < gh_K (f (i + 1))) ∧ (∀ i, i + 2 < n → 0 < gh_S σ (f i) (f (i + 1)) (f (i + 2)))
/-- q lies on the chain, or on its inner side -/
def gh_A (σ : Int) (n : Nat) (f : Nat → Int × Int) (q : Int × Int) : Prop := 0 < n ∧ gh_K (f 0) ≤ gh_K q ∧ gh_K q ≤ gh_K (f (n - 1)) ∧ ∀ i, i + 1 < n → 0 ≤ gh_S σ (f i) (f (i + 1)) q
/-- q lies on its inner side, and not on it -/
def gh_SA (σ : Int) (n : Nat) (f : Nat → Int × Int) (q : Int × Int) : Prop := gh_A σ n f q ∧ 2 ≤ n ∧ ∀ i, i + 1 < n → 0 < gh_S σ (f i) (f (i + 1)) q
theorem gh_C.congr {σ : Int} {n : Nat} {f g : Nat → Int × Int} (h : gh_C σ n f) (e : ∀ i, i < n → g i = f i) : gh_C σ n g := by
  refine ⟨fun i hi => ?_, fun i hi => ?_⟩
  · rw [e i (by omega), e (i + 1) (by omega)]
    exact h.1 i hi
  · rw [e i (by omega), e (i + 1) (by omega), e (i + 2) (by omega)]
    exact h.2 i hi
theorem gh_A.congr {σ : Int} {n : Nat} {f g : Nat → Int × Int} {q : Int × Int} (h : gh_A σ n f q) (e : ∀ i, i < n → g i = f i) : gh_A σ n g q := by
  obtain ⟨h0, h1, h2, h3⟩ := h
  refine ⟨h0, ?_, ?_, fun i hi => ?_⟩
  · rw [e 0 (by omega)]
    exact h1
  · rw [e (n - 1) (by omega)]
    exact h2
  · rw [e i (by omega), e (i + 1) (by omega)]
    exact h3 i hi
theorem gh_C.mono {σ : Int} {n : Nat} {f : Nat → Int × Int} (h : gh_C σ n f) : ∀ (j i : Nat), i < j → j < n → gh_K (f i) < gh_K (f j) := by
  intro j
  induction j with
  | zero => intro i hi; omega
  | succ j ih =>
    intro i hi hj
    have h1 := h.1 j hj
    by_cases e : i = j
    · rw [e]; exact h1
    · have := ih i (by omega) (by omega)
      omega
theorem gh_C.monole {σ : Int} {n : Nat} {f : Nat → Int × Int} (h : gh_C σ n f) (i j : Nat) (hij : i ≤ j) (hj : j < n) : gh_K (f i) ≤ gh_K (f j) := by
  by_cases e : i = j
  · rw [e]; omega
  · have := h.mono j i (by omega) hj
    omega
theorem gh_C.glob {σ : Int} {n : Nat} {f : Nat → Int × Int} (h : gh_C σ n f) : ∀ (d i j k : Nat), k - i = d → i < j → j < k → k < n → 0 < gh_S σ (f i) (f j) (f k) := by
  intro d
  induction d using Nat.strongRecOn with
  | _ d ih =>
    intro i j k hd hij hjk hk
    by_cases h2 : d = 2
    · have e1 : j = i + 1 := by omega
      have e2 : k = i + 2 := by omega
      rw [e1, e2]
      exact h.2 i (by omega)
    · by_cases hj : j = i + 1
      · have a1 := ih (k - 1 - i) (by omega) i j (k - 1) rfl (by omega) (by omega) (by omega)
        have a2 := ih (k - j) (by omega) j (k - 1) k rfl (by omega) (by omega) (by omega)
        exact (gh_four (h.mono j i (by omega) (by omega)) (h.mono (k - 1) j (by omega) (by omega)) (h.mono k (k - 1) (by omega) (by omega)) a1 a2).1
      · have a1 := ih (j - i) (by omega) i (i + 1) j rfl (by omega) (by omega) (by omega)
        have a2 := ih (k - (i + 1)) (by omega) (i + 1) j k rfl (by omega) (by omega) (by omega)
        exact (gh_four (h.mono (i + 1) i (by omega) (by omega)) (h.mono j (i + 1) (by omega) (by omega)) (h.mono k j (by omega) (by omega)) a1 a2).2
theorem gh_C.gl {σ : Int} {n : Nat} {f : Nat → Int × Int} (h : gh_C σ n f) {i j k : Nat} (hij : i < j) (hjk : j < k) (hk : k < n) : 0 < gh_S σ (f i) (f j) (f k) := h.glob _ i j k rfl hij hjk hk
/-- a place that spans q -/
theorem gh_span {n : Nat} {f : Nat → Int × Int} {q : Int × Int} (h2 : 2 ≤ n) (ha : gh_K (f 0) ≤ gh_K q) (hz : gh_K q ≤ gh_K (f (n - 1))) : ∃ k, k + 1 < n ∧ gh_K (f k) ≤ gh_K q ∧ gh_K q ≤ gh_K (f (k + 1)) := by
  have key : ∀ m, m + 1 < n → gh_K q ≤ gh_K (f (m + 1)) → ∃ k, k + 1 < n ∧ gh_K (f k) ≤ gh_K q ∧ gh_K q ≤ gh_K (f (k + 1)) := by
    intro m
    induction m with
    | zero => intro hm h; exact ⟨0, hm, ha, h⟩
    | succ m ih =>
      intro hm h
      by_cases e : gh_K (f (m + 1)) ≤ gh_K q
      · exact ⟨m + 1, hm, e, h⟩
      · exact ih (by omega) (by omega)
  refine key (n - 2) (by omega) ?_
  rw [show n - 2 + 1 = n - 1 by omega]
  exact hz
/-- on the inner side of the spanning edge: of all edges -/
theorem gh_C.spanW {σ : Int} {n : Nat} {f : Nat → Int × Int} {q : Int × Int} (h : gh_C σ n f) {k : Nat} (hk : k + 1 < n) (h1 : gh_K (f k) ≤ gh_K q) (h2 : gh_K q ≤ gh_K (f (k + 1))) (hs : 0 ≤ gh_S σ (f k) (f (k + 1)) q) : ∀ i, i + 1 < n → 0 ≤ gh_S σ (f i) (f (i + 1)) q := by
  have up : ∀ d, k + d + 1 < n → 0 ≤ gh_S σ (f (k + d)) (f (k + d + 1)) q := by
    intro d
    induction d with
    | zero => intro _; exact hs
    | succ d ih =>
      intro hd
      have a1 := ih (by omega)
      have m1 := h.mono (k + d + 1) (k + d) (by omega) (by omega)
      have m2 := h.mono (k + d + 2) (k + d + 1) (by omega) (by omega)
      have m3 := h.monole (k + 1) (k + d + 1) (by omega) (by omega)
      have c1 := h.2 (k + d) (by omega)
      exact gh_nn (by omega) (gh_G2 σ (f (k + d)) (f (k + d + 1)) (f (k + d + 2)) q) (Int.add_nonneg (Int.mul_nonneg (by omega) a1) (Int.mul_nonneg (by omega) (Int.le_of_lt c1)))
  have dn : ∀ d, d ≤ k → 0 ≤ gh_S σ (f (k - d)) (f (k - d + 1)) q := by
    intro d
    induction d with
    | zero => intro _; exact hs
    | succ d ih =>
      intro hd
      have a1 := ih (by omega)
      have e : k - d = k - (d + 1) + 1 := by omega
      rw [e] at a1
      have m1 := h.mono (k - (d + 1) + 1) (k - (d + 1)) (by omega) (by omega)
      have m2 := h.mono (k - (d + 1) + 2) (k - (d + 1) + 1) (by omega) (by omega)
      have m3 := h.monole (k - (d + 1) + 1) k (by omega) (by omega)
      have c1 := h.2 (k - (d + 1)) (by omega)
      exact gh_nn (by omega) (gh_G σ (f (k - (d + 1))) (f (k - (d + 1) + 1)) (f (k - (d + 1) + 2)) q) (Int.add_nonneg (Int.mul_nonneg (by omega) (Int.le_of_lt c1)) (Int.mul_nonneg (by omega) a1))
  intro i hi
  by_cases e : k ≤ i
  · have := up (i - k) (by omega)
    rw [show k + (i - k) = i by omega] at this
    exact this
  · have := dn (k - i) (by omega)
    rw [show k - (k - i) = i by omega] at this
    exact this
theorem gh_C.spanS {σ : Int} {n : Nat} {f : Nat → Int × Int} {q : Int × Int} (h : gh_C σ n f) {k : Nat} (hk : k + 1 < n) (h1 : gh_K (f k) ≤ gh_K q) (h2 : gh_K q ≤ gh_K (f (k + 1))) (hs : 0 < gh_S σ (f k) (f (k + 1)) q) : ∀ i, i + 1 < n → 0 < gh_S σ (f i) (f (i + 1)) q := by
  have up : ∀ d, k + d + 1 < n → 0 < gh_S σ (f (k + d)) (f (k + d + 1)) q := by
    intro d
    induction d with
    | zero => intro _; exact hs
    | succ d ih =>
      intro hd
      have a1 := ih (by omega)
      have m1 := h.mono (k + d + 1) (k + d) (by omega) (by omega)
      have m2 := h.mono (k + d + 2) (k + d + 1) (by omega) (by omega)
      have m3 := h.monole (k + 1) (k + d + 1) (by omega) (by omega)
      have c1 := h.2 (k + d) (by omega)
      exact gh_ps (by omega) (gh_G2 σ (f (k + d)) (f (k + d + 1)) (f (k + d + 2)) q) (Int.add_pos_of_pos_of_nonneg (Int.mul_pos (by omega) a1) (Int.mul_nonneg (by omega) (Int.le_of_lt c1)))
  have dn : ∀ d, d ≤ k → 0 < gh_S σ (f (k - d)) (f (k - d + 1)) q := by
    intro d
    induction d with
    | zero => intro _; exact hs
    | succ d ih =>
      intro hd
      have a1 := ih (by omega)
      have e : k - d = k - (d + 1) + 1 := by omega
      rw [e] at a1
      have m1 := h.mono (k - (d + 1) + 1) (k - (d + 1)) (by omega) (by omega)
      have m2 := h.mono (k - (d + 1) + 2) (k - (d + 1) + 1) (by omega) (by omega)
      have m3 := h.monole (k - (d + 1) + 1) k (by omega) (by omega)
      have c1 := h.2 (k - (d + 1)) (by omega)
      exact gh_ps (by omega) (gh_G σ (f (k - (d + 1))) (f (k - (d + 1) + 1)) (f (k - (d + 1) + 2)) q) (Int.add_pos_of_nonneg_of_pos (Int.mul_nonneg (by omega) (Int.le_of_lt c1)) (Int.mul_pos (by omega) a1))
  intro i hi
  by_cases e : k ≤ i
  · have := up (i - k) (by omega)
    rw [show k + (i - k) = i by omega] at this
    exact this
  · have := dn (k - i) (by omega)
    rw [show k - (k - i) = i by omega] at this
    exact this
theorem gh_C.inA {σ : Int} {n : Nat} {f : Nat → Int × Int} {q : Int × Int} (h : gh_C σ n f) {k : Nat} (hk : k + 1 < n) (h1 : gh_K (f k) ≤ gh_K q) (h2 : gh_K q ≤ gh_K (f (k + 1))) (hs : 0 ≤ gh_S σ (f k) (f (k + 1)) q) : gh_A σ n f q := by
  have m1 := h.monole 0 k (by omega) (by omega)
  have m2 := h.monole (k + 1) (n - 1) (by omega) (by omega)
  exact ⟨by omega, by omega, by omega, h.spanW hk h1 h2 hs⟩
theorem gh_C.inSA {σ : Int} {n : Nat} {f : Nat → Int × Int} {q : Int × Int} (h : gh_C σ n f) {k : Nat} (hk : k + 1 < n) (h1 : gh_K (f k) ≤ gh_K q) (h2 : gh_K q ≤ gh_K (f (k + 1))) (hs : 0 < gh_S σ (f k) (f (k + 1)) q) : gh_SA σ n f q :=
  ⟨h.inA hk h1 h2 (Int.le_of_lt hs), by omega, h.spanS hk h1 h2 hs⟩
/-- a vertex lies on the chain -/
theorem gh_C.vert {σ : Int} {n : Nat} {f : Nat → Int × Int} (h : gh_C σ n f) {j : Nat} (hj : j < n) : gh_A σ n f (f j) := by
  by_cases e : j + 1 < n
  · exact h.inA e (Int.le_refl _) (Int.le_of_lt (h.1 j e)) (by rw [gh_S_0]; exact Int.le_refl 0)
  · by_cases e2 : n = 1
    · have e3 : j = 0 := by omega
      subst e2
      subst e3
      exact ⟨by omega, Int.le_refl _, Int.le_refl _, fun i hi => by omega⟩
    · have e3 : j = (j - 1) + 1 := by omega
      have h1 := h.1 (j - 1) (by omega)
      rw [← e3] at h1
      refine h.inA (k := j - 1) (by omega) (Int.le_of_lt h1) (by rw [← e3]; exact Int.le_refl _) ?_
      rw [← e3, gh_S_1]
      exact Int.le_refl 0
/-- on the line of an edge: on the edge -/
theorem gh_C.online {σ : Int} {n : Nat} {f : Nat → Int × Int} {q : Int × Int} (h : gh_C σ n f) (hA : gh_A σ n f q) {i : Nat} (hi : i + 1 < n) (h0 : gh_S σ (f i) (f (i + 1)) q = 0) : gh_K (f i) ≤ gh_K q ∧ gh_K q ≤ gh_K (f (i + 1)) := by
  obtain ⟨hn, ha, hz, he⟩ := hA
  refine ⟨?_, ?_⟩
  · rcases Int.lt_or_le (gh_K q) (gh_K (f i)) with r | r
    · by_cases e : i = 0
      · rw [e] at r; omega
      · have e3 : i = (i - 1) + 1 := by omega
        have s1 := he (i - 1) (by omega)
        have c1 := h.2 (i - 1) (by omega)
        have m1 := h.1 (i - 1) (by omega)
        have m2 := h.1 i hi
        have g := gh_G σ (f (i - 1)) (f i) (f (i + 1)) q
        rw [h0] at g
        rw [show i - 1 + 1 = i by omega] at s1 c1 m1
        rw [show i - 1 + 2 = i + 1 by omega] at c1
        have p1 := Int.mul_nonneg (show 0 ≤ gh_K (f (i + 1)) - gh_K (f i) by omega) s1
        have p2 := Int.mul_pos (show 0 < gh_K (f i) - gh_K q by omega) c1
        have p3 : (gh_K q - gh_K (f i)) * gh_S σ (f (i - 1)) (f i) (f (i + 1)) = - ((gh_K (f i) - gh_K q) * gh_S σ (f (i - 1)) (f i) (f (i + 1))) := by
          rw [← Int.neg_mul]
          congr 1
          omega
        rw [Int.mul_zero] at g
        omega
    · exact r
  · rcases Int.lt_or_le (gh_K (f (i + 1))) (gh_K q) with r | r
    · by_cases e : i + 1 = n - 1
      · rw [e] at r; omega
      · have s1 := he (i + 1) (by omega)
        have c1 : 0 < gh_S σ (f i) (f (i + 1)) (f (i + 1 + 1)) := h.2 i (by omega)
        have m1 := h.1 i hi
        have m2 := h.1 (i + 1) (by omega)
        have g := gh_G σ (f i) (f (i + 1)) (f (i + 1 + 1)) q
        rw [h0, Int.mul_zero] at g
        have p1 := Int.mul_nonneg (show 0 ≤ gh_K (f (i + 1)) - gh_K (f i) by omega) s1
        have p2 := Int.mul_pos (show 0 < gh_K q - gh_K (f (i + 1)) by omega) c1
        omega
    · exact r
end
section
/-! ===== a chain with a point more ===== -/
/-- how many of f 0 .. f (n-1) come before p -/
def gh_plc (f : Nat → Int × Int) (p : Int × Int) : Nat → Nat
  | 0 => 0
  | n + 1 => gh_plc f p n + (if gh_K (f n) < gh_K p then 1 else 0)
def gh_lft (σ : Int) (f : Nat → Int × Int) (p : Int × Int) : Nat → Nat
  | 0 => 0
  | 1 => 1
  | k + 2 => if gh_S σ (f k) (f (k + 1)) p ≤ 0 then gh_lft σ f p (k + 1) else k + 2
def gh_rgt (σ : Int) (n : Nat) (f : Nat → Int × Int) (p : Int × Int) : Nat → Nat → Nat
  | 0, r => r
  | d + 1, r => if r + 1 < n ∧ gh_S σ p (f r) (f (r + 1)) ≤ 0 then gh_rgt σ n f p d (r + 1) else r
/-- the chain f, its first lf points, then p, then what comes from rt on -/
def gh_g (f : Nat → Int × Int) (p : Int × Int) (lf rt : Nat) (i : Nat) : Int × Int := if i < lf then f i else if i = lf then p else f (i - lf - 1 + rt)
def gh_wl (σ : Int) (n : Nat) (f : Nat → Int × Int) (p : Int × Int) : Nat := gh_lft σ f p (gh_plc f p n)
def gh_wr (σ : Int) (n : Nat) (f : Nat → Int × Int) (p : Int × Int) : Nat := gh_rgt σ n f p n (gh_plc f p n)
def gh_wn (σ : Int) (n : Nat) (f : Nat → Int × Int) (p : Int × Int) : Nat := gh_wl σ n f p + 1 + (n - gh_wr σ n f p)
def gh_wf (σ : Int) (n : Nat) (f : Nat → Int × Int) (p : Int × Int) : Nat → Int × Int := gh_g f p (gh_wl σ n f p) (gh_wr σ n f p)
theorem gh_g_lo {f : Nat → Int × Int} {p : Int × Int} {lf rt i : Nat} (h : i < lf) : gh_g f p lf rt i = f i := by
  simp only [gh_g, h, if_true]
theorem gh_g_mid {f : Nat → Int × Int} {p : Int × Int} {lf rt : Nat} : gh_g f p lf rt lf = p := by
  simp [gh_g]
theorem gh_g_hi {f : Nat → Int × Int} {p : Int × Int} {lf rt : Nat} (j : Nat) : gh_g f p lf rt (lf + 1 + j) = f (rt + j) := by
  simp only [gh_g]
  rw [if_neg (by omega), if_neg (by omega)]
  congr 1
  omega
theorem gh_plc_le (f : Nat → Int × Int) (p : Int × Int) : ∀ n, gh_plc f p n ≤ n := by
  intro n
  induction n with
  | zero => exact Nat.le_refl 0
  | succ n ih =>
    simp only [gh_plc]
    split <;> omega
/-- the place is told by what comes before and what does not -/
theorem gh_plc_is {σ : Int} {n : Nat} {f : Nat → Int × Int} {p : Int × Int} {k : Nat} (hk : k ≤ n) (h1 : ∀ i, i < k → gh_K (f i) < gh_K p) (h2 : ∀ i, k ≤ i → i < n → gh_K p ≤ gh_K (f i)) : gh_plc f p n = k := by
  have a : ∀ m, m ≤ k → gh_plc f p m = m := by
    intro m
    induction m with
    | zero => intro _; rfl
    | succ m ih =>
      intro hm
      simp only [gh_plc]
      rw [ih (by omega), if_pos (h1 m (by omega))]
  have b : ∀ d, k + d ≤ n → gh_plc f p (k + d) = k := by
    intro d
    induction d with
    | zero => intro _; exact a k (Nat.le_refl _)
    | succ d ih =>
      intro hd
      have e := h2 (k + d) (by omega) (by omega)
      show gh_plc f p (k + d) + (if gh_K (f (k + d)) < gh_K p then 1 else 0) = k
      rw [ih (by omega), if_neg (by omega)]
      rfl
  have := b (n - k) (by omega)
  rw [show k + (n - k) = n by omega] at this
  exact this
theorem gh_plc_ok {σ : Int} {n : Nat} {f : Nat → Int × Int} {p : Int × Int} (h : gh_C σ n f) : (∀ i, i < gh_plc f p n → gh_K (f i) < gh_K p) ∧ (∀ i, gh_plc f p n ≤ i → i < n → gh_K p ≤ gh_K (f i)) := by
  have ex : ∃ k, k ≤ n ∧ (∀ i, i < k → gh_K (f i) < gh_K p) ∧ (∀ i, k ≤ i → i < n → gh_K p ≤ gh_K (f i)) := by
    have go : ∀ m, m ≤ n → ∃ k, k ≤ m ∧ (∀ i, i < k → gh_K (f i) < gh_K p) ∧ (∀ i, k ≤ i → i < m → gh_K p ≤ gh_K (f i)) := by
      intro m
      induction m with
      | zero => intro _; exact ⟨0, Nat.le_refl _, fun i hi => by omega, fun i _ hi => by omega⟩
      | succ m ih =>
        intro hm
        obtain ⟨k, hk, a, b⟩ := ih (by omega)
        by_cases e : gh_K (f m) < gh_K p
        · refine ⟨m + 1, Nat.le_refl _, fun i hi => ?_, fun i h1 h2 => by omega⟩
          have := h.monole i m (by omega) (by omega)
          omega
        · refine ⟨k, by omega, a, fun i h1 h2 => ?_⟩
          by_cases e2 : i = m
          · rw [e2]; omega
          · exact b i h1 (by omega)
    exact go n (Nat.le_refl _)
  obtain ⟨k, hk, a, b⟩ := ex
  have e := gh_plc_is (σ := σ) hk a b
  rw [e]
  exact ⟨a, b⟩
theorem gh_lft_ok (σ : Int) (f : Nat → Int × Int) (p : Int × Int) : ∀ k, gh_lft σ f p k ≤ k ∧ (1 ≤ k → 1 ≤ gh_lft σ f p k) ∧ (∀ j, j + 2 = gh_lft σ f p k → 0 < gh_S σ (f j) (f (j + 1)) p) ∧ (∀ j, gh_lft σ f p k ≤ j + 1 → j + 1 < k → gh_S σ (f j) (f (j + 1)) p ≤ 0) := by
  intro k
  induction k with
  | zero =>
    simp only [gh_lft]
    exact ⟨Nat.le_refl _, fun h => by omega, fun j h => by omega, fun j _ h => by omega⟩
  | succ k ih =>
    cases k with
    | zero =>
      simp only [gh_lft]
      exact ⟨Nat.le_refl _, fun h => by omega, fun j h => by omega, fun j _ h => by omega⟩
    | succ k =>
      by_cases e : gh_S σ (f k) (f (k + 1)) p ≤ 0
      · have e1 : gh_lft σ f p (k + 1 + 1) = gh_lft σ f p (k + 1) := by
          show (if gh_S σ (f k) (f (k + 1)) p ≤ 0 then gh_lft σ f p (k + 1) else k + 2) = _
          rw [if_pos e]
        rw [e1]
        obtain ⟨a, b, c, d⟩ := ih
        refine ⟨by omega, fun _ => b (by omega), c, fun j h1 h2 => ?_⟩
        by_cases e2 : j = k
        · rw [e2]; exact e
        · exact d j h1 (by omega)
      · have e1 : gh_lft σ f p (k + 1 + 1) = k + 2 := by
          show (if gh_S σ (f k) (f (k + 1)) p ≤ 0 then gh_lft σ f p (k + 1) else k + 2) = _
          rw [if_neg e]
        rw [e1]
        refine ⟨by omega, fun _ => by omega, fun j h => ?_, fun j h1 h2 => by omega⟩
        have e3 : j = k := by omega
        rw [e3]
        omega
theorem gh_rgt_ok (σ : Int) (n : Nat) (f : Nat → Int × Int) (p : Int × Int) : ∀ d r, n ≤ r + d → r ≤ gh_rgt σ n f p d r ∧ (r < n → gh_rgt σ n f p d r < n) ∧ (n ≤ r → gh_rgt σ n f p d r = r) ∧ (gh_rgt σ n f p d r + 1 < n → 0 < gh_S σ p (f (gh_rgt σ n f p d r)) (f (gh_rgt σ n f p d r + 1))) ∧ (∀ j, r ≤ j → j < gh_rgt σ n f p d r → gh_S σ p (f j) (f (j + 1)) ≤ 0) := by
  intro d
  induction d with
  | zero =>
    intro r hr
    have e1 : gh_rgt σ n f p 0 r = r := rfl
    rw [e1]
    exact ⟨Nat.le_refl _, fun h => h, fun _ => rfl, fun h => by omega, fun j h1 h2 => by omega⟩
  | succ d ih =>
    intro r hr
    by_cases e : r + 1 < n ∧ gh_S σ p (f r) (f (r + 1)) ≤ 0
    · have e1 : gh_rgt σ n f p (d + 1) r = gh_rgt σ n f p d (r + 1) := by
        show (if r + 1 < n ∧ gh_S σ p (f r) (f (r + 1)) ≤ 0 then gh_rgt σ n f p d (r + 1) else r) = _
        rw [if_pos e]
      rw [e1]
      obtain ⟨a, b, c, x, y⟩ := ih (r + 1) (by omega)
      refine ⟨by omega, fun _ => b (by omega), fun h => by omega, x, fun j h1 h2 => ?_⟩
      by_cases e2 : j = r
      · rw [e2]; exact e.2
      · exact y j (by omega) h2
    · have e1 : gh_rgt σ n f p (d + 1) r = r := by
        show (if r + 1 < n ∧ gh_S σ p (f r) (f (r + 1)) ≤ 0 then gh_rgt σ n f p d (r + 1) else r) = _
        rw [if_neg e]
      rw [e1]
      refine ⟨Nat.le_refl _, fun h => h, fun _ => rfl, fun h => ?_, fun j h1 h2 => by omega⟩
      rcases Int.lt_or_le 0 (gh_S σ p (f r) (f (r + 1))) with q | q
      · exact q
      · exact absurd ⟨h, q⟩ e
/-- what is known of the place k, the left end lf and the right one rt -/
def gh_cut (σ : Int) (n : Nat) (f : Nat → Int × Int) (p : Int × Int) (k lf rt : Nat) : Prop :=
  k ≤ n ∧ (∀ i, i < k → gh_K (f i) < gh_K p) ∧ (∀ i, k ≤ i → i < n → gh_K p < gh_K (f i)) ∧ (∀ j, j + 1 = k → k < n → gh_S σ (f j) (f k) p < 0) ∧
  lf ≤ k ∧ (1 ≤ k → 1 ≤ lf) ∧ (∀ j, j + 2 = lf → 0 < gh_S σ (f j) (f (j + 1)) p) ∧ (∀ j, lf ≤ j + 1 → j + 1 < k → gh_S σ (f j) (f (j + 1)) p ≤ 0) ∧
  k ≤ rt ∧ (k < n → rt < n) ∧ (n ≤ k → rt = k) ∧ (rt + 1 < n → 0 < gh_S σ p (f rt) (f (rt + 1))) ∧ (∀ j, k ≤ j → j < rt → gh_S σ p (f j) (f (j + 1)) ≤ 0)
theorem gh_cut_of {σ : Int} {n : Nat} {f : Nat → Int × Int} {p : Int × Int} (h : gh_C σ n f) (hf : ∀ i, i < n → gh_ok (f i)) (hp : gh_ok p) (hA : ¬ gh_A σ n f p) : gh_cut σ n f p (gh_plc f p n) (gh_wl σ n f p) (gh_wr σ n f p) := by
  have hk := gh_plc_le f p n
  obtain ⟨p1, p2⟩ := gh_plc_ok (p := p) h
  obtain ⟨l0, l1, l2, l3⟩ := gh_lft_ok σ f p (gh_plc f p n)
  obtain ⟨r0, r1, r2, r3, r4⟩ := gh_rgt_ok σ n f p n (gh_plc f p n) (by omega)
  refine ⟨hk, p1, fun i h1 h2 => ?_, fun j h1 h2 => ?_, l0, l1, l2, l3, r0, r1, r2, r3, r4⟩
  · rcases Int.lt_or_le (gh_K p) (gh_K (f i)) with q | q
    · exact q
    · have e := gh_Kinj hp (hf i h2) (by have := p2 i h1 h2; omega)
      exact absurd (by rw [e]; exact h.vert h2) hA
  · rcases Int.lt_or_le (gh_S σ (f j) (f (gh_plc f p n)) p) 0 with q | q
    · exact q
    · refine absurd (h.inA (k := j) (by omega) (Int.le_of_lt (p1 j (by omega))) ?_ ?_) hA
      · rw [h1]; exact p2 _ (Nat.le_refl _) h2
      · rw [h1]; exact q
theorem gh_cut.edgeL {σ : Int} {n : Nat} {f : Nat → Int × Int} {p : Int × Int} {k lf rt : Nat} (c : gh_cut σ n f p k lf rt) (h : gh_C σ n f) (hf : ∀ i, i < n → gh_ok (f i)) {j : Nat} (hj : j + 1 = lf) {q : Int × Int} (hq : gh_ok q) (hA : gh_A σ n f q) : 0 ≤ gh_S σ (f j) p q := by
  obtain ⟨c1, c2, c3, c4, l0, l1, l2, l3, r0, r1, r2, r3, r4⟩ := c
  obtain ⟨a0, a1, a2, a3⟩ := hA
  have kp := c2 j (by omega)
  rcases Int.lt_or_le (gh_K q) (gh_K (f j)) with r | r
  · by_cases e : j = 0
    · rw [e] at r; omega
    · have e3 : (j - 1) + 1 = j := by omega
      have s1 := l2 (j - 1) (by omega)
      have s2 := a3 (j - 1) (by omega)
      have m1 := h.1 (j - 1) (by omega)
      rw [e3] at s1 s2 m1
      exact gh_nn (show 0 < gh_K (f j) - gh_K (f (j - 1)) by omega) (gh_G2 σ (f (j - 1)) (f j) p q) (Int.add_nonneg (Int.mul_nonneg (by omega) s2) (Int.mul_nonneg (by omega) (Int.le_of_lt s1)))
  · by_cases e : lf < n
    · have m1 := h.1 j (by omega)
      have s2 := a3 j (by omega)
      have s1 : gh_S σ (f j) (f (j + 1)) p ≤ 0 := by
        by_cases e2 : lf = k
        · have := c4 j (by omega) (by omega)
          rw [← e2, ← hj] at this
          omega
        · exact l3 j (by omega) (by omega)
      exact gh_nn (show 0 < gh_K (f (j + 1)) - gh_K (f j) by omega) (gh_I1 σ (f j) (f (j + 1)) p q) (Int.add_nonneg (Int.mul_nonneg (by omega) s2) (Int.mul_nonneg (by omega) (by omega)))
    · have e2 : j = n - 1 := by omega
      have e4 : q = f j := gh_Kinj hq (hf j (by omega)) (by rw [← e2] at a2; omega)
      rw [e4, gh_S_0]
      exact Int.le_refl 0
theorem gh_cut.edgeR {σ : Int} {n : Nat} {f : Nat → Int × Int} {p : Int × Int} {k lf rt : Nat} (c : gh_cut σ n f p k lf rt) (h : gh_C σ n f) (hf : ∀ i, i < n → gh_ok (f i)) (hj : rt < n) {q : Int × Int} (hq : gh_ok q) (hA : gh_A σ n f q) : 0 ≤ gh_S σ p (f rt) q := by
  obtain ⟨c1, c2, c3, c4, l0, l1, l2, l3, r0, r1, r2, r3, r4⟩ := c
  obtain ⟨a0, a1, a2, a3⟩ := hA
  have kp := c3 rt (by omega) hj
  rcases Int.lt_or_le (gh_K q) (gh_K (f rt)) with r | r
  · by_cases e : rt = 0
    · rw [e] at r; omega
    · have e3 : (rt - 1) + 1 = rt := by omega
      have s2 := a3 (rt - 1) (by omega)
      have m1 := h.1 (rt - 1) (by omega)
      rw [e3] at s2 m1
      have s1 : gh_S σ (f (rt - 1)) (f rt) p ≤ 0 := by
        by_cases e2 : rt = k
        · have := c4 (rt - 1) (by omega) (by omega)
          rw [← e2] at this
          omega
        · have := r4 (rt - 1) (by omega) (by omega)
          rw [e3] at this
          rw [gh_Scyc]
          exact this
      exact gh_nn (show 0 < gh_K (f rt) - gh_K (f (rt - 1)) by omega) (gh_I3 σ (f (rt - 1)) (f rt) p q) (Int.add_nonneg (Int.mul_nonneg (by omega) s2) (Int.mul_nonneg (by omega) (by omega)))
  · by_cases e : rt + 1 < n
    · have m1 := h.1 rt e
      have s2 := a3 rt e
      have s1 := r3 e
      exact gh_nn (show 0 < gh_K (f (rt + 1)) - gh_K (f rt) by omega) (gh_G σ p (f rt) (f (rt + 1)) q) (Int.add_nonneg (Int.mul_nonneg (by omega) (Int.le_of_lt s1)) (Int.mul_nonneg (by omega) s2))
    · have e2 : rt = n - 1 := by omega
      have e4 : q = f rt := gh_Kinj hq (hf rt hj) (by rw [← e2] at a2; omega)
      rw [e4, gh_S_1]
      exact Int.le_refl 0
theorem gh_cut.mid {σ : Int} {n : Nat} {f : Nat → Int × Int} {p : Int × Int} {k lf rt : Nat} (c : gh_cut σ n f p k lf rt) (h : gh_C σ n f) {j : Nat} (hj : j + 1 = lf) (hr : rt < n) : 0 < gh_S σ (f j) p (f rt) := by
  obtain ⟨c1, c2, c3, c4, l0, l1, l2, l3, r0, r1, r2, r3, r4⟩ := c
  have kp := c2 j (by omega)
  have m1 := h.1 j (by omega)
  have m2 := h.mono rt j (by omega) hr
  refine gh_ps (show 0 < gh_K (f (j + 1)) - gh_K (f j) by omega) (gh_I1 σ (f j) (f (j + 1)) p (f rt)) ?_
  by_cases e : lf = k
  · have s1 := c4 j (by omega) (by omega)
    rw [← e, ← hj] at s1
    refine Int.add_pos_of_nonneg_of_pos (Int.mul_nonneg (by omega) ?_) (Int.mul_pos (by omega) (by omega))
    by_cases e2 : rt = j + 1
    · rw [e2, gh_S_1]; exact Int.le_refl 0
    · exact Int.le_of_lt (h.gl (by omega) (by omega) hr)
  · have s1 := l3 j (by omega) (by omega)
    exact Int.add_pos_of_pos_of_nonneg (Int.mul_pos (by omega) (h.gl (by omega) (by omega) hr)) (Int.mul_nonneg (by omega) (by omega))
/-- the new chain is a chain again -/
theorem gh_cut.chain {σ : Int} {n : Nat} {f : Nat → Int × Int} {p : Int × Int} {k lf rt : Nat} (c : gh_cut σ n f p k lf rt) (h : gh_C σ n f) : gh_C σ (lf + 1 + (n - rt)) (gh_g f p lf rt) := by
  have c' := c
  obtain ⟨c1, c2, c3, c4, l0, l1, l2, l3, r0, r1, r2, r3, r4⟩ := c
  refine ⟨fun i hi => ?_, fun i hi => ?_⟩
  · by_cases e1 : i + 1 < lf
    · rw [gh_g_lo e1, gh_g_lo (show i < lf by omega)]
      exact h.1 i (by omega)
    · by_cases e2 : i + 1 = lf
      · rw [gh_g_lo (show i < lf by omega), e2, gh_g_mid]
        exact c2 i (by omega)
      · by_cases e3 : i = lf
        · rw [e3, gh_g_mid, gh_g_hi 0]
          exact c3 rt (by omega) (by omega)
        · obtain ⟨d, rfl⟩ : ∃ d, i = lf + 1 + d := ⟨i - lf - 1, by omega⟩
          rw [gh_g_hi d, show lf + 1 + d + 1 = lf + 1 + (d + 1) by omega, gh_g_hi (d + 1)]
          exact h.1 (rt + d) (by omega)
  · by_cases e1 : i + 2 < lf
    · rw [gh_g_lo e1, gh_g_lo (show i < lf by omega), gh_g_lo (show i + 1 < lf by omega)]
      exact h.2 i (by omega)
    · by_cases e2 : i + 2 = lf
      · rw [gh_g_lo (show i < lf by omega), gh_g_lo (show i + 1 < lf by omega), e2, gh_g_mid]
        exact l2 i e2
      · by_cases e3 : i + 1 = lf
        · rw [gh_g_lo (show i < lf by omega), show i + 2 = lf + 1 + 0 by omega, gh_g_hi 0, e3, gh_g_mid]
          exact c'.mid h e3 (by omega)
        · by_cases e4 : i = lf
          · rw [e4, gh_g_mid, show lf + 1 = lf + 1 + 0 by omega, gh_g_hi 0, show lf + 2 = lf + 1 + 1 by omega, gh_g_hi 1]
            exact r3 (by omega)
          · obtain ⟨d, rfl⟩ : ∃ d, i = lf + 1 + d := ⟨i - lf - 1, by omega⟩
            rw [gh_g_hi d, show lf + 1 + d + 1 = lf + 1 + (d + 1) by omega, gh_g_hi (d + 1), show lf + 1 + d + 2 = lf + 1 + (d + 2) by omega, gh_g_hi (d + 2)]
            exact h.2 (rt + d) (by omega)
/-- what lay on the inner side does so still -/
theorem gh_cut.keeps {σ : Int} {n : Nat} {f : Nat → Int × Int} {p : Int × Int} {k lf rt : Nat} (c : gh_cut σ n f p k lf rt) (h : gh_C σ n f) (hf : ∀ i, i < n → gh_ok (f i)) {q : Int × Int} (hq : gh_ok q) (hA : gh_A σ n f q) : gh_A σ (lf + 1 + (n - rt)) (gh_g f p lf rt) q := by
  have c' := c
  have hA' := hA
  obtain ⟨c1, c2, c3, c4, l0, l1, l2, l3, r0, r1, r2, r3, r4⟩ := c
  obtain ⟨a0, a1, a2, a3⟩ := hA
  refine ⟨by omega, ?_, ?_, fun i hi => ?_⟩
  · by_cases e : lf = 0
    · have := c3 0 (by omega) a0
      have e2 : gh_g f p lf rt 0 = p := by rw [e]; exact gh_g_mid
      rw [e2]
      omega
    · rw [gh_g_lo (show 0 < lf by omega)]
      exact a1
  · by_cases e : rt < n
    · rw [show lf + 1 + (n - rt) - 1 = lf + 1 + (n - rt - 1) by omega, gh_g_hi, show rt + (n - rt - 1) = n - 1 by omega]
      exact a2
    · have e2 : n ≤ k := by omega
      have := c2 (n - 1) (by omega)
      rw [show lf + 1 + (n - rt) - 1 = lf by omega, gh_g_mid]
      omega
  · by_cases e1 : i + 1 < lf
    · rw [gh_g_lo e1, gh_g_lo (show i < lf by omega)]
      exact a3 i (by omega)
    · by_cases e2 : i + 1 = lf
      · rw [gh_g_lo (show i < lf by omega), e2, gh_g_mid]
        exact c'.edgeL h hf e2 hq hA'
      · by_cases e3 : i = lf
        · rw [e3, gh_g_mid, show lf + 1 = lf + 1 + 0 by omega, gh_g_hi 0]
          exact c'.edgeR h hf (by omega) hq hA'
        · obtain ⟨d, rfl⟩ : ∃ d, i = lf + 1 + d := ⟨i - lf - 1, by omega⟩
          rw [gh_g_hi d, show lf + 1 + d + 1 = lf + 1 + (d + 1) by omega, gh_g_hi (d + 1)]
          exact a3 (rt + d) (by omega)
/-! ===== one chain, moved on by a point ===== -/
/-- n', f' is the chain n, f behind the point p: with p if p lies beyond it, else as it was -/
def gh_Up (σ : Int) (n : Nat) (f : Nat → Int × Int) (p : Int × Int) (n' : Nat) (f' : Nat → Int × Int) : Prop :=
  (¬ gh_A σ n f p ∧ n' = gh_wn σ n f p ∧ ∀ i, i < n' → f' i = gh_wf σ n f p i) ∨ (gh_A σ n f p ∧ n' = n ∧ ∀ i, i < n' → f' i = f i)
theorem gh_Up_ok {σ : Int} {n : Nat} {f : Nat → Int × Int} {p : Int × Int} {n' : Nat} {f' : Nat → Int × Int} (h : gh_C σ n f) (hf : ∀ i, i < n → gh_ok (f i)) (hp : gh_ok p) (u : gh_Up σ n f p n' f') :
    gh_C σ n' f' ∧ (∀ q, gh_ok q → gh_A σ n f q → gh_A σ n' f' q) ∧ gh_A σ n' f' p ∧ 0 < n' ∧ (n = 0 → n' = 1) ∧ (∀ i, i < n' → f' i = p ∨ ∃ j, j < n ∧ f' i = f j) ∧ f' 0 = (if n = 0 ∨ gh_K p < gh_K (f 0) then p else f 0) ∧ f' (n' - 1) = (if n = 0 ∨ gh_K (f (n - 1)) < gh_K p then p else f (n - 1)) := by
  rcases u with ⟨hA, rfl, e⟩ | ⟨hA, rfl, e⟩
  · have c := gh_cut_of h hf hp hA
    have hc : gh_C σ (gh_wn σ n f p) (gh_wf σ n f p) := c.chain h
    have hk : ∀ q, gh_ok q → gh_A σ n f q → gh_A σ (gh_wn σ n f p) (gh_wf σ n f p) q := fun q hq hA => c.keeps h hf hq hA
    have hc' := hc.congr e
    have hw : gh_wn σ n f p = gh_wl σ n f p + 1 + (n - gh_wr σ n f p) := rfl
    obtain ⟨c1, c2, c3, c4, l0, l1, l2, l3, r0, r1, r2, r3, r4⟩ := c
    have hpv : f' (gh_wl σ n f p) = p := by
      rw [e _ (by omega)]
      exact gh_g_mid
    refine ⟨hc', fun q hq ha => (hk q hq ha).congr e, ?_, by omega, fun h0 => ?_, fun i hi => ?_, ?_, ?_⟩
    · have := hc'.vert (j := gh_wl σ n f p) (by omega)
      rw [hpv] at this
      exact this
    · have := r2 (by omega)
      omega
    · rw [e i hi]
      by_cases e1 : i < gh_wl σ n f p
      · exact Or.inr ⟨i, by omega, gh_g_lo e1⟩
      · by_cases e2 : i = gh_wl σ n f p
        · exact Or.inl (by rw [e2]; exact gh_g_mid)
        · refine Or.inr ⟨gh_wr σ n f p + (i - gh_wl σ n f p - 1), by omega, ?_⟩
          have := gh_g_hi (f := f) (p := p) (lf := gh_wl σ n f p) (rt := gh_wr σ n f p) (i - gh_wl σ n f p - 1)
          rw [show gh_wl σ n f p + 1 + (i - gh_wl σ n f p - 1) = i by omega] at this
          exact this
    · by_cases e1 : n = 0 ∨ gh_K p < gh_K (f 0)
      · rw [if_pos e1]
        have e2 : gh_plc f p n = 0 := by
          rcases e1 with e1 | e1
          · omega
          · rcases Nat.eq_zero_or_pos (gh_plc f p n) with q | q
            · exact q
            · have := c2 0 q
              omega
        have e3 : gh_wl σ n f p = 0 := by omega
        rw [← e3]
        exact hpv
      · rw [if_neg e1]
        have e2 : 1 ≤ gh_plc f p n := by
          rcases Nat.eq_zero_or_pos (gh_plc f p n) with q | q
          · have := c3 0 (by omega) (by omega)
            exact absurd (Or.inr this) e1
          · exact q
        rw [e 0 (by omega)]
        exact gh_g_lo (l1 e2)
    · by_cases e1 : n = 0 ∨ gh_K (f (n - 1)) < gh_K p
      · rw [if_pos e1]
        have e2 : n ≤ gh_plc f p n := by
          rcases e1 with e1 | e1
          · omega
          · rcases Nat.lt_or_ge (gh_plc f p n) n with q | q
            · have := c3 (n - 1) (by omega) (by omega)
              omega
            · exact q
        have e3 := r2 e2
        rw [show gh_wn σ n f p - 1 = gh_wl σ n f p by omega]
        exact hpv
      · rw [if_neg e1]
        have e2 : gh_plc f p n < n := by
          rcases Nat.lt_or_ge (gh_plc f p n) n with q | q
          · exact q
          · have := c2 (n - 1) (by omega)
            exact absurd (Or.inr this) e1
        have e3 := r1 e2
        rw [e _ (by omega)]
        have := gh_g_hi (f := f) (p := p) (lf := gh_wl σ n f p) (rt := gh_wr σ n f p) (n - gh_wr σ n f p - 1)
        rw [show gh_wl σ n f p + 1 + (n - gh_wr σ n f p - 1) = gh_wn σ n f p - 1 by omega, show gh_wr σ n f p + (n - gh_wr σ n f p - 1) = n - 1 by omega] at this
        exact this
  · have h0 := hA.1
    refine ⟨h.congr e, fun q _ ha => ha.congr e, hA.congr e, hA.1, fun h1 => by omega, fun i hi => Or.inr ⟨i, hi, e i hi⟩, ?_, ?_⟩
    · have := hA.2.1
      rw [if_neg (by omega)]
      exact e 0 h0
    · have := hA.2.2.1
      rw [if_neg (by omega)]
      exact e (n' - 1) (by omega)
end
section
/-! ===== two chains with the same ends, and the polygon that they make ===== -/
theorem gh_C.low {σ : Int} {n : Nat} {f : Nat → Int × Int} (h : gh_C σ n f) {j : Nat} (hj : j < n) : gh_S σ (f 0) (f (n - 1)) (f j) ≤ 0 := by
  by_cases e : j = 0
  · rw [e, gh_S_0]; exact Int.le_refl 0
  · by_cases e2 : j = n - 1
    · rw [← e2, gh_S_1]; exact Int.le_refl 0
    · have := h.gl (i := 0) (j := j) (k := n - 1) (by omega) (by omega) (by omega)
      rw [gh_Sneg]
      omega
theorem gh_acrossT {σ τ : Int} {n m : Nat} {f g : Nat → Int × Int} (hτ : τ = -σ) (hf : gh_C σ n f) (hg : gh_C τ m g) (e0 : f 0 = g 0) (e1 : f (n - 1) = g (m - 1)) {j : Nat} (h0 : 0 < j) (hj : j + 1 < m) : 0 < gh_S σ (f 0) (f (n - 1)) (g j) := by
  have := hg.gl (i := 0) (j := j) (k := m - 1) h0 (by omega) (by omega)
  rw [hτ, gh_Ssig, ← e0, ← e1, gh_Sneg] at this
  omega
theorem gh_across {σ τ : Int} {n m : Nat} {f g : Nat → Int × Int} (hτ : τ = -σ) (hf : gh_C σ n f) (hg : gh_C τ m g) (hn : 0 < n) (hm : 0 < m) (e0 : f 0 = g 0) (e1 : f (n - 1) = g (m - 1)) {j : Nat} (hj : j < m) : gh_A σ n f (g j) := by
  by_cases a : j = 0
  · rw [a, ← e0]; exact hf.vert hn
  · by_cases b : j = m - 1
    · rw [b, ← e1]; exact hf.vert (by omega)
    · have m1 := hg.mono j 0 (by omega) hj
      have m2 := hg.mono (m - 1) j (by omega) (by omega)
      rw [← e0] at m1
      rw [← e1] at m2
      have h2 : 2 ≤ n := by
        rcases Nat.lt_or_ge n 2 with q | q
        · have e3 : n = 1 := by omega
          subst e3
          have : gh_K (f 0) < gh_K (f (1 - 1)) := by omega
          exact absurd this (Int.lt_irrefl _)
        · exact q
      obtain ⟨k, hk, k1, k2⟩ := gh_span h2 (Int.le_of_lt m1) (Int.le_of_lt m2)
      have s1 := gh_acrossT hτ hf hg e0 e1 (j := j) (by omega) (by omega)
      have s2 := hf.low (j := k) (by omega)
      have s3 := hf.low (j := k + 1) (by omega)
      have m3 := hf.1 k hk
      refine hf.inA hk k1 k2 (gh_nn (show 0 < gh_K (f (n - 1)) - gh_K (f 0) by omega) (gh_E σ (f 0) (f (n - 1)) (f k) (f (k + 1)) (g j)) ?_)
      exact Int.add_nonneg (Int.add_nonneg (Int.mul_nonneg (by omega) (Int.le_of_lt s1)) (Int.mul_nonneg (by omega) (by omega))) (Int.mul_nonneg (by omega) (by omega))
theorem gh_acrossS {σ τ : Int} {n m : Nat} {f g : Nat → Int × Int} (hτ : τ = -σ) (hf : gh_C σ n f) (hg : gh_C τ m g) (h2 : 2 ≤ n) (e0 : f 0 = g 0) (e1 : f (n - 1) = g (m - 1)) {j : Nat} (h0 : 0 < j) (hj : j + 1 < m) : gh_SA σ n f (g j) := by
  have m1 := hg.mono j 0 (by omega) (by omega)
  have m2 := hg.mono (m - 1) j (by omega) (by omega)
  rw [← e0] at m1
  rw [← e1] at m2
  obtain ⟨k, hk, k1, k2⟩ := gh_span h2 (Int.le_of_lt m1) (Int.le_of_lt m2)
  have s1 := gh_acrossT hτ hf hg e0 e1 (j := j) (by omega) (by omega)
  have s2 := hf.low (j := k) (by omega)
  have s3 := hf.low (j := k + 1) (by omega)
  have m3 := hf.1 k hk
  refine hf.inSA hk k1 k2 (gh_ps (show 0 < gh_K (f (n - 1)) - gh_K (f 0) by omega) (gh_E σ (f 0) (f (n - 1)) (f k) (f (k + 1)) (g j)) ?_)
  exact Int.add_pos_of_pos_of_nonneg (Int.add_pos_of_pos_of_nonneg (Int.mul_pos (by omega) s1) (Int.mul_nonneg (by omega) (by omega))) (Int.mul_nonneg (by omega) (by omega))
/-- a lower chain L of nl points, an upper one U of nu points, with the same ends -/
def gh_H (nl : Nat) (L : Nat → Int × Int) (nu : Nat) (U : Nat → Int × Int) : Prop :=
  gh_C 1 nl L ∧ gh_C (-1) nu U ∧ (∀ i, i < nl → gh_ok (L i)) ∧ (∀ i, i < nu → gh_ok (U i)) ∧ (nl = 0 ↔ nu = 0) ∧ (0 < nl → L 0 = U 0 ∧ L (nl - 1) = U (nu - 1))
def gh_N (nl nu : Nat) : Nat := if nl < 2 then nl else nl + nu - 2
def gh_V (nl : Nat) (L : Nat → Int × Int) (nu : Nat) (U : Nat → Int × Int) (i : Nat) : Int × Int := if i < nl then L i else U (nu - 2 - (i - nl))
def gh_nx (N i : Nat) : Nat := if i + 1 = N then 0 else i + 1
def gh_pv (N i : Nat) : Nat := if i = 0 then N - 1 else i - 1
theorem gh_H.two {nl : Nat} {L : Nat → Int × Int} {nu : Nat} {U : Nat → Int × Int} (h : gh_H nl L nu U) : 2 ≤ nl ↔ 2 ≤ nu := by
  obtain ⟨hL, hU, _, _, h0, he⟩ := h
  constructor
  · intro h2
    obtain ⟨e0, e1⟩ := he (by omega)
    rcases Nat.lt_or_ge nu 2 with q | q
    · have e3 : nu = 1 := by omega
      have := hL.mono (nl - 1) 0 (by omega) (by omega)
      rw [e0, e1, e3] at this
      exact absurd this (Int.lt_irrefl _)
    · exact q
  · intro h2
    obtain ⟨e0, e1⟩ := he (by omega)
    rcases Nat.lt_or_ge nl 2 with q | q
    · have e3 : nl = 1 := by omega
      have := hU.mono (nu - 1) 0 (by omega) (by omega)
      rw [← e0, ← e1, e3] at this
      exact absurd this (Int.lt_irrefl _)
    · exact q
theorem gh_N_two {nl nu : Nat} (h : 2 ≤ nl) : gh_N nl nu = nl + nu - 2 := by
  simp only [gh_N]
  rw [if_neg (by omega)]
theorem gh_V_lo {nl : Nat} {L : Nat → Int × Int} {nu : Nat} {U : Nat → Int × Int} {i : Nat} (h : i < nl) : gh_V nl L nu U i = L i := by
  simp only [gh_V]
  rw [if_pos h]
theorem gh_V_hi {nl : Nat} {L : Nat → Int × Int} {nu : Nat} {U : Nat → Int × Int} {i j : Nat} (h : nl ≤ i) (hj : i + j = nl + nu - 2) : gh_V nl L nu U i = U j := by
  simp only [gh_V]
  rw [if_neg (by omega), show nu - 2 - (i - nl) = j by omega]
theorem gh_H.mem {nl : Nat} {L : Nat → Int × Int} {nu : Nat} {U : Nat → Int × Int} (h : gh_H nl L nu U) {i : Nat} (hi : i < gh_N nl nu) : (i < nl ∧ gh_V nl L nu U i = L i) ∨ (∃ j, 1 ≤ j ∧ j + 1 < nu ∧ nl ≤ i ∧ 2 ≤ nl ∧ i + j = nl + nu - 2 ∧ gh_V nl L nu U i = U j) := by
  by_cases e : i < nl
  · exact Or.inl ⟨e, gh_V_lo e⟩
  · have h2 : 2 ≤ nl := by
      rcases Nat.lt_or_ge nl 2 with q | q
      · simp only [gh_N, if_pos q] at hi
        omega
      · exact q
    rw [gh_N_two h2] at hi
    exact Or.inr ⟨nl + nu - 2 - i, by omega, by omega, by omega, h2, by omega, gh_V_hi (by omega) (by omega)⟩
theorem gh_H.edge {nl : Nat} {L : Nat → Int × Int} {nu : Nat} {U : Nat → Int × Int} (h : gh_H nl L nu U) (h2 : 2 ≤ nl) {i : Nat} (hi : i < gh_N nl nu) :
    (i + 1 < nl ∧ gh_V nl L nu U i = L i ∧ gh_V nl L nu U (gh_nx (gh_N nl nu) i) = L (i + 1) ∧ gh_nx (gh_N nl nu) i = i + 1) ∨
    (nl ≤ i + 1 ∧ ∃ j, j + 1 < nu ∧ i + j + 1 = nl + nu - 2 ∧ gh_V nl L nu U i = U (j + 1) ∧ gh_V nl L nu U (gh_nx (gh_N nl nu) i) = U j) := by
  have h3 := h.two.mp h2
  obtain ⟨hL, hU, _, _, h0, he⟩ := h
  obtain ⟨e0, e1⟩ := he (by omega)
  rw [gh_N_two h2] at hi ⊢
  by_cases e : i + 1 < nl
  · have ex : gh_nx (nl + nu - 2) i = i + 1 := by
      simp only [gh_nx]
      rw [if_neg (by omega)]
    exact Or.inl ⟨e, gh_V_lo (by omega), by rw [ex]; exact gh_V_lo e, ex⟩
  · refine Or.inr ⟨by omega, nl + nu - 2 - (i + 1), by omega, by omega, ?_, ?_⟩
    · by_cases e2 : i < nl
      · rw [gh_V_lo e2, show i = nl - 1 by omega, e1]
        congr 1
        omega
      · exact gh_V_hi (by omega) (by omega)
    · simp only [gh_nx]
      by_cases e2 : i + 1 = nl + nu - 2
      · rw [if_pos e2, gh_V_lo (by omega), e0]
        congr 1
        omega
      · rw [if_neg e2]
        exact gh_V_hi (by omega) (by omega)
theorem gh_H.edges {nl : Nat} {L : Nat → Int × Int} {nu : Nat} {U : Nat → Int × Int} (h : gh_H nl L nu U) (h2 : 2 ≤ nl) (R : Int × Int → Int × Int → Prop) :
    (∀ i, i < gh_N nl nu → R (gh_V nl L nu U i) (gh_V nl L nu U (gh_nx (gh_N nl nu) i))) ↔ (∀ i, i + 1 < nl → R (L i) (L (i + 1))) ∧ (∀ j, j + 1 < nu → R (U (j + 1)) (U j)) := by
  have h3 := h.two.mp h2
  have hN := gh_N_two (nu := nu) h2
  constructor
  · intro a
    refine ⟨fun i hi => ?_, fun j hj => ?_⟩
    · have b := a i (by omega)
      rcases h.edge h2 (i := i) (by omega) with ⟨_, x, y, _⟩ | ⟨x, _⟩
      · rw [x, y] at b
        exact b
      · omega
    · have b := a (nl + nu - 2 - (j + 1)) (by omega)
      rcases h.edge h2 (i := nl + nu - 2 - (j + 1)) (by omega) with ⟨x, _⟩ | ⟨_, j', _, y, z, w⟩
      · omega
      · have e : j' = j := by omega
        rw [z, w, e] at b
        exact b
  · intro a i hi
    rcases h.edge h2 hi with ⟨x, y, z, _⟩ | ⟨_, j, x, _, y, z⟩
    · rw [y, z]; exact a.1 i x
    · rw [y, z]; exact a.2 j x
theorem gh_Tup (a b q : Int × Int) : gh_T b a q = gh_S (-1) a b q := by
  have h := gh_Sneg2 (-1) a b q
  rw [gh_Sm] at h
  omega
/-- all vertices lie on the inner sides -/
theorem gh_H.vin {nl : Nat} {L : Nat → Int × Int} {nu : Nat} {U : Nat → Int × Int} (h : gh_H nl L nu U) {i : Nat} (hi : i < gh_N nl nu) : gh_A 1 nl L (gh_V nl L nu U i) ∧ gh_A (-1) nu U (gh_V nl L nu U i) := by
  have hm := h.mem hi
  obtain ⟨hL, hU, _, _, h0, he⟩ := h
  rcases hm with ⟨a, b⟩ | ⟨j, a, b, c, d, e, f⟩
  · obtain ⟨e0, e1⟩ := he (by omega)
    rw [b]
    exact ⟨hL.vert a, gh_across (by decide) hU hL (by omega) (by omega) e0.symm e1.symm a⟩
  · obtain ⟨e0, e1⟩ := he (by omega)
    rw [f]
    exact ⟨gh_across (by decide) hL hU (by omega) (by omega) e0 e1 (by omega), hU.vert (by omega)⟩
theorem gh_H.vok {nl : Nat} {L : Nat → Int × Int} {nu : Nat} {U : Nat → Int × Int} (h : gh_H nl L nu U) {i : Nat} (hi : i < gh_N nl nu) : gh_ok (gh_V nl L nu U i) := by
  have hm := h.mem hi
  rcases hm with ⟨a, b⟩ | ⟨j, a, b, c, d, e, f⟩
  · rw [b]; exact h.2.2.1 i a
  · rw [f]; exact h.2.2.2.1 j (by omega)
/-- each side has all other corners strictly on its left hand -/
theorem gh_H.poly {nl : Nat} {L : Nat → Int × Int} {nu : Nat} {U : Nat → Int × Int} (h : gh_H nl L nu U) (h2 : 2 ≤ nl) {i j : Nat} (hi : i < gh_N nl nu) (hj : j < gh_N nl nu) (h1 : j ≠ i) (h3 : j ≠ gh_nx (gh_N nl nu) i) : 0 < gh_T (gh_V nl L nu U i) (gh_V nl L nu U (gh_nx (gh_N nl nu) i)) (gh_V nl L nu U j) := by
  have hm := h.mem hj
  have hed := h.edge h2 hi
  have h4 := h.two.mp h2
  have hN := gh_N_two (nu := nu) h2
  obtain ⟨hL, hU, _, _, h0, he⟩ := h
  obtain ⟨e0, e1⟩ := he (by omega)
  rcases hed with ⟨a, b, c, d⟩ | ⟨a, k, b, c, d, e⟩
  · rw [b, c, ← gh_S1]
    rw [d] at h3
    rcases hm with ⟨x, y⟩ | ⟨m, x1, x2, x3, x4, x5, x6⟩
    · rw [y]
      rcases Nat.lt_or_ge j i with q | q
      · rw [gh_Scyc]
        exact hL.gl q (by omega) (by omega)
      · exact hL.gl (by omega) (by omega) x
    · rw [x6]
      exact (gh_acrossS (by decide) hL hU h2 e0 e1 (j := m) (by omega) x2).2.2 i a
  · rw [d, e, gh_Tup]
    have upper : ∀ m, m < nu → m ≠ k → m ≠ k + 1 → 0 < gh_S (-1) (U k) (U (k + 1)) (U m) := by
      intro m hm n1 n2
      rcases Nat.lt_or_ge m k with q | q
      · rw [gh_Scyc]
        exact hU.gl q (by omega) (by omega)
      · exact hU.gl (by omega) (by omega) hm
    rcases hm with ⟨x, y⟩ | ⟨m, x1, x2, x3, x4, x5, x6⟩
    · rw [y]
      by_cases g0 : j = 0
      · rw [g0, e0]
        refine upper 0 (by omega) ?_ (by omega)
        intro z
        apply h3
        simp only [gh_nx]
        rw [if_pos (by omega)]
        exact g0
      · by_cases g1 : j = nl - 1
        · rw [g1, e1]
          exact upper (nu - 1) (by omega) (by omega) (by omega)
        · exact (gh_acrossS (by decide) hU hL h4 e0.symm e1.symm (j := j) (by omega) (by omega)).2.2 k b
    · rw [x6]
      refine upper m (by omega) ?_ (by omega)
      intro z
      apply h3
      simp only [gh_nx]
      rw [if_neg (by omega)]
      omega
/-- a corner and the next one have different keys -/
theorem gh_H.kne {nl : Nat} {L : Nat → Int × Int} {nu : Nat} {U : Nat → Int × Int} (h : gh_H nl L nu U) (h2 : 2 ≤ nl) {i : Nat} (hi : i < gh_N nl nu) : gh_K (gh_V nl L nu U i) ≠ gh_K (gh_V nl L nu U (gh_nx (gh_N nl nu) i)) := by
  rcases h.edge h2 hi with ⟨a, b, c, d⟩ | ⟨a, k, b, c, d, e⟩
  · rw [b, c]
    have := h.1.1 i a
    omega
  · rw [d, e]
    have := h.2.1.1 k b
    omega
/-- no two corners are one -/
theorem gh_H.inj {nl : Nat} {L : Nat → Int × Int} {nu : Nat} {U : Nat → Int × Int} (h : gh_H nl L nu U) {i j : Nat} (hi : i < gh_N nl nu) (hj : j < gh_N nl nu) (e : gh_V nl L nu U i = gh_V nl L nu U j) : i = j := by
  by_cases h2 : 2 ≤ nl
  · by_cases e1 : j = i
    · exact e1.symm
    · by_cases e2 : j = gh_nx (gh_N nl nu) i
      · have := h.kne h2 hi
        rw [← e2, e] at this
        exact absurd rfl this
      · have := h.poly h2 hi hj e1 e2
        rw [← e, ← gh_S1, gh_S_0] at this
        exact absurd this (Int.lt_irrefl _)
  · have hN : gh_N nl nu = nl := by
      simp only [gh_N]
      rw [if_pos (by omega)]
    omega
/-- on the left hand of all sides: within the keys of the ends too -/
theorem gh_H.range {nl : Nat} {L : Nat → Int × Int} {nu : Nat} {U : Nat → Int × Int} {q : Int × Int} (h : gh_H nl L nu U) (h2 : 2 ≤ nl) (h3 : 3 ≤ gh_N nl nu) (a : ∀ i, i + 1 < nl → 0 ≤ gh_S 1 (L i) (L (i + 1)) q) (b : ∀ j, j + 1 < nu → 0 ≤ gh_S (-1) (U j) (U (j + 1)) q) : gh_K (L 0) ≤ gh_K q ∧ gh_K q ≤ gh_K (L (nl - 1)) := by
  have h4 := h.two.mp h2
  have hN := gh_N_two (nu := nu) h2
  obtain ⟨hL, hU, _, _, h0, he⟩ := h
  obtain ⟨e0, e1⟩ := he (by omega)
  have id1 : ∀ A b c q : Int × Int, gh_T A b c * (gh_K q - gh_K A) = gh_T A b q * (gh_K c - gh_K A) + (- gh_T A c q) * (gh_K b - gh_K A) := by
    intro A b c q
    obtain ⟨A1, A2⟩ := A
    obtain ⟨b1, b2⟩ := b
    obtain ⟨c1, c2⟩ := c
    obtain ⟨q1, q2⟩ := q
    simp only [gh_K, gh_T]
    grind
  have id2 : ∀ Z b c q : Int × Int, gh_T b Z c * (gh_K Z - gh_K q) = gh_T b Z q * (gh_K Z - gh_K c) + (- gh_T c Z q) * (gh_K Z - gh_K b) := by
    intro Z b c q
    obtain ⟨Z1, Z2⟩ := Z
    obtain ⟨b1, b2⟩ := b
    obtain ⟨c1, c2⟩ := c
    obtain ⟨q1, q2⟩ := q
    simp only [gh_K, gh_T]
    grind
  constructor
  · have t1 : 0 < gh_T (L 0) (L 1) (U 1) := by
      by_cases e : 2 < nu
      · have : 0 < gh_S 1 (L 0) (L 1) (U 1) := (gh_acrossS (by decide) hL hU h2 e0 e1 (j := 1) (by omega) (by omega)).2.2 0 (by omega)
        rw [gh_S1] at this
        exact this
      · have : 0 < gh_S (-1) (U 0) (U 1) (L 1) := (gh_acrossS (by decide) hU hL h4 e0.symm e1.symm (j := 1) (by omega) (by omega)).2.2 0 (by omega)
        rw [gh_Sneg, gh_Sm, ← e0] at this
        omega
    have t2 : 0 ≤ gh_S 1 (L 0) (L 1) q := a 0 (by omega)
    have t3 : 0 ≤ gh_S (-1) (U 0) (U 1) q := b 0 (by omega)
    rw [gh_S1] at t2
    rw [gh_Sm, ← e0] at t3
    have m1 : gh_K (L 0) < gh_K (L 1) := hL.1 0 (by omega)
    have m2 : gh_K (U 0) < gh_K (U 1) := hU.1 0 (by omega)
    rw [← e0] at m2
    have := gh_nn t1 (id1 (L 0) (L 1) (U 1) q) (Int.add_nonneg (Int.mul_nonneg t2 (by omega)) (Int.mul_nonneg t3 (by omega)))
    omega
  · have f1 : nl - 2 + 1 = nl - 1 := by omega
    have f2 : nu - 2 + 1 = nu - 1 := by omega
    have t1 : 0 < gh_T (L (nl - 2)) (L (nl - 1)) (U (nu - 2)) := by
      by_cases e : 2 < nu
      · have := (gh_acrossS (by decide) hL hU h2 e0 e1 (j := nu - 2) (by omega) (by omega)).2.2 (nl - 2) (by omega)
        rw [gh_S1, f1] at this
        exact this
      · have := (gh_acrossS (by decide) hU hL h4 e0.symm e1.symm (j := nl - 2) (by omega) (by omega)).2.2 (nu - 2) (by omega)
        rw [f2, ← e1, gh_Sm] at this
        have i3 : ∀ x y z : Int × Int, gh_T x y z = - gh_T z y x := by
          intro x y z
          obtain ⟨x1, x2⟩ := x
          obtain ⟨y1, y2⟩ := y
          obtain ⟨z1, z2⟩ := z
          simp only [gh_T]
          grind
        rw [i3]
        omega
    have t2 := a (nl - 2) (by omega)
    have t3 := b (nu - 2) (by omega)
    rw [gh_S1, f1] at t2
    rw [gh_Sm, f2, ← e1] at t3
    have m1 := hL.1 (nl - 2) (by omega)
    have m2 := hU.1 (nu - 2) (by omega)
    rw [f1] at m1
    rw [f2, ← e1] at m2
    have := gh_nn t1 (id2 (L (nl - 1)) (L (nl - 2)) (U (nu - 2)) q) (Int.add_nonneg (Int.mul_nonneg t2 (by omega)) (Int.mul_nonneg t3 (by omega)))
    omega
theorem gh_H.insW {nl : Nat} {L : Nat → Int × Int} {nu : Nat} {U : Nat → Int × Int} {q : Int × Int} (h : gh_H nl L nu U) (h2 : 2 ≤ nl) (h3 : 3 ≤ gh_N nl nu) : (∀ i, i < gh_N nl nu → 0 ≤ gh_T (gh_V nl L nu U i) (gh_V nl L nu U (gh_nx (gh_N nl nu) i)) q) ↔ gh_A 1 nl L q ∧ gh_A (-1) nu U q := by
  rw [h.edges h2 (fun a b => 0 ≤ gh_T a b q)]
  have h4 := h.two.mp h2
  constructor
  · intro a
    have b1 : ∀ i, i + 1 < nl → 0 ≤ gh_S 1 (L i) (L (i + 1)) q := fun i hi => by rw [gh_S1]; exact a.1 i hi
    have b2 : ∀ j, j + 1 < nu → 0 ≤ gh_S (-1) (U j) (U (j + 1)) q := fun j hj => by rw [← gh_Tup]; exact a.2 j hj
    obtain ⟨r1, r2⟩ := h.range h2 h3 b1 b2
    obtain ⟨e0, e1⟩ := h.2.2.2.2.2 (by omega)
    exact ⟨⟨by omega, r1, r2, b1⟩, ⟨by omega, by rw [← e0]; exact r1, by rw [← e1]; exact r2, b2⟩⟩
  · intro a
    exact ⟨fun i hi => by rw [← gh_S1]; exact a.1.2.2.2 i hi, fun j hj => by rw [gh_Tup]; exact a.2.2.2.2 j hj⟩
theorem gh_H.insS {nl : Nat} {L : Nat → Int × Int} {nu : Nat} {U : Nat → Int × Int} {q : Int × Int} (h : gh_H nl L nu U) (h2 : 2 ≤ nl) (h3 : 3 ≤ gh_N nl nu) : (∀ i, i < gh_N nl nu → 0 < gh_T (gh_V nl L nu U i) (gh_V nl L nu U (gh_nx (gh_N nl nu) i)) q) ↔ gh_SA 1 nl L q ∧ gh_SA (-1) nu U q := by
  have h4 := h.two.mp h2
  constructor
  · intro a
    have w := (h.insW h2 h3).mp (fun i hi => Int.le_of_lt (a i hi))
    have a := (h.edges h2 (fun a b => 0 < gh_T a b q)).mp a
    exact ⟨⟨w.1, h2, fun i hi => by rw [gh_S1]; exact a.1 i hi⟩, ⟨w.2, h4, fun j hj => by rw [← gh_Tup]; exact a.2 j hj⟩⟩
  · intro a
    exact (h.edges h2 (fun a b => 0 < gh_T a b q)).mpr ⟨fun i hi => by rw [← gh_S1]; exact a.1.2.2 i hi, fun j hj => by rw [gh_Tup]; exact a.2.2.2 j hj⟩
/-! ===== nearer on a line ===== -/
def gh_D (a q : Int × Int) : Int := (q.1 - a.1) * (q.1 - a.1) + (q.2 - a.2) * (q.2 - a.2)
theorem gh_sq (x : Int) : 0 ≤ x * x := by
  rcases Int.le_total 0 x with h | h
  · exact Int.mul_nonneg h h
  · exact Int.mul_nonneg_of_nonpos_of_nonpos h h
theorem gh_Dpos {a b : Int × Int} (h : gh_K a ≠ gh_K b) : 0 < gh_D a b := by
  have h1 := gh_sq (b.1 - a.1)
  have h2 := gh_sq (b.2 - a.2)
  have h3 : gh_D a b = (b.1 - a.1) * (b.1 - a.1) + (b.2 - a.2) * (b.2 - a.2) := rfl
  rcases Int.lt_or_le 0 (gh_D a b) with q | q
  · exact q
  · have z1 : (b.1 - a.1) * (b.1 - a.1) = 0 := by omega
    have z2 : (b.2 - a.2) * (b.2 - a.2) = 0 := by omega
    have w1 : b.1 - a.1 = 0 := by
      rcases Int.mul_eq_zero.mp z1 with w | w <;> exact w
    have w2 : b.2 - a.2 = 0 := by
      rcases Int.mul_eq_zero.mp z2 with w | w <;> exact w
    exact absurd (by simp only [gh_K]; omega) h
theorem gh_less {k t D1 D2 : Int} (h0 : 0 < t) (h1 : t < k) (hD : 0 < D2) (e : k * (k * D1) = t * (t * D2)) : D1 < D2 := by
  rcases Int.lt_or_le D1 D2 with q | q
  · exact q
  · have a1 : k * D2 ≤ k * D1 := Int.mul_le_mul_of_nonneg_left q (by omega)
    have a2 : t * D2 < k * D2 := Int.mul_lt_mul_of_pos_right h1 hD
    have a3 : t * (t * D2) < t * (k * D1) := Int.mul_lt_mul_of_pos_left (by omega) h0
    have a4 : 0 < k * D1 := Int.mul_pos (by omega) (by omega)
    have a5 : t * (k * D1) < k * (k * D1) := Int.mul_lt_mul_of_pos_right h1 a4
    omega
theorem gh_near {a b q : Int × Int} (h0 : gh_T a b q = 0) (h1 : gh_K a < gh_K q) (h2 : gh_K q < gh_K b) : gh_D a q < gh_D a b ∧ gh_D b q < gh_D b a := by
  obtain ⟨a1, a2⟩ := a
  obtain ⟨b1, b2⟩ := b
  obtain ⟨q1, q2⟩ := q
  refine ⟨gh_less (k := gh_K (b1, b2) - gh_K (a1, a2)) (t := gh_K (q1, q2) - gh_K (a1, a2)) (by omega) (by omega) (gh_Dpos (by omega)) ?_, gh_less (k := gh_K (b1, b2) - gh_K (a1, a2)) (t := gh_K (b1, b2) - gh_K (q1, q2)) (by omega) (by omega) (gh_Dpos (by omega)) ?_⟩
  · simp only [gh_T, gh_K, gh_D] at h0 ⊢
    grind
  · simp only [gh_T, gh_K, gh_D] at h0 ⊢
    grind
/-- of what lies on the inner sides, the next corner is the one most to the right, and the farthest there -/
theorem gh_H.best {nl : Nat} {L : Nat → Int × Int} {nu : Nat} {U : Nat → Int × Int} {q : Int × Int} (h : gh_H nl L nu U) (h2 : 2 ≤ nl) (hq : gh_ok q) (hA : gh_A 1 nl L q) (hB : gh_A (-1) nu U q) {i : Nat} (hi : i < gh_N nl nu) (n1 : q ≠ gh_V nl L nu U i) (n2 : q ≠ gh_V nl L nu U (gh_nx (gh_N nl nu) i)) :
    0 < gh_T (gh_V nl L nu U i) (gh_V nl L nu U (gh_nx (gh_N nl nu) i)) q ∨ (gh_T (gh_V nl L nu U i) (gh_V nl L nu U (gh_nx (gh_N nl nu) i)) q = 0 ∧ gh_D (gh_V nl L nu U i) q < gh_D (gh_V nl L nu U i) (gh_V nl L nu U (gh_nx (gh_N nl nu) i))) := by
  rcases h.edge h2 hi with ⟨a, b, c, d⟩ | ⟨a, k, b, c, d, e⟩
  · rw [b, c]
    rw [b] at n1
    rw [c] at n2
    have s := hA.2.2.2 i a
    rw [gh_S1] at s
    rcases Int.lt_or_le 0 (gh_T (L i) (L (i + 1)) q) with z | z
    · exact Or.inl z
    · have e0 : gh_T (L i) (L (i + 1)) q = 0 := by omega
      obtain ⟨k1, k2⟩ := h.1.online hA a (by rw [gh_S1]; exact e0)
      have k3 : gh_K (L i) ≠ gh_K q := fun z => n1 (gh_Kinj (h.2.2.1 i (by omega)) hq z).symm
      have k4 : gh_K q ≠ gh_K (L (i + 1)) := fun z => n2 (gh_Kinj hq (h.2.2.1 (i + 1) a) z)
      exact Or.inr ⟨e0, (gh_near e0 (by omega) (by omega)).1⟩
  · rw [d, e]
    rw [d] at n1
    rw [e] at n2
    have s := hB.2.2.2 k b
    rw [gh_Tup]
    rcases Int.lt_or_le 0 (gh_S (-1) (U k) (U (k + 1)) q) with z | z
    · exact Or.inl z
    · have e0 : gh_S (-1) (U k) (U (k + 1)) q = 0 := by omega
      obtain ⟨k1, k2⟩ := h.2.1.online hB b e0
      have k3 : gh_K (U k) ≠ gh_K q := fun z => n2 (gh_Kinj (h.2.2.2.1 k (by omega)) hq z).symm
      have k4 : gh_K q ≠ gh_K (U (k + 1)) := fun z => n1 (gh_Kinj hq (h.2.2.2.1 (k + 1) b) z)
      have e3 : gh_T (U k) (U (k + 1)) q = 0 := by
        rw [gh_Sm] at e0
        omega
      exact Or.inr ⟨e0, (gh_near e3 (by omega) (by omega)).2⟩
/-! ===== tangents ===== -/
theorem gh_cone (v w u q p : Int × Int) : gh_T v w u * gh_T v q p = gh_T v w q * gh_T v u p - gh_T v w p * gh_T v u q := by
  obtain ⟨v1, v2⟩ := v
  obtain ⟨w1, w2⟩ := w
  obtain ⟨u1, u2⟩ := u
  obtain ⟨q1, q2⟩ := q
  obtain ⟨p1, p2⟩ := p
  simp only [gh_T]
  grind
theorem gh_Tsw (a b c : Int × Int) : gh_T b a c = - gh_T a b c := by
  have := gh_Sneg2 1 a b c
  rw [gh_S1, gh_S1] at this
  exact this
theorem gh_nxpv {N i : Nat} (hN : 1 ≤ N) (hi : i < N) : gh_nx N (gh_pv N i) = i ∧ gh_pv N i < N := by
  by_cases e : i = 0
  · have e1 : gh_pv N i = N - 1 := by
      unfold gh_pv
      rw [if_pos e]
    rw [e1]
    unfold gh_nx
    rw [if_pos (by omega)]
    omega
  · have e1 : gh_pv N i = i - 1 := by
      unfold gh_pv
      rw [if_neg e]
    rw [e1]
    unfold gh_nx
    rw [if_neg (by omega)]
    omega
theorem gh_nxlt {N i : Nat} (hi : i < N) : gh_nx N i < N := by
  simp only [gh_nx]
  split <;> omega
/-- corners with each side having all others strictly on its left hand -/
def gh_Poly (N : Nat) (V : Nat → Int × Int) : Prop := ∀ i j, i < N → j < N → j ≠ i → j ≠ gh_nx N i → 0 < gh_T (V i) (V (gh_nx N i)) (V j)
theorem gh_Poly.weak {N : Nat} {V : Nat → Int × Int} (h : gh_Poly N V) {i j : Nat} (hi : i < N) (hj : j < N) : 0 ≤ gh_T (V i) (V (gh_nx N i)) (V j) := by
  by_cases e : j = i
  · rw [e, ← gh_S1, gh_S_0]; exact Int.le_refl 0
  · by_cases e2 : j = gh_nx N i
    · rw [← e2, ← gh_S1, gh_S_1]; exact Int.le_refl 0
    · exact Int.le_of_lt (h i j hi hj e e2)
/-- where the seen sides begin: all corners on one hand of the line from there to p -/
theorem gh_Poly.bgn {N : Nat} {V : Nat → Int × Int} (h : gh_Poly N V) (h3 : 3 ≤ N) {p : Int × Int} {i j : Nat} (hi : i < N) (hj : j < N) (hij : j ≠ i) (s1 : gh_T (V i) (V (gh_nx N i)) p < 0) (s2 : 0 ≤ gh_T (V (gh_pv N i)) (V i) p) : gh_T (V i) (V j) p ≤ 0 ∧ (j ≠ gh_pv N i → gh_T (V i) (V j) p < 0) := by
  obtain ⟨pv1, pv2⟩ := gh_nxpv (N := N) (by omega) hi
  have nlt := gh_nxlt hi
  have c0 : 0 < gh_T (V i) (V (gh_nx N i)) (V (gh_pv N i)) := by
    refine h i (gh_pv N i) hi pv2 ?_ ?_
    · simp only [gh_pv]
      split <;> omega
    · simp only [gh_pv, gh_nx]
      split <;> split <;> omega
  have c1 := h.weak hi hj
  have c2 := h.weak pv2 hj
  rw [pv1] at c2
  have id := gh_cone (V i) (V (gh_nx N i)) (V (gh_pv N i)) (V j) p
  rw [gh_Tsw (V (gh_pv N i)) (V i) p, gh_Tsw (V (gh_pv N i)) (V i) (V j)] at id
  have p1 := Int.mul_nonneg c1 s2
  have e1 : gh_T (V i) (V (gh_nx N i)) (V j) * -gh_T (V (gh_pv N i)) (V i) p = -(gh_T (V i) (V (gh_nx N i)) (V j) * gh_T (V (gh_pv N i)) (V i) p) := Int.mul_neg _ _
  have e2 : gh_T (V i) (V (gh_nx N i)) p * -gh_T (V (gh_pv N i)) (V i) (V j) = (- gh_T (V i) (V (gh_nx N i)) p) * gh_T (V (gh_pv N i)) (V i) (V j) := by
    rw [Int.mul_neg, Int.neg_mul]
  rw [e1, e2] at id
  refine ⟨?_, fun hne => ?_⟩
  · have p2 := Int.mul_nonneg (show 0 ≤ - gh_T (V i) (V (gh_nx N i)) p by omega) c2
    have := gh_nn (t := - gh_T (V i) (V j) p) c0 (Int.mul_neg _ _) (by omega)
    omega
  · have c3 := h (gh_pv N i) j pv2 hj hne (by rw [pv1]; exact hij)
    rw [pv1] at c3
    have p2 := Int.mul_pos (show 0 < - gh_T (V i) (V (gh_nx N i)) p by omega) c3
    have := gh_ps (t := - gh_T (V i) (V j) p) c0 (Int.mul_neg _ _) (by omega)
    omega
theorem gh_Poly.end_ {N : Nat} {V : Nat → Int × Int} (h : gh_Poly N V) (h3 : 3 ≤ N) {p : Int × Int} {i j : Nat} (hi : i < N) (hj : j < N) (hij : j ≠ i) (s1 : gh_T (V (gh_pv N i)) (V i) p < 0) (s2 : 0 ≤ gh_T (V i) (V (gh_nx N i)) p) : 0 ≤ gh_T (V i) (V j) p ∧ (j ≠ gh_nx N i → 0 < gh_T (V i) (V j) p) := by
  obtain ⟨pv1, pv2⟩ := gh_nxpv (N := N) (by omega) hi
  have nlt := gh_nxlt hi
  have c0 : 0 < gh_T (V i) (V (gh_nx N i)) (V (gh_pv N i)) := by
    refine h i (gh_pv N i) hi pv2 ?_ ?_
    · simp only [gh_pv]
      split <;> omega
    · simp only [gh_pv, gh_nx]
      split <;> split <;> omega
  have c1 := h.weak hi hj
  have c2 := h.weak pv2 hj
  rw [pv1] at c2
  have id := gh_cone (V i) (V (gh_nx N i)) (V (gh_pv N i)) (V j) p
  rw [gh_Tsw (V (gh_pv N i)) (V i) p, gh_Tsw (V (gh_pv N i)) (V i) (V j)] at id
  have p2 := Int.mul_nonneg s2 c2
  have e2 : gh_T (V i) (V (gh_nx N i)) p * -gh_T (V (gh_pv N i)) (V i) (V j) = -(gh_T (V i) (V (gh_nx N i)) p * gh_T (V (gh_pv N i)) (V i) (V j)) := Int.mul_neg _ _
  rw [e2] at id
  refine ⟨?_, fun hne => ?_⟩
  · have p1 := Int.mul_nonneg c1 (show 0 ≤ - gh_T (V (gh_pv N i)) (V i) p by omega)
    exact gh_nn c0 rfl (by omega)
  · have c3 := h i j hi hj hij hne
    have p1 := Int.mul_pos c3 (show 0 < - gh_T (V (gh_pv N i)) (V i) p by omega)
    exact gh_ps c0 rfl (by omega)
theorem gh_Poly.oneB {N : Nat} {V : Nat → Int × Int} (h : gh_Poly N V) (h3 : 3 ≤ N) {p : Int × Int} {i j : Nat} (hi : i < N) (hj : j < N) (a1 : gh_T (V i) (V (gh_nx N i)) p < 0) (a2 : 0 ≤ gh_T (V (gh_pv N i)) (V i) p) (b1 : gh_T (V j) (V (gh_nx N j)) p < 0) (b2 : 0 ≤ gh_T (V (gh_pv N j)) (V j) p) : i = j := by
  by_cases e : i = j
  · exact e
  · obtain ⟨x1, x2⟩ := h.bgn h3 hi hj (fun z => e z.symm) a1 a2
    obtain ⟨y1, y2⟩ := h.bgn h3 hj hi e b1 b2
    rw [gh_Tsw] at y1 y2
    by_cases f : j = gh_pv N i
    · by_cases g : i = gh_pv N j
      · simp only [gh_pv] at f g
        split at f <;> split at g <;> omega
      · have := y2 g
        omega
    · have := x2 f
      omega
theorem gh_Poly.oneE {N : Nat} {V : Nat → Int × Int} (h : gh_Poly N V) (h3 : 3 ≤ N) {p : Int × Int} {i j : Nat} (hi : i < N) (hj : j < N) (a1 : gh_T (V (gh_pv N i)) (V i) p < 0) (a2 : 0 ≤ gh_T (V i) (V (gh_nx N i)) p) (b1 : gh_T (V (gh_pv N j)) (V j) p < 0) (b2 : 0 ≤ gh_T (V j) (V (gh_nx N j)) p) : i = j := by
  by_cases e : i = j
  · exact e
  · obtain ⟨x1, x2⟩ := h.end_ h3 hi hj (fun z => e z.symm) a1 a2
    obtain ⟨y1, y2⟩ := h.end_ h3 hj hi e b1 b2
    rw [gh_Tsw] at y1 y2
    by_cases f : j = gh_nx N i
    · by_cases g : i = gh_nx N j
      · simp only [gh_nx] at f g
        split at f <;> split at g <;> omega
      · have := y2 g
        omega
    · have := x2 f
      omega
/-! ===== both chains moved on by a point ===== -/
theorem gh_H.step {nl : Nat} {L : Nat → Int × Int} {nu : Nat} {U : Nat → Int × Int} {p : Int × Int} {nl' nu' : Nat} {L' U' : Nat → Int × Int} (h : gh_H nl L nu U) (hp : gh_ok p) (uL : gh_Up 1 nl L p nl' L') (uU : gh_Up (-1) nu U p nu' U') :
    gh_H nl' L' nu' U' ∧ 0 < nl' ∧ (nl = 0 → nl' = 1) ∧ gh_A 1 nl' L' p ∧ gh_A (-1) nu' U' p ∧ (∀ i, i < gh_N nl nu → gh_A 1 nl' L' (gh_V nl L nu U i) ∧ gh_A (-1) nu' U' (gh_V nl L nu U i)) ∧
    (∀ i, i < gh_N nl' nu' → gh_V nl' L' nu' U' i = p ∨ ∃ j, j < gh_N nl nu ∧ gh_V nl' L' nu' U' i = gh_V nl L nu U j) := by
  have h' := h
  obtain ⟨hL, hU, oL, oU, h0, he⟩ := h
  obtain ⟨a1, a2, a3, a4, a5, a6, a7, a8⟩ := gh_Up_ok hL oL hp uL
  obtain ⟨b1, b2, b3, b4, b5, b6, b7, b8⟩ := gh_Up_ok hU oU hp uU
  have okL : ∀ i, i < nl' → gh_ok (L' i) := by
    intro i hi
    rcases a6 i hi with e | ⟨j, hj, e⟩
    · rw [e]; exact hp
    · rw [e]; exact oL j hj
  have okU : ∀ i, i < nu' → gh_ok (U' i) := by
    intro i hi
    rcases b6 i hi with e | ⟨j, hj, e⟩
    · rw [e]; exact hp
    · rw [e]; exact oU j hj
  have hH : gh_H nl' L' nu' U' := by
    refine ⟨a1, b1, okL, okU, by omega, fun _ => ⟨?_, ?_⟩⟩
    · rw [a7, b7]
      by_cases e : nl = 0
      · rw [if_pos (Or.inl e), if_pos (Or.inl (h0.mp e))]
      · obtain ⟨e0, e1⟩ := he (by omega)
        have e2 : nu ≠ 0 := fun z => e (h0.mpr z)
        rw [e0]
        by_cases e3 : gh_K p < gh_K (U 0)
        · rw [if_pos (Or.inr e3), if_pos (Or.inr e3)]
        · rw [if_neg (by omega), if_neg (by omega)]
    · rw [a8, b8]
      by_cases e : nl = 0
      · rw [if_pos (Or.inl e), if_pos (Or.inl (h0.mp e))]
      · obtain ⟨e0, e1⟩ := he (by omega)
        have e2 : nu ≠ 0 := fun z => e (h0.mpr z)
        rw [e1]
        by_cases e3 : gh_K (U (nu - 1)) < gh_K p
        · rw [if_pos (Or.inr e3), if_pos (Or.inr e3)]
        · rw [if_neg (by omega), if_neg (by omega)]
  refine ⟨hH, a4, a5, a3, b3, fun i hi => ?_, fun i hi => ?_⟩
  · obtain ⟨x, y⟩ := h'.vin hi
    exact ⟨a2 _ (h'.vok hi) x, b2 _ (h'.vok hi) y⟩
  · have old : ∀ q, ((∃ j, j < nl ∧ q = L j) ∨ (∃ j, j < nu ∧ q = U j)) → ∃ j, j < gh_N nl nu ∧ q = gh_V nl L nu U j := by
      intro q hq
      by_cases h2 : 2 ≤ nl
      · have hN := gh_N_two (nu := nu) h2
        have h4 := h'.two.mp h2
        obtain ⟨e0, e1⟩ := he (by omega)
        rcases hq with ⟨j, hj, e⟩ | ⟨j, hj, e⟩
        · exact ⟨j, by omega, by rw [gh_V_lo hj]; exact e⟩
        · by_cases f0 : j = 0
          · exact ⟨0, by omega, by rw [gh_V_lo (by omega), e, f0]; exact e0.symm⟩
          · by_cases f1 : j = nu - 1
            · exact ⟨nl - 1, by omega, by rw [gh_V_lo (by omega), e, f1]; exact e1.symm⟩
            · exact ⟨nl + nu - 2 - j, by omega, by rw [gh_V_hi (j := j) (by omega) (by omega)]; exact e⟩
      · have hN : gh_N nl nu = nl := by
          simp only [gh_N]
          rw [if_pos (by omega)]
        rcases hq with ⟨j, hj, e⟩ | ⟨j, hj, e⟩
        · exact ⟨j, by omega, by rw [gh_V_lo hj]; exact e⟩
        · have n1 : nl ≠ 0 := fun z => by
            have := h0.mp z
            omega
          have n2 : ¬ 2 ≤ nu := fun z => h2 (h'.two.mpr z)
          obtain ⟨e0, e1⟩ := he (by omega)
          have f0 : j = 0 := by omega
          exact ⟨0, by omega, by rw [gh_V_lo (by omega), e, f0]; exact e0.symm⟩
    rcases hH.mem hi with ⟨x, y⟩ | ⟨j, x1, x2, x3, x4, x5, x6⟩
    · rw [y]
      rcases a6 i x with e | ⟨j, hj, e⟩
      · exact Or.inl e
      · exact Or.inr (old _ (Or.inl ⟨j, hj, e⟩))
    · rw [x6]
      rcases b6 j (by omega) with e | ⟨j2, hj, e⟩
      · exact Or.inl e
      · exact Or.inr (old _ (Or.inr ⟨j2, hj, e⟩))
end
section
-- ===== PART A: goes FIRST, ahead of the names: the tables' words, and 'selects' of the private methods out of them =====
/-- a private method of a class that the tables say can be made, by its rows of tables_1 -/
def lw_okq (q : MethodName × Nat) : Prop := (q.1.cls ≠ "java/lang/invoke/MethodHandle" ∧ q.1.cls ≠ "java/lang/invoke/VarHandle") ∧ Cond.instantiable q.1.cls q.2 ∈ tables_1 ∧ Cond.privateMethod q.1 ∈ tables_1 ∧ Cond.instanceMethod q.1 ∈ tables_1
set_option maxRecDepth 100000
theorem lw_p0 : lw_okq (⟨"OnlineHull", "isBeyond", "([I[IIIII)Z"⟩, 11) := ⟨⟨by decide +kernel, by decide +kernel⟩, List.mem_of_getElem? (i := 4) rfl, List.mem_of_getElem? (i := 68) rfl, List.mem_of_getElem? (i := 69) rfl⟩
theorem lw_p1 : lw_okq (⟨"OnlineHull", "with", "([I[IIIII)V"⟩, 11) := ⟨⟨by decide +kernel, by decide +kernel⟩, List.mem_of_getElem? (i := 4) rfl, List.mem_of_getElem? (i := 76) rfl, List.mem_of_getElem? (i := 77) rfl⟩
theorem lw_p2 : lw_okq (⟨"OnlineHull", "put", "(II)V"⟩, 11) := ⟨⟨by decide +kernel, by decide +kernel⟩, List.mem_of_getElem? (i := 4) rfl, List.mem_of_getElem? (i := 80) rfl, List.mem_of_getElem? (i := 81) rfl⟩
theorem lw_p3 : lw_okq (⟨"OnlineHull", "keep", "([I[I)V"⟩, 11) := ⟨⟨by decide +kernel, by decide +kernel⟩, List.mem_of_getElem? (i := 4) rfl, List.mem_of_getElem? (i := 84) rfl, List.mem_of_getElem? (i := 85) rfl⟩
theorem lw_p4 : lw_okq (⟨"OnlineHull", "x", "(I)I"⟩, 11) := ⟨⟨by decide +kernel, by decide +kernel⟩, List.mem_of_getElem? (i := 4) rfl, List.mem_of_getElem? (i := 93) rfl, List.mem_of_getElem? (i := 94) rfl⟩
theorem lw_p5 : lw_okq (⟨"OnlineHull", "y", "(I)I"⟩, 11) := ⟨⟨by decide +kernel, by decide +kernel⟩, List.mem_of_getElem? (i := 4) rfl, List.mem_of_getElem? (i := 101) rfl, List.mem_of_getElem? (i := 102) rfl⟩
theorem lw_p6 : lw_okq (⟨"OnlineHull", "sees", "(III)Z"⟩, 11) := ⟨⟨by decide +kernel, by decide +kernel⟩, List.mem_of_getElem? (i := 4) rfl, List.mem_of_getElem? (i := 117) rfl, List.mem_of_getElem? (i := 118) rfl⟩
theorem lw_p7 : lw_okq (⟨"OnlineHullModel", "side", "(III)J"⟩, 8) := ⟨⟨by decide +kernel, by decide +kernel⟩, List.mem_of_getElem? (i := 132) rfl, List.mem_of_getElem? (i := 176) rfl, List.mem_of_getElem? (i := 177) rfl⟩
theorem lw_p8 : lw_okq (⟨"OnlineHullModel", "goRound", "(I)I"⟩, 8) := ⟨⟨by decide +kernel, by decide +kernel⟩, List.mem_of_getElem? (i := 132) rfl, List.mem_of_getElem? (i := 185) rfl, List.mem_of_getElem? (i := 186) rfl⟩
theorem lw_p9 : lw_okq (⟨"OnlineHullModel", "isNext", "(III)Z"⟩, 8) := ⟨⟨by decide +kernel, by decide +kernel⟩, List.mem_of_getElem? (i := 132) rfl, List.mem_of_getElem? (i := 189) rfl, List.mem_of_getElem? (i := 190) rfl⟩
def lw_privs_1 : List (MethodName × Nat) := [(⟨"OnlineHull", "isBeyond", "([I[IIIII)Z"⟩, 11), (⟨"OnlineHull", "with", "([I[IIIII)V"⟩, 11), (⟨"OnlineHull", "put", "(II)V"⟩, 11), (⟨"OnlineHull", "keep", "([I[I)V"⟩, 11), (⟨"OnlineHull", "x", "(I)I"⟩, 11), (⟨"OnlineHull", "y", "(I)I"⟩, 11), (⟨"OnlineHull", "sees", "(III)Z"⟩, 11), (⟨"OnlineHullModel", "side", "(III)J"⟩, 8), (⟨"OnlineHullModel", "goRound", "(I)I"⟩, 8), (⟨"OnlineHullModel", "isNext", "(III)Z"⟩, 8)]
theorem lw_r1 : ∀ q ∈ lw_privs_1, lw_okq q := List.forall_mem_cons.mpr ⟨lw_p0, List.forall_mem_cons.mpr ⟨lw_p1, List.forall_mem_cons.mpr ⟨lw_p2, List.forall_mem_cons.mpr ⟨lw_p3, List.forall_mem_cons.mpr ⟨lw_p4, List.forall_mem_cons.mpr ⟨lw_p5, List.forall_mem_cons.mpr ⟨lw_p6, List.forall_mem_cons.mpr ⟨lw_p7, List.forall_mem_cons.mpr ⟨lw_p8, List.forall_mem_cons.mpr ⟨lw_p9, fun _ h => absurd h List.not_mem_nil⟩⟩⟩⟩⟩⟩⟩⟩⟩⟩
def lw_privs : List (MethodName × Nat) := lw_privs_1
def lw_tbl : List Cond := k2_sels lw_privs ++ tables_1
theorem lw_privs_ok : ∀ q ∈ lw_privs, lw_okq q := lw_r1
-- ===== ONE list of words for every method: the tables' words that hold all through a run =====
def lw_all : List Cond := lw_tbl.filter goodWord
/-- a word of the tables by its place: claim/WORDS.tsv -/
theorem lw_w {w : Cond} (i : Nat) (h : lw_tbl[i]? = some w) (g : goodWord w = true) : w ∈ lw_all := List.mem_filter.mpr ⟨List.mem_of_getElem? h, g⟩
theorem lw_all_tbl {w : Cond} (h : w ∈ lw_all) : w ∈ lw_tbl := (List.mem_filter.mp h).1
theorem lw_self : GoodIn lw_all lw_all := fun w h => ⟨h, good_of_word (List.mem_filter.mp h).2⟩
/-- a class's field words, by their places -/
theorem lw_in (ws : List Cond) (ps : List Nat) (hp : ws = ps.filterMap (fun i => lw_tbl[i]?)) (hg : ws.all goodWord = true) : ∀ w ∈ ws, w ∈ lw_all := by
  intro w h
  have h1 := List.all_eq_true.mp hg w h
  rw [hp] at h
  obtain ⟨i, -, hi⟩ := List.mem_filterMap.mp h
  exact lw_w i hi h1
/-- the words of a contract for the method y with code b, L locals, answer r -/
abbrev ws_ (y : MethodName) (b : ByteArray) (L : Nat) (r : Option FieldType) : List Cond := Cond.code y b L r :: lw_all
theorem lw_meth {y : MethodName} {b : ByteArray} {L : Nat} {r : Option FieldType} (h : Cond.code y b L r ∈ lw_all) : GoodIn lw_all (ws_ y b L r) := by
  intro w hw
  rcases List.mem_cons.mp hw with e | e
  · rw [e]
    exact lw_self _ h
  · exact lw_self _ e
theorem lw_app {a c : List Cond} (ha : ∀ w ∈ a, w ∈ lw_all) (hc : GoodIn lw_all c) : GoodIn lw_all (a ++ c) := by
  intro w hw
  rcases List.mem_append.mp hw with e | e
  · exact lw_self w (ha w e)
  · exact hc w e
/-- what a call through an object asks: cwV n hts (lw_V ..) -/
theorem lw_V {own : String} {idx : Nat} {C : String} {y : MethodName} {b : ByteArray} {L : Nat} {r : Option FieldType} (h1 : Cond.methodLink own idx y ∈ lw_all) (h2 : Cond.instanceMethod y ∈ lw_all) (h3 : Cond.selects C y y ∈ lw_all) (h4 : Cond.initialized C ∈ lw_all) (h5 : Cond.code y b L r ∈ lw_all) : GoodIn lw_all (wsV own idx C y (ws_ y b L r)) := by
  refine lw_app ?_ (lw_meth h5)
  intro w hw
  simp only [List.mem_cons, List.not_mem_nil, or_false] at hw
  rcases hw with e | e | e | e
  · rw [e]; exact h1
  · rw [e]; exact h2
  · rw [e]; exact h3
  · rw [e]; exact h4
/-- what a static call asks: va_cwS n hts (lw_S ..) -/
theorem lw_S {own : String} {idx : Nat} {y : MethodName} {b : ByteArray} {L : Nat} {r : Option FieldType} (h1 : Cond.methodLink own idx y ∈ lw_all) (h2 : Cond.static y ∈ lw_all) (h3 : Cond.initialized y.cls ∈ lw_all) (h4 : Cond.code y b L r ∈ lw_all) : GoodIn lw_all (va_wsS own idx y (ws_ y b L r)) := by
  refine lw_app ?_ (lw_meth h4)
  intro w hw
  simp only [List.mem_cons, List.not_mem_nil, or_false] at hw
  rcases hw with e | e | e
  · rw [e]; exact h1
  · rw [e]; exact h2
  · rw [e]; exact h3
/-- the words of a contract for a method WITH HANDLERS (hh: its table) -/
abbrev wsW_ (y : MethodName) (b : ByteArray) (L : Nat) (r : Option FieldType) (hh : List (Nat × Nat × Nat × Nat)) : List Cond := Cond.codeWith y b L r hh :: lw_all
theorem lw_methW {y : MethodName} {b : ByteArray} {L : Nat} {r : Option FieldType} {hh : List (Nat × Nat × Nat × Nat)} (h : Cond.codeWith y b L r hh ∈ lw_all) : GoodIn lw_all (wsW_ y b L r hh) := by
  intro w hw
  rcases List.mem_cons.mp hw with e | e
  · rw [e]
    exact lw_self _ h
  · exact lw_self _ e
/-- any list of words by their places (lw_in), good -/
theorem lw_good {ws : List Cond} (h : ∀ w ∈ ws, w ∈ lw_all) : GoodIn lw_all ws := fun w hw => lw_self w (h w hw)
/-- what a call of a method with handlers asks: vx_cwVW n hts (lw_VW ..), vx_cwSW n hts (lw_SW ..) -/
theorem lw_VW {own : String} {idx : Nat} {C : String} {y : MethodName} {b : ByteArray} {L : Nat} {r : Option FieldType} {hh : List (Nat × Nat × Nat × Nat)} (h1 : Cond.methodLink own idx y ∈ lw_all) (h2 : Cond.instanceMethod y ∈ lw_all) (h3 : Cond.selects C y y ∈ lw_all) (h4 : Cond.initialized C ∈ lw_all) (h5 : Cond.codeWith y b L r hh ∈ lw_all) : GoodIn lw_all (wsV own idx C y (wsW_ y b L r hh)) := by
  refine lw_app ?_ (lw_methW h5)
  intro w hw
  simp only [List.mem_cons, List.not_mem_nil, or_false] at hw
  rcases hw with e | e | e | e
  · rw [e]; exact h1
  · rw [e]; exact h2
  · rw [e]; exact h3
  · rw [e]; exact h4
theorem lw_SW {own : String} {idx : Nat} {y : MethodName} {b : ByteArray} {L : Nat} {r : Option FieldType} {hh : List (Nat × Nat × Nat × Nat)} (h1 : Cond.methodLink own idx y ∈ lw_all) (h2 : Cond.static y ∈ lw_all) (h3 : Cond.initialized y.cls ∈ lw_all) (h4 : Cond.codeWith y b L r hh ∈ lw_all) : GoodIn lw_all (va_wsS own idx y (wsW_ y b L r hh)) := by
  refine lw_app ?_ (lw_methW h4)
  intro w hw
  simp only [List.mem_cons, List.not_mem_nil, or_false] at hw
  rcases hw with e | e | e
  · rw [e]; exact h1
  · rw [e]; exact h2
  · rw [e]; exact h3
/-- a word by its place in its run of the tables -/
theorem lw_at {r : List Cond} (hr : ∀ w ∈ r, w ∈ lw_tbl) {w : Cond} (i : Nat) (h : r[i]? = some w) : w ∈ lw_tbl := hr w (List.mem_of_getElem? h)
theorem lw_g {w : Cond} (h : w ∈ lw_tbl) (g : goodWord w = true) : w ∈ lw_all := List.mem_filter.mpr ⟨h, g⟩
theorem lw_ms : ∀ w ∈ k2_sels lw_privs, w ∈ lw_tbl := fun w h => show w ∈ k2_sels lw_privs ++ tables_1 from List.mem_append_left _ h
theorem lw_m0 : ∀ w ∈ tables_1, w ∈ lw_tbl := fun w h => show w ∈ k2_sels lw_privs ++ tables_1 from List.mem_append_right (k2_sels lw_privs) h
theorem qs0 : (Cond.selects "OnlineHull" ⟨"OnlineHull", "isBeyond", "([I[IIIII)Z"⟩ ⟨"OnlineHull", "isBeyond", "([I[IIIII)Z"⟩) ∈ lw_all := lw_g (lw_at lw_ms 0 rfl) rfl
theorem qs1 : (Cond.selects "OnlineHull" ⟨"OnlineHull", "with", "([I[IIIII)V"⟩ ⟨"OnlineHull", "with", "([I[IIIII)V"⟩) ∈ lw_all := lw_g (lw_at lw_ms 1 rfl) rfl
theorem qs2 : (Cond.selects "OnlineHull" ⟨"OnlineHull", "put", "(II)V"⟩ ⟨"OnlineHull", "put", "(II)V"⟩) ∈ lw_all := lw_g (lw_at lw_ms 2 rfl) rfl
theorem qs3 : (Cond.selects "OnlineHull" ⟨"OnlineHull", "keep", "([I[I)V"⟩ ⟨"OnlineHull", "keep", "([I[I)V"⟩) ∈ lw_all := lw_g (lw_at lw_ms 3 rfl) rfl
theorem qs4 : (Cond.selects "OnlineHull" ⟨"OnlineHull", "x", "(I)I"⟩ ⟨"OnlineHull", "x", "(I)I"⟩) ∈ lw_all := lw_g (lw_at lw_ms 4 rfl) rfl
theorem qs5 : (Cond.selects "OnlineHull" ⟨"OnlineHull", "y", "(I)I"⟩ ⟨"OnlineHull", "y", "(I)I"⟩) ∈ lw_all := lw_g (lw_at lw_ms 5 rfl) rfl
theorem qs6 : (Cond.selects "OnlineHull" ⟨"OnlineHull", "sees", "(III)Z"⟩ ⟨"OnlineHull", "sees", "(III)Z"⟩) ∈ lw_all := lw_g (lw_at lw_ms 6 rfl) rfl
theorem qs7 : (Cond.selects "OnlineHullModel" ⟨"OnlineHullModel", "side", "(III)J"⟩ ⟨"OnlineHullModel", "side", "(III)J"⟩) ∈ lw_all := lw_g (lw_at lw_ms 7 rfl) rfl
theorem qs8 : (Cond.selects "OnlineHullModel" ⟨"OnlineHullModel", "goRound", "(I)I"⟩ ⟨"OnlineHullModel", "goRound", "(I)I"⟩) ∈ lw_all := lw_g (lw_at lw_ms 8 rfl) rfl
theorem qs9 : (Cond.selects "OnlineHullModel" ⟨"OnlineHullModel", "isNext", "(III)Z"⟩ ⟨"OnlineHullModel", "isNext", "(III)Z"⟩) ∈ lw_all := lw_g (lw_at lw_ms 9 rfl) rfl
end
section
/-! java/lang/Object -/
set_option maxRecDepth 100000
def RJ0 : String := "java/lang/Object"
abbrev cJ0_init : ByteArray := object_method_1_code
def yJ0_init : MethodName := ⟨RJ0, "<init>", "()V"⟩
theorem dJ0_init_0 : decode cJ0_init 0 = .ok (.return_, 1) := by decide +kernel
theorem q19 : (Jvm.Cond.instanceMethod ({ cls := "java/lang/Object", name := "<init>", desc := "()V" } : Jvm.MethodName)) ∈ lw_all := lw_g (lw_at lw_m0 9 rfl) rfl
theorem q20 : (Jvm.Cond.code ({ cls := "java/lang/Object", name := "<init>", desc := "()V" } : Jvm.MethodName) object_method_1_code (1 : Nat) (Option.none : Option Jvm.ClassFile.FieldType)) ∈ lw_all := lw_g (lw_at lw_m0 10 rfl) rfl
/-! OnlineHullLaw -/
set_option maxRecDepth 100000
def RX0 : String := "OnlineHullLaw"
abbrev cX0_cell : ByteArray := method_2_code
def yX0_cell : MethodName := ⟨RX0, "cell", "([II)I"⟩
theorem dX0_cell_0 : decode cX0_cell 0 = .ok (.iload_n 1, 1) := by decide +kernel
theorem dX0_cell_1 : decode cX0_cell 1 = .ok (.aload_n 0, 1) := by decide +kernel
theorem dX0_cell_2 : decode cX0_cell 2 = .ok (.arraylength, 1) := by decide +kernel
theorem dX0_cell_3 : decode cX0_cell 3 = .ok (.if_icmp .ge 9, 3) := by decide +kernel
theorem dX0_cell_6 : decode cX0_cell 6 = .ok (.aload_n 0, 1) := by decide +kernel
theorem dX0_cell_7 : decode cX0_cell 7 = .ok (.iload_n 1, 1) := by decide +kernel
theorem dX0_cell_8 : decode cX0_cell 8 = .ok (.iaload, 1) := by decide +kernel
theorem dX0_cell_9 : decode cX0_cell 9 = .ok (.goto 4, 3) := by decide +kernel
theorem dX0_cell_12 : decode cX0_cell 12 = .ok (.iconst 0, 1) := by decide +kernel
theorem dX0_cell_13 : decode cX0_cell 13 = .ok (.ireturn, 1) := by decide +kernel
theorem q10 : (Jvm.Cond.initialized "OnlineHullLaw") ∈ lw_all := lw_g (lw_at lw_m0 0 rfl) rfl
theorem q13 : (Jvm.Cond.classLink "OnlineHullLaw" (7 : Nat) "OnlineHull") ∈ lw_all := lw_g (lw_at lw_m0 3 rfl) rfl
theorem q15 : (Jvm.Cond.methodLink "OnlineHullLaw" (15 : Nat) ({ cls := "OnlineHull", name := "<init>", desc := "(I)V" } : Jvm.MethodName)) ∈ lw_all := lw_g (lw_at lw_m0 5 rfl) rfl
theorem q56 : (Jvm.Cond.methodLink "OnlineHullLaw" (40 : Nat) ({ cls := "OnlineHull", name := "inside", desc := "(II)I" } : Jvm.MethodName)) ∈ lw_all := lw_g (lw_at lw_m0 46 rfl) rfl
theorem q72 : (Jvm.Cond.methodLink "OnlineHullLaw" (21 : Nat) ({ cls := "OnlineHull", name := "add", desc := "(II)I" } : Jvm.MethodName)) ∈ lw_all := lw_g (lw_at lw_m0 62 rfl) rfl
theorem q97 : (Jvm.Cond.methodLink "OnlineHullLaw" (26 : Nat) ({ cls := "OnlineHull", name := "size", desc := "()I" } : Jvm.MethodName)) ∈ lw_all := lw_g (lw_at lw_m0 87 rfl) rfl
theorem q98 : (Jvm.Cond.methodLink "OnlineHullLaw" (31 : Nat) ({ cls := "OnlineHull", name := "xOf", desc := "(I)I" } : Jvm.MethodName)) ∈ lw_all := lw_g (lw_at lw_m0 88 rfl) rfl
theorem q106 : (Jvm.Cond.methodLink "OnlineHullLaw" (36 : Nat) ({ cls := "OnlineHull", name := "yOf", desc := "(I)I" } : Jvm.MethodName)) ∈ lw_all := lw_g (lw_at lw_m0 96 rfl) rfl
theorem q114 : (Jvm.Cond.methodLink "OnlineHullLaw" (44 : Nat) ({ cls := "OnlineHull", name := "twiceArea", desc := "()I" } : Jvm.MethodName)) ∈ lw_all := lw_g (lw_at lw_m0 104 rfl) rfl
theorem q118 : (Jvm.Cond.methodLink "OnlineHullLaw" (48 : Nat) ({ cls := "OnlineHull", name := "farthest", desc := "(II)I" } : Jvm.MethodName)) ∈ lw_all := lw_g (lw_at lw_m0 108 rfl) rfl
theorem q122 : (Jvm.Cond.methodLink "OnlineHullLaw" (52 : Nat) ({ cls := "OnlineHull", name := "tangent", desc := "(III)I" } : Jvm.MethodName)) ∈ lw_all := lw_g (lw_at lw_m0 112 rfl) rfl
theorem q130 : (Jvm.Cond.methodLink "OnlineHullLaw" (57 : Nat) ({ cls := "OnlineHull", name := "diameter", desc := "()I" } : Jvm.MethodName)) ∈ lw_all := lw_g (lw_at lw_m0 120 rfl) rfl
theorem q134 : (Jvm.Cond.methodLink "OnlineHullLaw" (61 : Nat) ({ cls := "OnlineHull", name := "points", desc := "()I" } : Jvm.MethodName)) ∈ lw_all := lw_g (lw_at lw_m0 124 rfl) rfl
theorem q138 : (Jvm.Cond.methodLink "OnlineHullLaw" (9 : Nat) ({ cls := "OnlineHullLaw", name := "cell", desc := "([II)I" } : Jvm.MethodName)) ∈ lw_all := lw_g (lw_at lw_m0 128 rfl) rfl
theorem q139 : (Jvm.Cond.static ({ cls := "OnlineHullLaw", name := "cell", desc := "([II)I" } : Jvm.MethodName)) ∈ lw_all := lw_g (lw_at lw_m0 129 rfl) rfl
theorem q140 : (Jvm.Cond.code ({ cls := "OnlineHullLaw", name := "cell", desc := "([II)I" } : Jvm.MethodName) method_2_code (2 : Nat) (Option.some Jvm.ClassFile.FieldType.int)) ∈ lw_all := lw_g (lw_at lw_m0 130 rfl) rfl
theorem q141 : (Jvm.Cond.classLink "OnlineHullLaw" (18 : Nat) "OnlineHullModel") ∈ lw_all := lw_g (lw_at lw_m0 131 rfl) rfl
theorem q143 : (Jvm.Cond.methodLink "OnlineHullLaw" (20 : Nat) ({ cls := "OnlineHullModel", name := "<init>", desc := "(I)V" } : Jvm.MethodName)) ∈ lw_all := lw_g (lw_at lw_m0 133 rfl) rfl
theorem q172 : (Jvm.Cond.methodLink "OnlineHullLaw" (43 : Nat) ({ cls := "OnlineHullModel", name := "inside", desc := "(II)I" } : Jvm.MethodName)) ∈ lw_all := lw_g (lw_at lw_m0 162 rfl) rfl
theorem q189 : (Jvm.Cond.methodLink "OnlineHullLaw" (25 : Nat) ({ cls := "OnlineHullModel", name := "add", desc := "(II)I" } : Jvm.MethodName)) ∈ lw_all := lw_g (lw_at lw_m0 179 rfl) rfl
theorem q202 : (Jvm.Cond.methodLink "OnlineHullLaw" (30 : Nat) ({ cls := "OnlineHullModel", name := "size", desc := "()I" } : Jvm.MethodName)) ∈ lw_all := lw_g (lw_at lw_m0 192 rfl) rfl
theorem q206 : (Jvm.Cond.methodLink "OnlineHullLaw" (35 : Nat) ({ cls := "OnlineHullModel", name := "xOf", desc := "(I)I" } : Jvm.MethodName)) ∈ lw_all := lw_g (lw_at lw_m0 196 rfl) rfl
theorem q210 : (Jvm.Cond.methodLink "OnlineHullLaw" (39 : Nat) ({ cls := "OnlineHullModel", name := "yOf", desc := "(I)I" } : Jvm.MethodName)) ∈ lw_all := lw_g (lw_at lw_m0 200 rfl) rfl
theorem q214 : (Jvm.Cond.methodLink "OnlineHullLaw" (47 : Nat) ({ cls := "OnlineHullModel", name := "twiceArea", desc := "()I" } : Jvm.MethodName)) ∈ lw_all := lw_g (lw_at lw_m0 204 rfl) rfl
theorem q218 : (Jvm.Cond.methodLink "OnlineHullLaw" (51 : Nat) ({ cls := "OnlineHullModel", name := "farthest", desc := "(II)I" } : Jvm.MethodName)) ∈ lw_all := lw_g (lw_at lw_m0 208 rfl) rfl
theorem q222 : (Jvm.Cond.methodLink "OnlineHullLaw" (56 : Nat) ({ cls := "OnlineHullModel", name := "tangent", desc := "(III)I" } : Jvm.MethodName)) ∈ lw_all := lw_g (lw_at lw_m0 212 rfl) rfl
theorem q226 : (Jvm.Cond.methodLink "OnlineHullLaw" (60 : Nat) ({ cls := "OnlineHullModel", name := "diameter", desc := "()I" } : Jvm.MethodName)) ∈ lw_all := lw_g (lw_at lw_m0 216 rfl) rfl
theorem q230 : (Jvm.Cond.methodLink "OnlineHullLaw" (64 : Nat) ({ cls := "OnlineHullModel", name := "points", desc := "()I" } : Jvm.MethodName)) ∈ lw_all := lw_g (lw_at lw_m0 220 rfl) rfl
theorem q55 : (Jvm.Cond.arrayClass Jvm.ClassFile.FieldType.int) ∈ lw_all := lw_g (lw_at lw_m0 45 rfl) rfl
set_option maxRecDepth 100000
/-! the law's own entry -/
set_option maxRecDepth 100000
abbrev cL_law : ByteArray := code
theorem dL_law_0 : decode cL_law 0 = .ok (.new 7, 3) := by decide +kernel
theorem dL_law_3 : decode cL_law 3 = .ok (.dup, 1) := by decide +kernel
theorem dL_law_4 : decode cL_law 4 = .ok (.aload_n 0, 1) := by decide +kernel
theorem dL_law_5 : decode cL_law 5 = .ok (.iconst 0, 1) := by decide +kernel
theorem dL_law_6 : decode cL_law 6 = .ok (.invokestatic 9, 3) := by decide +kernel
theorem dL_law_9 : decode cL_law 9 = .ok (.invokespecial 15, 3) := by decide +kernel
theorem dL_law_12 : decode cL_law 12 = .ok (.astore_n 1, 1) := by decide +kernel
theorem dL_law_13 : decode cL_law 13 = .ok (.new 18, 3) := by decide +kernel
theorem dL_law_16 : decode cL_law 16 = .ok (.dup, 1) := by decide +kernel
theorem dL_law_17 : decode cL_law 17 = .ok (.aload_n 0, 1) := by decide +kernel
theorem dL_law_18 : decode cL_law 18 = .ok (.iconst 0, 1) := by decide +kernel
theorem dL_law_19 : decode cL_law 19 = .ok (.invokestatic 9, 3) := by decide +kernel
theorem dL_law_22 : decode cL_law 22 = .ok (.invokespecial 20, 3) := by decide +kernel
theorem dL_law_25 : decode cL_law 25 = .ok (.astore_n 2, 1) := by decide +kernel
theorem dL_law_26 : decode cL_law 26 = .ok (.iconst 1, 1) := by decide +kernel
theorem dL_law_27 : decode cL_law 27 = .ok (.istore_n 3, 1) := by decide +kernel
theorem dL_law_28 : decode cL_law 28 = .ok (.iload_n 3, 1) := by decide +kernel
theorem dL_law_29 : decode cL_law 29 = .ok (.aload_n 0, 1) := by decide +kernel
theorem dL_law_30 : decode cL_law 30 = .ok (.arraylength, 1) := by decide +kernel
theorem dL_law_31 : decode cL_law 31 = .ok (.iconst 4, 1) := by decide +kernel
theorem dL_law_32 : decode cL_law 32 = .ok (.isub, 1) := by decide +kernel
theorem dL_law_33 : decode cL_law 33 = .ok (.if_icmp .gt 309, 3) := by decide +kernel
theorem dL_law_36 : decode cL_law 36 = .ok (.aload_n 0, 1) := by decide +kernel
theorem dL_law_37 : decode cL_law 37 = .ok (.iload_n 3, 1) := by decide +kernel
theorem dL_law_38 : decode cL_law 38 = .ok (.iaload, 1) := by decide +kernel
theorem dL_law_39 : decode cL_law 39 = .ok (.bipush 15, 2) := by decide +kernel
theorem dL_law_41 : decode cL_law 41 = .ok (.iand, 1) := by decide +kernel
theorem dL_law_42 : decode cL_law 42 = .ok (.tableswitch 294 0 9 #[54, 87, 100, 123, 146, 179, 192, 225, 268, 281], 54) := by decide +kernel
theorem dL_law_96 : decode cL_law 96 = .ok (.aload_n 1, 1) := by decide +kernel
theorem dL_law_97 : decode cL_law 97 = .ok (.aload_n 0, 1) := by decide +kernel
theorem dL_law_98 : decode cL_law 98 = .ok (.iload_n 3, 1) := by decide +kernel
theorem dL_law_99 : decode cL_law 99 = .ok (.iconst 1, 1) := by decide +kernel
theorem dL_law_100 : decode cL_law 100 = .ok (.iadd, 1) := by decide +kernel
theorem dL_law_101 : decode cL_law 101 = .ok (.iaload, 1) := by decide +kernel
theorem dL_law_102 : decode cL_law 102 = .ok (.aload_n 0, 1) := by decide +kernel
theorem dL_law_103 : decode cL_law 103 = .ok (.iload_n 3, 1) := by decide +kernel
theorem dL_law_104 : decode cL_law 104 = .ok (.iconst 2, 1) := by decide +kernel
theorem dL_law_105 : decode cL_law 105 = .ok (.iadd, 1) := by decide +kernel
theorem dL_law_106 : decode cL_law 106 = .ok (.iaload, 1) := by decide +kernel
theorem dL_law_107 : decode cL_law 107 = .ok (.invokevirtual 21, 3) := by decide +kernel
theorem dL_law_110 : decode cL_law 110 = .ok (.aload_n 2, 1) := by decide +kernel
theorem dL_law_111 : decode cL_law 111 = .ok (.aload_n 0, 1) := by decide +kernel
theorem dL_law_112 : decode cL_law 112 = .ok (.iload_n 3, 1) := by decide +kernel
theorem dL_law_113 : decode cL_law 113 = .ok (.iconst 1, 1) := by decide +kernel
theorem dL_law_114 : decode cL_law 114 = .ok (.iadd, 1) := by decide +kernel
theorem dL_law_115 : decode cL_law 115 = .ok (.iaload, 1) := by decide +kernel
theorem dL_law_116 : decode cL_law 116 = .ok (.aload_n 0, 1) := by decide +kernel
theorem dL_law_117 : decode cL_law 117 = .ok (.iload_n 3, 1) := by decide +kernel
theorem dL_law_118 : decode cL_law 118 = .ok (.iconst 2, 1) := by decide +kernel
theorem dL_law_119 : decode cL_law 119 = .ok (.iadd, 1) := by decide +kernel
theorem dL_law_120 : decode cL_law 120 = .ok (.iaload, 1) := by decide +kernel
theorem dL_law_121 : decode cL_law 121 = .ok (.invokevirtual 25, 3) := by decide +kernel
theorem dL_law_124 : decode cL_law 124 = .ok (.if_icmp .eq 212, 3) := by decide +kernel
theorem dL_law_127 : decode cL_law 127 = .ok (.iconst 0, 1) := by decide +kernel
theorem dL_law_128 : decode cL_law 128 = .ok (.ireturn, 1) := by decide +kernel
theorem dL_law_129 : decode cL_law 129 = .ok (.aload_n 1, 1) := by decide +kernel
theorem dL_law_130 : decode cL_law 130 = .ok (.invokevirtual 26, 3) := by decide +kernel
theorem dL_law_133 : decode cL_law 133 = .ok (.aload_n 2, 1) := by decide +kernel
theorem dL_law_134 : decode cL_law 134 = .ok (.invokevirtual 30, 3) := by decide +kernel
theorem dL_law_137 : decode cL_law 137 = .ok (.if_icmp .eq 199, 3) := by decide +kernel
theorem dL_law_140 : decode cL_law 140 = .ok (.iconst 0, 1) := by decide +kernel
theorem dL_law_141 : decode cL_law 141 = .ok (.ireturn, 1) := by decide +kernel
theorem dL_law_142 : decode cL_law 142 = .ok (.aload_n 1, 1) := by decide +kernel
theorem dL_law_143 : decode cL_law 143 = .ok (.aload_n 0, 1) := by decide +kernel
theorem dL_law_144 : decode cL_law 144 = .ok (.iload_n 3, 1) := by decide +kernel
theorem dL_law_145 : decode cL_law 145 = .ok (.iconst 1, 1) := by decide +kernel
theorem dL_law_146 : decode cL_law 146 = .ok (.iadd, 1) := by decide +kernel
theorem dL_law_147 : decode cL_law 147 = .ok (.iaload, 1) := by decide +kernel
theorem dL_law_148 : decode cL_law 148 = .ok (.invokevirtual 31, 3) := by decide +kernel
theorem dL_law_151 : decode cL_law 151 = .ok (.aload_n 2, 1) := by decide +kernel
theorem dL_law_152 : decode cL_law 152 = .ok (.aload_n 0, 1) := by decide +kernel
theorem dL_law_153 : decode cL_law 153 = .ok (.iload_n 3, 1) := by decide +kernel
theorem dL_law_154 : decode cL_law 154 = .ok (.iconst 1, 1) := by decide +kernel
theorem dL_law_155 : decode cL_law 155 = .ok (.iadd, 1) := by decide +kernel
theorem dL_law_156 : decode cL_law 156 = .ok (.iaload, 1) := by decide +kernel
theorem dL_law_157 : decode cL_law 157 = .ok (.invokevirtual 35, 3) := by decide +kernel
theorem dL_law_160 : decode cL_law 160 = .ok (.if_icmp .eq 176, 3) := by decide +kernel
theorem dL_law_163 : decode cL_law 163 = .ok (.iconst 0, 1) := by decide +kernel
theorem dL_law_164 : decode cL_law 164 = .ok (.ireturn, 1) := by decide +kernel
theorem dL_law_165 : decode cL_law 165 = .ok (.aload_n 1, 1) := by decide +kernel
theorem dL_law_166 : decode cL_law 166 = .ok (.aload_n 0, 1) := by decide +kernel
theorem dL_law_167 : decode cL_law 167 = .ok (.iload_n 3, 1) := by decide +kernel
theorem dL_law_168 : decode cL_law 168 = .ok (.iconst 1, 1) := by decide +kernel
theorem dL_law_169 : decode cL_law 169 = .ok (.iadd, 1) := by decide +kernel
theorem dL_law_170 : decode cL_law 170 = .ok (.iaload, 1) := by decide +kernel
theorem dL_law_171 : decode cL_law 171 = .ok (.invokevirtual 36, 3) := by decide +kernel
theorem dL_law_174 : decode cL_law 174 = .ok (.aload_n 2, 1) := by decide +kernel
theorem dL_law_175 : decode cL_law 175 = .ok (.aload_n 0, 1) := by decide +kernel
theorem dL_law_176 : decode cL_law 176 = .ok (.iload_n 3, 1) := by decide +kernel
theorem dL_law_177 : decode cL_law 177 = .ok (.iconst 1, 1) := by decide +kernel
theorem dL_law_178 : decode cL_law 178 = .ok (.iadd, 1) := by decide +kernel
theorem dL_law_179 : decode cL_law 179 = .ok (.iaload, 1) := by decide +kernel
theorem dL_law_180 : decode cL_law 180 = .ok (.invokevirtual 39, 3) := by decide +kernel
theorem dL_law_183 : decode cL_law 183 = .ok (.if_icmp .eq 153, 3) := by decide +kernel
theorem dL_law_186 : decode cL_law 186 = .ok (.iconst 0, 1) := by decide +kernel
theorem dL_law_187 : decode cL_law 187 = .ok (.ireturn, 1) := by decide +kernel
theorem dL_law_188 : decode cL_law 188 = .ok (.aload_n 1, 1) := by decide +kernel
theorem dL_law_189 : decode cL_law 189 = .ok (.aload_n 0, 1) := by decide +kernel
theorem dL_law_190 : decode cL_law 190 = .ok (.iload_n 3, 1) := by decide +kernel
theorem dL_law_191 : decode cL_law 191 = .ok (.iconst 1, 1) := by decide +kernel
theorem dL_law_192 : decode cL_law 192 = .ok (.iadd, 1) := by decide +kernel
theorem dL_law_193 : decode cL_law 193 = .ok (.iaload, 1) := by decide +kernel
theorem dL_law_194 : decode cL_law 194 = .ok (.aload_n 0, 1) := by decide +kernel
theorem dL_law_195 : decode cL_law 195 = .ok (.iload_n 3, 1) := by decide +kernel
theorem dL_law_196 : decode cL_law 196 = .ok (.iconst 2, 1) := by decide +kernel
theorem dL_law_197 : decode cL_law 197 = .ok (.iadd, 1) := by decide +kernel
theorem dL_law_198 : decode cL_law 198 = .ok (.iaload, 1) := by decide +kernel
theorem dL_law_199 : decode cL_law 199 = .ok (.invokevirtual 40, 3) := by decide +kernel
theorem dL_law_202 : decode cL_law 202 = .ok (.aload_n 2, 1) := by decide +kernel
theorem dL_law_203 : decode cL_law 203 = .ok (.aload_n 0, 1) := by decide +kernel
theorem dL_law_204 : decode cL_law 204 = .ok (.iload_n 3, 1) := by decide +kernel
theorem dL_law_205 : decode cL_law 205 = .ok (.iconst 1, 1) := by decide +kernel
theorem dL_law_206 : decode cL_law 206 = .ok (.iadd, 1) := by decide +kernel
theorem dL_law_207 : decode cL_law 207 = .ok (.iaload, 1) := by decide +kernel
theorem dL_law_208 : decode cL_law 208 = .ok (.aload_n 0, 1) := by decide +kernel
theorem dL_law_209 : decode cL_law 209 = .ok (.iload_n 3, 1) := by decide +kernel
theorem dL_law_210 : decode cL_law 210 = .ok (.iconst 2, 1) := by decide +kernel
theorem dL_law_211 : decode cL_law 211 = .ok (.iadd, 1) := by decide +kernel
theorem dL_law_212 : decode cL_law 212 = .ok (.iaload, 1) := by decide +kernel
theorem dL_law_213 : decode cL_law 213 = .ok (.invokevirtual 43, 3) := by decide +kernel
theorem dL_law_216 : decode cL_law 216 = .ok (.if_icmp .eq 120, 3) := by decide +kernel
theorem dL_law_219 : decode cL_law 219 = .ok (.iconst 0, 1) := by decide +kernel
theorem dL_law_220 : decode cL_law 220 = .ok (.ireturn, 1) := by decide +kernel
theorem dL_law_221 : decode cL_law 221 = .ok (.aload_n 1, 1) := by decide +kernel
theorem dL_law_222 : decode cL_law 222 = .ok (.invokevirtual 44, 3) := by decide +kernel
theorem dL_law_225 : decode cL_law 225 = .ok (.aload_n 2, 1) := by decide +kernel
theorem dL_law_226 : decode cL_law 226 = .ok (.invokevirtual 47, 3) := by decide +kernel
theorem dL_law_229 : decode cL_law 229 = .ok (.if_icmp .eq 107, 3) := by decide +kernel
theorem dL_law_232 : decode cL_law 232 = .ok (.iconst 0, 1) := by decide +kernel
theorem dL_law_233 : decode cL_law 233 = .ok (.ireturn, 1) := by decide +kernel
theorem dL_law_234 : decode cL_law 234 = .ok (.aload_n 1, 1) := by decide +kernel
theorem dL_law_235 : decode cL_law 235 = .ok (.aload_n 0, 1) := by decide +kernel
theorem dL_law_236 : decode cL_law 236 = .ok (.iload_n 3, 1) := by decide +kernel
theorem dL_law_237 : decode cL_law 237 = .ok (.iconst 1, 1) := by decide +kernel
theorem dL_law_238 : decode cL_law 238 = .ok (.iadd, 1) := by decide +kernel
theorem dL_law_239 : decode cL_law 239 = .ok (.iaload, 1) := by decide +kernel
theorem dL_law_240 : decode cL_law 240 = .ok (.aload_n 0, 1) := by decide +kernel
theorem dL_law_241 : decode cL_law 241 = .ok (.iload_n 3, 1) := by decide +kernel
theorem dL_law_242 : decode cL_law 242 = .ok (.iconst 2, 1) := by decide +kernel
theorem dL_law_243 : decode cL_law 243 = .ok (.iadd, 1) := by decide +kernel
theorem dL_law_244 : decode cL_law 244 = .ok (.iaload, 1) := by decide +kernel
theorem dL_law_245 : decode cL_law 245 = .ok (.invokevirtual 48, 3) := by decide +kernel
theorem dL_law_248 : decode cL_law 248 = .ok (.aload_n 2, 1) := by decide +kernel
theorem dL_law_249 : decode cL_law 249 = .ok (.aload_n 0, 1) := by decide +kernel
theorem dL_law_250 : decode cL_law 250 = .ok (.iload_n 3, 1) := by decide +kernel
theorem dL_law_251 : decode cL_law 251 = .ok (.iconst 1, 1) := by decide +kernel
theorem dL_law_252 : decode cL_law 252 = .ok (.iadd, 1) := by decide +kernel
theorem dL_law_253 : decode cL_law 253 = .ok (.iaload, 1) := by decide +kernel
theorem dL_law_254 : decode cL_law 254 = .ok (.aload_n 0, 1) := by decide +kernel
theorem dL_law_255 : decode cL_law 255 = .ok (.iload_n 3, 1) := by decide +kernel
theorem dL_law_256 : decode cL_law 256 = .ok (.iconst 2, 1) := by decide +kernel
theorem dL_law_257 : decode cL_law 257 = .ok (.iadd, 1) := by decide +kernel
theorem dL_law_258 : decode cL_law 258 = .ok (.iaload, 1) := by decide +kernel
theorem dL_law_259 : decode cL_law 259 = .ok (.invokevirtual 51, 3) := by decide +kernel
theorem dL_law_262 : decode cL_law 262 = .ok (.if_icmp .eq 74, 3) := by decide +kernel
theorem dL_law_265 : decode cL_law 265 = .ok (.iconst 0, 1) := by decide +kernel
theorem dL_law_266 : decode cL_law 266 = .ok (.ireturn, 1) := by decide +kernel
theorem dL_law_267 : decode cL_law 267 = .ok (.aload_n 1, 1) := by decide +kernel
theorem dL_law_268 : decode cL_law 268 = .ok (.aload_n 0, 1) := by decide +kernel
theorem dL_law_269 : decode cL_law 269 = .ok (.iload_n 3, 1) := by decide +kernel
theorem dL_law_270 : decode cL_law 270 = .ok (.iconst 1, 1) := by decide +kernel
theorem dL_law_271 : decode cL_law 271 = .ok (.iadd, 1) := by decide +kernel
theorem dL_law_272 : decode cL_law 272 = .ok (.iaload, 1) := by decide +kernel
theorem dL_law_273 : decode cL_law 273 = .ok (.aload_n 0, 1) := by decide +kernel
theorem dL_law_274 : decode cL_law 274 = .ok (.iload_n 3, 1) := by decide +kernel
theorem dL_law_275 : decode cL_law 275 = .ok (.iconst 2, 1) := by decide +kernel
theorem dL_law_276 : decode cL_law 276 = .ok (.iadd, 1) := by decide +kernel
theorem dL_law_277 : decode cL_law 277 = .ok (.iaload, 1) := by decide +kernel
theorem dL_law_278 : decode cL_law 278 = .ok (.aload_n 0, 1) := by decide +kernel
theorem dL_law_279 : decode cL_law 279 = .ok (.iload_n 3, 1) := by decide +kernel
theorem dL_law_280 : decode cL_law 280 = .ok (.iconst 3, 1) := by decide +kernel
theorem dL_law_281 : decode cL_law 281 = .ok (.iadd, 1) := by decide +kernel
theorem dL_law_282 : decode cL_law 282 = .ok (.iaload, 1) := by decide +kernel
theorem dL_law_283 : decode cL_law 283 = .ok (.invokevirtual 52, 3) := by decide +kernel
theorem dL_law_286 : decode cL_law 286 = .ok (.aload_n 2, 1) := by decide +kernel
theorem dL_law_287 : decode cL_law 287 = .ok (.aload_n 0, 1) := by decide +kernel
theorem dL_law_288 : decode cL_law 288 = .ok (.iload_n 3, 1) := by decide +kernel
theorem dL_law_289 : decode cL_law 289 = .ok (.iconst 1, 1) := by decide +kernel
theorem dL_law_290 : decode cL_law 290 = .ok (.iadd, 1) := by decide +kernel
theorem dL_law_291 : decode cL_law 291 = .ok (.iaload, 1) := by decide +kernel
theorem dL_law_292 : decode cL_law 292 = .ok (.aload_n 0, 1) := by decide +kernel
theorem dL_law_293 : decode cL_law 293 = .ok (.iload_n 3, 1) := by decide +kernel
theorem dL_law_294 : decode cL_law 294 = .ok (.iconst 2, 1) := by decide +kernel
theorem dL_law_295 : decode cL_law 295 = .ok (.iadd, 1) := by decide +kernel
theorem dL_law_296 : decode cL_law 296 = .ok (.iaload, 1) := by decide +kernel
theorem dL_law_297 : decode cL_law 297 = .ok (.aload_n 0, 1) := by decide +kernel
theorem dL_law_298 : decode cL_law 298 = .ok (.iload_n 3, 1) := by decide +kernel
theorem dL_law_299 : decode cL_law 299 = .ok (.iconst 3, 1) := by decide +kernel
theorem dL_law_300 : decode cL_law 300 = .ok (.iadd, 1) := by decide +kernel
theorem dL_law_301 : decode cL_law 301 = .ok (.iaload, 1) := by decide +kernel
theorem dL_law_302 : decode cL_law 302 = .ok (.invokevirtual 56, 3) := by decide +kernel
theorem dL_law_305 : decode cL_law 305 = .ok (.if_icmp .eq 31, 3) := by decide +kernel
theorem dL_law_308 : decode cL_law 308 = .ok (.iconst 0, 1) := by decide +kernel
theorem dL_law_309 : decode cL_law 309 = .ok (.ireturn, 1) := by decide +kernel
theorem dL_law_310 : decode cL_law 310 = .ok (.aload_n 1, 1) := by decide +kernel
theorem dL_law_311 : decode cL_law 311 = .ok (.invokevirtual 57, 3) := by decide +kernel
theorem dL_law_314 : decode cL_law 314 = .ok (.aload_n 2, 1) := by decide +kernel
theorem dL_law_315 : decode cL_law 315 = .ok (.invokevirtual 60, 3) := by decide +kernel
theorem dL_law_318 : decode cL_law 318 = .ok (.if_icmp .eq 18, 3) := by decide +kernel
theorem dL_law_321 : decode cL_law 321 = .ok (.iconst 0, 1) := by decide +kernel
theorem dL_law_322 : decode cL_law 322 = .ok (.ireturn, 1) := by decide +kernel
theorem dL_law_323 : decode cL_law 323 = .ok (.aload_n 1, 1) := by decide +kernel
theorem dL_law_324 : decode cL_law 324 = .ok (.invokevirtual 61, 3) := by decide +kernel
theorem dL_law_327 : decode cL_law 327 = .ok (.aload_n 2, 1) := by decide +kernel
theorem dL_law_328 : decode cL_law 328 = .ok (.invokevirtual 64, 3) := by decide +kernel
theorem dL_law_331 : decode cL_law 331 = .ok (.if_icmp .eq 5, 3) := by decide +kernel
theorem dL_law_334 : decode cL_law 334 = .ok (.iconst 0, 1) := by decide +kernel
theorem dL_law_335 : decode cL_law 335 = .ok (.ireturn, 1) := by decide +kernel
theorem dL_law_336 : decode cL_law 336 = .ok (.iinc 3 4, 3) := by decide +kernel
theorem dL_law_339 : decode cL_law 339 = .ok (.goto (-311), 3) := by decide +kernel
theorem dL_law_342 : decode cL_law 342 = .ok (.iconst 1, 1) := by decide +kernel
theorem dL_law_343 : decode cL_law 343 = .ok (.ireturn, 1) := by decide +kernel
end
section
/-! OnlineHull -/
set_option maxRecDepth 100000
def RX1 : String := "OnlineHull"
def TX1 : u_T := fun k => match k with
  | 0 => ("OnlineHull", "lx", "[I", true)
  | 1 => ("OnlineHull", "ly", "[I", true)
  | 2 => ("OnlineHull", "ux", "[I", true)
  | 3 => ("OnlineHull", "uy", "[I", true)
  | 4 => ("OnlineHull", "nl", "I", false)
  | 5 => ("OnlineHull", "nu", "I", false)
  | 6 => ("OnlineHull", "tx", "[I", true)
  | 7 => ("OnlineHull", "ty", "[I", true)
  | 8 => ("OnlineHull", "nt", "I", false)
  | 9 => ("OnlineHull", "cap", "I", true)
  | _ => ("OnlineHull", "seen", "I", false)
def tyX1 : Nat → FieldType := fun k => match k with
  | 0 => .array .int
  | 1 => .array .int
  | 2 => .array .int
  | 3 => .array .int
  | 4 => .int
  | 5 => .int
  | 6 => .array .int
  | 7 => .array .int
  | 8 => .int
  | 9 => .int
  | _ => .int
abbrev wsX10 : List Cond := u_ws RX1 TX1 11
theorem nmX1 : ∀ a, a < 11 → ∀ b, b < 11 → a ≠ b → (TX1 a).2.1 ≠ (TX1 b).2.1 := by decide +kernel
theorem tyX1_ok : ∀ k, k < 11 → parseFieldDescriptor (TX1 k).2.2.1 = some (tyX1 k) := by decide +kernel
abbrev cX1_init : ByteArray := prog_1_method_1_code
def yX1_init : MethodName := ⟨RX1, "<init>", "(I)V"⟩
theorem dX1_init_0 : decode cX1_init 0 = .ok (.aload_n 0, 1) := by decide +kernel
theorem dX1_init_1 : decode cX1_init 1 = .ok (.invokespecial 1, 3) := by decide +kernel
theorem dX1_init_4 : decode cX1_init 4 = .ok (.aload_n 0, 1) := by decide +kernel
theorem dX1_init_5 : decode cX1_init 5 = .ok (.bipush 68, 2) := by decide +kernel
theorem dX1_init_7 : decode cX1_init 7 = .ok (.newarray .int, 2) := by decide +kernel
theorem dX1_init_9 : decode cX1_init 9 = .ok (.putfield 7, 3) := by decide +kernel
theorem dX1_init_12 : decode cX1_init 12 = .ok (.aload_n 0, 1) := by decide +kernel
theorem dX1_init_13 : decode cX1_init 13 = .ok (.bipush 68, 2) := by decide +kernel
theorem dX1_init_15 : decode cX1_init 15 = .ok (.newarray .int, 2) := by decide +kernel
theorem dX1_init_17 : decode cX1_init 17 = .ok (.putfield 13, 3) := by decide +kernel
theorem dX1_init_20 : decode cX1_init 20 = .ok (.aload_n 0, 1) := by decide +kernel
theorem dX1_init_21 : decode cX1_init 21 = .ok (.bipush 68, 2) := by decide +kernel
theorem dX1_init_23 : decode cX1_init 23 = .ok (.newarray .int, 2) := by decide +kernel
theorem dX1_init_25 : decode cX1_init 25 = .ok (.putfield 16, 3) := by decide +kernel
theorem dX1_init_28 : decode cX1_init 28 = .ok (.aload_n 0, 1) := by decide +kernel
theorem dX1_init_29 : decode cX1_init 29 = .ok (.bipush 68, 2) := by decide +kernel
theorem dX1_init_31 : decode cX1_init 31 = .ok (.newarray .int, 2) := by decide +kernel
theorem dX1_init_33 : decode cX1_init 33 = .ok (.putfield 19, 3) := by decide +kernel
theorem dX1_init_36 : decode cX1_init 36 = .ok (.aload_n 0, 1) := by decide +kernel
theorem dX1_init_37 : decode cX1_init 37 = .ok (.bipush 68, 2) := by decide +kernel
theorem dX1_init_39 : decode cX1_init 39 = .ok (.newarray .int, 2) := by decide +kernel
theorem dX1_init_41 : decode cX1_init 41 = .ok (.putfield 22, 3) := by decide +kernel
theorem dX1_init_44 : decode cX1_init 44 = .ok (.aload_n 0, 1) := by decide +kernel
theorem dX1_init_45 : decode cX1_init 45 = .ok (.bipush 68, 2) := by decide +kernel
theorem dX1_init_47 : decode cX1_init 47 = .ok (.newarray .int, 2) := by decide +kernel
theorem dX1_init_49 : decode cX1_init 49 = .ok (.putfield 25, 3) := by decide +kernel
theorem dX1_init_52 : decode cX1_init 52 = .ok (.iload_n 1, 1) := by decide +kernel
theorem dX1_init_53 : decode cX1_init 53 = .ok (.bipush 62, 2) := by decide +kernel
theorem dX1_init_55 : decode cX1_init 55 = .ok (.irem, 1) := by decide +kernel
theorem dX1_init_56 : decode cX1_init 56 = .ok (.istore_n 2, 1) := by decide +kernel
theorem dX1_init_57 : decode cX1_init 57 = .ok (.aload_n 0, 1) := by decide +kernel
theorem dX1_init_58 : decode cX1_init 58 = .ok (.iconst 3, 1) := by decide +kernel
theorem dX1_init_59 : decode cX1_init 59 = .ok (.iload_n 2, 1) := by decide +kernel
theorem dX1_init_60 : decode cX1_init 60 = .ok (.ifCond .ge 10, 3) := by decide +kernel
theorem dX1_init_63 : decode cX1_init 63 = .ok (.iload_n 2, 1) := by decide +kernel
theorem dX1_init_64 : decode cX1_init 64 = .ok (.bipush 62, 2) := by decide +kernel
theorem dX1_init_66 : decode cX1_init 66 = .ok (.iadd, 1) := by decide +kernel
theorem dX1_init_67 : decode cX1_init 67 = .ok (.goto 4, 3) := by decide +kernel
theorem dX1_init_70 : decode cX1_init 70 = .ok (.iload_n 2, 1) := by decide +kernel
theorem dX1_init_71 : decode cX1_init 71 = .ok (.iadd, 1) := by decide +kernel
theorem dX1_init_72 : decode cX1_init 72 = .ok (.putfield 28, 3) := by decide +kernel
theorem dX1_init_75 : decode cX1_init 75 = .ok (.return_, 1) := by decide +kernel
abbrev cX1_inside : ByteArray := prog_1_method_6_code
def yX1_inside : MethodName := ⟨RX1, "inside", "(II)I"⟩
theorem dX1_inside_0 : decode cX1_inside 0 = .ok (.iload_n 1, 1) := by decide +kernel
theorem dX1_inside_1 : decode cX1_inside 1 = .ok (.iload_n 2, 1) := by decide +kernel
theorem dX1_inside_2 : decode cX1_inside 2 = .ok (.invokestatic 40, 3) := by decide +kernel
theorem dX1_inside_5 : decode cX1_inside 5 = .ok (.ifCond .eq 10, 3) := by decide +kernel
theorem dX1_inside_8 : decode cX1_inside 8 = .ok (.aload_n 0, 1) := by decide +kernel
theorem dX1_inside_9 : decode cX1_inside 9 = .ok (.getfield 44, 3) := by decide +kernel
theorem dX1_inside_12 : decode cX1_inside 12 = .ok (.ifCond .ne 5, 3) := by decide +kernel
theorem dX1_inside_15 : decode cX1_inside 15 = .ok (.iconst 0, 1) := by decide +kernel
theorem dX1_inside_16 : decode cX1_inside 16 = .ok (.ireturn, 1) := by decide +kernel
theorem dX1_inside_17 : decode cX1_inside 17 = .ok (.aload_n 0, 1) := by decide +kernel
theorem dX1_inside_18 : decode cX1_inside 18 = .ok (.getfield 7, 3) := by decide +kernel
theorem dX1_inside_21 : decode cX1_inside 21 = .ok (.aload_n 0, 1) := by decide +kernel
theorem dX1_inside_22 : decode cX1_inside 22 = .ok (.getfield 13, 3) := by decide +kernel
theorem dX1_inside_25 : decode cX1_inside 25 = .ok (.aload_n 0, 1) := by decide +kernel
theorem dX1_inside_26 : decode cX1_inside 26 = .ok (.getfield 44, 3) := by decide +kernel
theorem dX1_inside_29 : decode cX1_inside 29 = .ok (.iload_n 1, 1) := by decide +kernel
theorem dX1_inside_30 : decode cX1_inside 30 = .ok (.iload_n 2, 1) := by decide +kernel
theorem dX1_inside_31 : decode cX1_inside 31 = .ok (.iconst 1, 1) := by decide +kernel
theorem dX1_inside_32 : decode cX1_inside 32 = .ok (.invokestatic 47, 3) := by decide +kernel
theorem dX1_inside_35 : decode cX1_inside 35 = .ok (.istore_n 3, 1) := by decide +kernel
theorem dX1_inside_36 : decode cX1_inside 36 = .ok (.aload_n 0, 1) := by decide +kernel
theorem dX1_inside_37 : decode cX1_inside 37 = .ok (.getfield 16, 3) := by decide +kernel
theorem dX1_inside_40 : decode cX1_inside 40 = .ok (.aload_n 0, 1) := by decide +kernel
theorem dX1_inside_41 : decode cX1_inside 41 = .ok (.getfield 19, 3) := by decide +kernel
theorem dX1_inside_44 : decode cX1_inside 44 = .ok (.aload_n 0, 1) := by decide +kernel
theorem dX1_inside_45 : decode cX1_inside 45 = .ok (.getfield 51, 3) := by decide +kernel
theorem dX1_inside_48 : decode cX1_inside 48 = .ok (.iload_n 1, 1) := by decide +kernel
theorem dX1_inside_49 : decode cX1_inside 49 = .ok (.iload_n 2, 1) := by decide +kernel
theorem dX1_inside_50 : decode cX1_inside 50 = .ok (.iconst (-1), 1) := by decide +kernel
theorem dX1_inside_51 : decode cX1_inside 51 = .ok (.invokestatic 47, 3) := by decide +kernel
theorem dX1_inside_54 : decode cX1_inside 54 = .ok (.istore 4, 2) := by decide +kernel
theorem dX1_inside_56 : decode cX1_inside 56 = .ok (.iload_n 3, 1) := by decide +kernel
theorem dX1_inside_57 : decode cX1_inside 57 = .ok (.ifCond .lt 8, 3) := by decide +kernel
theorem dX1_inside_60 : decode cX1_inside 60 = .ok (.iload 4, 2) := by decide +kernel
theorem dX1_inside_62 : decode cX1_inside 62 = .ok (.ifCond .ge 7, 3) := by decide +kernel
theorem dX1_inside_65 : decode cX1_inside 65 = .ok (.iconst 0, 1) := by decide +kernel
theorem dX1_inside_66 : decode cX1_inside 66 = .ok (.goto 17, 3) := by decide +kernel
theorem dX1_inside_69 : decode cX1_inside 69 = .ok (.iload_n 3, 1) := by decide +kernel
theorem dX1_inside_70 : decode cX1_inside 70 = .ok (.ifCond .le 12, 3) := by decide +kernel
theorem dX1_inside_73 : decode cX1_inside 73 = .ok (.iload 4, 2) := by decide +kernel
theorem dX1_inside_75 : decode cX1_inside 75 = .ok (.ifCond .le 7, 3) := by decide +kernel
theorem dX1_inside_78 : decode cX1_inside 78 = .ok (.iconst 2, 1) := by decide +kernel
theorem dX1_inside_79 : decode cX1_inside 79 = .ok (.goto 4, 3) := by decide +kernel
theorem dX1_inside_82 : decode cX1_inside 82 = .ok (.iconst 1, 1) := by decide +kernel
theorem dX1_inside_83 : decode cX1_inside 83 = .ok (.ireturn, 1) := by decide +kernel
abbrev cX1_isPoint : ByteArray := prog_1_method_2_code
def yX1_isPoint : MethodName := ⟨RX1, "isPoint", "(II)Z"⟩
theorem dX1_isPoint_0 : decode cX1_isPoint 0 = .ok (.iload_n 0, 1) := by decide +kernel
theorem dX1_isPoint_1 : decode cX1_isPoint 1 = .ok (.sipush (-16383), 3) := by decide +kernel
theorem dX1_isPoint_4 : decode cX1_isPoint 4 = .ok (.if_icmp .lt 28, 3) := by decide +kernel
theorem dX1_isPoint_7 : decode cX1_isPoint 7 = .ok (.iload_n 0, 1) := by decide +kernel
theorem dX1_isPoint_8 : decode cX1_isPoint 8 = .ok (.sipush 16383, 3) := by decide +kernel
theorem dX1_isPoint_11 : decode cX1_isPoint 11 = .ok (.if_icmp .gt 21, 3) := by decide +kernel
theorem dX1_isPoint_14 : decode cX1_isPoint 14 = .ok (.iload_n 1, 1) := by decide +kernel
theorem dX1_isPoint_15 : decode cX1_isPoint 15 = .ok (.sipush (-16383), 3) := by decide +kernel
theorem dX1_isPoint_18 : decode cX1_isPoint 18 = .ok (.if_icmp .lt 14, 3) := by decide +kernel
theorem dX1_isPoint_21 : decode cX1_isPoint 21 = .ok (.iload_n 1, 1) := by decide +kernel
theorem dX1_isPoint_22 : decode cX1_isPoint 22 = .ok (.sipush 16383, 3) := by decide +kernel
theorem dX1_isPoint_25 : decode cX1_isPoint 25 = .ok (.if_icmp .gt 7, 3) := by decide +kernel
theorem dX1_isPoint_28 : decode cX1_isPoint 28 = .ok (.iconst 1, 1) := by decide +kernel
theorem dX1_isPoint_29 : decode cX1_isPoint 29 = .ok (.goto 4, 3) := by decide +kernel
theorem dX1_isPoint_32 : decode cX1_isPoint 32 = .ok (.iconst 0, 1) := by decide +kernel
theorem dX1_isPoint_33 : decode cX1_isPoint 33 = .ok (.ireturn, 1) := by decide +kernel
abbrev cX1_side : ByteArray := prog_1_method_5_code
def yX1_side : MethodName := ⟨RX1, "side", "([I[IIIII)I"⟩
theorem dX1_side_0 : decode cX1_side 0 = .ok (.aload_n 0, 1) := by decide +kernel
theorem dX1_side_1 : decode cX1_side 1 = .ok (.aload_n 1, 1) := by decide +kernel
theorem dX1_side_2 : decode cX1_side 2 = .ok (.iload_n 2, 1) := by decide +kernel
theorem dX1_side_3 : decode cX1_side 3 = .ok (.iload_n 3, 1) := by decide +kernel
theorem dX1_side_4 : decode cX1_side 4 = .ok (.iload 4, 2) := by decide +kernel
theorem dX1_side_6 : decode cX1_side 6 = .ok (.invokestatic 32, 3) := by decide +kernel
theorem dX1_side_9 : decode cX1_side 9 = .ok (.istore 6, 2) := by decide +kernel
theorem dX1_side_11 : decode cX1_side 11 = .ok (.iload 6, 2) := by decide +kernel
theorem dX1_side_13 : decode cX1_side 13 = .ok (.iload_n 2, 1) := by decide +kernel
theorem dX1_side_14 : decode cX1_side 14 = .ok (.if_icmp .ge 22, 3) := by decide +kernel
theorem dX1_side_17 : decode cX1_side 17 = .ok (.aload_n 0, 1) := by decide +kernel
theorem dX1_side_18 : decode cX1_side 18 = .ok (.iload 6, 2) := by decide +kernel
theorem dX1_side_20 : decode cX1_side 20 = .ok (.iaload, 1) := by decide +kernel
theorem dX1_side_21 : decode cX1_side 21 = .ok (.iload_n 3, 1) := by decide +kernel
theorem dX1_side_22 : decode cX1_side 22 = .ok (.if_icmp .ne 14, 3) := by decide +kernel
theorem dX1_side_25 : decode cX1_side 25 = .ok (.aload_n 1, 1) := by decide +kernel
theorem dX1_side_26 : decode cX1_side 26 = .ok (.iload 6, 2) := by decide +kernel
theorem dX1_side_28 : decode cX1_side 28 = .ok (.iaload, 1) := by decide +kernel
theorem dX1_side_29 : decode cX1_side 29 = .ok (.iload 4, 2) := by decide +kernel
theorem dX1_side_31 : decode cX1_side 31 = .ok (.if_icmp .ne 5, 3) := by decide +kernel
theorem dX1_side_34 : decode cX1_side 34 = .ok (.iconst 0, 1) := by decide +kernel
theorem dX1_side_35 : decode cX1_side 35 = .ok (.ireturn, 1) := by decide +kernel
theorem dX1_side_36 : decode cX1_side 36 = .ok (.iload 6, 2) := by decide +kernel
theorem dX1_side_38 : decode cX1_side 38 = .ok (.ifCond .eq 9, 3) := by decide +kernel
theorem dX1_side_41 : decode cX1_side 41 = .ok (.iload 6, 2) := by decide +kernel
theorem dX1_side_43 : decode cX1_side 43 = .ok (.iload_n 2, 1) := by decide +kernel
theorem dX1_side_44 : decode cX1_side 44 = .ok (.if_icmp .ne 5, 3) := by decide +kernel
theorem dX1_side_47 : decode cX1_side 47 = .ok (.iconst (-1), 1) := by decide +kernel
theorem dX1_side_48 : decode cX1_side 48 = .ok (.ireturn, 1) := by decide +kernel
theorem dX1_side_49 : decode cX1_side 49 = .ok (.iload 5, 2) := by decide +kernel
theorem dX1_side_51 : decode cX1_side 51 = .ok (.i2l, 1) := by decide +kernel
theorem dX1_side_52 : decode cX1_side 52 = .ok (.aload_n 0, 1) := by decide +kernel
theorem dX1_side_53 : decode cX1_side 53 = .ok (.iload 6, 2) := by decide +kernel
theorem dX1_side_55 : decode cX1_side 55 = .ok (.iconst 1, 1) := by decide +kernel
theorem dX1_side_56 : decode cX1_side 56 = .ok (.isub, 1) := by decide +kernel
theorem dX1_side_57 : decode cX1_side 57 = .ok (.iaload, 1) := by decide +kernel
theorem dX1_side_58 : decode cX1_side 58 = .ok (.aload_n 1, 1) := by decide +kernel
theorem dX1_side_59 : decode cX1_side 59 = .ok (.iload 6, 2) := by decide +kernel
theorem dX1_side_61 : decode cX1_side 61 = .ok (.iconst 1, 1) := by decide +kernel
theorem dX1_side_62 : decode cX1_side 62 = .ok (.isub, 1) := by decide +kernel
theorem dX1_side_63 : decode cX1_side 63 = .ok (.iaload, 1) := by decide +kernel
theorem dX1_side_64 : decode cX1_side 64 = .ok (.aload_n 0, 1) := by decide +kernel
theorem dX1_side_65 : decode cX1_side 65 = .ok (.iload 6, 2) := by decide +kernel
theorem dX1_side_67 : decode cX1_side 67 = .ok (.iaload, 1) := by decide +kernel
theorem dX1_side_68 : decode cX1_side 68 = .ok (.aload_n 1, 1) := by decide +kernel
theorem dX1_side_69 : decode cX1_side 69 = .ok (.iload 6, 2) := by decide +kernel
theorem dX1_side_71 : decode cX1_side 71 = .ok (.iaload, 1) := by decide +kernel
theorem dX1_side_72 : decode cX1_side 72 = .ok (.iload_n 3, 1) := by decide +kernel
theorem dX1_side_73 : decode cX1_side 73 = .ok (.iload 4, 2) := by decide +kernel
theorem dX1_side_75 : decode cX1_side 75 = .ok (.invokestatic 36, 3) := by decide +kernel
theorem dX1_side_78 : decode cX1_side 78 = .ok (.lmul, 1) := by decide +kernel
theorem dX1_side_79 : decode cX1_side 79 = .ok (.lstore 7, 2) := by decide +kernel
theorem dX1_side_81 : decode cX1_side 81 = .ok (.lload 7, 2) := by decide +kernel
theorem dX1_side_83 : decode cX1_side 83 = .ok (.lconst 0, 1) := by decide +kernel
theorem dX1_side_84 : decode cX1_side 84 = .ok (.lcmp, 1) := by decide +kernel
theorem dX1_side_85 : decode cX1_side 85 = .ok (.ifCond .le 7, 3) := by decide +kernel
theorem dX1_side_88 : decode cX1_side 88 = .ok (.iconst 1, 1) := by decide +kernel
theorem dX1_side_89 : decode cX1_side 89 = .ok (.goto 15, 3) := by decide +kernel
theorem dX1_side_92 : decode cX1_side 92 = .ok (.lload 7, 2) := by decide +kernel
theorem dX1_side_94 : decode cX1_side 94 = .ok (.lconst 0, 1) := by decide +kernel
theorem dX1_side_95 : decode cX1_side 95 = .ok (.lcmp, 1) := by decide +kernel
theorem dX1_side_96 : decode cX1_side 96 = .ok (.ifCond .ge 7, 3) := by decide +kernel
theorem dX1_side_99 : decode cX1_side 99 = .ok (.iconst (-1), 1) := by decide +kernel
theorem dX1_side_100 : decode cX1_side 100 = .ok (.goto 4, 3) := by decide +kernel
theorem dX1_side_103 : decode cX1_side 103 = .ok (.iconst 0, 1) := by decide +kernel
theorem dX1_side_104 : decode cX1_side 104 = .ok (.ireturn, 1) := by decide +kernel
abbrev cX1_place : ByteArray := prog_1_method_4_code
def yX1_place : MethodName := ⟨RX1, "place", "([I[IIII)I"⟩
theorem dX1_place_0 : decode cX1_place 0 = .ok (.iconst 0, 1) := by decide +kernel
theorem dX1_place_1 : decode cX1_place 1 = .ok (.istore 5, 2) := by decide +kernel
theorem dX1_place_3 : decode cX1_place 3 = .ok (.iload_n 2, 1) := by decide +kernel
theorem dX1_place_4 : decode cX1_place 4 = .ok (.istore 6, 2) := by decide +kernel
theorem dX1_place_6 : decode cX1_place 6 = .ok (.iload 5, 2) := by decide +kernel
theorem dX1_place_8 : decode cX1_place 8 = .ok (.iload 6, 2) := by decide +kernel
theorem dX1_place_10 : decode cX1_place 10 = .ok (.if_icmp .ge 53, 3) := by decide +kernel
theorem dX1_place_13 : decode cX1_place 13 = .ok (.iload 5, 2) := by decide +kernel
theorem dX1_place_15 : decode cX1_place 15 = .ok (.iload 6, 2) := by decide +kernel
theorem dX1_place_17 : decode cX1_place 17 = .ok (.iadd, 1) := by decide +kernel
theorem dX1_place_18 : decode cX1_place 18 = .ok (.iconst 1, 1) := by decide +kernel
theorem dX1_place_19 : decode cX1_place 19 = .ok (.iushr, 1) := by decide +kernel
theorem dX1_place_20 : decode cX1_place 20 = .ok (.istore 7, 2) := by decide +kernel
theorem dX1_place_22 : decode cX1_place 22 = .ok (.aload_n 0, 1) := by decide +kernel
theorem dX1_place_23 : decode cX1_place 23 = .ok (.iload 7, 2) := by decide +kernel
theorem dX1_place_25 : decode cX1_place 25 = .ok (.iaload, 1) := by decide +kernel
theorem dX1_place_26 : decode cX1_place 26 = .ok (.iload_n 3, 1) := by decide +kernel
theorem dX1_place_27 : decode cX1_place 27 = .ok (.if_icmp .lt 20, 3) := by decide +kernel
theorem dX1_place_30 : decode cX1_place 30 = .ok (.aload_n 0, 1) := by decide +kernel
theorem dX1_place_31 : decode cX1_place 31 = .ok (.iload 7, 2) := by decide +kernel
theorem dX1_place_33 : decode cX1_place 33 = .ok (.iaload, 1) := by decide +kernel
theorem dX1_place_34 : decode cX1_place 34 = .ok (.iload_n 3, 1) := by decide +kernel
theorem dX1_place_35 : decode cX1_place 35 = .ok (.if_icmp .ne 21, 3) := by decide +kernel
theorem dX1_place_38 : decode cX1_place 38 = .ok (.aload_n 1, 1) := by decide +kernel
theorem dX1_place_39 : decode cX1_place 39 = .ok (.iload 7, 2) := by decide +kernel
theorem dX1_place_41 : decode cX1_place 41 = .ok (.iaload, 1) := by decide +kernel
theorem dX1_place_42 : decode cX1_place 42 = .ok (.iload 4, 2) := by decide +kernel
theorem dX1_place_44 : decode cX1_place 44 = .ok (.if_icmp .ge 12, 3) := by decide +kernel
theorem dX1_place_47 : decode cX1_place 47 = .ok (.iload 7, 2) := by decide +kernel
theorem dX1_place_49 : decode cX1_place 49 = .ok (.iconst 1, 1) := by decide +kernel
theorem dX1_place_50 : decode cX1_place 50 = .ok (.iadd, 1) := by decide +kernel
theorem dX1_place_51 : decode cX1_place 51 = .ok (.istore 5, 2) := by decide +kernel
theorem dX1_place_53 : decode cX1_place 53 = .ok (.goto 7, 3) := by decide +kernel
theorem dX1_place_56 : decode cX1_place 56 = .ok (.iload 7, 2) := by decide +kernel
theorem dX1_place_58 : decode cX1_place 58 = .ok (.istore 6, 2) := by decide +kernel
theorem dX1_place_60 : decode cX1_place 60 = .ok (.goto (-54), 3) := by decide +kernel
theorem dX1_place_63 : decode cX1_place 63 = .ok (.iload 5, 2) := by decide +kernel
theorem dX1_place_65 : decode cX1_place 65 = .ok (.ireturn, 1) := by decide +kernel
abbrev cX1_turn : ByteArray := prog_1_method_3_code
def yX1_turn : MethodName := ⟨RX1, "turn", "(IIIIII)J"⟩
theorem dX1_turn_0 : decode cX1_turn 0 = .ok (.iload_n 2, 1) := by decide +kernel
theorem dX1_turn_1 : decode cX1_turn 1 = .ok (.iload_n 0, 1) := by decide +kernel
theorem dX1_turn_2 : decode cX1_turn 2 = .ok (.isub, 1) := by decide +kernel
theorem dX1_turn_3 : decode cX1_turn 3 = .ok (.i2l, 1) := by decide +kernel
theorem dX1_turn_4 : decode cX1_turn 4 = .ok (.iload 5, 2) := by decide +kernel
theorem dX1_turn_6 : decode cX1_turn 6 = .ok (.iload_n 1, 1) := by decide +kernel
theorem dX1_turn_7 : decode cX1_turn 7 = .ok (.isub, 1) := by decide +kernel
theorem dX1_turn_8 : decode cX1_turn 8 = .ok (.i2l, 1) := by decide +kernel
theorem dX1_turn_9 : decode cX1_turn 9 = .ok (.lmul, 1) := by decide +kernel
theorem dX1_turn_10 : decode cX1_turn 10 = .ok (.iload_n 3, 1) := by decide +kernel
theorem dX1_turn_11 : decode cX1_turn 11 = .ok (.iload_n 1, 1) := by decide +kernel
theorem dX1_turn_12 : decode cX1_turn 12 = .ok (.isub, 1) := by decide +kernel
theorem dX1_turn_13 : decode cX1_turn 13 = .ok (.i2l, 1) := by decide +kernel
theorem dX1_turn_14 : decode cX1_turn 14 = .ok (.iload 4, 2) := by decide +kernel
theorem dX1_turn_16 : decode cX1_turn 16 = .ok (.iload_n 0, 1) := by decide +kernel
theorem dX1_turn_17 : decode cX1_turn 17 = .ok (.isub, 1) := by decide +kernel
theorem dX1_turn_18 : decode cX1_turn 18 = .ok (.i2l, 1) := by decide +kernel
theorem dX1_turn_19 : decode cX1_turn 19 = .ok (.lmul, 1) := by decide +kernel
theorem dX1_turn_20 : decode cX1_turn 20 = .ok (.lsub, 1) := by decide +kernel
theorem dX1_turn_21 : decode cX1_turn 21 = .ok (.lreturn, 1) := by decide +kernel
abbrev cX1_add : ByteArray := prog_1_method_10_code
def yX1_add : MethodName := ⟨RX1, "add", "(II)I"⟩
theorem dX1_add_0 : decode cX1_add 0 = .ok (.iload_n 1, 1) := by decide +kernel
theorem dX1_add_1 : decode cX1_add 1 = .ok (.iload_n 2, 1) := by decide +kernel
theorem dX1_add_2 : decode cX1_add 2 = .ok (.invokestatic 40, 3) := by decide +kernel
theorem dX1_add_5 : decode cX1_add 5 = .ok (.ifCond .ne 5, 3) := by decide +kernel
theorem dX1_add_8 : decode cX1_add 8 = .ok (.iconst (-1), 1) := by decide +kernel
theorem dX1_add_9 : decode cX1_add 9 = .ok (.ireturn, 1) := by decide +kernel
theorem dX1_add_10 : decode cX1_add 10 = .ok (.aload_n 0, 1) := by decide +kernel
theorem dX1_add_11 : decode cX1_add 11 = .ok (.getfield 44, 3) := by decide +kernel
theorem dX1_add_14 : decode cX1_add 14 = .ok (.ifCond .le 24, 3) := by decide +kernel
theorem dX1_add_17 : decode cX1_add 17 = .ok (.aload_n 0, 1) := by decide +kernel
theorem dX1_add_18 : decode cX1_add 18 = .ok (.iload_n 1, 1) := by decide +kernel
theorem dX1_add_19 : decode cX1_add 19 = .ok (.iload_n 2, 1) := by decide +kernel
theorem dX1_add_20 : decode cX1_add 20 = .ok (.invokevirtual 61, 3) := by decide +kernel
theorem dX1_add_23 : decode cX1_add 23 = .ok (.ifCond .le 15, 3) := by decide +kernel
theorem dX1_add_26 : decode cX1_add 26 = .ok (.aload_n 0, 1) := by decide +kernel
theorem dX1_add_27 : decode cX1_add 27 = .ok (.dup, 1) := by decide +kernel
theorem dX1_add_28 : decode cX1_add 28 = .ok (.getfield 65, 3) := by decide +kernel
theorem dX1_add_31 : decode cX1_add 31 = .ok (.iconst 1, 1) := by decide +kernel
theorem dX1_add_32 : decode cX1_add 32 = .ok (.iadd, 1) := by decide +kernel
theorem dX1_add_33 : decode cX1_add 33 = .ok (.putfield 65, 3) := by decide +kernel
theorem dX1_add_36 : decode cX1_add 36 = .ok (.iconst 0, 1) := by decide +kernel
theorem dX1_add_37 : decode cX1_add 37 = .ok (.ireturn, 1) := by decide +kernel
theorem dX1_add_38 : decode cX1_add 38 = .ok (.aload_n 0, 1) := by decide +kernel
theorem dX1_add_39 : decode cX1_add 39 = .ok (.aload_n 0, 1) := by decide +kernel
theorem dX1_add_40 : decode cX1_add 40 = .ok (.getfield 7, 3) := by decide +kernel
theorem dX1_add_43 : decode cX1_add 43 = .ok (.aload_n 0, 1) := by decide +kernel
theorem dX1_add_44 : decode cX1_add 44 = .ok (.getfield 13, 3) := by decide +kernel
theorem dX1_add_47 : decode cX1_add 47 = .ok (.aload_n 0, 1) := by decide +kernel
theorem dX1_add_48 : decode cX1_add 48 = .ok (.getfield 44, 3) := by decide +kernel
theorem dX1_add_51 : decode cX1_add 51 = .ok (.iload_n 1, 1) := by decide +kernel
theorem dX1_add_52 : decode cX1_add 52 = .ok (.iload_n 2, 1) := by decide +kernel
theorem dX1_add_53 : decode cX1_add 53 = .ok (.iconst 1, 1) := by decide +kernel
theorem dX1_add_54 : decode cX1_add 54 = .ok (.invokevirtual 68, 3) := by decide +kernel
theorem dX1_add_57 : decode cX1_add 57 = .ok (.istore_n 3, 1) := by decide +kernel
theorem dX1_add_58 : decode cX1_add 58 = .ok (.aload_n 0, 1) := by decide +kernel
theorem dX1_add_59 : decode cX1_add 59 = .ok (.aload_n 0, 1) := by decide +kernel
theorem dX1_add_60 : decode cX1_add 60 = .ok (.getfield 16, 3) := by decide +kernel
theorem dX1_add_63 : decode cX1_add 63 = .ok (.aload_n 0, 1) := by decide +kernel
theorem dX1_add_64 : decode cX1_add 64 = .ok (.getfield 19, 3) := by decide +kernel
theorem dX1_add_67 : decode cX1_add 67 = .ok (.aload_n 0, 1) := by decide +kernel
theorem dX1_add_68 : decode cX1_add 68 = .ok (.getfield 51, 3) := by decide +kernel
theorem dX1_add_71 : decode cX1_add 71 = .ok (.iload_n 1, 1) := by decide +kernel
theorem dX1_add_72 : decode cX1_add 72 = .ok (.iload_n 2, 1) := by decide +kernel
theorem dX1_add_73 : decode cX1_add 73 = .ok (.iconst (-1), 1) := by decide +kernel
theorem dX1_add_74 : decode cX1_add 74 = .ok (.invokevirtual 68, 3) := by decide +kernel
theorem dX1_add_77 : decode cX1_add 77 = .ok (.istore 4, 2) := by decide +kernel
theorem dX1_add_79 : decode cX1_add 79 = .ok (.aload_n 0, 1) := by decide +kernel
theorem dX1_add_80 : decode cX1_add 80 = .ok (.invokevirtual 72, 3) := by decide +kernel
theorem dX1_add_83 : decode cX1_add 83 = .ok (.istore 5, 2) := by decide +kernel
theorem dX1_add_85 : decode cX1_add 85 = .ok (.aload_n 0, 1) := by decide +kernel
theorem dX1_add_86 : decode cX1_add 86 = .ok (.getfield 44, 3) := by decide +kernel
theorem dX1_add_89 : decode cX1_add 89 = .ok (.istore 6, 2) := by decide +kernel
theorem dX1_add_91 : decode cX1_add 91 = .ok (.aload_n 0, 1) := by decide +kernel
theorem dX1_add_92 : decode cX1_add 92 = .ok (.getfield 51, 3) := by decide +kernel
theorem dX1_add_95 : decode cX1_add 95 = .ok (.istore 7, 2) := by decide +kernel
theorem dX1_add_97 : decode cX1_add 97 = .ok (.iload_n 3, 1) := by decide +kernel
theorem dX1_add_98 : decode cX1_add 98 = .ok (.ifCond .eq 28, 3) := by decide +kernel
theorem dX1_add_101 : decode cX1_add 101 = .ok (.aload_n 0, 1) := by decide +kernel
theorem dX1_add_102 : decode cX1_add 102 = .ok (.aload_n 0, 1) := by decide +kernel
theorem dX1_add_103 : decode cX1_add 103 = .ok (.getfield 7, 3) := by decide +kernel
theorem dX1_add_106 : decode cX1_add 106 = .ok (.aload_n 0, 1) := by decide +kernel
theorem dX1_add_107 : decode cX1_add 107 = .ok (.getfield 13, 3) := by decide +kernel
theorem dX1_add_110 : decode cX1_add 110 = .ok (.aload_n 0, 1) := by decide +kernel
theorem dX1_add_111 : decode cX1_add 111 = .ok (.getfield 44, 3) := by decide +kernel
theorem dX1_add_114 : decode cX1_add 114 = .ok (.iload_n 1, 1) := by decide +kernel
theorem dX1_add_115 : decode cX1_add 115 = .ok (.iload_n 2, 1) := by decide +kernel
theorem dX1_add_116 : decode cX1_add 116 = .ok (.iconst 1, 1) := by decide +kernel
theorem dX1_add_117 : decode cX1_add 117 = .ok (.invokevirtual 76, 3) := by decide +kernel
theorem dX1_add_120 : decode cX1_add 120 = .ok (.aload_n 0, 1) := by decide +kernel
theorem dX1_add_121 : decode cX1_add 121 = .ok (.getfield 54, 3) := by decide +kernel
theorem dX1_add_124 : decode cX1_add 124 = .ok (.istore 6, 2) := by decide +kernel
theorem dX1_add_126 : decode cX1_add 126 = .ok (.iload 4, 2) := by decide +kernel
theorem dX1_add_128 : decode cX1_add 128 = .ok (.ifCond .eq 28, 3) := by decide +kernel
theorem dX1_add_131 : decode cX1_add 131 = .ok (.aload_n 0, 1) := by decide +kernel
theorem dX1_add_132 : decode cX1_add 132 = .ok (.aload_n 0, 1) := by decide +kernel
theorem dX1_add_133 : decode cX1_add 133 = .ok (.getfield 16, 3) := by decide +kernel
theorem dX1_add_136 : decode cX1_add 136 = .ok (.aload_n 0, 1) := by decide +kernel
theorem dX1_add_137 : decode cX1_add 137 = .ok (.getfield 19, 3) := by decide +kernel
theorem dX1_add_140 : decode cX1_add 140 = .ok (.aload_n 0, 1) := by decide +kernel
theorem dX1_add_141 : decode cX1_add 141 = .ok (.getfield 51, 3) := by decide +kernel
theorem dX1_add_144 : decode cX1_add 144 = .ok (.iload_n 1, 1) := by decide +kernel
theorem dX1_add_145 : decode cX1_add 145 = .ok (.iload_n 2, 1) := by decide +kernel
theorem dX1_add_146 : decode cX1_add 146 = .ok (.iconst (-1), 1) := by decide +kernel
theorem dX1_add_147 : decode cX1_add 147 = .ok (.invokevirtual 76, 3) := by decide +kernel
theorem dX1_add_150 : decode cX1_add 150 = .ok (.aload_n 0, 1) := by decide +kernel
theorem dX1_add_151 : decode cX1_add 151 = .ok (.getfield 54, 3) := by decide +kernel
theorem dX1_add_154 : decode cX1_add 154 = .ok (.istore 7, 2) := by decide +kernel
theorem dX1_add_156 : decode cX1_add 156 = .ok (.iload 6, 2) := by decide +kernel
theorem dX1_add_158 : decode cX1_add 158 = .ok (.iconst 2, 1) := by decide +kernel
theorem dX1_add_159 : decode cX1_add 159 = .ok (.if_icmp .ge 8, 3) := by decide +kernel
theorem dX1_add_162 : decode cX1_add 162 = .ok (.iload 6, 2) := by decide +kernel
theorem dX1_add_164 : decode cX1_add 164 = .ok (.goto 10, 3) := by decide +kernel
theorem dX1_add_167 : decode cX1_add 167 = .ok (.iload 6, 2) := by decide +kernel
theorem dX1_add_169 : decode cX1_add 169 = .ok (.iload 7, 2) := by decide +kernel
theorem dX1_add_171 : decode cX1_add 171 = .ok (.iadd, 1) := by decide +kernel
theorem dX1_add_172 : decode cX1_add 172 = .ok (.iconst 2, 1) := by decide +kernel
theorem dX1_add_173 : decode cX1_add 173 = .ok (.isub, 1) := by decide +kernel
theorem dX1_add_174 : decode cX1_add 174 = .ok (.istore 8, 2) := by decide +kernel
theorem dX1_add_176 : decode cX1_add 176 = .ok (.iload 8, 2) := by decide +kernel
theorem dX1_add_178 : decode cX1_add 178 = .ok (.aload_n 0, 1) := by decide +kernel
theorem dX1_add_179 : decode cX1_add 179 = .ok (.getfield 28, 3) := by decide +kernel
theorem dX1_add_182 : decode cX1_add 182 = .ok (.if_icmp .le 6, 3) := by decide +kernel
theorem dX1_add_185 : decode cX1_add 185 = .ok (.bipush (-2), 2) := by decide +kernel
theorem dX1_add_187 : decode cX1_add 187 = .ok (.ireturn, 1) := by decide +kernel
theorem dX1_add_188 : decode cX1_add 188 = .ok (.iload 4, 2) := by decide +kernel
theorem dX1_add_190 : decode cX1_add 190 = .ok (.ifCond .eq 15, 3) := by decide +kernel
theorem dX1_add_193 : decode cX1_add 193 = .ok (.aload_n 0, 1) := by decide +kernel
theorem dX1_add_194 : decode cX1_add 194 = .ok (.aload_n 0, 1) := by decide +kernel
theorem dX1_add_195 : decode cX1_add 195 = .ok (.getfield 16, 3) := by decide +kernel
theorem dX1_add_198 : decode cX1_add 198 = .ok (.aload_n 0, 1) := by decide +kernel
theorem dX1_add_199 : decode cX1_add 199 = .ok (.getfield 19, 3) := by decide +kernel
theorem dX1_add_202 : decode cX1_add 202 = .ok (.invokevirtual 80, 3) := by decide +kernel
theorem dX1_add_205 : decode cX1_add 205 = .ok (.aload_n 0, 1) := by decide +kernel
theorem dX1_add_206 : decode cX1_add 206 = .ok (.iload 7, 2) := by decide +kernel
theorem dX1_add_208 : decode cX1_add 208 = .ok (.putfield 51, 3) := by decide +kernel
theorem dX1_add_211 : decode cX1_add 211 = .ok (.iload_n 3, 1) := by decide +kernel
theorem dX1_add_212 : decode cX1_add 212 = .ok (.ifCond .eq 34, 3) := by decide +kernel
theorem dX1_add_215 : decode cX1_add 215 = .ok (.aload_n 0, 1) := by decide +kernel
theorem dX1_add_216 : decode cX1_add 216 = .ok (.aload_n 0, 1) := by decide +kernel
theorem dX1_add_217 : decode cX1_add 217 = .ok (.getfield 7, 3) := by decide +kernel
theorem dX1_add_220 : decode cX1_add 220 = .ok (.aload_n 0, 1) := by decide +kernel
theorem dX1_add_221 : decode cX1_add 221 = .ok (.getfield 13, 3) := by decide +kernel
theorem dX1_add_224 : decode cX1_add 224 = .ok (.aload_n 0, 1) := by decide +kernel
theorem dX1_add_225 : decode cX1_add 225 = .ok (.getfield 44, 3) := by decide +kernel
theorem dX1_add_228 : decode cX1_add 228 = .ok (.iload_n 1, 1) := by decide +kernel
theorem dX1_add_229 : decode cX1_add 229 = .ok (.iload_n 2, 1) := by decide +kernel
theorem dX1_add_230 : decode cX1_add 230 = .ok (.iconst 1, 1) := by decide +kernel
theorem dX1_add_231 : decode cX1_add 231 = .ok (.invokevirtual 76, 3) := by decide +kernel
theorem dX1_add_234 : decode cX1_add 234 = .ok (.aload_n 0, 1) := by decide +kernel
theorem dX1_add_235 : decode cX1_add 235 = .ok (.aload_n 0, 1) := by decide +kernel
theorem dX1_add_236 : decode cX1_add 236 = .ok (.getfield 7, 3) := by decide +kernel
theorem dX1_add_239 : decode cX1_add 239 = .ok (.aload_n 0, 1) := by decide +kernel
theorem dX1_add_240 : decode cX1_add 240 = .ok (.getfield 13, 3) := by decide +kernel
theorem dX1_add_243 : decode cX1_add 243 = .ok (.invokevirtual 80, 3) := by decide +kernel
theorem dX1_add_246 : decode cX1_add 246 = .ok (.aload_n 0, 1) := by decide +kernel
theorem dX1_add_247 : decode cX1_add 247 = .ok (.iload 6, 2) := by decide +kernel
theorem dX1_add_249 : decode cX1_add 249 = .ok (.putfield 44, 3) := by decide +kernel
theorem dX1_add_252 : decode cX1_add 252 = .ok (.aload_n 0, 1) := by decide +kernel
theorem dX1_add_253 : decode cX1_add 253 = .ok (.dup, 1) := by decide +kernel
theorem dX1_add_254 : decode cX1_add 254 = .ok (.getfield 65, 3) := by decide +kernel
theorem dX1_add_257 : decode cX1_add 257 = .ok (.iconst 1, 1) := by decide +kernel
theorem dX1_add_258 : decode cX1_add 258 = .ok (.iadd, 1) := by decide +kernel
theorem dX1_add_259 : decode cX1_add 259 = .ok (.putfield 65, 3) := by decide +kernel
theorem dX1_add_262 : decode cX1_add 262 = .ok (.iconst 2, 1) := by decide +kernel
theorem dX1_add_263 : decode cX1_add 263 = .ok (.iload 5, 2) := by decide +kernel
theorem dX1_add_265 : decode cX1_add 265 = .ok (.iadd, 1) := by decide +kernel
theorem dX1_add_266 : decode cX1_add 266 = .ok (.iload 8, 2) := by decide +kernel
theorem dX1_add_268 : decode cX1_add 268 = .ok (.isub, 1) := by decide +kernel
theorem dX1_add_269 : decode cX1_add 269 = .ok (.ireturn, 1) := by decide +kernel
abbrev cX1_isBeyond : ByteArray := prog_1_method_9_code
def yX1_isBeyond : MethodName := ⟨RX1, "isBeyond", "([I[IIIII)Z"⟩
theorem dX1_isBeyond_0 : decode cX1_isBeyond 0 = .ok (.iload_n 3, 1) := by decide +kernel
theorem dX1_isBeyond_1 : decode cX1_isBeyond 1 = .ok (.ifCond .eq 18, 3) := by decide +kernel
theorem dX1_isBeyond_4 : decode cX1_isBeyond 4 = .ok (.aload_n 1, 1) := by decide +kernel
theorem dX1_isBeyond_5 : decode cX1_isBeyond 5 = .ok (.aload_n 2, 1) := by decide +kernel
theorem dX1_isBeyond_6 : decode cX1_isBeyond 6 = .ok (.iload_n 3, 1) := by decide +kernel
theorem dX1_isBeyond_7 : decode cX1_isBeyond 7 = .ok (.iload 4, 2) := by decide +kernel
theorem dX1_isBeyond_9 : decode cX1_isBeyond 9 = .ok (.iload 5, 2) := by decide +kernel
theorem dX1_isBeyond_11 : decode cX1_isBeyond 11 = .ok (.iload 6, 2) := by decide +kernel
theorem dX1_isBeyond_13 : decode cX1_isBeyond 13 = .ok (.invokestatic 47, 3) := by decide +kernel
theorem dX1_isBeyond_16 : decode cX1_isBeyond 16 = .ok (.ifCond .ge 7, 3) := by decide +kernel
theorem dX1_isBeyond_19 : decode cX1_isBeyond 19 = .ok (.iconst 1, 1) := by decide +kernel
theorem dX1_isBeyond_20 : decode cX1_isBeyond 20 = .ok (.goto 4, 3) := by decide +kernel
theorem dX1_isBeyond_23 : decode cX1_isBeyond 23 = .ok (.iconst 0, 1) := by decide +kernel
theorem dX1_isBeyond_24 : decode cX1_isBeyond 24 = .ok (.ireturn, 1) := by decide +kernel
abbrev cX1_size : ByteArray := prog_1_method_12_code
def yX1_size : MethodName := ⟨RX1, "size", "()I"⟩
theorem dX1_size_0 : decode cX1_size 0 = .ok (.aload_n 0, 1) := by decide +kernel
theorem dX1_size_1 : decode cX1_size 1 = .ok (.getfield 44, 3) := by decide +kernel
theorem dX1_size_4 : decode cX1_size 4 = .ok (.iconst 2, 1) := by decide +kernel
theorem dX1_size_5 : decode cX1_size 5 = .ok (.if_icmp .ge 10, 3) := by decide +kernel
theorem dX1_size_8 : decode cX1_size 8 = .ok (.aload_n 0, 1) := by decide +kernel
theorem dX1_size_9 : decode cX1_size 9 = .ok (.getfield 44, 3) := by decide +kernel
theorem dX1_size_12 : decode cX1_size 12 = .ok (.goto 14, 3) := by decide +kernel
theorem dX1_size_15 : decode cX1_size 15 = .ok (.aload_n 0, 1) := by decide +kernel
theorem dX1_size_16 : decode cX1_size 16 = .ok (.getfield 44, 3) := by decide +kernel
theorem dX1_size_19 : decode cX1_size 19 = .ok (.aload_n 0, 1) := by decide +kernel
theorem dX1_size_20 : decode cX1_size 20 = .ok (.getfield 51, 3) := by decide +kernel
theorem dX1_size_23 : decode cX1_size 23 = .ok (.iadd, 1) := by decide +kernel
theorem dX1_size_24 : decode cX1_size 24 = .ok (.iconst 2, 1) := by decide +kernel
theorem dX1_size_25 : decode cX1_size 25 = .ok (.isub, 1) := by decide +kernel
theorem dX1_size_26 : decode cX1_size 26 = .ok (.ireturn, 1) := by decide +kernel
abbrev cX1_with : ByteArray := prog_1_method_7_code
def yX1_with : MethodName := ⟨RX1, "with", "([I[IIIII)V"⟩
theorem dX1_with_0 : decode cX1_with 0 = .ok (.aload_n 1, 1) := by decide +kernel
theorem dX1_with_1 : decode cX1_with 1 = .ok (.aload_n 2, 1) := by decide +kernel
theorem dX1_with_2 : decode cX1_with 2 = .ok (.iload_n 3, 1) := by decide +kernel
theorem dX1_with_3 : decode cX1_with 3 = .ok (.iload 4, 2) := by decide +kernel
theorem dX1_with_5 : decode cX1_with 5 = .ok (.iload 5, 2) := by decide +kernel
theorem dX1_with_7 : decode cX1_with 7 = .ok (.invokestatic 32, 3) := by decide +kernel
theorem dX1_with_10 : decode cX1_with 10 = .ok (.istore 7, 2) := by decide +kernel
theorem dX1_with_12 : decode cX1_with 12 = .ok (.iload 7, 2) := by decide +kernel
theorem dX1_with_14 : decode cX1_with 14 = .ok (.istore 8, 2) := by decide +kernel
theorem dX1_with_16 : decode cX1_with 16 = .ok (.iload 8, 2) := by decide +kernel
theorem dX1_with_18 : decode cX1_with 18 = .ok (.iconst 1, 1) := by decide +kernel
theorem dX1_with_19 : decode cX1_with 19 = .ok (.if_icmp .le 49, 3) := by decide +kernel
theorem dX1_with_22 : decode cX1_with 22 = .ok (.iload 6, 2) := by decide +kernel
theorem dX1_with_24 : decode cX1_with 24 = .ok (.i2l, 1) := by decide +kernel
theorem dX1_with_25 : decode cX1_with 25 = .ok (.aload_n 1, 1) := by decide +kernel
theorem dX1_with_26 : decode cX1_with 26 = .ok (.iload 8, 2) := by decide +kernel
theorem dX1_with_28 : decode cX1_with 28 = .ok (.iconst 2, 1) := by decide +kernel
theorem dX1_with_29 : decode cX1_with 29 = .ok (.isub, 1) := by decide +kernel
theorem dX1_with_30 : decode cX1_with 30 = .ok (.iaload, 1) := by decide +kernel
theorem dX1_with_31 : decode cX1_with 31 = .ok (.aload_n 2, 1) := by decide +kernel
theorem dX1_with_32 : decode cX1_with 32 = .ok (.iload 8, 2) := by decide +kernel
theorem dX1_with_34 : decode cX1_with 34 = .ok (.iconst 2, 1) := by decide +kernel
theorem dX1_with_35 : decode cX1_with 35 = .ok (.isub, 1) := by decide +kernel
theorem dX1_with_36 : decode cX1_with 36 = .ok (.iaload, 1) := by decide +kernel
theorem dX1_with_37 : decode cX1_with 37 = .ok (.aload_n 1, 1) := by decide +kernel
theorem dX1_with_38 : decode cX1_with 38 = .ok (.iload 8, 2) := by decide +kernel
theorem dX1_with_40 : decode cX1_with 40 = .ok (.iconst 1, 1) := by decide +kernel
theorem dX1_with_41 : decode cX1_with 41 = .ok (.isub, 1) := by decide +kernel
theorem dX1_with_42 : decode cX1_with 42 = .ok (.iaload, 1) := by decide +kernel
theorem dX1_with_43 : decode cX1_with 43 = .ok (.aload_n 2, 1) := by decide +kernel
theorem dX1_with_44 : decode cX1_with 44 = .ok (.iload 8, 2) := by decide +kernel
theorem dX1_with_46 : decode cX1_with 46 = .ok (.iconst 1, 1) := by decide +kernel
theorem dX1_with_47 : decode cX1_with 47 = .ok (.isub, 1) := by decide +kernel
theorem dX1_with_48 : decode cX1_with 48 = .ok (.iaload, 1) := by decide +kernel
theorem dX1_with_49 : decode cX1_with 49 = .ok (.iload 4, 2) := by decide +kernel
theorem dX1_with_51 : decode cX1_with 51 = .ok (.iload 5, 2) := by decide +kernel
theorem dX1_with_53 : decode cX1_with 53 = .ok (.invokestatic 36, 3) := by decide +kernel
theorem dX1_with_56 : decode cX1_with 56 = .ok (.lmul, 1) := by decide +kernel
theorem dX1_with_57 : decode cX1_with 57 = .ok (.lconst 0, 1) := by decide +kernel
theorem dX1_with_58 : decode cX1_with 58 = .ok (.lcmp, 1) := by decide +kernel
theorem dX1_with_59 : decode cX1_with 59 = .ok (.ifCond .gt 9, 3) := by decide +kernel
theorem dX1_with_62 : decode cX1_with 62 = .ok (.iinc 8 (-1), 3) := by decide +kernel
theorem dX1_with_65 : decode cX1_with 65 = .ok (.goto (-49), 3) := by decide +kernel
theorem dX1_with_68 : decode cX1_with 68 = .ok (.iload 7, 2) := by decide +kernel
theorem dX1_with_70 : decode cX1_with 70 = .ok (.istore 9, 2) := by decide +kernel
theorem dX1_with_72 : decode cX1_with 72 = .ok (.iload 9, 2) := by decide +kernel
theorem dX1_with_74 : decode cX1_with 74 = .ok (.iconst 1, 1) := by decide +kernel
theorem dX1_with_75 : decode cX1_with 75 = .ok (.iadd, 1) := by decide +kernel
theorem dX1_with_76 : decode cX1_with 76 = .ok (.iload_n 3, 1) := by decide +kernel
theorem dX1_with_77 : decode cX1_with 77 = .ok (.if_icmp .ge 45, 3) := by decide +kernel
theorem dX1_with_80 : decode cX1_with 80 = .ok (.iload 6, 2) := by decide +kernel
theorem dX1_with_82 : decode cX1_with 82 = .ok (.i2l, 1) := by decide +kernel
theorem dX1_with_83 : decode cX1_with 83 = .ok (.iload 4, 2) := by decide +kernel
theorem dX1_with_85 : decode cX1_with 85 = .ok (.iload 5, 2) := by decide +kernel
theorem dX1_with_87 : decode cX1_with 87 = .ok (.aload_n 1, 1) := by decide +kernel
theorem dX1_with_88 : decode cX1_with 88 = .ok (.iload 9, 2) := by decide +kernel
theorem dX1_with_90 : decode cX1_with 90 = .ok (.iaload, 1) := by decide +kernel
theorem dX1_with_91 : decode cX1_with 91 = .ok (.aload_n 2, 1) := by decide +kernel
theorem dX1_with_92 : decode cX1_with 92 = .ok (.iload 9, 2) := by decide +kernel
theorem dX1_with_94 : decode cX1_with 94 = .ok (.iaload, 1) := by decide +kernel
theorem dX1_with_95 : decode cX1_with 95 = .ok (.aload_n 1, 1) := by decide +kernel
theorem dX1_with_96 : decode cX1_with 96 = .ok (.iload 9, 2) := by decide +kernel
theorem dX1_with_98 : decode cX1_with 98 = .ok (.iconst 1, 1) := by decide +kernel
theorem dX1_with_99 : decode cX1_with 99 = .ok (.iadd, 1) := by decide +kernel
theorem dX1_with_100 : decode cX1_with 100 = .ok (.iaload, 1) := by decide +kernel
theorem dX1_with_101 : decode cX1_with 101 = .ok (.aload_n 2, 1) := by decide +kernel
theorem dX1_with_102 : decode cX1_with 102 = .ok (.iload 9, 2) := by decide +kernel
theorem dX1_with_104 : decode cX1_with 104 = .ok (.iconst 1, 1) := by decide +kernel
theorem dX1_with_105 : decode cX1_with 105 = .ok (.iadd, 1) := by decide +kernel
theorem dX1_with_106 : decode cX1_with 106 = .ok (.iaload, 1) := by decide +kernel
theorem dX1_with_107 : decode cX1_with 107 = .ok (.invokestatic 36, 3) := by decide +kernel
theorem dX1_with_110 : decode cX1_with 110 = .ok (.lmul, 1) := by decide +kernel
theorem dX1_with_111 : decode cX1_with 111 = .ok (.lconst 0, 1) := by decide +kernel
theorem dX1_with_112 : decode cX1_with 112 = .ok (.lcmp, 1) := by decide +kernel
theorem dX1_with_113 : decode cX1_with 113 = .ok (.ifCond .gt 9, 3) := by decide +kernel
theorem dX1_with_116 : decode cX1_with 116 = .ok (.iinc 9 1, 3) := by decide +kernel
theorem dX1_with_119 : decode cX1_with 119 = .ok (.goto (-47), 3) := by decide +kernel
theorem dX1_with_122 : decode cX1_with 122 = .ok (.aload_n 0, 1) := by decide +kernel
theorem dX1_with_123 : decode cX1_with 123 = .ok (.iconst 0, 1) := by decide +kernel
theorem dX1_with_124 : decode cX1_with 124 = .ok (.putfield 54, 3) := by decide +kernel
theorem dX1_with_127 : decode cX1_with 127 = .ok (.iconst 0, 1) := by decide +kernel
theorem dX1_with_128 : decode cX1_with 128 = .ok (.istore 10, 2) := by decide +kernel
theorem dX1_with_130 : decode cX1_with 130 = .ok (.iload 10, 2) := by decide +kernel
theorem dX1_with_132 : decode cX1_with 132 = .ok (.iload 8, 2) := by decide +kernel
theorem dX1_with_134 : decode cX1_with 134 = .ok (.if_icmp .ge 21, 3) := by decide +kernel
theorem dX1_with_137 : decode cX1_with 137 = .ok (.aload_n 0, 1) := by decide +kernel
theorem dX1_with_138 : decode cX1_with 138 = .ok (.aload_n 1, 1) := by decide +kernel
theorem dX1_with_139 : decode cX1_with 139 = .ok (.iload 10, 2) := by decide +kernel
theorem dX1_with_141 : decode cX1_with 141 = .ok (.iaload, 1) := by decide +kernel
theorem dX1_with_142 : decode cX1_with 142 = .ok (.aload_n 2, 1) := by decide +kernel
theorem dX1_with_143 : decode cX1_with 143 = .ok (.iload 10, 2) := by decide +kernel
theorem dX1_with_145 : decode cX1_with 145 = .ok (.iaload, 1) := by decide +kernel
theorem dX1_with_146 : decode cX1_with 146 = .ok (.invokevirtual 57, 3) := by decide +kernel
theorem dX1_with_149 : decode cX1_with 149 = .ok (.iinc 10 1, 3) := by decide +kernel
theorem dX1_with_152 : decode cX1_with 152 = .ok (.goto (-22), 3) := by decide +kernel
theorem dX1_with_155 : decode cX1_with 155 = .ok (.aload_n 0, 1) := by decide +kernel
theorem dX1_with_156 : decode cX1_with 156 = .ok (.iload 4, 2) := by decide +kernel
theorem dX1_with_158 : decode cX1_with 158 = .ok (.iload 5, 2) := by decide +kernel
theorem dX1_with_160 : decode cX1_with 160 = .ok (.invokevirtual 57, 3) := by decide +kernel
theorem dX1_with_163 : decode cX1_with 163 = .ok (.iload 9, 2) := by decide +kernel
theorem dX1_with_165 : decode cX1_with 165 = .ok (.istore 10, 2) := by decide +kernel
theorem dX1_with_167 : decode cX1_with 167 = .ok (.iload 10, 2) := by decide +kernel
theorem dX1_with_169 : decode cX1_with 169 = .ok (.iload_n 3, 1) := by decide +kernel
theorem dX1_with_170 : decode cX1_with 170 = .ok (.if_icmp .ge 21, 3) := by decide +kernel
theorem dX1_with_173 : decode cX1_with 173 = .ok (.aload_n 0, 1) := by decide +kernel
theorem dX1_with_174 : decode cX1_with 174 = .ok (.aload_n 1, 1) := by decide +kernel
theorem dX1_with_175 : decode cX1_with 175 = .ok (.iload 10, 2) := by decide +kernel
theorem dX1_with_177 : decode cX1_with 177 = .ok (.iaload, 1) := by decide +kernel
theorem dX1_with_178 : decode cX1_with 178 = .ok (.aload_n 2, 1) := by decide +kernel
theorem dX1_with_179 : decode cX1_with 179 = .ok (.iload 10, 2) := by decide +kernel
theorem dX1_with_181 : decode cX1_with 181 = .ok (.iaload, 1) := by decide +kernel
theorem dX1_with_182 : decode cX1_with 182 = .ok (.invokevirtual 57, 3) := by decide +kernel
theorem dX1_with_185 : decode cX1_with 185 = .ok (.iinc 10 1, 3) := by decide +kernel
theorem dX1_with_188 : decode cX1_with 188 = .ok (.goto (-21), 3) := by decide +kernel
theorem dX1_with_191 : decode cX1_with 191 = .ok (.return_, 1) := by decide +kernel
abbrev cX1_put : ByteArray := prog_1_method_8_code
def yX1_put : MethodName := ⟨RX1, "put", "(II)V"⟩
theorem dX1_put_0 : decode cX1_put 0 = .ok (.aload_n 0, 1) := by decide +kernel
theorem dX1_put_1 : decode cX1_put 1 = .ok (.getfield 22, 3) := by decide +kernel
theorem dX1_put_4 : decode cX1_put 4 = .ok (.aload_n 0, 1) := by decide +kernel
theorem dX1_put_5 : decode cX1_put 5 = .ok (.getfield 54, 3) := by decide +kernel
theorem dX1_put_8 : decode cX1_put 8 = .ok (.iload_n 1, 1) := by decide +kernel
theorem dX1_put_9 : decode cX1_put 9 = .ok (.iastore, 1) := by decide +kernel
theorem dX1_put_10 : decode cX1_put 10 = .ok (.aload_n 0, 1) := by decide +kernel
theorem dX1_put_11 : decode cX1_put 11 = .ok (.getfield 25, 3) := by decide +kernel
theorem dX1_put_14 : decode cX1_put 14 = .ok (.aload_n 0, 1) := by decide +kernel
theorem dX1_put_15 : decode cX1_put 15 = .ok (.getfield 54, 3) := by decide +kernel
theorem dX1_put_18 : decode cX1_put 18 = .ok (.iload_n 2, 1) := by decide +kernel
theorem dX1_put_19 : decode cX1_put 19 = .ok (.iastore, 1) := by decide +kernel
theorem dX1_put_20 : decode cX1_put 20 = .ok (.aload_n 0, 1) := by decide +kernel
theorem dX1_put_21 : decode cX1_put 21 = .ok (.dup, 1) := by decide +kernel
theorem dX1_put_22 : decode cX1_put 22 = .ok (.getfield 54, 3) := by decide +kernel
theorem dX1_put_25 : decode cX1_put 25 = .ok (.iconst 1, 1) := by decide +kernel
theorem dX1_put_26 : decode cX1_put 26 = .ok (.iadd, 1) := by decide +kernel
theorem dX1_put_27 : decode cX1_put 27 = .ok (.putfield 54, 3) := by decide +kernel
theorem dX1_put_30 : decode cX1_put 30 = .ok (.return_, 1) := by decide +kernel
abbrev cX1_keep : ByteArray := prog_1_method_11_code
def yX1_keep : MethodName := ⟨RX1, "keep", "([I[I)V"⟩
theorem dX1_keep_0 : decode cX1_keep 0 = .ok (.iconst 0, 1) := by decide +kernel
theorem dX1_keep_1 : decode cX1_keep 1 = .ok (.istore_n 3, 1) := by decide +kernel
theorem dX1_keep_2 : decode cX1_keep 2 = .ok (.iload_n 3, 1) := by decide +kernel
theorem dX1_keep_3 : decode cX1_keep 3 = .ok (.aload_n 0, 1) := by decide +kernel
theorem dX1_keep_4 : decode cX1_keep 4 = .ok (.getfield 54, 3) := by decide +kernel
theorem dX1_keep_7 : decode cX1_keep 7 = .ok (.if_icmp .ge 27, 3) := by decide +kernel
theorem dX1_keep_10 : decode cX1_keep 10 = .ok (.aload_n 1, 1) := by decide +kernel
theorem dX1_keep_11 : decode cX1_keep 11 = .ok (.iload_n 3, 1) := by decide +kernel
theorem dX1_keep_12 : decode cX1_keep 12 = .ok (.aload_n 0, 1) := by decide +kernel
theorem dX1_keep_13 : decode cX1_keep 13 = .ok (.getfield 22, 3) := by decide +kernel
theorem dX1_keep_16 : decode cX1_keep 16 = .ok (.iload_n 3, 1) := by decide +kernel
theorem dX1_keep_17 : decode cX1_keep 17 = .ok (.iaload, 1) := by decide +kernel
theorem dX1_keep_18 : decode cX1_keep 18 = .ok (.iastore, 1) := by decide +kernel
theorem dX1_keep_19 : decode cX1_keep 19 = .ok (.aload_n 2, 1) := by decide +kernel
theorem dX1_keep_20 : decode cX1_keep 20 = .ok (.iload_n 3, 1) := by decide +kernel
theorem dX1_keep_21 : decode cX1_keep 21 = .ok (.aload_n 0, 1) := by decide +kernel
theorem dX1_keep_22 : decode cX1_keep 22 = .ok (.getfield 25, 3) := by decide +kernel
theorem dX1_keep_25 : decode cX1_keep 25 = .ok (.iload_n 3, 1) := by decide +kernel
theorem dX1_keep_26 : decode cX1_keep 26 = .ok (.iaload, 1) := by decide +kernel
theorem dX1_keep_27 : decode cX1_keep 27 = .ok (.iastore, 1) := by decide +kernel
theorem dX1_keep_28 : decode cX1_keep 28 = .ok (.iinc 3 1, 3) := by decide +kernel
theorem dX1_keep_31 : decode cX1_keep 31 = .ok (.goto (-29), 3) := by decide +kernel
theorem dX1_keep_34 : decode cX1_keep 34 = .ok (.return_, 1) := by decide +kernel
abbrev cX1_xOf : ByteArray := prog_1_method_15_code
def yX1_xOf : MethodName := ⟨RX1, "xOf", "(I)I"⟩
theorem dX1_xOf_0 : decode cX1_xOf 0 = .ok (.iload_n 1, 1) := by decide +kernel
theorem dX1_xOf_1 : decode cX1_xOf 1 = .ok (.ifCond .lt 11, 3) := by decide +kernel
theorem dX1_xOf_4 : decode cX1_xOf 4 = .ok (.iload_n 1, 1) := by decide +kernel
theorem dX1_xOf_5 : decode cX1_xOf 5 = .ok (.aload_n 0, 1) := by decide +kernel
theorem dX1_xOf_6 : decode cX1_xOf 6 = .ok (.invokevirtual 72, 3) := by decide +kernel
theorem dX1_xOf_9 : decode cX1_xOf 9 = .ok (.if_icmp .lt 7, 3) := by decide +kernel
theorem dX1_xOf_12 : decode cX1_xOf 12 = .ok (.iconst 0, 1) := by decide +kernel
theorem dX1_xOf_13 : decode cX1_xOf 13 = .ok (.goto 8, 3) := by decide +kernel
theorem dX1_xOf_16 : decode cX1_xOf 16 = .ok (.aload_n 0, 1) := by decide +kernel
theorem dX1_xOf_17 : decode cX1_xOf 17 = .ok (.iload_n 1, 1) := by decide +kernel
theorem dX1_xOf_18 : decode cX1_xOf 18 = .ok (.invokevirtual 84, 3) := by decide +kernel
theorem dX1_xOf_21 : decode cX1_xOf 21 = .ok (.ireturn, 1) := by decide +kernel
abbrev cX1_x : ByteArray := prog_1_method_13_code
def yX1_x : MethodName := ⟨RX1, "x", "(I)I"⟩
theorem dX1_x_0 : decode cX1_x 0 = .ok (.iload_n 1, 1) := by decide +kernel
theorem dX1_x_1 : decode cX1_x 1 = .ok (.aload_n 0, 1) := by decide +kernel
theorem dX1_x_2 : decode cX1_x 2 = .ok (.getfield 44, 3) := by decide +kernel
theorem dX1_x_5 : decode cX1_x 5 = .ok (.if_icmp .ge 12, 3) := by decide +kernel
theorem dX1_x_8 : decode cX1_x 8 = .ok (.aload_n 0, 1) := by decide +kernel
theorem dX1_x_9 : decode cX1_x 9 = .ok (.getfield 7, 3) := by decide +kernel
theorem dX1_x_12 : decode cX1_x 12 = .ok (.iload_n 1, 1) := by decide +kernel
theorem dX1_x_13 : decode cX1_x 13 = .ok (.iaload, 1) := by decide +kernel
theorem dX1_x_14 : decode cX1_x 14 = .ok (.goto 21, 3) := by decide +kernel
theorem dX1_x_17 : decode cX1_x 17 = .ok (.aload_n 0, 1) := by decide +kernel
theorem dX1_x_18 : decode cX1_x 18 = .ok (.getfield 16, 3) := by decide +kernel
theorem dX1_x_21 : decode cX1_x 21 = .ok (.aload_n 0, 1) := by decide +kernel
theorem dX1_x_22 : decode cX1_x 22 = .ok (.getfield 51, 3) := by decide +kernel
theorem dX1_x_25 : decode cX1_x 25 = .ok (.iconst 2, 1) := by decide +kernel
theorem dX1_x_26 : decode cX1_x 26 = .ok (.isub, 1) := by decide +kernel
theorem dX1_x_27 : decode cX1_x 27 = .ok (.iload_n 1, 1) := by decide +kernel
theorem dX1_x_28 : decode cX1_x 28 = .ok (.aload_n 0, 1) := by decide +kernel
theorem dX1_x_29 : decode cX1_x 29 = .ok (.getfield 44, 3) := by decide +kernel
theorem dX1_x_32 : decode cX1_x 32 = .ok (.isub, 1) := by decide +kernel
theorem dX1_x_33 : decode cX1_x 33 = .ok (.isub, 1) := by decide +kernel
theorem dX1_x_34 : decode cX1_x 34 = .ok (.iaload, 1) := by decide +kernel
theorem dX1_x_35 : decode cX1_x 35 = .ok (.ireturn, 1) := by decide +kernel
abbrev cX1_yOf : ByteArray := prog_1_method_16_code
def yX1_yOf : MethodName := ⟨RX1, "yOf", "(I)I"⟩
theorem dX1_yOf_0 : decode cX1_yOf 0 = .ok (.iload_n 1, 1) := by decide +kernel
theorem dX1_yOf_1 : decode cX1_yOf 1 = .ok (.ifCond .lt 11, 3) := by decide +kernel
theorem dX1_yOf_4 : decode cX1_yOf 4 = .ok (.iload_n 1, 1) := by decide +kernel
theorem dX1_yOf_5 : decode cX1_yOf 5 = .ok (.aload_n 0, 1) := by decide +kernel
theorem dX1_yOf_6 : decode cX1_yOf 6 = .ok (.invokevirtual 72, 3) := by decide +kernel
theorem dX1_yOf_9 : decode cX1_yOf 9 = .ok (.if_icmp .lt 7, 3) := by decide +kernel
theorem dX1_yOf_12 : decode cX1_yOf 12 = .ok (.iconst 0, 1) := by decide +kernel
theorem dX1_yOf_13 : decode cX1_yOf 13 = .ok (.goto 8, 3) := by decide +kernel
theorem dX1_yOf_16 : decode cX1_yOf 16 = .ok (.aload_n 0, 1) := by decide +kernel
theorem dX1_yOf_17 : decode cX1_yOf 17 = .ok (.iload_n 1, 1) := by decide +kernel
theorem dX1_yOf_18 : decode cX1_yOf 18 = .ok (.invokevirtual 88, 3) := by decide +kernel
theorem dX1_yOf_21 : decode cX1_yOf 21 = .ok (.ireturn, 1) := by decide +kernel
abbrev cX1_y : ByteArray := prog_1_method_14_code
def yX1_y : MethodName := ⟨RX1, "y", "(I)I"⟩
theorem dX1_y_0 : decode cX1_y 0 = .ok (.iload_n 1, 1) := by decide +kernel
theorem dX1_y_1 : decode cX1_y 1 = .ok (.aload_n 0, 1) := by decide +kernel
theorem dX1_y_2 : decode cX1_y 2 = .ok (.getfield 44, 3) := by decide +kernel
theorem dX1_y_5 : decode cX1_y 5 = .ok (.if_icmp .ge 12, 3) := by decide +kernel
theorem dX1_y_8 : decode cX1_y 8 = .ok (.aload_n 0, 1) := by decide +kernel
theorem dX1_y_9 : decode cX1_y 9 = .ok (.getfield 13, 3) := by decide +kernel
theorem dX1_y_12 : decode cX1_y 12 = .ok (.iload_n 1, 1) := by decide +kernel
theorem dX1_y_13 : decode cX1_y 13 = .ok (.iaload, 1) := by decide +kernel
theorem dX1_y_14 : decode cX1_y 14 = .ok (.goto 21, 3) := by decide +kernel
theorem dX1_y_17 : decode cX1_y 17 = .ok (.aload_n 0, 1) := by decide +kernel
theorem dX1_y_18 : decode cX1_y 18 = .ok (.getfield 19, 3) := by decide +kernel
theorem dX1_y_21 : decode cX1_y 21 = .ok (.aload_n 0, 1) := by decide +kernel
theorem dX1_y_22 : decode cX1_y 22 = .ok (.getfield 51, 3) := by decide +kernel
theorem dX1_y_25 : decode cX1_y 25 = .ok (.iconst 2, 1) := by decide +kernel
theorem dX1_y_26 : decode cX1_y 26 = .ok (.isub, 1) := by decide +kernel
theorem dX1_y_27 : decode cX1_y 27 = .ok (.iload_n 1, 1) := by decide +kernel
theorem dX1_y_28 : decode cX1_y 28 = .ok (.aload_n 0, 1) := by decide +kernel
theorem dX1_y_29 : decode cX1_y 29 = .ok (.getfield 44, 3) := by decide +kernel
theorem dX1_y_32 : decode cX1_y 32 = .ok (.isub, 1) := by decide +kernel
theorem dX1_y_33 : decode cX1_y 33 = .ok (.isub, 1) := by decide +kernel
theorem dX1_y_34 : decode cX1_y 34 = .ok (.iaload, 1) := by decide +kernel
theorem dX1_y_35 : decode cX1_y 35 = .ok (.ireturn, 1) := by decide +kernel
abbrev cX1_twiceArea : ByteArray := prog_1_method_17_code
def yX1_twiceArea : MethodName := ⟨RX1, "twiceArea", "()I"⟩
theorem dX1_twiceArea_0 : decode cX1_twiceArea 0 = .ok (.lconst 0, 1) := by decide +kernel
theorem dX1_twiceArea_1 : decode cX1_twiceArea 1 = .ok (.lstore_n 1, 1) := by decide +kernel
theorem dX1_twiceArea_2 : decode cX1_twiceArea 2 = .ok (.iconst 1, 1) := by decide +kernel
theorem dX1_twiceArea_3 : decode cX1_twiceArea 3 = .ok (.istore_n 3, 1) := by decide +kernel
theorem dX1_twiceArea_4 : decode cX1_twiceArea 4 = .ok (.iload_n 3, 1) := by decide +kernel
theorem dX1_twiceArea_5 : decode cX1_twiceArea 5 = .ok (.iconst 1, 1) := by decide +kernel
theorem dX1_twiceArea_6 : decode cX1_twiceArea 6 = .ok (.iadd, 1) := by decide +kernel
theorem dX1_twiceArea_7 : decode cX1_twiceArea 7 = .ok (.aload_n 0, 1) := by decide +kernel
theorem dX1_twiceArea_8 : decode cX1_twiceArea 8 = .ok (.invokevirtual 72, 3) := by decide +kernel
theorem dX1_twiceArea_11 : decode cX1_twiceArea 11 = .ok (.if_icmp .ge 49, 3) := by decide +kernel
theorem dX1_twiceArea_14 : decode cX1_twiceArea 14 = .ok (.lload_n 1, 1) := by decide +kernel
theorem dX1_twiceArea_15 : decode cX1_twiceArea 15 = .ok (.aload_n 0, 1) := by decide +kernel
theorem dX1_twiceArea_16 : decode cX1_twiceArea 16 = .ok (.iconst 0, 1) := by decide +kernel
theorem dX1_twiceArea_17 : decode cX1_twiceArea 17 = .ok (.invokevirtual 84, 3) := by decide +kernel
theorem dX1_twiceArea_20 : decode cX1_twiceArea 20 = .ok (.aload_n 0, 1) := by decide +kernel
theorem dX1_twiceArea_21 : decode cX1_twiceArea 21 = .ok (.iconst 0, 1) := by decide +kernel
theorem dX1_twiceArea_22 : decode cX1_twiceArea 22 = .ok (.invokevirtual 88, 3) := by decide +kernel
theorem dX1_twiceArea_25 : decode cX1_twiceArea 25 = .ok (.aload_n 0, 1) := by decide +kernel
theorem dX1_twiceArea_26 : decode cX1_twiceArea 26 = .ok (.iload_n 3, 1) := by decide +kernel
theorem dX1_twiceArea_27 : decode cX1_twiceArea 27 = .ok (.invokevirtual 84, 3) := by decide +kernel
theorem dX1_twiceArea_30 : decode cX1_twiceArea 30 = .ok (.aload_n 0, 1) := by decide +kernel
theorem dX1_twiceArea_31 : decode cX1_twiceArea 31 = .ok (.iload_n 3, 1) := by decide +kernel
theorem dX1_twiceArea_32 : decode cX1_twiceArea 32 = .ok (.invokevirtual 88, 3) := by decide +kernel
theorem dX1_twiceArea_35 : decode cX1_twiceArea 35 = .ok (.aload_n 0, 1) := by decide +kernel
theorem dX1_twiceArea_36 : decode cX1_twiceArea 36 = .ok (.iload_n 3, 1) := by decide +kernel
theorem dX1_twiceArea_37 : decode cX1_twiceArea 37 = .ok (.iconst 1, 1) := by decide +kernel
theorem dX1_twiceArea_38 : decode cX1_twiceArea 38 = .ok (.iadd, 1) := by decide +kernel
theorem dX1_twiceArea_39 : decode cX1_twiceArea 39 = .ok (.invokevirtual 84, 3) := by decide +kernel
theorem dX1_twiceArea_42 : decode cX1_twiceArea 42 = .ok (.aload_n 0, 1) := by decide +kernel
theorem dX1_twiceArea_43 : decode cX1_twiceArea 43 = .ok (.iload_n 3, 1) := by decide +kernel
theorem dX1_twiceArea_44 : decode cX1_twiceArea 44 = .ok (.iconst 1, 1) := by decide +kernel
theorem dX1_twiceArea_45 : decode cX1_twiceArea 45 = .ok (.iadd, 1) := by decide +kernel
theorem dX1_twiceArea_46 : decode cX1_twiceArea 46 = .ok (.invokevirtual 88, 3) := by decide +kernel
theorem dX1_twiceArea_49 : decode cX1_twiceArea 49 = .ok (.invokestatic 36, 3) := by decide +kernel
theorem dX1_twiceArea_52 : decode cX1_twiceArea 52 = .ok (.ladd, 1) := by decide +kernel
theorem dX1_twiceArea_53 : decode cX1_twiceArea 53 = .ok (.lstore_n 1, 1) := by decide +kernel
theorem dX1_twiceArea_54 : decode cX1_twiceArea 54 = .ok (.iinc 3 1, 3) := by decide +kernel
theorem dX1_twiceArea_57 : decode cX1_twiceArea 57 = .ok (.goto (-53), 3) := by decide +kernel
theorem dX1_twiceArea_60 : decode cX1_twiceArea 60 = .ok (.lload_n 1, 1) := by decide +kernel
theorem dX1_twiceArea_61 : decode cX1_twiceArea 61 = .ok (.l2i, 1) := by decide +kernel
theorem dX1_twiceArea_62 : decode cX1_twiceArea 62 = .ok (.ireturn, 1) := by decide +kernel
abbrev cX1_farthest : ByteArray := prog_1_method_18_code
def yX1_farthest : MethodName := ⟨RX1, "farthest", "(II)I"⟩
theorem dX1_farthest_0 : decode cX1_farthest 0 = .ok (.iload_n 1, 1) := by decide +kernel
theorem dX1_farthest_1 : decode cX1_farthest 1 = .ok (.iload_n 2, 1) := by decide +kernel
theorem dX1_farthest_2 : decode cX1_farthest 2 = .ok (.invokestatic 40, 3) := by decide +kernel
theorem dX1_farthest_5 : decode cX1_farthest 5 = .ok (.ifCond .ne 5, 3) := by decide +kernel
theorem dX1_farthest_8 : decode cX1_farthest 8 = .ok (.iconst (-1), 1) := by decide +kernel
theorem dX1_farthest_9 : decode cX1_farthest 9 = .ok (.ireturn, 1) := by decide +kernel
theorem dX1_farthest_10 : decode cX1_farthest 10 = .ok (.iconst (-1), 1) := by decide +kernel
theorem dX1_farthest_11 : decode cX1_farthest 11 = .ok (.istore_n 3, 1) := by decide +kernel
theorem dX1_farthest_12 : decode cX1_farthest 12 = .ok (.lconst 0, 1) := by decide +kernel
theorem dX1_farthest_13 : decode cX1_farthest 13 = .ok (.lstore 4, 2) := by decide +kernel
theorem dX1_farthest_15 : decode cX1_farthest 15 = .ok (.iconst 0, 1) := by decide +kernel
theorem dX1_farthest_16 : decode cX1_farthest 16 = .ok (.istore 6, 2) := by decide +kernel
theorem dX1_farthest_18 : decode cX1_farthest 18 = .ok (.iload 6, 2) := by decide +kernel
theorem dX1_farthest_20 : decode cX1_farthest 20 = .ok (.aload_n 0, 1) := by decide +kernel
theorem dX1_farthest_21 : decode cX1_farthest 21 = .ok (.invokevirtual 72, 3) := by decide +kernel
theorem dX1_farthest_24 : decode cX1_farthest 24 = .ok (.if_icmp .ge 54, 3) := by decide +kernel
theorem dX1_farthest_27 : decode cX1_farthest 27 = .ok (.iload_n 1, 1) := by decide +kernel
theorem dX1_farthest_28 : decode cX1_farthest 28 = .ok (.i2l, 1) := by decide +kernel
theorem dX1_farthest_29 : decode cX1_farthest 29 = .ok (.aload_n 0, 1) := by decide +kernel
theorem dX1_farthest_30 : decode cX1_farthest 30 = .ok (.iload 6, 2) := by decide +kernel
theorem dX1_farthest_32 : decode cX1_farthest 32 = .ok (.invokevirtual 84, 3) := by decide +kernel
theorem dX1_farthest_35 : decode cX1_farthest 35 = .ok (.i2l, 1) := by decide +kernel
theorem dX1_farthest_36 : decode cX1_farthest 36 = .ok (.lmul, 1) := by decide +kernel
theorem dX1_farthest_37 : decode cX1_farthest 37 = .ok (.iload_n 2, 1) := by decide +kernel
theorem dX1_farthest_38 : decode cX1_farthest 38 = .ok (.i2l, 1) := by decide +kernel
theorem dX1_farthest_39 : decode cX1_farthest 39 = .ok (.aload_n 0, 1) := by decide +kernel
theorem dX1_farthest_40 : decode cX1_farthest 40 = .ok (.iload 6, 2) := by decide +kernel
theorem dX1_farthest_42 : decode cX1_farthest 42 = .ok (.invokevirtual 88, 3) := by decide +kernel
theorem dX1_farthest_45 : decode cX1_farthest 45 = .ok (.i2l, 1) := by decide +kernel
theorem dX1_farthest_46 : decode cX1_farthest 46 = .ok (.lmul, 1) := by decide +kernel
theorem dX1_farthest_47 : decode cX1_farthest 47 = .ok (.ladd, 1) := by decide +kernel
theorem dX1_farthest_48 : decode cX1_farthest 48 = .ok (.lstore 7, 2) := by decide +kernel
theorem dX1_farthest_50 : decode cX1_farthest 50 = .ok (.iload_n 3, 1) := by decide +kernel
theorem dX1_farthest_51 : decode cX1_farthest 51 = .ok (.ifCond .lt 14, 3) := by decide +kernel
theorem dX1_farthest_54 : decode cX1_farthest 54 = .ok (.lload 7, 2) := by decide +kernel
theorem dX1_farthest_56 : decode cX1_farthest 56 = .ok (.lload 4, 2) := by decide +kernel
theorem dX1_farthest_58 : decode cX1_farthest 58 = .ok (.lcmp, 1) := by decide +kernel
theorem dX1_farthest_59 : decode cX1_farthest 59 = .ok (.ifCond .gt 6, 3) := by decide +kernel
theorem dX1_farthest_62 : decode cX1_farthest 62 = .ok (.goto 10, 3) := by decide +kernel
theorem dX1_farthest_65 : decode cX1_farthest 65 = .ok (.iload 6, 2) := by decide +kernel
theorem dX1_farthest_67 : decode cX1_farthest 67 = .ok (.istore_n 3, 1) := by decide +kernel
theorem dX1_farthest_68 : decode cX1_farthest 68 = .ok (.lload 7, 2) := by decide +kernel
theorem dX1_farthest_70 : decode cX1_farthest 70 = .ok (.lstore 4, 2) := by decide +kernel
theorem dX1_farthest_72 : decode cX1_farthest 72 = .ok (.iinc 6 1, 3) := by decide +kernel
theorem dX1_farthest_75 : decode cX1_farthest 75 = .ok (.goto (-57), 3) := by decide +kernel
theorem dX1_farthest_78 : decode cX1_farthest 78 = .ok (.iload_n 3, 1) := by decide +kernel
theorem dX1_farthest_79 : decode cX1_farthest 79 = .ok (.ireturn, 1) := by decide +kernel
abbrev cX1_tangent : ByteArray := prog_1_method_20_code
def yX1_tangent : MethodName := ⟨RX1, "tangent", "(III)I"⟩
theorem dX1_tangent_0 : decode cX1_tangent 0 = .ok (.aload_n 0, 1) := by decide +kernel
theorem dX1_tangent_1 : decode cX1_tangent 1 = .ok (.invokevirtual 72, 3) := by decide +kernel
theorem dX1_tangent_4 : decode cX1_tangent 4 = .ok (.istore 4, 2) := by decide +kernel
theorem dX1_tangent_6 : decode cX1_tangent 6 = .ok (.iload_n 3, 1) := by decide +kernel
theorem dX1_tangent_7 : decode cX1_tangent 7 = .ok (.ifCond .lt 31, 3) := by decide +kernel
theorem dX1_tangent_10 : decode cX1_tangent 10 = .ok (.iload_n 3, 1) := by decide +kernel
theorem dX1_tangent_11 : decode cX1_tangent 11 = .ok (.iconst 1, 1) := by decide +kernel
theorem dX1_tangent_12 : decode cX1_tangent 12 = .ok (.if_icmp .gt 26, 3) := by decide +kernel
theorem dX1_tangent_15 : decode cX1_tangent 15 = .ok (.iload 4, 2) := by decide +kernel
theorem dX1_tangent_17 : decode cX1_tangent 17 = .ok (.iconst 3, 1) := by decide +kernel
theorem dX1_tangent_18 : decode cX1_tangent 18 = .ok (.if_icmp .lt 20, 3) := by decide +kernel
theorem dX1_tangent_21 : decode cX1_tangent 21 = .ok (.iload_n 1, 1) := by decide +kernel
theorem dX1_tangent_22 : decode cX1_tangent 22 = .ok (.iload_n 2, 1) := by decide +kernel
theorem dX1_tangent_23 : decode cX1_tangent 23 = .ok (.invokestatic 40, 3) := by decide +kernel
theorem dX1_tangent_26 : decode cX1_tangent 26 = .ok (.ifCond .eq 12, 3) := by decide +kernel
theorem dX1_tangent_29 : decode cX1_tangent 29 = .ok (.aload_n 0, 1) := by decide +kernel
theorem dX1_tangent_30 : decode cX1_tangent 30 = .ok (.iload_n 1, 1) := by decide +kernel
theorem dX1_tangent_31 : decode cX1_tangent 31 = .ok (.iload_n 2, 1) := by decide +kernel
theorem dX1_tangent_32 : decode cX1_tangent 32 = .ok (.invokevirtual 61, 3) := by decide +kernel
theorem dX1_tangent_35 : decode cX1_tangent 35 = .ok (.ifCond .le 5, 3) := by decide +kernel
theorem dX1_tangent_38 : decode cX1_tangent 38 = .ok (.iconst (-1), 1) := by decide +kernel
theorem dX1_tangent_39 : decode cX1_tangent 39 = .ok (.ireturn, 1) := by decide +kernel
theorem dX1_tangent_40 : decode cX1_tangent 40 = .ok (.iconst 0, 1) := by decide +kernel
theorem dX1_tangent_41 : decode cX1_tangent 41 = .ok (.istore 5, 2) := by decide +kernel
theorem dX1_tangent_43 : decode cX1_tangent 43 = .ok (.iload 5, 2) := by decide +kernel
theorem dX1_tangent_45 : decode cX1_tangent 45 = .ok (.iload 4, 2) := by decide +kernel
theorem dX1_tangent_47 : decode cX1_tangent 47 = .ok (.if_icmp .ge 77, 3) := by decide +kernel
theorem dX1_tangent_50 : decode cX1_tangent 50 = .ok (.iload 5, 2) := by decide +kernel
theorem dX1_tangent_52 : decode cX1_tangent 52 = .ok (.ifCond .le 10, 3) := by decide +kernel
theorem dX1_tangent_55 : decode cX1_tangent 55 = .ok (.iload 5, 2) := by decide +kernel
theorem dX1_tangent_57 : decode cX1_tangent 57 = .ok (.iconst 1, 1) := by decide +kernel
theorem dX1_tangent_58 : decode cX1_tangent 58 = .ok (.isub, 1) := by decide +kernel
theorem dX1_tangent_59 : decode cX1_tangent 59 = .ok (.goto 7, 3) := by decide +kernel
theorem dX1_tangent_62 : decode cX1_tangent 62 = .ok (.iload 4, 2) := by decide +kernel
theorem dX1_tangent_64 : decode cX1_tangent 64 = .ok (.iconst 1, 1) := by decide +kernel
theorem dX1_tangent_65 : decode cX1_tangent 65 = .ok (.isub, 1) := by decide +kernel
theorem dX1_tangent_66 : decode cX1_tangent 66 = .ok (.istore 6, 2) := by decide +kernel
theorem dX1_tangent_68 : decode cX1_tangent 68 = .ok (.aload_n 0, 1) := by decide +kernel
theorem dX1_tangent_69 : decode cX1_tangent 69 = .ok (.iload 5, 2) := by decide +kernel
theorem dX1_tangent_71 : decode cX1_tangent 71 = .ok (.iload_n 1, 1) := by decide +kernel
theorem dX1_tangent_72 : decode cX1_tangent 72 = .ok (.iload_n 2, 1) := by decide +kernel
theorem dX1_tangent_73 : decode cX1_tangent 73 = .ok (.invokevirtual 91, 3) := by decide +kernel
theorem dX1_tangent_76 : decode cX1_tangent 76 = .ok (.istore 7, 2) := by decide +kernel
theorem dX1_tangent_78 : decode cX1_tangent 78 = .ok (.aload_n 0, 1) := by decide +kernel
theorem dX1_tangent_79 : decode cX1_tangent 79 = .ok (.iload 6, 2) := by decide +kernel
theorem dX1_tangent_81 : decode cX1_tangent 81 = .ok (.iload_n 1, 1) := by decide +kernel
theorem dX1_tangent_82 : decode cX1_tangent 82 = .ok (.iload_n 2, 1) := by decide +kernel
theorem dX1_tangent_83 : decode cX1_tangent 83 = .ok (.invokevirtual 91, 3) := by decide +kernel
theorem dX1_tangent_86 : decode cX1_tangent 86 = .ok (.istore 8, 2) := by decide +kernel
theorem dX1_tangent_88 : decode cX1_tangent 88 = .ok (.iload_n 3, 1) := by decide +kernel
theorem dX1_tangent_89 : decode cX1_tangent 89 = .ok (.ifCond .ne 16, 3) := by decide +kernel
theorem dX1_tangent_92 : decode cX1_tangent 92 = .ok (.iload 7, 2) := by decide +kernel
theorem dX1_tangent_94 : decode cX1_tangent 94 = .ok (.ifCond .eq 24, 3) := by decide +kernel
theorem dX1_tangent_97 : decode cX1_tangent 97 = .ok (.iload 8, 2) := by decide +kernel
theorem dX1_tangent_99 : decode cX1_tangent 99 = .ok (.ifCond .ne 19, 3) := by decide +kernel
theorem dX1_tangent_102 : decode cX1_tangent 102 = .ok (.goto 13, 3) := by decide +kernel
theorem dX1_tangent_105 : decode cX1_tangent 105 = .ok (.iload 8, 2) := by decide +kernel
theorem dX1_tangent_107 : decode cX1_tangent 107 = .ok (.ifCond .eq 11, 3) := by decide +kernel
theorem dX1_tangent_110 : decode cX1_tangent 110 = .ok (.iload 7, 2) := by decide +kernel
theorem dX1_tangent_112 : decode cX1_tangent 112 = .ok (.ifCond .ne 6, 3) := by decide +kernel
theorem dX1_tangent_115 : decode cX1_tangent 115 = .ok (.iload 5, 2) := by decide +kernel
theorem dX1_tangent_117 : decode cX1_tangent 117 = .ok (.ireturn, 1) := by decide +kernel
theorem dX1_tangent_118 : decode cX1_tangent 118 = .ok (.iinc 5 1, 3) := by decide +kernel
theorem dX1_tangent_121 : decode cX1_tangent 121 = .ok (.goto (-78), 3) := by decide +kernel
theorem dX1_tangent_124 : decode cX1_tangent 124 = .ok (.iconst (-1), 1) := by decide +kernel
theorem dX1_tangent_125 : decode cX1_tangent 125 = .ok (.ireturn, 1) := by decide +kernel
abbrev cX1_sees : ByteArray := prog_1_method_19_code
def yX1_sees : MethodName := ⟨RX1, "sees", "(III)Z"⟩
theorem dX1_sees_0 : decode cX1_sees 0 = .ok (.iload_n 1, 1) := by decide +kernel
theorem dX1_sees_1 : decode cX1_sees 1 = .ok (.iconst 1, 1) := by decide +kernel
theorem dX1_sees_2 : decode cX1_sees 2 = .ok (.iadd, 1) := by decide +kernel
theorem dX1_sees_3 : decode cX1_sees 3 = .ok (.aload_n 0, 1) := by decide +kernel
theorem dX1_sees_4 : decode cX1_sees 4 = .ok (.invokevirtual 72, 3) := by decide +kernel
theorem dX1_sees_7 : decode cX1_sees 7 = .ok (.if_icmp .ge 9, 3) := by decide +kernel
theorem dX1_sees_10 : decode cX1_sees 10 = .ok (.iload_n 1, 1) := by decide +kernel
theorem dX1_sees_11 : decode cX1_sees 11 = .ok (.iconst 1, 1) := by decide +kernel
theorem dX1_sees_12 : decode cX1_sees 12 = .ok (.iadd, 1) := by decide +kernel
theorem dX1_sees_13 : decode cX1_sees 13 = .ok (.goto 4, 3) := by decide +kernel
theorem dX1_sees_16 : decode cX1_sees 16 = .ok (.iconst 0, 1) := by decide +kernel
theorem dX1_sees_17 : decode cX1_sees 17 = .ok (.istore 4, 2) := by decide +kernel
theorem dX1_sees_19 : decode cX1_sees 19 = .ok (.aload_n 0, 1) := by decide +kernel
theorem dX1_sees_20 : decode cX1_sees 20 = .ok (.iload_n 1, 1) := by decide +kernel
theorem dX1_sees_21 : decode cX1_sees 21 = .ok (.invokevirtual 84, 3) := by decide +kernel
theorem dX1_sees_24 : decode cX1_sees 24 = .ok (.aload_n 0, 1) := by decide +kernel
theorem dX1_sees_25 : decode cX1_sees 25 = .ok (.iload_n 1, 1) := by decide +kernel
theorem dX1_sees_26 : decode cX1_sees 26 = .ok (.invokevirtual 88, 3) := by decide +kernel
theorem dX1_sees_29 : decode cX1_sees 29 = .ok (.aload_n 0, 1) := by decide +kernel
theorem dX1_sees_30 : decode cX1_sees 30 = .ok (.iload 4, 2) := by decide +kernel
theorem dX1_sees_32 : decode cX1_sees 32 = .ok (.invokevirtual 84, 3) := by decide +kernel
theorem dX1_sees_35 : decode cX1_sees 35 = .ok (.aload_n 0, 1) := by decide +kernel
theorem dX1_sees_36 : decode cX1_sees 36 = .ok (.iload 4, 2) := by decide +kernel
theorem dX1_sees_38 : decode cX1_sees 38 = .ok (.invokevirtual 88, 3) := by decide +kernel
theorem dX1_sees_41 : decode cX1_sees 41 = .ok (.iload_n 2, 1) := by decide +kernel
theorem dX1_sees_42 : decode cX1_sees 42 = .ok (.iload_n 3, 1) := by decide +kernel
theorem dX1_sees_43 : decode cX1_sees 43 = .ok (.invokestatic 36, 3) := by decide +kernel
theorem dX1_sees_46 : decode cX1_sees 46 = .ok (.lconst 0, 1) := by decide +kernel
theorem dX1_sees_47 : decode cX1_sees 47 = .ok (.lcmp, 1) := by decide +kernel
theorem dX1_sees_48 : decode cX1_sees 48 = .ok (.ifCond .ge 7, 3) := by decide +kernel
theorem dX1_sees_51 : decode cX1_sees 51 = .ok (.iconst 1, 1) := by decide +kernel
theorem dX1_sees_52 : decode cX1_sees 52 = .ok (.goto 4, 3) := by decide +kernel
theorem dX1_sees_55 : decode cX1_sees 55 = .ok (.iconst 0, 1) := by decide +kernel
theorem dX1_sees_56 : decode cX1_sees 56 = .ok (.ireturn, 1) := by decide +kernel
abbrev cX1_diameter : ByteArray := prog_1_method_21_code
def yX1_diameter : MethodName := ⟨RX1, "diameter", "()I"⟩
theorem dX1_diameter_0 : decode cX1_diameter 0 = .ok (.lconst 0, 1) := by decide +kernel
theorem dX1_diameter_1 : decode cX1_diameter 1 = .ok (.lstore_n 1, 1) := by decide +kernel
theorem dX1_diameter_2 : decode cX1_diameter 2 = .ok (.iconst 0, 1) := by decide +kernel
theorem dX1_diameter_3 : decode cX1_diameter 3 = .ok (.istore_n 3, 1) := by decide +kernel
theorem dX1_diameter_4 : decode cX1_diameter 4 = .ok (.iload_n 3, 1) := by decide +kernel
theorem dX1_diameter_5 : decode cX1_diameter 5 = .ok (.aload_n 0, 1) := by decide +kernel
theorem dX1_diameter_6 : decode cX1_diameter 6 = .ok (.invokevirtual 72, 3) := by decide +kernel
theorem dX1_diameter_9 : decode cX1_diameter 9 = .ok (.if_icmp .ge 86, 3) := by decide +kernel
theorem dX1_diameter_12 : decode cX1_diameter 12 = .ok (.iconst 0, 1) := by decide +kernel
theorem dX1_diameter_13 : decode cX1_diameter 13 = .ok (.istore 4, 2) := by decide +kernel
theorem dX1_diameter_15 : decode cX1_diameter 15 = .ok (.iload 4, 2) := by decide +kernel
theorem dX1_diameter_17 : decode cX1_diameter 17 = .ok (.iload_n 3, 1) := by decide +kernel
theorem dX1_diameter_18 : decode cX1_diameter 18 = .ok (.if_icmp .ge 71, 3) := by decide +kernel
theorem dX1_diameter_21 : decode cX1_diameter 21 = .ok (.aload_n 0, 1) := by decide +kernel
theorem dX1_diameter_22 : decode cX1_diameter 22 = .ok (.iload_n 3, 1) := by decide +kernel
theorem dX1_diameter_23 : decode cX1_diameter 23 = .ok (.invokevirtual 84, 3) := by decide +kernel
theorem dX1_diameter_26 : decode cX1_diameter 26 = .ok (.aload_n 0, 1) := by decide +kernel
theorem dX1_diameter_27 : decode cX1_diameter 27 = .ok (.iload 4, 2) := by decide +kernel
theorem dX1_diameter_29 : decode cX1_diameter 29 = .ok (.invokevirtual 84, 3) := by decide +kernel
theorem dX1_diameter_32 : decode cX1_diameter 32 = .ok (.isub, 1) := by decide +kernel
theorem dX1_diameter_33 : decode cX1_diameter 33 = .ok (.i2l, 1) := by decide +kernel
theorem dX1_diameter_34 : decode cX1_diameter 34 = .ok (.lstore 5, 2) := by decide +kernel
theorem dX1_diameter_36 : decode cX1_diameter 36 = .ok (.aload_n 0, 1) := by decide +kernel
theorem dX1_diameter_37 : decode cX1_diameter 37 = .ok (.iload_n 3, 1) := by decide +kernel
theorem dX1_diameter_38 : decode cX1_diameter 38 = .ok (.invokevirtual 88, 3) := by decide +kernel
theorem dX1_diameter_41 : decode cX1_diameter 41 = .ok (.aload_n 0, 1) := by decide +kernel
theorem dX1_diameter_42 : decode cX1_diameter 42 = .ok (.iload 4, 2) := by decide +kernel
theorem dX1_diameter_44 : decode cX1_diameter 44 = .ok (.invokevirtual 88, 3) := by decide +kernel
theorem dX1_diameter_47 : decode cX1_diameter 47 = .ok (.isub, 1) := by decide +kernel
theorem dX1_diameter_48 : decode cX1_diameter 48 = .ok (.i2l, 1) := by decide +kernel
theorem dX1_diameter_49 : decode cX1_diameter 49 = .ok (.lstore 7, 2) := by decide +kernel
theorem dX1_diameter_51 : decode cX1_diameter 51 = .ok (.lload 5, 2) := by decide +kernel
theorem dX1_diameter_53 : decode cX1_diameter 53 = .ok (.lload 5, 2) := by decide +kernel
theorem dX1_diameter_55 : decode cX1_diameter 55 = .ok (.lmul, 1) := by decide +kernel
theorem dX1_diameter_56 : decode cX1_diameter 56 = .ok (.lload 7, 2) := by decide +kernel
theorem dX1_diameter_58 : decode cX1_diameter 58 = .ok (.lload 7, 2) := by decide +kernel
theorem dX1_diameter_60 : decode cX1_diameter 60 = .ok (.lmul, 1) := by decide +kernel
theorem dX1_diameter_61 : decode cX1_diameter 61 = .ok (.ladd, 1) := by decide +kernel
theorem dX1_diameter_62 : decode cX1_diameter 62 = .ok (.lload_n 1, 1) := by decide +kernel
theorem dX1_diameter_63 : decode cX1_diameter 63 = .ok (.lcmp, 1) := by decide +kernel
theorem dX1_diameter_64 : decode cX1_diameter 64 = .ok (.ifCond .le 17, 3) := by decide +kernel
theorem dX1_diameter_67 : decode cX1_diameter 67 = .ok (.lload 5, 2) := by decide +kernel
theorem dX1_diameter_69 : decode cX1_diameter 69 = .ok (.lload 5, 2) := by decide +kernel
theorem dX1_diameter_71 : decode cX1_diameter 71 = .ok (.lmul, 1) := by decide +kernel
theorem dX1_diameter_72 : decode cX1_diameter 72 = .ok (.lload 7, 2) := by decide +kernel
theorem dX1_diameter_74 : decode cX1_diameter 74 = .ok (.lload 7, 2) := by decide +kernel
theorem dX1_diameter_76 : decode cX1_diameter 76 = .ok (.lmul, 1) := by decide +kernel
theorem dX1_diameter_77 : decode cX1_diameter 77 = .ok (.ladd, 1) := by decide +kernel
theorem dX1_diameter_78 : decode cX1_diameter 78 = .ok (.goto 4, 3) := by decide +kernel
theorem dX1_diameter_81 : decode cX1_diameter 81 = .ok (.lload_n 1, 1) := by decide +kernel
theorem dX1_diameter_82 : decode cX1_diameter 82 = .ok (.lstore_n 1, 1) := by decide +kernel
theorem dX1_diameter_83 : decode cX1_diameter 83 = .ok (.iinc 4 1, 3) := by decide +kernel
theorem dX1_diameter_86 : decode cX1_diameter 86 = .ok (.goto (-71), 3) := by decide +kernel
theorem dX1_diameter_89 : decode cX1_diameter 89 = .ok (.iinc 3 1, 3) := by decide +kernel
theorem dX1_diameter_92 : decode cX1_diameter 92 = .ok (.goto (-88), 3) := by decide +kernel
theorem dX1_diameter_95 : decode cX1_diameter 95 = .ok (.lload_n 1, 1) := by decide +kernel
theorem dX1_diameter_96 : decode cX1_diameter 96 = .ok (.l2i, 1) := by decide +kernel
theorem dX1_diameter_97 : decode cX1_diameter 97 = .ok (.ireturn, 1) := by decide +kernel
abbrev cX1_points : ByteArray := prog_1_method_22_code
def yX1_points : MethodName := ⟨RX1, "points", "()I"⟩
theorem dX1_points_0 : decode cX1_points 0 = .ok (.aload_n 0, 1) := by decide +kernel
theorem dX1_points_1 : decode cX1_points 1 = .ok (.getfield 65, 3) := by decide +kernel
theorem dX1_points_4 : decode cX1_points 4 = .ok (.ireturn, 1) := by decide +kernel
theorem q11 : (Jvm.Cond.initialized "OnlineHull") ∈ lw_all := lw_g (lw_at lw_m0 1 rfl) rfl
theorem q14 : (Jvm.Cond.instantiable "OnlineHull" (11 : Nat)) ∈ lw_all := lw_g (lw_at lw_m0 4 rfl) rfl
theorem q16 : (Jvm.Cond.instanceMethod ({ cls := "OnlineHull", name := "<init>", desc := "(I)V" } : Jvm.MethodName)) ∈ lw_all := lw_g (lw_at lw_m0 6 rfl) rfl
theorem q17 : (Jvm.Cond.code ({ cls := "OnlineHull", name := "<init>", desc := "(I)V" } : Jvm.MethodName) prog_1_method_1_code (3 : Nat) (Option.none : Option Jvm.ClassFile.FieldType)) ∈ lw_all := lw_g (lw_at lw_m0 7 rfl) rfl
theorem q18 : (Jvm.Cond.methodLink "OnlineHull" (1 : Nat) ({ cls := "java/lang/Object", name := "<init>", desc := "()V" } : Jvm.MethodName)) ∈ lw_all := lw_g (lw_at lw_m0 8 rfl) rfl
theorem q21 : (Jvm.Cond.fieldLink "OnlineHull" (7 : Nat) "OnlineHull" "lx" "[I") ∈ lw_all := lw_g (lw_at lw_m0 11 rfl) rfl
theorem q22 : (Jvm.Cond.fieldLink "OnlineHull" (13 : Nat) "OnlineHull" "ly" "[I") ∈ lw_all := lw_g (lw_at lw_m0 12 rfl) rfl
theorem q23 : (Jvm.Cond.fieldLink "OnlineHull" (16 : Nat) "OnlineHull" "ux" "[I") ∈ lw_all := lw_g (lw_at lw_m0 13 rfl) rfl
theorem q24 : (Jvm.Cond.fieldLink "OnlineHull" (19 : Nat) "OnlineHull" "uy" "[I") ∈ lw_all := lw_g (lw_at lw_m0 14 rfl) rfl
theorem q25 : (Jvm.Cond.fieldLink "OnlineHull" (44 : Nat) "OnlineHull" "nl" "I") ∈ lw_all := lw_g (lw_at lw_m0 15 rfl) rfl
theorem q26 : (Jvm.Cond.fieldLink "OnlineHull" (51 : Nat) "OnlineHull" "nu" "I") ∈ lw_all := lw_g (lw_at lw_m0 16 rfl) rfl
theorem q27 : (Jvm.Cond.fieldLink "OnlineHull" (22 : Nat) "OnlineHull" "tx" "[I") ∈ lw_all := lw_g (lw_at lw_m0 17 rfl) rfl
theorem q28 : (Jvm.Cond.fieldLink "OnlineHull" (25 : Nat) "OnlineHull" "ty" "[I") ∈ lw_all := lw_g (lw_at lw_m0 18 rfl) rfl
theorem q29 : (Jvm.Cond.fieldLink "OnlineHull" (54 : Nat) "OnlineHull" "nt" "I") ∈ lw_all := lw_g (lw_at lw_m0 19 rfl) rfl
theorem q30 : (Jvm.Cond.fieldLink "OnlineHull" (28 : Nat) "OnlineHull" "cap" "I") ∈ lw_all := lw_g (lw_at lw_m0 20 rfl) rfl
theorem q31 : (Jvm.Cond.fieldLink "OnlineHull" (65 : Nat) "OnlineHull" "seen" "I") ∈ lw_all := lw_g (lw_at lw_m0 21 rfl) rfl
theorem q32 : (Jvm.Cond.laysFinal "OnlineHull" "OnlineHull" "lx" "[I") ∈ lw_all := lw_g (lw_at lw_m0 22 rfl) rfl
theorem q33 : (Jvm.Cond.soleField "OnlineHull" "lx") ∈ lw_all := lw_g (lw_at lw_m0 23 rfl) rfl
theorem q34 : (Jvm.Cond.laysFinal "OnlineHull" "OnlineHull" "ly" "[I") ∈ lw_all := lw_g (lw_at lw_m0 24 rfl) rfl
theorem q35 : (Jvm.Cond.soleField "OnlineHull" "ly") ∈ lw_all := lw_g (lw_at lw_m0 25 rfl) rfl
theorem q36 : (Jvm.Cond.laysFinal "OnlineHull" "OnlineHull" "ux" "[I") ∈ lw_all := lw_g (lw_at lw_m0 26 rfl) rfl
theorem q37 : (Jvm.Cond.soleField "OnlineHull" "ux") ∈ lw_all := lw_g (lw_at lw_m0 27 rfl) rfl
theorem q38 : (Jvm.Cond.laysFinal "OnlineHull" "OnlineHull" "uy" "[I") ∈ lw_all := lw_g (lw_at lw_m0 28 rfl) rfl
theorem q39 : (Jvm.Cond.soleField "OnlineHull" "uy") ∈ lw_all := lw_g (lw_at lw_m0 29 rfl) rfl
theorem q40 : (Jvm.Cond.lays "OnlineHull" "OnlineHull" "nl" "I") ∈ lw_all := lw_g (lw_at lw_m0 30 rfl) rfl
theorem q41 : (Jvm.Cond.soleField "OnlineHull" "nl") ∈ lw_all := lw_g (lw_at lw_m0 31 rfl) rfl
theorem q42 : (Jvm.Cond.lays "OnlineHull" "OnlineHull" "nu" "I") ∈ lw_all := lw_g (lw_at lw_m0 32 rfl) rfl
theorem q43 : (Jvm.Cond.soleField "OnlineHull" "nu") ∈ lw_all := lw_g (lw_at lw_m0 33 rfl) rfl
theorem q44 : (Jvm.Cond.laysFinal "OnlineHull" "OnlineHull" "tx" "[I") ∈ lw_all := lw_g (lw_at lw_m0 34 rfl) rfl
theorem q45 : (Jvm.Cond.soleField "OnlineHull" "tx") ∈ lw_all := lw_g (lw_at lw_m0 35 rfl) rfl
theorem q46 : (Jvm.Cond.laysFinal "OnlineHull" "OnlineHull" "ty" "[I") ∈ lw_all := lw_g (lw_at lw_m0 36 rfl) rfl
theorem q47 : (Jvm.Cond.soleField "OnlineHull" "ty") ∈ lw_all := lw_g (lw_at lw_m0 37 rfl) rfl
theorem q48 : (Jvm.Cond.lays "OnlineHull" "OnlineHull" "nt" "I") ∈ lw_all := lw_g (lw_at lw_m0 38 rfl) rfl
theorem q49 : (Jvm.Cond.soleField "OnlineHull" "nt") ∈ lw_all := lw_g (lw_at lw_m0 39 rfl) rfl
theorem q50 : (Jvm.Cond.laysFinal "OnlineHull" "OnlineHull" "cap" "I") ∈ lw_all := lw_g (lw_at lw_m0 40 rfl) rfl
theorem q51 : (Jvm.Cond.soleField "OnlineHull" "cap") ∈ lw_all := lw_g (lw_at lw_m0 41 rfl) rfl
theorem q52 : (Jvm.Cond.lays "OnlineHull" "OnlineHull" "seen" "I") ∈ lw_all := lw_g (lw_at lw_m0 42 rfl) rfl
theorem q53 : (Jvm.Cond.soleField "OnlineHull" "seen") ∈ lw_all := lw_g (lw_at lw_m0 43 rfl) rfl
theorem q54 : (Jvm.Cond.superclass "OnlineHull" "java/lang/Object") ∈ lw_all := lw_g (lw_at lw_m0 44 rfl) rfl
theorem q57 : (Jvm.Cond.instanceMethod ({ cls := "OnlineHull", name := "inside", desc := "(II)I" } : Jvm.MethodName)) ∈ lw_all := lw_g (lw_at lw_m0 47 rfl) rfl
theorem q58 : (Jvm.Cond.selects "OnlineHull" ({ cls := "OnlineHull", name := "inside", desc := "(II)I" } : Jvm.MethodName) ({ cls := "OnlineHull", name := "inside", desc := "(II)I" } : Jvm.MethodName)) ∈ lw_all := lw_g (lw_at lw_m0 48 rfl) rfl
theorem q59 : (Jvm.Cond.code ({ cls := "OnlineHull", name := "inside", desc := "(II)I" } : Jvm.MethodName) prog_1_method_6_code (5 : Nat) (Option.some Jvm.ClassFile.FieldType.int)) ∈ lw_all := lw_g (lw_at lw_m0 49 rfl) rfl
theorem q60 : (Jvm.Cond.methodLink "OnlineHull" (40 : Nat) ({ cls := "OnlineHull", name := "isPoint", desc := "(II)Z" } : Jvm.MethodName)) ∈ lw_all := lw_g (lw_at lw_m0 50 rfl) rfl
theorem q61 : (Jvm.Cond.static ({ cls := "OnlineHull", name := "isPoint", desc := "(II)Z" } : Jvm.MethodName)) ∈ lw_all := lw_g (lw_at lw_m0 51 rfl) rfl
theorem q62 : (Jvm.Cond.code ({ cls := "OnlineHull", name := "isPoint", desc := "(II)Z" } : Jvm.MethodName) prog_1_method_2_code (2 : Nat) (Option.some Jvm.ClassFile.FieldType.boolean)) ∈ lw_all := lw_g (lw_at lw_m0 52 rfl) rfl
theorem q63 : (Jvm.Cond.methodLink "OnlineHull" (47 : Nat) ({ cls := "OnlineHull", name := "side", desc := "([I[IIIII)I" } : Jvm.MethodName)) ∈ lw_all := lw_g (lw_at lw_m0 53 rfl) rfl
theorem q64 : (Jvm.Cond.static ({ cls := "OnlineHull", name := "side", desc := "([I[IIIII)I" } : Jvm.MethodName)) ∈ lw_all := lw_g (lw_at lw_m0 54 rfl) rfl
theorem q65 : (Jvm.Cond.code ({ cls := "OnlineHull", name := "side", desc := "([I[IIIII)I" } : Jvm.MethodName) prog_1_method_5_code (9 : Nat) (Option.some Jvm.ClassFile.FieldType.int)) ∈ lw_all := lw_g (lw_at lw_m0 55 rfl) rfl
theorem q66 : (Jvm.Cond.methodLink "OnlineHull" (32 : Nat) ({ cls := "OnlineHull", name := "place", desc := "([I[IIII)I" } : Jvm.MethodName)) ∈ lw_all := lw_g (lw_at lw_m0 56 rfl) rfl
theorem q67 : (Jvm.Cond.static ({ cls := "OnlineHull", name := "place", desc := "([I[IIII)I" } : Jvm.MethodName)) ∈ lw_all := lw_g (lw_at lw_m0 57 rfl) rfl
theorem q68 : (Jvm.Cond.code ({ cls := "OnlineHull", name := "place", desc := "([I[IIII)I" } : Jvm.MethodName) prog_1_method_4_code (8 : Nat) (Option.some Jvm.ClassFile.FieldType.int)) ∈ lw_all := lw_g (lw_at lw_m0 58 rfl) rfl
theorem q69 : (Jvm.Cond.methodLink "OnlineHull" (36 : Nat) ({ cls := "OnlineHull", name := "turn", desc := "(IIIIII)J" } : Jvm.MethodName)) ∈ lw_all := lw_g (lw_at lw_m0 59 rfl) rfl
theorem q70 : (Jvm.Cond.static ({ cls := "OnlineHull", name := "turn", desc := "(IIIIII)J" } : Jvm.MethodName)) ∈ lw_all := lw_g (lw_at lw_m0 60 rfl) rfl
theorem q71 : (Jvm.Cond.code ({ cls := "OnlineHull", name := "turn", desc := "(IIIIII)J" } : Jvm.MethodName) prog_1_method_3_code (6 : Nat) (Option.some Jvm.ClassFile.FieldType.long)) ∈ lw_all := lw_g (lw_at lw_m0 61 rfl) rfl
theorem q73 : (Jvm.Cond.instanceMethod ({ cls := "OnlineHull", name := "add", desc := "(II)I" } : Jvm.MethodName)) ∈ lw_all := lw_g (lw_at lw_m0 63 rfl) rfl
theorem q74 : (Jvm.Cond.selects "OnlineHull" ({ cls := "OnlineHull", name := "add", desc := "(II)I" } : Jvm.MethodName) ({ cls := "OnlineHull", name := "add", desc := "(II)I" } : Jvm.MethodName)) ∈ lw_all := lw_g (lw_at lw_m0 64 rfl) rfl
theorem q75 : (Jvm.Cond.code ({ cls := "OnlineHull", name := "add", desc := "(II)I" } : Jvm.MethodName) prog_1_method_10_code (9 : Nat) (Option.some Jvm.ClassFile.FieldType.int)) ∈ lw_all := lw_g (lw_at lw_m0 65 rfl) rfl
theorem q76 : (Jvm.Cond.methodLink "OnlineHull" (61 : Nat) ({ cls := "OnlineHull", name := "inside", desc := "(II)I" } : Jvm.MethodName)) ∈ lw_all := lw_g (lw_at lw_m0 66 rfl) rfl
theorem q77 : (Jvm.Cond.methodLink "OnlineHull" (68 : Nat) ({ cls := "OnlineHull", name := "isBeyond", desc := "([I[IIIII)Z" } : Jvm.MethodName)) ∈ lw_all := lw_g (lw_at lw_m0 67 rfl) rfl
theorem q78 : (Jvm.Cond.privateMethod ({ cls := "OnlineHull", name := "isBeyond", desc := "([I[IIIII)Z" } : Jvm.MethodName)) ∈ lw_tbl := lw_at lw_m0 68 rfl
theorem q79 : (Jvm.Cond.instanceMethod ({ cls := "OnlineHull", name := "isBeyond", desc := "([I[IIIII)Z" } : Jvm.MethodName)) ∈ lw_all := lw_g (lw_at lw_m0 69 rfl) rfl
theorem q80 : (Jvm.Cond.code ({ cls := "OnlineHull", name := "isBeyond", desc := "([I[IIIII)Z" } : Jvm.MethodName) prog_1_method_9_code (7 : Nat) (Option.some Jvm.ClassFile.FieldType.boolean)) ∈ lw_all := lw_g (lw_at lw_m0 70 rfl) rfl
theorem q81 : (Jvm.Cond.methodLink "OnlineHull" (72 : Nat) ({ cls := "OnlineHull", name := "size", desc := "()I" } : Jvm.MethodName)) ∈ lw_all := lw_g (lw_at lw_m0 71 rfl) rfl
theorem q82 : (Jvm.Cond.instanceMethod ({ cls := "OnlineHull", name := "size", desc := "()I" } : Jvm.MethodName)) ∈ lw_all := lw_g (lw_at lw_m0 72 rfl) rfl
theorem q83 : (Jvm.Cond.selects "OnlineHull" ({ cls := "OnlineHull", name := "size", desc := "()I" } : Jvm.MethodName) ({ cls := "OnlineHull", name := "size", desc := "()I" } : Jvm.MethodName)) ∈ lw_all := lw_g (lw_at lw_m0 73 rfl) rfl
theorem q84 : (Jvm.Cond.code ({ cls := "OnlineHull", name := "size", desc := "()I" } : Jvm.MethodName) prog_1_method_12_code (1 : Nat) (Option.some Jvm.ClassFile.FieldType.int)) ∈ lw_all := lw_g (lw_at lw_m0 74 rfl) rfl
theorem q85 : (Jvm.Cond.methodLink "OnlineHull" (76 : Nat) ({ cls := "OnlineHull", name := "with", desc := "([I[IIIII)V" } : Jvm.MethodName)) ∈ lw_all := lw_g (lw_at lw_m0 75 rfl) rfl
theorem q86 : (Jvm.Cond.privateMethod ({ cls := "OnlineHull", name := "with", desc := "([I[IIIII)V" } : Jvm.MethodName)) ∈ lw_tbl := lw_at lw_m0 76 rfl
theorem q87 : (Jvm.Cond.instanceMethod ({ cls := "OnlineHull", name := "with", desc := "([I[IIIII)V" } : Jvm.MethodName)) ∈ lw_all := lw_g (lw_at lw_m0 77 rfl) rfl
theorem q88 : (Jvm.Cond.code ({ cls := "OnlineHull", name := "with", desc := "([I[IIIII)V" } : Jvm.MethodName) prog_1_method_7_code (11 : Nat) (Option.none : Option Jvm.ClassFile.FieldType)) ∈ lw_all := lw_g (lw_at lw_m0 78 rfl) rfl
theorem q89 : (Jvm.Cond.methodLink "OnlineHull" (57 : Nat) ({ cls := "OnlineHull", name := "put", desc := "(II)V" } : Jvm.MethodName)) ∈ lw_all := lw_g (lw_at lw_m0 79 rfl) rfl
theorem q90 : (Jvm.Cond.privateMethod ({ cls := "OnlineHull", name := "put", desc := "(II)V" } : Jvm.MethodName)) ∈ lw_tbl := lw_at lw_m0 80 rfl
theorem q91 : (Jvm.Cond.instanceMethod ({ cls := "OnlineHull", name := "put", desc := "(II)V" } : Jvm.MethodName)) ∈ lw_all := lw_g (lw_at lw_m0 81 rfl) rfl
theorem q92 : (Jvm.Cond.code ({ cls := "OnlineHull", name := "put", desc := "(II)V" } : Jvm.MethodName) prog_1_method_8_code (3 : Nat) (Option.none : Option Jvm.ClassFile.FieldType)) ∈ lw_all := lw_g (lw_at lw_m0 82 rfl) rfl
theorem q93 : (Jvm.Cond.methodLink "OnlineHull" (80 : Nat) ({ cls := "OnlineHull", name := "keep", desc := "([I[I)V" } : Jvm.MethodName)) ∈ lw_all := lw_g (lw_at lw_m0 83 rfl) rfl
theorem q94 : (Jvm.Cond.privateMethod ({ cls := "OnlineHull", name := "keep", desc := "([I[I)V" } : Jvm.MethodName)) ∈ lw_tbl := lw_at lw_m0 84 rfl
theorem q95 : (Jvm.Cond.instanceMethod ({ cls := "OnlineHull", name := "keep", desc := "([I[I)V" } : Jvm.MethodName)) ∈ lw_all := lw_g (lw_at lw_m0 85 rfl) rfl
theorem q96 : (Jvm.Cond.code ({ cls := "OnlineHull", name := "keep", desc := "([I[I)V" } : Jvm.MethodName) prog_1_method_11_code (4 : Nat) (Option.none : Option Jvm.ClassFile.FieldType)) ∈ lw_all := lw_g (lw_at lw_m0 86 rfl) rfl
theorem q99 : (Jvm.Cond.instanceMethod ({ cls := "OnlineHull", name := "xOf", desc := "(I)I" } : Jvm.MethodName)) ∈ lw_all := lw_g (lw_at lw_m0 89 rfl) rfl
theorem q100 : (Jvm.Cond.selects "OnlineHull" ({ cls := "OnlineHull", name := "xOf", desc := "(I)I" } : Jvm.MethodName) ({ cls := "OnlineHull", name := "xOf", desc := "(I)I" } : Jvm.MethodName)) ∈ lw_all := lw_g (lw_at lw_m0 90 rfl) rfl
theorem q101 : (Jvm.Cond.code ({ cls := "OnlineHull", name := "xOf", desc := "(I)I" } : Jvm.MethodName) prog_1_method_15_code (2 : Nat) (Option.some Jvm.ClassFile.FieldType.int)) ∈ lw_all := lw_g (lw_at lw_m0 91 rfl) rfl
theorem q102 : (Jvm.Cond.methodLink "OnlineHull" (84 : Nat) ({ cls := "OnlineHull", name := "x", desc := "(I)I" } : Jvm.MethodName)) ∈ lw_all := lw_g (lw_at lw_m0 92 rfl) rfl
theorem q103 : (Jvm.Cond.privateMethod ({ cls := "OnlineHull", name := "x", desc := "(I)I" } : Jvm.MethodName)) ∈ lw_tbl := lw_at lw_m0 93 rfl
theorem q104 : (Jvm.Cond.instanceMethod ({ cls := "OnlineHull", name := "x", desc := "(I)I" } : Jvm.MethodName)) ∈ lw_all := lw_g (lw_at lw_m0 94 rfl) rfl
theorem q105 : (Jvm.Cond.code ({ cls := "OnlineHull", name := "x", desc := "(I)I" } : Jvm.MethodName) prog_1_method_13_code (2 : Nat) (Option.some Jvm.ClassFile.FieldType.int)) ∈ lw_all := lw_g (lw_at lw_m0 95 rfl) rfl
theorem q107 : (Jvm.Cond.instanceMethod ({ cls := "OnlineHull", name := "yOf", desc := "(I)I" } : Jvm.MethodName)) ∈ lw_all := lw_g (lw_at lw_m0 97 rfl) rfl
theorem q108 : (Jvm.Cond.selects "OnlineHull" ({ cls := "OnlineHull", name := "yOf", desc := "(I)I" } : Jvm.MethodName) ({ cls := "OnlineHull", name := "yOf", desc := "(I)I" } : Jvm.MethodName)) ∈ lw_all := lw_g (lw_at lw_m0 98 rfl) rfl
theorem q109 : (Jvm.Cond.code ({ cls := "OnlineHull", name := "yOf", desc := "(I)I" } : Jvm.MethodName) prog_1_method_16_code (2 : Nat) (Option.some Jvm.ClassFile.FieldType.int)) ∈ lw_all := lw_g (lw_at lw_m0 99 rfl) rfl
theorem q110 : (Jvm.Cond.methodLink "OnlineHull" (88 : Nat) ({ cls := "OnlineHull", name := "y", desc := "(I)I" } : Jvm.MethodName)) ∈ lw_all := lw_g (lw_at lw_m0 100 rfl) rfl
theorem q111 : (Jvm.Cond.privateMethod ({ cls := "OnlineHull", name := "y", desc := "(I)I" } : Jvm.MethodName)) ∈ lw_tbl := lw_at lw_m0 101 rfl
theorem q112 : (Jvm.Cond.instanceMethod ({ cls := "OnlineHull", name := "y", desc := "(I)I" } : Jvm.MethodName)) ∈ lw_all := lw_g (lw_at lw_m0 102 rfl) rfl
theorem q113 : (Jvm.Cond.code ({ cls := "OnlineHull", name := "y", desc := "(I)I" } : Jvm.MethodName) prog_1_method_14_code (2 : Nat) (Option.some Jvm.ClassFile.FieldType.int)) ∈ lw_all := lw_g (lw_at lw_m0 103 rfl) rfl
theorem q115 : (Jvm.Cond.instanceMethod ({ cls := "OnlineHull", name := "twiceArea", desc := "()I" } : Jvm.MethodName)) ∈ lw_all := lw_g (lw_at lw_m0 105 rfl) rfl
theorem q116 : (Jvm.Cond.selects "OnlineHull" ({ cls := "OnlineHull", name := "twiceArea", desc := "()I" } : Jvm.MethodName) ({ cls := "OnlineHull", name := "twiceArea", desc := "()I" } : Jvm.MethodName)) ∈ lw_all := lw_g (lw_at lw_m0 106 rfl) rfl
theorem q117 : (Jvm.Cond.code ({ cls := "OnlineHull", name := "twiceArea", desc := "()I" } : Jvm.MethodName) prog_1_method_17_code (4 : Nat) (Option.some Jvm.ClassFile.FieldType.int)) ∈ lw_all := lw_g (lw_at lw_m0 107 rfl) rfl
theorem q119 : (Jvm.Cond.instanceMethod ({ cls := "OnlineHull", name := "farthest", desc := "(II)I" } : Jvm.MethodName)) ∈ lw_all := lw_g (lw_at lw_m0 109 rfl) rfl
theorem q120 : (Jvm.Cond.selects "OnlineHull" ({ cls := "OnlineHull", name := "farthest", desc := "(II)I" } : Jvm.MethodName) ({ cls := "OnlineHull", name := "farthest", desc := "(II)I" } : Jvm.MethodName)) ∈ lw_all := lw_g (lw_at lw_m0 110 rfl) rfl
theorem q121 : (Jvm.Cond.code ({ cls := "OnlineHull", name := "farthest", desc := "(II)I" } : Jvm.MethodName) prog_1_method_18_code (9 : Nat) (Option.some Jvm.ClassFile.FieldType.int)) ∈ lw_all := lw_g (lw_at lw_m0 111 rfl) rfl
theorem q123 : (Jvm.Cond.instanceMethod ({ cls := "OnlineHull", name := "tangent", desc := "(III)I" } : Jvm.MethodName)) ∈ lw_all := lw_g (lw_at lw_m0 113 rfl) rfl
theorem q124 : (Jvm.Cond.selects "OnlineHull" ({ cls := "OnlineHull", name := "tangent", desc := "(III)I" } : Jvm.MethodName) ({ cls := "OnlineHull", name := "tangent", desc := "(III)I" } : Jvm.MethodName)) ∈ lw_all := lw_g (lw_at lw_m0 114 rfl) rfl
theorem q125 : (Jvm.Cond.code ({ cls := "OnlineHull", name := "tangent", desc := "(III)I" } : Jvm.MethodName) prog_1_method_20_code (9 : Nat) (Option.some Jvm.ClassFile.FieldType.int)) ∈ lw_all := lw_g (lw_at lw_m0 115 rfl) rfl
theorem q126 : (Jvm.Cond.methodLink "OnlineHull" (91 : Nat) ({ cls := "OnlineHull", name := "sees", desc := "(III)Z" } : Jvm.MethodName)) ∈ lw_all := lw_g (lw_at lw_m0 116 rfl) rfl
theorem q127 : (Jvm.Cond.privateMethod ({ cls := "OnlineHull", name := "sees", desc := "(III)Z" } : Jvm.MethodName)) ∈ lw_tbl := lw_at lw_m0 117 rfl
theorem q128 : (Jvm.Cond.instanceMethod ({ cls := "OnlineHull", name := "sees", desc := "(III)Z" } : Jvm.MethodName)) ∈ lw_all := lw_g (lw_at lw_m0 118 rfl) rfl
theorem q129 : (Jvm.Cond.code ({ cls := "OnlineHull", name := "sees", desc := "(III)Z" } : Jvm.MethodName) prog_1_method_19_code (5 : Nat) (Option.some Jvm.ClassFile.FieldType.boolean)) ∈ lw_all := lw_g (lw_at lw_m0 119 rfl) rfl
theorem q131 : (Jvm.Cond.instanceMethod ({ cls := "OnlineHull", name := "diameter", desc := "()I" } : Jvm.MethodName)) ∈ lw_all := lw_g (lw_at lw_m0 121 rfl) rfl
theorem q132 : (Jvm.Cond.selects "OnlineHull" ({ cls := "OnlineHull", name := "diameter", desc := "()I" } : Jvm.MethodName) ({ cls := "OnlineHull", name := "diameter", desc := "()I" } : Jvm.MethodName)) ∈ lw_all := lw_g (lw_at lw_m0 122 rfl) rfl
theorem q133 : (Jvm.Cond.code ({ cls := "OnlineHull", name := "diameter", desc := "()I" } : Jvm.MethodName) prog_1_method_21_code (9 : Nat) (Option.some Jvm.ClassFile.FieldType.int)) ∈ lw_all := lw_g (lw_at lw_m0 123 rfl) rfl
theorem q135 : (Jvm.Cond.instanceMethod ({ cls := "OnlineHull", name := "points", desc := "()I" } : Jvm.MethodName)) ∈ lw_all := lw_g (lw_at lw_m0 125 rfl) rfl
theorem q136 : (Jvm.Cond.selects "OnlineHull" ({ cls := "OnlineHull", name := "points", desc := "()I" } : Jvm.MethodName) ({ cls := "OnlineHull", name := "points", desc := "()I" } : Jvm.MethodName)) ∈ lw_all := lw_g (lw_at lw_m0 126 rfl) rfl
theorem q137 : (Jvm.Cond.code ({ cls := "OnlineHull", name := "points", desc := "()I" } : Jvm.MethodName) prog_1_method_22_code (1 : Nat) (Option.some Jvm.ClassFile.FieldType.int)) ∈ lw_all := lw_g (lw_at lw_m0 127 rfl) rfl
theorem in_X1 : ∀ w ∈ wsX10, w ∈ lw_all := lw_in wsX10 [32, 34, 36, 38, 40, 42, 44, 46, 48, 50, 52] (by decide +kernel) (by decide +kernel)
end
section
/-! OnlineHullModel -/
set_option maxRecDepth 100000
def RX2 : String := "OnlineHullModel"
def TX2 : u_T := fun k => match k with
  | 0 => ("OnlineHullModel", "cap", "I", true)
  | 1 => ("OnlineHullModel", "corners", "I", false)
  | 2 => ("OnlineHullModel", "points", "I", false)
  | 3 => ("OnlineHullModel", "xs", "[I", true)
  | 4 => ("OnlineHullModel", "ys", "[I", true)
  | 5 => ("OnlineHullModel", "px", "[I", true)
  | 6 => ("OnlineHullModel", "py", "[I", true)
  | _ => ("OnlineHullModel", "round", "[I", true)
def tyX2 : Nat → FieldType := fun k => match k with
  | 0 => .int
  | 1 => .int
  | 2 => .int
  | 3 => .array .int
  | 4 => .array .int
  | 5 => .array .int
  | 6 => .array .int
  | _ => .array .int
abbrev wsX20 : List Cond := u_ws RX2 TX2 8
theorem nmX2 : ∀ a, a < 8 → ∀ b, b < 8 → a ≠ b → (TX2 a).2.1 ≠ (TX2 b).2.1 := by decide +kernel
theorem tyX2_ok : ∀ k, k < 8 → parseFieldDescriptor (TX2 k).2.2.1 = some (tyX2 k) := by decide +kernel
abbrev cX2_init : ByteArray := prog_3_method_1_code
def yX2_init : MethodName := ⟨RX2, "<init>", "(I)V"⟩
theorem dX2_init_0 : decode cX2_init 0 = .ok (.aload_n 0, 1) := by decide +kernel
theorem dX2_init_1 : decode cX2_init 1 = .ok (.invokespecial 1, 3) := by decide +kernel
theorem dX2_init_4 : decode cX2_init 4 = .ok (.aload_n 0, 1) := by decide +kernel
theorem dX2_init_5 : decode cX2_init 5 = .ok (.bipush 66, 2) := by decide +kernel
theorem dX2_init_7 : decode cX2_init 7 = .ok (.newarray .int, 2) := by decide +kernel
theorem dX2_init_9 : decode cX2_init 9 = .ok (.putfield 7, 3) := by decide +kernel
theorem dX2_init_12 : decode cX2_init 12 = .ok (.aload_n 0, 1) := by decide +kernel
theorem dX2_init_13 : decode cX2_init 13 = .ok (.bipush 66, 2) := by decide +kernel
theorem dX2_init_15 : decode cX2_init 15 = .ok (.newarray .int, 2) := by decide +kernel
theorem dX2_init_17 : decode cX2_init 17 = .ok (.putfield 13, 3) := by decide +kernel
theorem dX2_init_20 : decode cX2_init 20 = .ok (.aload_n 0, 1) := by decide +kernel
theorem dX2_init_21 : decode cX2_init 21 = .ok (.bipush 66, 2) := by decide +kernel
theorem dX2_init_23 : decode cX2_init 23 = .ok (.newarray .int, 2) := by decide +kernel
theorem dX2_init_25 : decode cX2_init 25 = .ok (.putfield 16, 3) := by decide +kernel
theorem dX2_init_28 : decode cX2_init 28 = .ok (.aload_n 0, 1) := by decide +kernel
theorem dX2_init_29 : decode cX2_init 29 = .ok (.bipush 66, 2) := by decide +kernel
theorem dX2_init_31 : decode cX2_init 31 = .ok (.newarray .int, 2) := by decide +kernel
theorem dX2_init_33 : decode cX2_init 33 = .ok (.putfield 19, 3) := by decide +kernel
theorem dX2_init_36 : decode cX2_init 36 = .ok (.aload_n 0, 1) := by decide +kernel
theorem dX2_init_37 : decode cX2_init 37 = .ok (.bipush 67, 2) := by decide +kernel
theorem dX2_init_39 : decode cX2_init 39 = .ok (.newarray .int, 2) := by decide +kernel
theorem dX2_init_41 : decode cX2_init 41 = .ok (.putfield 22, 3) := by decide +kernel
theorem dX2_init_44 : decode cX2_init 44 = .ok (.iload_n 1, 1) := by decide +kernel
theorem dX2_init_45 : decode cX2_init 45 = .ok (.bipush 62, 2) := by decide +kernel
theorem dX2_init_47 : decode cX2_init 47 = .ok (.irem, 1) := by decide +kernel
theorem dX2_init_48 : decode cX2_init 48 = .ok (.istore_n 2, 1) := by decide +kernel
theorem dX2_init_49 : decode cX2_init 49 = .ok (.aload_n 0, 1) := by decide +kernel
theorem dX2_init_50 : decode cX2_init 50 = .ok (.iconst 3, 1) := by decide +kernel
theorem dX2_init_51 : decode cX2_init 51 = .ok (.iload_n 2, 1) := by decide +kernel
theorem dX2_init_52 : decode cX2_init 52 = .ok (.ifCond .ge 10, 3) := by decide +kernel
theorem dX2_init_55 : decode cX2_init 55 = .ok (.iload_n 2, 1) := by decide +kernel
theorem dX2_init_56 : decode cX2_init 56 = .ok (.bipush 62, 2) := by decide +kernel
theorem dX2_init_58 : decode cX2_init 58 = .ok (.iadd, 1) := by decide +kernel
theorem dX2_init_59 : decode cX2_init 59 = .ok (.goto 4, 3) := by decide +kernel
theorem dX2_init_62 : decode cX2_init 62 = .ok (.iload_n 2, 1) := by decide +kernel
theorem dX2_init_63 : decode cX2_init 63 = .ok (.iadd, 1) := by decide +kernel
theorem dX2_init_64 : decode cX2_init 64 = .ok (.putfield 25, 3) := by decide +kernel
theorem dX2_init_67 : decode cX2_init 67 = .ok (.return_, 1) := by decide +kernel
abbrev cX2_inside : ByteArray := prog_3_method_6_code
def yX2_inside : MethodName := ⟨RX2, "inside", "(II)I"⟩
theorem dX2_inside_0 : decode cX2_inside 0 = .ok (.aload_n 0, 1) := by decide +kernel
theorem dX2_inside_1 : decode cX2_inside 1 = .ok (.getfield 29, 3) := by decide +kernel
theorem dX2_inside_4 : decode cX2_inside 4 = .ok (.ifCond .eq 11, 3) := by decide +kernel
theorem dX2_inside_7 : decode cX2_inside 7 = .ok (.iload_n 1, 1) := by decide +kernel
theorem dX2_inside_8 : decode cX2_inside 8 = .ok (.iload_n 2, 1) := by decide +kernel
theorem dX2_inside_9 : decode cX2_inside 9 = .ok (.invokestatic 36, 3) := by decide +kernel
theorem dX2_inside_12 : decode cX2_inside 12 = .ok (.ifCond .ne 5, 3) := by decide +kernel
theorem dX2_inside_15 : decode cX2_inside 15 = .ok (.iconst 0, 1) := by decide +kernel
theorem dX2_inside_16 : decode cX2_inside 16 = .ok (.ireturn, 1) := by decide +kernel
theorem dX2_inside_17 : decode cX2_inside 17 = .ok (.aload_n 0, 1) := by decide +kernel
theorem dX2_inside_18 : decode cX2_inside 18 = .ok (.getfield 29, 3) := by decide +kernel
theorem dX2_inside_21 : decode cX2_inside 21 = .ok (.iconst 3, 1) := by decide +kernel
theorem dX2_inside_22 : decode cX2_inside 22 = .ok (.if_icmp .ge 106, 3) := by decide +kernel
theorem dX2_inside_25 : decode cX2_inside 25 = .ok (.aload_n 0, 1) := by decide +kernel
theorem dX2_inside_26 : decode cX2_inside 26 = .ok (.getfield 29, 3) := by decide +kernel
theorem dX2_inside_29 : decode cX2_inside 29 = .ok (.iconst 1, 1) := by decide +kernel
theorem dX2_inside_30 : decode cX2_inside 30 = .ok (.isub, 1) := by decide +kernel
theorem dX2_inside_31 : decode cX2_inside 31 = .ok (.istore_n 3, 1) := by decide +kernel
theorem dX2_inside_32 : decode cX2_inside 32 = .ok (.aload_n 0, 1) := by decide +kernel
theorem dX2_inside_33 : decode cX2_inside 33 = .ok (.getfield 7, 3) := by decide +kernel
theorem dX2_inside_36 : decode cX2_inside 36 = .ok (.iconst 0, 1) := by decide +kernel
theorem dX2_inside_37 : decode cX2_inside 37 = .ok (.iaload, 1) := by decide +kernel
theorem dX2_inside_38 : decode cX2_inside 38 = .ok (.i2l, 1) := by decide +kernel
theorem dX2_inside_39 : decode cX2_inside 39 = .ok (.aload_n 0, 1) := by decide +kernel
theorem dX2_inside_40 : decode cX2_inside 40 = .ok (.getfield 13, 3) := by decide +kernel
theorem dX2_inside_43 : decode cX2_inside 43 = .ok (.iconst 0, 1) := by decide +kernel
theorem dX2_inside_44 : decode cX2_inside 44 = .ok (.iaload, 1) := by decide +kernel
theorem dX2_inside_45 : decode cX2_inside 45 = .ok (.i2l, 1) := by decide +kernel
theorem dX2_inside_46 : decode cX2_inside 46 = .ok (.aload_n 0, 1) := by decide +kernel
theorem dX2_inside_47 : decode cX2_inside 47 = .ok (.getfield 7, 3) := by decide +kernel
theorem dX2_inside_50 : decode cX2_inside 50 = .ok (.iload_n 3, 1) := by decide +kernel
theorem dX2_inside_51 : decode cX2_inside 51 = .ok (.iaload, 1) := by decide +kernel
theorem dX2_inside_52 : decode cX2_inside 52 = .ok (.i2l, 1) := by decide +kernel
theorem dX2_inside_53 : decode cX2_inside 53 = .ok (.aload_n 0, 1) := by decide +kernel
theorem dX2_inside_54 : decode cX2_inside 54 = .ok (.getfield 13, 3) := by decide +kernel
theorem dX2_inside_57 : decode cX2_inside 57 = .ok (.iload_n 3, 1) := by decide +kernel
theorem dX2_inside_58 : decode cX2_inside 58 = .ok (.iaload, 1) := by decide +kernel
theorem dX2_inside_59 : decode cX2_inside 59 = .ok (.i2l, 1) := by decide +kernel
theorem dX2_inside_60 : decode cX2_inside 60 = .ok (.iload_n 1, 1) := by decide +kernel
theorem dX2_inside_61 : decode cX2_inside 61 = .ok (.i2l, 1) := by decide +kernel
theorem dX2_inside_62 : decode cX2_inside 62 = .ok (.iload_n 2, 1) := by decide +kernel
theorem dX2_inside_63 : decode cX2_inside 63 = .ok (.i2l, 1) := by decide +kernel
theorem dX2_inside_64 : decode cX2_inside 64 = .ok (.invokestatic 32, 3) := by decide +kernel
theorem dX2_inside_67 : decode cX2_inside 67 = .ok (.lconst 0, 1) := by decide +kernel
theorem dX2_inside_68 : decode cX2_inside 68 = .ok (.lcmp, 1) := by decide +kernel
theorem dX2_inside_69 : decode cX2_inside 69 = .ok (.ifCond .ne 45, 3) := by decide +kernel
theorem dX2_inside_72 : decode cX2_inside 72 = .ok (.iload_n 1, 1) := by decide +kernel
theorem dX2_inside_73 : decode cX2_inside 73 = .ok (.aload_n 0, 1) := by decide +kernel
theorem dX2_inside_74 : decode cX2_inside 74 = .ok (.getfield 7, 3) := by decide +kernel
theorem dX2_inside_77 : decode cX2_inside 77 = .ok (.iconst 0, 1) := by decide +kernel
theorem dX2_inside_78 : decode cX2_inside 78 = .ok (.iaload, 1) := by decide +kernel
theorem dX2_inside_79 : decode cX2_inside 79 = .ok (.aload_n 0, 1) := by decide +kernel
theorem dX2_inside_80 : decode cX2_inside 80 = .ok (.getfield 7, 3) := by decide +kernel
theorem dX2_inside_83 : decode cX2_inside 83 = .ok (.iload_n 3, 1) := by decide +kernel
theorem dX2_inside_84 : decode cX2_inside 84 = .ok (.iaload, 1) := by decide +kernel
theorem dX2_inside_85 : decode cX2_inside 85 = .ok (.invokestatic 40, 3) := by decide +kernel
theorem dX2_inside_88 : decode cX2_inside 88 = .ok (.ifCond .eq 26, 3) := by decide +kernel
theorem dX2_inside_91 : decode cX2_inside 91 = .ok (.iload_n 2, 1) := by decide +kernel
theorem dX2_inside_92 : decode cX2_inside 92 = .ok (.aload_n 0, 1) := by decide +kernel
theorem dX2_inside_93 : decode cX2_inside 93 = .ok (.getfield 13, 3) := by decide +kernel
theorem dX2_inside_96 : decode cX2_inside 96 = .ok (.iconst 0, 1) := by decide +kernel
theorem dX2_inside_97 : decode cX2_inside 97 = .ok (.iaload, 1) := by decide +kernel
theorem dX2_inside_98 : decode cX2_inside 98 = .ok (.aload_n 0, 1) := by decide +kernel
theorem dX2_inside_99 : decode cX2_inside 99 = .ok (.getfield 13, 3) := by decide +kernel
theorem dX2_inside_102 : decode cX2_inside 102 = .ok (.iload_n 3, 1) := by decide +kernel
theorem dX2_inside_103 : decode cX2_inside 103 = .ok (.iaload, 1) := by decide +kernel
theorem dX2_inside_104 : decode cX2_inside 104 = .ok (.invokestatic 40, 3) := by decide +kernel
theorem dX2_inside_107 : decode cX2_inside 107 = .ok (.ifCond .eq 7, 3) := by decide +kernel
theorem dX2_inside_110 : decode cX2_inside 110 = .ok (.iconst 1, 1) := by decide +kernel
theorem dX2_inside_111 : decode cX2_inside 111 = .ok (.goto 4, 3) := by decide +kernel
theorem dX2_inside_114 : decode cX2_inside 114 = .ok (.iconst 0, 1) := by decide +kernel
theorem dX2_inside_115 : decode cX2_inside 115 = .ok (.istore 4, 2) := by decide +kernel
theorem dX2_inside_117 : decode cX2_inside 117 = .ok (.iload 4, 2) := by decide +kernel
theorem dX2_inside_119 : decode cX2_inside 119 = .ok (.ifCond .eq 7, 3) := by decide +kernel
theorem dX2_inside_122 : decode cX2_inside 122 = .ok (.iconst 1, 1) := by decide +kernel
theorem dX2_inside_123 : decode cX2_inside 123 = .ok (.goto 4, 3) := by decide +kernel
theorem dX2_inside_126 : decode cX2_inside 126 = .ok (.iconst 0, 1) := by decide +kernel
theorem dX2_inside_127 : decode cX2_inside 127 = .ok (.ireturn, 1) := by decide +kernel
theorem dX2_inside_128 : decode cX2_inside 128 = .ok (.iconst 0, 1) := by decide +kernel
theorem dX2_inside_129 : decode cX2_inside 129 = .ok (.istore_n 3, 1) := by decide +kernel
theorem dX2_inside_130 : decode cX2_inside 130 = .ok (.iconst 0, 1) := by decide +kernel
theorem dX2_inside_131 : decode cX2_inside 131 = .ok (.istore 4, 2) := by decide +kernel
theorem dX2_inside_133 : decode cX2_inside 133 = .ok (.iload 4, 2) := by decide +kernel
theorem dX2_inside_135 : decode cX2_inside 135 = .ok (.aload_n 0, 1) := by decide +kernel
theorem dX2_inside_136 : decode cX2_inside 136 = .ok (.getfield 29, 3) := by decide +kernel
theorem dX2_inside_139 : decode cX2_inside 139 = .ok (.if_icmp .ge 45, 3) := by decide +kernel
theorem dX2_inside_142 : decode cX2_inside 142 = .ok (.aload_n 0, 1) := by decide +kernel
theorem dX2_inside_143 : decode cX2_inside 143 = .ok (.iload 4, 2) := by decide +kernel
theorem dX2_inside_145 : decode cX2_inside 145 = .ok (.iload_n 1, 1) := by decide +kernel
theorem dX2_inside_146 : decode cX2_inside 146 = .ok (.iload_n 2, 1) := by decide +kernel
theorem dX2_inside_147 : decode cX2_inside 147 = .ok (.invokevirtual 44, 3) := by decide +kernel
theorem dX2_inside_150 : decode cX2_inside 150 = .ok (.lstore 5, 2) := by decide +kernel
theorem dX2_inside_152 : decode cX2_inside 152 = .ok (.lload 5, 2) := by decide +kernel
theorem dX2_inside_154 : decode cX2_inside 154 = .ok (.lconst 0, 1) := by decide +kernel
theorem dX2_inside_155 : decode cX2_inside 155 = .ok (.lcmp, 1) := by decide +kernel
theorem dX2_inside_156 : decode cX2_inside 156 = .ok (.ifCond .ge 5, 3) := by decide +kernel
theorem dX2_inside_159 : decode cX2_inside 159 = .ok (.iconst 0, 1) := by decide +kernel
theorem dX2_inside_160 : decode cX2_inside 160 = .ok (.ireturn, 1) := by decide +kernel
theorem dX2_inside_161 : decode cX2_inside 161 = .ok (.iload_n 3, 1) := by decide +kernel
theorem dX2_inside_162 : decode cX2_inside 162 = .ok (.ifCond .ne 10, 3) := by decide +kernel
theorem dX2_inside_165 : decode cX2_inside 165 = .ok (.lload 5, 2) := by decide +kernel
theorem dX2_inside_167 : decode cX2_inside 167 = .ok (.lconst 0, 1) := by decide +kernel
theorem dX2_inside_168 : decode cX2_inside 168 = .ok (.lcmp, 1) := by decide +kernel
theorem dX2_inside_169 : decode cX2_inside 169 = .ok (.ifCond .ne 7, 3) := by decide +kernel
theorem dX2_inside_172 : decode cX2_inside 172 = .ok (.iconst 1, 1) := by decide +kernel
theorem dX2_inside_173 : decode cX2_inside 173 = .ok (.goto 4, 3) := by decide +kernel
theorem dX2_inside_176 : decode cX2_inside 176 = .ok (.iconst 0, 1) := by decide +kernel
theorem dX2_inside_177 : decode cX2_inside 177 = .ok (.istore_n 3, 1) := by decide +kernel
theorem dX2_inside_178 : decode cX2_inside 178 = .ok (.iinc 4 1, 3) := by decide +kernel
theorem dX2_inside_181 : decode cX2_inside 181 = .ok (.goto (-48), 3) := by decide +kernel
theorem dX2_inside_184 : decode cX2_inside 184 = .ok (.iload_n 3, 1) := by decide +kernel
theorem dX2_inside_185 : decode cX2_inside 185 = .ok (.ifCond .eq 7, 3) := by decide +kernel
theorem dX2_inside_188 : decode cX2_inside 188 = .ok (.iconst 1, 1) := by decide +kernel
theorem dX2_inside_189 : decode cX2_inside 189 = .ok (.goto 4, 3) := by decide +kernel
theorem dX2_inside_192 : decode cX2_inside 192 = .ok (.iconst 2, 1) := by decide +kernel
theorem dX2_inside_193 : decode cX2_inside 193 = .ok (.ireturn, 1) := by decide +kernel
abbrev cX2_inRange : ByteArray := prog_3_method_2_code
def yX2_inRange : MethodName := ⟨RX2, "inRange", "(II)Z"⟩
theorem dX2_inRange_0 : decode cX2_inRange 0 = .ok (.iload_n 0, 1) := by decide +kernel
theorem dX2_inRange_1 : decode cX2_inRange 1 = .ok (.sipush (-16383), 3) := by decide +kernel
theorem dX2_inRange_4 : decode cX2_inRange 4 = .ok (.if_icmp .lt 28, 3) := by decide +kernel
theorem dX2_inRange_7 : decode cX2_inRange 7 = .ok (.iload_n 0, 1) := by decide +kernel
theorem dX2_inRange_8 : decode cX2_inRange 8 = .ok (.sipush 16383, 3) := by decide +kernel
theorem dX2_inRange_11 : decode cX2_inRange 11 = .ok (.if_icmp .gt 21, 3) := by decide +kernel
theorem dX2_inRange_14 : decode cX2_inRange 14 = .ok (.iload_n 1, 1) := by decide +kernel
theorem dX2_inRange_15 : decode cX2_inRange 15 = .ok (.sipush (-16383), 3) := by decide +kernel
theorem dX2_inRange_18 : decode cX2_inRange 18 = .ok (.if_icmp .lt 14, 3) := by decide +kernel
theorem dX2_inRange_21 : decode cX2_inRange 21 = .ok (.iload_n 1, 1) := by decide +kernel
theorem dX2_inRange_22 : decode cX2_inRange 22 = .ok (.sipush 16383, 3) := by decide +kernel
theorem dX2_inRange_25 : decode cX2_inRange 25 = .ok (.if_icmp .gt 7, 3) := by decide +kernel
theorem dX2_inRange_28 : decode cX2_inRange 28 = .ok (.iconst 1, 1) := by decide +kernel
theorem dX2_inRange_29 : decode cX2_inRange 29 = .ok (.goto 4, 3) := by decide +kernel
theorem dX2_inRange_32 : decode cX2_inRange 32 = .ok (.iconst 0, 1) := by decide +kernel
theorem dX2_inRange_33 : decode cX2_inRange 33 = .ok (.ireturn, 1) := by decide +kernel
abbrev cX2_turn : ByteArray := prog_3_method_3_code
def yX2_turn : MethodName := ⟨RX2, "turn", "(JJJJJJ)J"⟩
theorem dX2_turn_0 : decode cX2_turn 0 = .ok (.lload 4, 2) := by decide +kernel
theorem dX2_turn_2 : decode cX2_turn 2 = .ok (.lload_n 0, 1) := by decide +kernel
theorem dX2_turn_3 : decode cX2_turn 3 = .ok (.lsub, 1) := by decide +kernel
theorem dX2_turn_4 : decode cX2_turn 4 = .ok (.lload 10, 2) := by decide +kernel
theorem dX2_turn_6 : decode cX2_turn 6 = .ok (.lload_n 2, 1) := by decide +kernel
theorem dX2_turn_7 : decode cX2_turn 7 = .ok (.lsub, 1) := by decide +kernel
theorem dX2_turn_8 : decode cX2_turn 8 = .ok (.lmul, 1) := by decide +kernel
theorem dX2_turn_9 : decode cX2_turn 9 = .ok (.lload 6, 2) := by decide +kernel
theorem dX2_turn_11 : decode cX2_turn 11 = .ok (.lload_n 2, 1) := by decide +kernel
theorem dX2_turn_12 : decode cX2_turn 12 = .ok (.lsub, 1) := by decide +kernel
theorem dX2_turn_13 : decode cX2_turn 13 = .ok (.lload 8, 2) := by decide +kernel
theorem dX2_turn_15 : decode cX2_turn 15 = .ok (.lload_n 0, 1) := by decide +kernel
theorem dX2_turn_16 : decode cX2_turn 16 = .ok (.lsub, 1) := by decide +kernel
theorem dX2_turn_17 : decode cX2_turn 17 = .ok (.lmul, 1) := by decide +kernel
theorem dX2_turn_18 : decode cX2_turn 18 = .ok (.lsub, 1) := by decide +kernel
theorem dX2_turn_19 : decode cX2_turn 19 = .ok (.lreturn, 1) := by decide +kernel
abbrev cX2_between : ByteArray := prog_3_method_4_code
def yX2_between : MethodName := ⟨RX2, "between", "(III)Z"⟩
theorem dX2_between_0 : decode cX2_between 0 = .ok (.iload_n 0, 1) := by decide +kernel
theorem dX2_between_1 : decode cX2_between 1 = .ok (.iload_n 1, 1) := by decide +kernel
theorem dX2_between_2 : decode cX2_between 2 = .ok (.if_icmp .lt 8, 3) := by decide +kernel
theorem dX2_between_5 : decode cX2_between 5 = .ok (.iload_n 0, 1) := by decide +kernel
theorem dX2_between_6 : decode cX2_between 6 = .ok (.iload_n 2, 1) := by decide +kernel
theorem dX2_between_7 : decode cX2_between 7 = .ok (.if_icmp .le 13, 3) := by decide +kernel
theorem dX2_between_10 : decode cX2_between 10 = .ok (.iload_n 0, 1) := by decide +kernel
theorem dX2_between_11 : decode cX2_between 11 = .ok (.iload_n 2, 1) := by decide +kernel
theorem dX2_between_12 : decode cX2_between 12 = .ok (.if_icmp .lt 12, 3) := by decide +kernel
theorem dX2_between_15 : decode cX2_between 15 = .ok (.iload_n 0, 1) := by decide +kernel
theorem dX2_between_16 : decode cX2_between 16 = .ok (.iload_n 1, 1) := by decide +kernel
theorem dX2_between_17 : decode cX2_between 17 = .ok (.if_icmp .gt 7, 3) := by decide +kernel
theorem dX2_between_20 : decode cX2_between 20 = .ok (.iconst 1, 1) := by decide +kernel
theorem dX2_between_21 : decode cX2_between 21 = .ok (.goto 4, 3) := by decide +kernel
theorem dX2_between_24 : decode cX2_between 24 = .ok (.iconst 0, 1) := by decide +kernel
theorem dX2_between_25 : decode cX2_between 25 = .ok (.ireturn, 1) := by decide +kernel
abbrev cX2_side : ByteArray := prog_3_method_5_code
def yX2_side : MethodName := ⟨RX2, "side", "(III)J"⟩
theorem dX2_side_0 : decode cX2_side 0 = .ok (.iload_n 1, 1) := by decide +kernel
theorem dX2_side_1 : decode cX2_side 1 = .ok (.iconst 1, 1) := by decide +kernel
theorem dX2_side_2 : decode cX2_side 2 = .ok (.iadd, 1) := by decide +kernel
theorem dX2_side_3 : decode cX2_side 3 = .ok (.aload_n 0, 1) := by decide +kernel
theorem dX2_side_4 : decode cX2_side 4 = .ok (.getfield 29, 3) := by decide +kernel
theorem dX2_side_7 : decode cX2_side 7 = .ok (.if_icmp .ne 7, 3) := by decide +kernel
theorem dX2_side_10 : decode cX2_side 10 = .ok (.iconst 0, 1) := by decide +kernel
theorem dX2_side_11 : decode cX2_side 11 = .ok (.goto 6, 3) := by decide +kernel
theorem dX2_side_14 : decode cX2_side 14 = .ok (.iload_n 1, 1) := by decide +kernel
theorem dX2_side_15 : decode cX2_side 15 = .ok (.iconst 1, 1) := by decide +kernel
theorem dX2_side_16 : decode cX2_side 16 = .ok (.iadd, 1) := by decide +kernel
theorem dX2_side_17 : decode cX2_side 17 = .ok (.istore 4, 2) := by decide +kernel
theorem dX2_side_19 : decode cX2_side 19 = .ok (.aload_n 0, 1) := by decide +kernel
theorem dX2_side_20 : decode cX2_side 20 = .ok (.getfield 7, 3) := by decide +kernel
theorem dX2_side_23 : decode cX2_side 23 = .ok (.iload_n 1, 1) := by decide +kernel
theorem dX2_side_24 : decode cX2_side 24 = .ok (.iaload, 1) := by decide +kernel
theorem dX2_side_25 : decode cX2_side 25 = .ok (.i2l, 1) := by decide +kernel
theorem dX2_side_26 : decode cX2_side 26 = .ok (.aload_n 0, 1) := by decide +kernel
theorem dX2_side_27 : decode cX2_side 27 = .ok (.getfield 13, 3) := by decide +kernel
theorem dX2_side_30 : decode cX2_side 30 = .ok (.iload_n 1, 1) := by decide +kernel
theorem dX2_side_31 : decode cX2_side 31 = .ok (.iaload, 1) := by decide +kernel
theorem dX2_side_32 : decode cX2_side 32 = .ok (.i2l, 1) := by decide +kernel
theorem dX2_side_33 : decode cX2_side 33 = .ok (.aload_n 0, 1) := by decide +kernel
theorem dX2_side_34 : decode cX2_side 34 = .ok (.getfield 7, 3) := by decide +kernel
theorem dX2_side_37 : decode cX2_side 37 = .ok (.iload 4, 2) := by decide +kernel
theorem dX2_side_39 : decode cX2_side 39 = .ok (.iaload, 1) := by decide +kernel
theorem dX2_side_40 : decode cX2_side 40 = .ok (.i2l, 1) := by decide +kernel
theorem dX2_side_41 : decode cX2_side 41 = .ok (.aload_n 0, 1) := by decide +kernel
theorem dX2_side_42 : decode cX2_side 42 = .ok (.getfield 13, 3) := by decide +kernel
theorem dX2_side_45 : decode cX2_side 45 = .ok (.iload 4, 2) := by decide +kernel
theorem dX2_side_47 : decode cX2_side 47 = .ok (.iaload, 1) := by decide +kernel
theorem dX2_side_48 : decode cX2_side 48 = .ok (.i2l, 1) := by decide +kernel
theorem dX2_side_49 : decode cX2_side 49 = .ok (.iload_n 2, 1) := by decide +kernel
theorem dX2_side_50 : decode cX2_side 50 = .ok (.i2l, 1) := by decide +kernel
theorem dX2_side_51 : decode cX2_side 51 = .ok (.iload_n 3, 1) := by decide +kernel
theorem dX2_side_52 : decode cX2_side 52 = .ok (.i2l, 1) := by decide +kernel
theorem dX2_side_53 : decode cX2_side 53 = .ok (.invokestatic 32, 3) := by decide +kernel
theorem dX2_side_56 : decode cX2_side 56 = .ok (.lreturn, 1) := by decide +kernel
abbrev cX2_add : ByteArray := prog_3_method_9_code
def yX2_add : MethodName := ⟨RX2, "add", "(II)I"⟩
theorem dX2_add_0 : decode cX2_add 0 = .ok (.iload_n 1, 1) := by decide +kernel
theorem dX2_add_1 : decode cX2_add 1 = .ok (.iload_n 2, 1) := by decide +kernel
theorem dX2_add_2 : decode cX2_add 2 = .ok (.invokestatic 36, 3) := by decide +kernel
theorem dX2_add_5 : decode cX2_add 5 = .ok (.ifCond .ne 5, 3) := by decide +kernel
theorem dX2_add_8 : decode cX2_add 8 = .ok (.iconst (-1), 1) := by decide +kernel
theorem dX2_add_9 : decode cX2_add 9 = .ok (.ireturn, 1) := by decide +kernel
theorem dX2_add_10 : decode cX2_add 10 = .ok (.aload_n 0, 1) := by decide +kernel
theorem dX2_add_11 : decode cX2_add 11 = .ok (.iload_n 1, 1) := by decide +kernel
theorem dX2_add_12 : decode cX2_add 12 = .ok (.iload_n 2, 1) := by decide +kernel
theorem dX2_add_13 : decode cX2_add 13 = .ok (.invokevirtual 51, 3) := by decide +kernel
theorem dX2_add_16 : decode cX2_add 16 = .ok (.ifCond .le 15, 3) := by decide +kernel
theorem dX2_add_19 : decode cX2_add 19 = .ok (.aload_n 0, 1) := by decide +kernel
theorem dX2_add_20 : decode cX2_add 20 = .ok (.dup, 1) := by decide +kernel
theorem dX2_add_21 : decode cX2_add 21 = .ok (.getfield 55, 3) := by decide +kernel
theorem dX2_add_24 : decode cX2_add 24 = .ok (.iconst 1, 1) := by decide +kernel
theorem dX2_add_25 : decode cX2_add 25 = .ok (.iadd, 1) := by decide +kernel
theorem dX2_add_26 : decode cX2_add 26 = .ok (.putfield 55, 3) := by decide +kernel
theorem dX2_add_29 : decode cX2_add 29 = .ok (.iconst 0, 1) := by decide +kernel
theorem dX2_add_30 : decode cX2_add 30 = .ok (.ireturn, 1) := by decide +kernel
theorem dX2_add_31 : decode cX2_add 31 = .ok (.iconst 0, 1) := by decide +kernel
theorem dX2_add_32 : decode cX2_add 32 = .ok (.istore_n 3, 1) := by decide +kernel
theorem dX2_add_33 : decode cX2_add 33 = .ok (.iload_n 3, 1) := by decide +kernel
theorem dX2_add_34 : decode cX2_add 34 = .ok (.aload_n 0, 1) := by decide +kernel
theorem dX2_add_35 : decode cX2_add 35 = .ok (.getfield 29, 3) := by decide +kernel
theorem dX2_add_38 : decode cX2_add 38 = .ok (.if_icmp .ge 33, 3) := by decide +kernel
theorem dX2_add_41 : decode cX2_add 41 = .ok (.aload_n 0, 1) := by decide +kernel
theorem dX2_add_42 : decode cX2_add 42 = .ok (.getfield 16, 3) := by decide +kernel
theorem dX2_add_45 : decode cX2_add 45 = .ok (.iload_n 3, 1) := by decide +kernel
theorem dX2_add_46 : decode cX2_add 46 = .ok (.aload_n 0, 1) := by decide +kernel
theorem dX2_add_47 : decode cX2_add 47 = .ok (.getfield 7, 3) := by decide +kernel
theorem dX2_add_50 : decode cX2_add 50 = .ok (.iload_n 3, 1) := by decide +kernel
theorem dX2_add_51 : decode cX2_add 51 = .ok (.iaload, 1) := by decide +kernel
theorem dX2_add_52 : decode cX2_add 52 = .ok (.iastore, 1) := by decide +kernel
theorem dX2_add_53 : decode cX2_add 53 = .ok (.aload_n 0, 1) := by decide +kernel
theorem dX2_add_54 : decode cX2_add 54 = .ok (.getfield 19, 3) := by decide +kernel
theorem dX2_add_57 : decode cX2_add 57 = .ok (.iload_n 3, 1) := by decide +kernel
theorem dX2_add_58 : decode cX2_add 58 = .ok (.aload_n 0, 1) := by decide +kernel
theorem dX2_add_59 : decode cX2_add 59 = .ok (.getfield 13, 3) := by decide +kernel
theorem dX2_add_62 : decode cX2_add 62 = .ok (.iload_n 3, 1) := by decide +kernel
theorem dX2_add_63 : decode cX2_add 63 = .ok (.iaload, 1) := by decide +kernel
theorem dX2_add_64 : decode cX2_add 64 = .ok (.iastore, 1) := by decide +kernel
theorem dX2_add_65 : decode cX2_add 65 = .ok (.iinc 3 1, 3) := by decide +kernel
theorem dX2_add_68 : decode cX2_add 68 = .ok (.goto (-35), 3) := by decide +kernel
theorem dX2_add_71 : decode cX2_add 71 = .ok (.aload_n 0, 1) := by decide +kernel
theorem dX2_add_72 : decode cX2_add 72 = .ok (.getfield 16, 3) := by decide +kernel
theorem dX2_add_75 : decode cX2_add 75 = .ok (.aload_n 0, 1) := by decide +kernel
theorem dX2_add_76 : decode cX2_add 76 = .ok (.getfield 29, 3) := by decide +kernel
theorem dX2_add_79 : decode cX2_add 79 = .ok (.iload_n 1, 1) := by decide +kernel
theorem dX2_add_80 : decode cX2_add 80 = .ok (.iastore, 1) := by decide +kernel
theorem dX2_add_81 : decode cX2_add 81 = .ok (.aload_n 0, 1) := by decide +kernel
theorem dX2_add_82 : decode cX2_add 82 = .ok (.getfield 19, 3) := by decide +kernel
theorem dX2_add_85 : decode cX2_add 85 = .ok (.aload_n 0, 1) := by decide +kernel
theorem dX2_add_86 : decode cX2_add 86 = .ok (.getfield 29, 3) := by decide +kernel
theorem dX2_add_89 : decode cX2_add 89 = .ok (.iload_n 2, 1) := by decide +kernel
theorem dX2_add_90 : decode cX2_add 90 = .ok (.iastore, 1) := by decide +kernel
theorem dX2_add_91 : decode cX2_add 91 = .ok (.aload_n 0, 1) := by decide +kernel
theorem dX2_add_92 : decode cX2_add 92 = .ok (.aload_n 0, 1) := by decide +kernel
theorem dX2_add_93 : decode cX2_add 93 = .ok (.getfield 29, 3) := by decide +kernel
theorem dX2_add_96 : decode cX2_add 96 = .ok (.iconst 1, 1) := by decide +kernel
theorem dX2_add_97 : decode cX2_add 97 = .ok (.iadd, 1) := by decide +kernel
theorem dX2_add_98 : decode cX2_add 98 = .ok (.invokevirtual 58, 3) := by decide +kernel
theorem dX2_add_101 : decode cX2_add 101 = .ok (.istore_n 3, 1) := by decide +kernel
theorem dX2_add_102 : decode cX2_add 102 = .ok (.iload_n 3, 1) := by decide +kernel
theorem dX2_add_103 : decode cX2_add 103 = .ok (.aload_n 0, 1) := by decide +kernel
theorem dX2_add_104 : decode cX2_add 104 = .ok (.getfield 25, 3) := by decide +kernel
theorem dX2_add_107 : decode cX2_add 107 = .ok (.if_icmp .le 6, 3) := by decide +kernel
theorem dX2_add_110 : decode cX2_add 110 = .ok (.bipush (-2), 2) := by decide +kernel
theorem dX2_add_112 : decode cX2_add 112 = .ok (.ireturn, 1) := by decide +kernel
theorem dX2_add_113 : decode cX2_add 113 = .ok (.aload_n 0, 1) := by decide +kernel
theorem dX2_add_114 : decode cX2_add 114 = .ok (.getfield 29, 3) := by decide +kernel
theorem dX2_add_117 : decode cX2_add 117 = .ok (.iconst 1, 1) := by decide +kernel
theorem dX2_add_118 : decode cX2_add 118 = .ok (.iadd, 1) := by decide +kernel
theorem dX2_add_119 : decode cX2_add 119 = .ok (.iload_n 3, 1) := by decide +kernel
theorem dX2_add_120 : decode cX2_add 120 = .ok (.isub, 1) := by decide +kernel
theorem dX2_add_121 : decode cX2_add 121 = .ok (.istore 4, 2) := by decide +kernel
theorem dX2_add_123 : decode cX2_add 123 = .ok (.iconst 0, 1) := by decide +kernel
theorem dX2_add_124 : decode cX2_add 124 = .ok (.istore 5, 2) := by decide +kernel
theorem dX2_add_126 : decode cX2_add 126 = .ok (.iload 5, 2) := by decide +kernel
theorem dX2_add_128 : decode cX2_add 128 = .ok (.iload_n 3, 1) := by decide +kernel
theorem dX2_add_129 : decode cX2_add 129 = .ok (.if_icmp .ge 47, 3) := by decide +kernel
theorem dX2_add_132 : decode cX2_add 132 = .ok (.aload_n 0, 1) := by decide +kernel
theorem dX2_add_133 : decode cX2_add 133 = .ok (.getfield 7, 3) := by decide +kernel
theorem dX2_add_136 : decode cX2_add 136 = .ok (.iload 5, 2) := by decide +kernel
theorem dX2_add_138 : decode cX2_add 138 = .ok (.aload_n 0, 1) := by decide +kernel
theorem dX2_add_139 : decode cX2_add 139 = .ok (.getfield 16, 3) := by decide +kernel
theorem dX2_add_142 : decode cX2_add 142 = .ok (.aload_n 0, 1) := by decide +kernel
theorem dX2_add_143 : decode cX2_add 143 = .ok (.getfield 22, 3) := by decide +kernel
theorem dX2_add_146 : decode cX2_add 146 = .ok (.iload 5, 2) := by decide +kernel
theorem dX2_add_148 : decode cX2_add 148 = .ok (.iaload, 1) := by decide +kernel
theorem dX2_add_149 : decode cX2_add 149 = .ok (.iaload, 1) := by decide +kernel
theorem dX2_add_150 : decode cX2_add 150 = .ok (.iastore, 1) := by decide +kernel
theorem dX2_add_151 : decode cX2_add 151 = .ok (.aload_n 0, 1) := by decide +kernel
theorem dX2_add_152 : decode cX2_add 152 = .ok (.getfield 13, 3) := by decide +kernel
theorem dX2_add_155 : decode cX2_add 155 = .ok (.iload 5, 2) := by decide +kernel
theorem dX2_add_157 : decode cX2_add 157 = .ok (.aload_n 0, 1) := by decide +kernel
theorem dX2_add_158 : decode cX2_add 158 = .ok (.getfield 19, 3) := by decide +kernel
theorem dX2_add_161 : decode cX2_add 161 = .ok (.aload_n 0, 1) := by decide +kernel
theorem dX2_add_162 : decode cX2_add 162 = .ok (.getfield 22, 3) := by decide +kernel
theorem dX2_add_165 : decode cX2_add 165 = .ok (.iload 5, 2) := by decide +kernel
theorem dX2_add_167 : decode cX2_add 167 = .ok (.iaload, 1) := by decide +kernel
theorem dX2_add_168 : decode cX2_add 168 = .ok (.iaload, 1) := by decide +kernel
theorem dX2_add_169 : decode cX2_add 169 = .ok (.iastore, 1) := by decide +kernel
theorem dX2_add_170 : decode cX2_add 170 = .ok (.iinc 5 1, 3) := by decide +kernel
theorem dX2_add_173 : decode cX2_add 173 = .ok (.goto (-47), 3) := by decide +kernel
theorem dX2_add_176 : decode cX2_add 176 = .ok (.aload_n 0, 1) := by decide +kernel
theorem dX2_add_177 : decode cX2_add 177 = .ok (.iload_n 3, 1) := by decide +kernel
theorem dX2_add_178 : decode cX2_add 178 = .ok (.putfield 29, 3) := by decide +kernel
theorem dX2_add_181 : decode cX2_add 181 = .ok (.aload_n 0, 1) := by decide +kernel
theorem dX2_add_182 : decode cX2_add 182 = .ok (.dup, 1) := by decide +kernel
theorem dX2_add_183 : decode cX2_add 183 = .ok (.getfield 55, 3) := by decide +kernel
theorem dX2_add_186 : decode cX2_add 186 = .ok (.iconst 1, 1) := by decide +kernel
theorem dX2_add_187 : decode cX2_add 187 = .ok (.iadd, 1) := by decide +kernel
theorem dX2_add_188 : decode cX2_add 188 = .ok (.putfield 55, 3) := by decide +kernel
theorem dX2_add_191 : decode cX2_add 191 = .ok (.iconst 1, 1) := by decide +kernel
theorem dX2_add_192 : decode cX2_add 192 = .ok (.iload 4, 2) := by decide +kernel
theorem dX2_add_194 : decode cX2_add 194 = .ok (.iadd, 1) := by decide +kernel
theorem dX2_add_195 : decode cX2_add 195 = .ok (.ireturn, 1) := by decide +kernel
abbrev cX2_goRound : ByteArray := prog_3_method_8_code
def yX2_goRound : MethodName := ⟨RX2, "goRound", "(I)I"⟩
theorem dX2_goRound_0 : decode cX2_goRound 0 = .ok (.iconst 0, 1) := by decide +kernel
theorem dX2_goRound_1 : decode cX2_goRound 1 = .ok (.istore_n 2, 1) := by decide +kernel
theorem dX2_goRound_2 : decode cX2_goRound 2 = .ok (.iconst 1, 1) := by decide +kernel
theorem dX2_goRound_3 : decode cX2_goRound 3 = .ok (.istore_n 3, 1) := by decide +kernel
theorem dX2_goRound_4 : decode cX2_goRound 4 = .ok (.iload_n 3, 1) := by decide +kernel
theorem dX2_goRound_5 : decode cX2_goRound 5 = .ok (.iload_n 1, 1) := by decide +kernel
theorem dX2_goRound_6 : decode cX2_goRound 6 = .ok (.if_icmp .ge 60, 3) := by decide +kernel
theorem dX2_goRound_9 : decode cX2_goRound 9 = .ok (.aload_n 0, 1) := by decide +kernel
theorem dX2_goRound_10 : decode cX2_goRound 10 = .ok (.getfield 16, 3) := by decide +kernel
theorem dX2_goRound_13 : decode cX2_goRound 13 = .ok (.iload_n 3, 1) := by decide +kernel
theorem dX2_goRound_14 : decode cX2_goRound 14 = .ok (.iaload, 1) := by decide +kernel
theorem dX2_goRound_15 : decode cX2_goRound 15 = .ok (.aload_n 0, 1) := by decide +kernel
theorem dX2_goRound_16 : decode cX2_goRound 16 = .ok (.getfield 16, 3) := by decide +kernel
theorem dX2_goRound_19 : decode cX2_goRound 19 = .ok (.iload_n 2, 1) := by decide +kernel
theorem dX2_goRound_20 : decode cX2_goRound 20 = .ok (.iaload, 1) := by decide +kernel
theorem dX2_goRound_21 : decode cX2_goRound 21 = .ok (.if_icmp .lt 33, 3) := by decide +kernel
theorem dX2_goRound_24 : decode cX2_goRound 24 = .ok (.aload_n 0, 1) := by decide +kernel
theorem dX2_goRound_25 : decode cX2_goRound 25 = .ok (.getfield 16, 3) := by decide +kernel
theorem dX2_goRound_28 : decode cX2_goRound 28 = .ok (.iload_n 3, 1) := by decide +kernel
theorem dX2_goRound_29 : decode cX2_goRound 29 = .ok (.iaload, 1) := by decide +kernel
theorem dX2_goRound_30 : decode cX2_goRound 30 = .ok (.aload_n 0, 1) := by decide +kernel
theorem dX2_goRound_31 : decode cX2_goRound 31 = .ok (.getfield 16, 3) := by decide +kernel
theorem dX2_goRound_34 : decode cX2_goRound 34 = .ok (.iload_n 2, 1) := by decide +kernel
theorem dX2_goRound_35 : decode cX2_goRound 35 = .ok (.iaload, 1) := by decide +kernel
theorem dX2_goRound_36 : decode cX2_goRound 36 = .ok (.if_icmp .ne 22, 3) := by decide +kernel
theorem dX2_goRound_39 : decode cX2_goRound 39 = .ok (.aload_n 0, 1) := by decide +kernel
theorem dX2_goRound_40 : decode cX2_goRound 40 = .ok (.getfield 19, 3) := by decide +kernel
theorem dX2_goRound_43 : decode cX2_goRound 43 = .ok (.iload_n 3, 1) := by decide +kernel
theorem dX2_goRound_44 : decode cX2_goRound 44 = .ok (.iaload, 1) := by decide +kernel
theorem dX2_goRound_45 : decode cX2_goRound 45 = .ok (.aload_n 0, 1) := by decide +kernel
theorem dX2_goRound_46 : decode cX2_goRound 46 = .ok (.getfield 19, 3) := by decide +kernel
theorem dX2_goRound_49 : decode cX2_goRound 49 = .ok (.iload_n 2, 1) := by decide +kernel
theorem dX2_goRound_50 : decode cX2_goRound 50 = .ok (.iaload, 1) := by decide +kernel
theorem dX2_goRound_51 : decode cX2_goRound 51 = .ok (.if_icmp .ge 7, 3) := by decide +kernel
theorem dX2_goRound_54 : decode cX2_goRound 54 = .ok (.iload_n 3, 1) := by decide +kernel
theorem dX2_goRound_55 : decode cX2_goRound 55 = .ok (.goto 4, 3) := by decide +kernel
theorem dX2_goRound_58 : decode cX2_goRound 58 = .ok (.iload_n 2, 1) := by decide +kernel
theorem dX2_goRound_59 : decode cX2_goRound 59 = .ok (.istore_n 2, 1) := by decide +kernel
theorem dX2_goRound_60 : decode cX2_goRound 60 = .ok (.iinc 3 1, 3) := by decide +kernel
theorem dX2_goRound_63 : decode cX2_goRound 63 = .ok (.goto (-59), 3) := by decide +kernel
theorem dX2_goRound_66 : decode cX2_goRound 66 = .ok (.iconst 0, 1) := by decide +kernel
theorem dX2_goRound_67 : decode cX2_goRound 67 = .ok (.istore_n 3, 1) := by decide +kernel
theorem dX2_goRound_68 : decode cX2_goRound 68 = .ok (.iload_n 2, 1) := by decide +kernel
theorem dX2_goRound_69 : decode cX2_goRound 69 = .ok (.istore 4, 2) := by decide +kernel
theorem dX2_goRound_71 : decode cX2_goRound 71 = .ok (.iconst 1, 1) := by decide +kernel
theorem dX2_goRound_72 : decode cX2_goRound 72 = .ok (.istore 5, 2) := by decide +kernel
theorem dX2_goRound_74 : decode cX2_goRound 74 = .ok (.iload 5, 2) := by decide +kernel
theorem dX2_goRound_76 : decode cX2_goRound 76 = .ok (.ifCond .eq 97, 3) := by decide +kernel
theorem dX2_goRound_79 : decode cX2_goRound 79 = .ok (.aload_n 0, 1) := by decide +kernel
theorem dX2_goRound_80 : decode cX2_goRound 80 = .ok (.getfield 22, 3) := by decide +kernel
theorem dX2_goRound_83 : decode cX2_goRound 83 = .ok (.iload_n 3, 1) := by decide +kernel
theorem dX2_goRound_84 : decode cX2_goRound 84 = .ok (.iload 4, 2) := by decide +kernel
theorem dX2_goRound_86 : decode cX2_goRound 86 = .ok (.iastore, 1) := by decide +kernel
theorem dX2_goRound_87 : decode cX2_goRound 87 = .ok (.iinc 3 1, 3) := by decide +kernel
theorem dX2_goRound_90 : decode cX2_goRound 90 = .ok (.iload 4, 2) := by decide +kernel
theorem dX2_goRound_92 : decode cX2_goRound 92 = .ok (.ifCond .ne 9, 3) := by decide +kernel
theorem dX2_goRound_95 : decode cX2_goRound 95 = .ok (.iload_n 1, 1) := by decide +kernel
theorem dX2_goRound_96 : decode cX2_goRound 96 = .ok (.iconst 1, 1) := by decide +kernel
theorem dX2_goRound_97 : decode cX2_goRound 97 = .ok (.isub, 1) := by decide +kernel
theorem dX2_goRound_98 : decode cX2_goRound 98 = .ok (.goto 4, 3) := by decide +kernel
theorem dX2_goRound_101 : decode cX2_goRound 101 = .ok (.iconst 0, 1) := by decide +kernel
theorem dX2_goRound_102 : decode cX2_goRound 102 = .ok (.istore 6, 2) := by decide +kernel
theorem dX2_goRound_104 : decode cX2_goRound 104 = .ok (.iconst 0, 1) := by decide +kernel
theorem dX2_goRound_105 : decode cX2_goRound 105 = .ok (.istore 7, 2) := by decide +kernel
theorem dX2_goRound_107 : decode cX2_goRound 107 = .ok (.iload 7, 2) := by decide +kernel
theorem dX2_goRound_109 : decode cX2_goRound 109 = .ok (.iload_n 1, 1) := by decide +kernel
theorem dX2_goRound_110 : decode cX2_goRound 110 = .ok (.if_icmp .ge 38, 3) := by decide +kernel
theorem dX2_goRound_113 : decode cX2_goRound 113 = .ok (.iload 7, 2) := by decide +kernel
theorem dX2_goRound_115 : decode cX2_goRound 115 = .ok (.iload 4, 2) := by decide +kernel
theorem dX2_goRound_117 : decode cX2_goRound 117 = .ok (.if_icmp .eq 21, 3) := by decide +kernel
theorem dX2_goRound_120 : decode cX2_goRound 120 = .ok (.aload_n 0, 1) := by decide +kernel
theorem dX2_goRound_121 : decode cX2_goRound 121 = .ok (.iload 4, 2) := by decide +kernel
theorem dX2_goRound_123 : decode cX2_goRound 123 = .ok (.iload 6, 2) := by decide +kernel
theorem dX2_goRound_125 : decode cX2_goRound 125 = .ok (.iload 7, 2) := by decide +kernel
theorem dX2_goRound_127 : decode cX2_goRound 127 = .ok (.invokevirtual 48, 3) := by decide +kernel
theorem dX2_goRound_130 : decode cX2_goRound 130 = .ok (.ifCond .eq 8, 3) := by decide +kernel
theorem dX2_goRound_133 : decode cX2_goRound 133 = .ok (.iload 7, 2) := by decide +kernel
theorem dX2_goRound_135 : decode cX2_goRound 135 = .ok (.goto 5, 3) := by decide +kernel
theorem dX2_goRound_138 : decode cX2_goRound 138 = .ok (.iload 6, 2) := by decide +kernel
theorem dX2_goRound_140 : decode cX2_goRound 140 = .ok (.istore 6, 2) := by decide +kernel
theorem dX2_goRound_142 : decode cX2_goRound 142 = .ok (.iinc 7 1, 3) := by decide +kernel
theorem dX2_goRound_145 : decode cX2_goRound 145 = .ok (.goto (-38), 3) := by decide +kernel
theorem dX2_goRound_148 : decode cX2_goRound 148 = .ok (.iload 6, 2) := by decide +kernel
theorem dX2_goRound_150 : decode cX2_goRound 150 = .ok (.istore 4, 2) := by decide +kernel
theorem dX2_goRound_152 : decode cX2_goRound 152 = .ok (.iload 4, 2) := by decide +kernel
theorem dX2_goRound_154 : decode cX2_goRound 154 = .ok (.iload_n 2, 1) := by decide +kernel
theorem dX2_goRound_155 : decode cX2_goRound 155 = .ok (.if_icmp .eq 12, 3) := by decide +kernel
theorem dX2_goRound_158 : decode cX2_goRound 158 = .ok (.iload_n 3, 1) := by decide +kernel
theorem dX2_goRound_159 : decode cX2_goRound 159 = .ok (.iload_n 1, 1) := by decide +kernel
theorem dX2_goRound_160 : decode cX2_goRound 160 = .ok (.if_icmp .gt 7, 3) := by decide +kernel
theorem dX2_goRound_163 : decode cX2_goRound 163 = .ok (.iconst 1, 1) := by decide +kernel
theorem dX2_goRound_164 : decode cX2_goRound 164 = .ok (.goto 4, 3) := by decide +kernel
theorem dX2_goRound_167 : decode cX2_goRound 167 = .ok (.iconst 0, 1) := by decide +kernel
theorem dX2_goRound_168 : decode cX2_goRound 168 = .ok (.istore 5, 2) := by decide +kernel
theorem dX2_goRound_170 : decode cX2_goRound 170 = .ok (.goto (-96), 3) := by decide +kernel
theorem dX2_goRound_173 : decode cX2_goRound 173 = .ok (.iload_n 3, 1) := by decide +kernel
theorem dX2_goRound_174 : decode cX2_goRound 174 = .ok (.ireturn, 1) := by decide +kernel
abbrev cX2_isNext : ByteArray := prog_3_method_7_code
def yX2_isNext : MethodName := ⟨RX2, "isNext", "(III)Z"⟩
theorem dX2_isNext_0 : decode cX2_isNext 0 = .ok (.aload_n 0, 1) := by decide +kernel
theorem dX2_isNext_1 : decode cX2_isNext 1 = .ok (.getfield 16, 3) := by decide +kernel
theorem dX2_isNext_4 : decode cX2_isNext 4 = .ok (.iload_n 1, 1) := by decide +kernel
theorem dX2_isNext_5 : decode cX2_isNext 5 = .ok (.iaload, 1) := by decide +kernel
theorem dX2_isNext_6 : decode cX2_isNext 6 = .ok (.i2l, 1) := by decide +kernel
theorem dX2_isNext_7 : decode cX2_isNext 7 = .ok (.aload_n 0, 1) := by decide +kernel
theorem dX2_isNext_8 : decode cX2_isNext 8 = .ok (.getfield 19, 3) := by decide +kernel
theorem dX2_isNext_11 : decode cX2_isNext 11 = .ok (.iload_n 1, 1) := by decide +kernel
theorem dX2_isNext_12 : decode cX2_isNext 12 = .ok (.iaload, 1) := by decide +kernel
theorem dX2_isNext_13 : decode cX2_isNext 13 = .ok (.i2l, 1) := by decide +kernel
theorem dX2_isNext_14 : decode cX2_isNext 14 = .ok (.aload_n 0, 1) := by decide +kernel
theorem dX2_isNext_15 : decode cX2_isNext 15 = .ok (.getfield 16, 3) := by decide +kernel
theorem dX2_isNext_18 : decode cX2_isNext 18 = .ok (.iload_n 2, 1) := by decide +kernel
theorem dX2_isNext_19 : decode cX2_isNext 19 = .ok (.iaload, 1) := by decide +kernel
theorem dX2_isNext_20 : decode cX2_isNext 20 = .ok (.i2l, 1) := by decide +kernel
theorem dX2_isNext_21 : decode cX2_isNext 21 = .ok (.aload_n 0, 1) := by decide +kernel
theorem dX2_isNext_22 : decode cX2_isNext 22 = .ok (.getfield 19, 3) := by decide +kernel
theorem dX2_isNext_25 : decode cX2_isNext 25 = .ok (.iload_n 2, 1) := by decide +kernel
theorem dX2_isNext_26 : decode cX2_isNext 26 = .ok (.iaload, 1) := by decide +kernel
theorem dX2_isNext_27 : decode cX2_isNext 27 = .ok (.i2l, 1) := by decide +kernel
theorem dX2_isNext_28 : decode cX2_isNext 28 = .ok (.aload_n 0, 1) := by decide +kernel
theorem dX2_isNext_29 : decode cX2_isNext 29 = .ok (.getfield 16, 3) := by decide +kernel
theorem dX2_isNext_32 : decode cX2_isNext 32 = .ok (.iload_n 3, 1) := by decide +kernel
theorem dX2_isNext_33 : decode cX2_isNext 33 = .ok (.iaload, 1) := by decide +kernel
theorem dX2_isNext_34 : decode cX2_isNext 34 = .ok (.i2l, 1) := by decide +kernel
theorem dX2_isNext_35 : decode cX2_isNext 35 = .ok (.aload_n 0, 1) := by decide +kernel
theorem dX2_isNext_36 : decode cX2_isNext 36 = .ok (.getfield 19, 3) := by decide +kernel
theorem dX2_isNext_39 : decode cX2_isNext 39 = .ok (.iload_n 3, 1) := by decide +kernel
theorem dX2_isNext_40 : decode cX2_isNext 40 = .ok (.iaload, 1) := by decide +kernel
theorem dX2_isNext_41 : decode cX2_isNext 41 = .ok (.i2l, 1) := by decide +kernel
theorem dX2_isNext_42 : decode cX2_isNext 42 = .ok (.invokestatic 32, 3) := by decide +kernel
theorem dX2_isNext_45 : decode cX2_isNext 45 = .ok (.lstore 4, 2) := by decide +kernel
theorem dX2_isNext_47 : decode cX2_isNext 47 = .ok (.aload_n 0, 1) := by decide +kernel
theorem dX2_isNext_48 : decode cX2_isNext 48 = .ok (.getfield 16, 3) := by decide +kernel
theorem dX2_isNext_51 : decode cX2_isNext 51 = .ok (.iload_n 2, 1) := by decide +kernel
theorem dX2_isNext_52 : decode cX2_isNext 52 = .ok (.iaload, 1) := by decide +kernel
theorem dX2_isNext_53 : decode cX2_isNext 53 = .ok (.aload_n 0, 1) := by decide +kernel
theorem dX2_isNext_54 : decode cX2_isNext 54 = .ok (.getfield 16, 3) := by decide +kernel
theorem dX2_isNext_57 : decode cX2_isNext 57 = .ok (.iload_n 1, 1) := by decide +kernel
theorem dX2_isNext_58 : decode cX2_isNext 58 = .ok (.iaload, 1) := by decide +kernel
theorem dX2_isNext_59 : decode cX2_isNext 59 = .ok (.isub, 1) := by decide +kernel
theorem dX2_isNext_60 : decode cX2_isNext 60 = .ok (.i2l, 1) := by decide +kernel
theorem dX2_isNext_61 : decode cX2_isNext 61 = .ok (.lstore 6, 2) := by decide +kernel
theorem dX2_isNext_63 : decode cX2_isNext 63 = .ok (.aload_n 0, 1) := by decide +kernel
theorem dX2_isNext_64 : decode cX2_isNext 64 = .ok (.getfield 19, 3) := by decide +kernel
theorem dX2_isNext_67 : decode cX2_isNext 67 = .ok (.iload_n 2, 1) := by decide +kernel
theorem dX2_isNext_68 : decode cX2_isNext 68 = .ok (.iaload, 1) := by decide +kernel
theorem dX2_isNext_69 : decode cX2_isNext 69 = .ok (.aload_n 0, 1) := by decide +kernel
theorem dX2_isNext_70 : decode cX2_isNext 70 = .ok (.getfield 19, 3) := by decide +kernel
theorem dX2_isNext_73 : decode cX2_isNext 73 = .ok (.iload_n 1, 1) := by decide +kernel
theorem dX2_isNext_74 : decode cX2_isNext 74 = .ok (.iaload, 1) := by decide +kernel
theorem dX2_isNext_75 : decode cX2_isNext 75 = .ok (.isub, 1) := by decide +kernel
theorem dX2_isNext_76 : decode cX2_isNext 76 = .ok (.i2l, 1) := by decide +kernel
theorem dX2_isNext_77 : decode cX2_isNext 77 = .ok (.lstore 8, 2) := by decide +kernel
theorem dX2_isNext_79 : decode cX2_isNext 79 = .ok (.aload_n 0, 1) := by decide +kernel
theorem dX2_isNext_80 : decode cX2_isNext 80 = .ok (.getfield 16, 3) := by decide +kernel
theorem dX2_isNext_83 : decode cX2_isNext 83 = .ok (.iload_n 3, 1) := by decide +kernel
theorem dX2_isNext_84 : decode cX2_isNext 84 = .ok (.iaload, 1) := by decide +kernel
theorem dX2_isNext_85 : decode cX2_isNext 85 = .ok (.aload_n 0, 1) := by decide +kernel
theorem dX2_isNext_86 : decode cX2_isNext 86 = .ok (.getfield 16, 3) := by decide +kernel
theorem dX2_isNext_89 : decode cX2_isNext 89 = .ok (.iload_n 1, 1) := by decide +kernel
theorem dX2_isNext_90 : decode cX2_isNext 90 = .ok (.iaload, 1) := by decide +kernel
theorem dX2_isNext_91 : decode cX2_isNext 91 = .ok (.isub, 1) := by decide +kernel
theorem dX2_isNext_92 : decode cX2_isNext 92 = .ok (.i2l, 1) := by decide +kernel
theorem dX2_isNext_93 : decode cX2_isNext 93 = .ok (.lstore 10, 2) := by decide +kernel
theorem dX2_isNext_95 : decode cX2_isNext 95 = .ok (.aload_n 0, 1) := by decide +kernel
theorem dX2_isNext_96 : decode cX2_isNext 96 = .ok (.getfield 19, 3) := by decide +kernel
theorem dX2_isNext_99 : decode cX2_isNext 99 = .ok (.iload_n 3, 1) := by decide +kernel
theorem dX2_isNext_100 : decode cX2_isNext 100 = .ok (.iaload, 1) := by decide +kernel
theorem dX2_isNext_101 : decode cX2_isNext 101 = .ok (.aload_n 0, 1) := by decide +kernel
theorem dX2_isNext_102 : decode cX2_isNext 102 = .ok (.getfield 19, 3) := by decide +kernel
theorem dX2_isNext_105 : decode cX2_isNext 105 = .ok (.iload_n 1, 1) := by decide +kernel
theorem dX2_isNext_106 : decode cX2_isNext 106 = .ok (.iaload, 1) := by decide +kernel
theorem dX2_isNext_107 : decode cX2_isNext 107 = .ok (.isub, 1) := by decide +kernel
theorem dX2_isNext_108 : decode cX2_isNext 108 = .ok (.i2l, 1) := by decide +kernel
theorem dX2_isNext_109 : decode cX2_isNext 109 = .ok (.lstore 12, 2) := by decide +kernel
theorem dX2_isNext_111 : decode cX2_isNext 111 = .ok (.lload 4, 2) := by decide +kernel
theorem dX2_isNext_113 : decode cX2_isNext 113 = .ok (.lconst 0, 1) := by decide +kernel
theorem dX2_isNext_114 : decode cX2_isNext 114 = .ok (.lcmp, 1) := by decide +kernel
theorem dX2_isNext_115 : decode cX2_isNext 115 = .ok (.ifCond .lt 36, 3) := by decide +kernel
theorem dX2_isNext_118 : decode cX2_isNext 118 = .ok (.lload 4, 2) := by decide +kernel
theorem dX2_isNext_120 : decode cX2_isNext 120 = .ok (.lconst 0, 1) := by decide +kernel
theorem dX2_isNext_121 : decode cX2_isNext 121 = .ok (.lcmp, 1) := by decide +kernel
theorem dX2_isNext_122 : decode cX2_isNext 122 = .ok (.ifCond .ne 33, 3) := by decide +kernel
theorem dX2_isNext_125 : decode cX2_isNext 125 = .ok (.lload 10, 2) := by decide +kernel
theorem dX2_isNext_127 : decode cX2_isNext 127 = .ok (.lload 10, 2) := by decide +kernel
theorem dX2_isNext_129 : decode cX2_isNext 129 = .ok (.lmul, 1) := by decide +kernel
theorem dX2_isNext_130 : decode cX2_isNext 130 = .ok (.lload 12, 2) := by decide +kernel
theorem dX2_isNext_132 : decode cX2_isNext 132 = .ok (.lload 12, 2) := by decide +kernel
theorem dX2_isNext_134 : decode cX2_isNext 134 = .ok (.lmul, 1) := by decide +kernel
theorem dX2_isNext_135 : decode cX2_isNext 135 = .ok (.ladd, 1) := by decide +kernel
theorem dX2_isNext_136 : decode cX2_isNext 136 = .ok (.lload 6, 2) := by decide +kernel
theorem dX2_isNext_138 : decode cX2_isNext 138 = .ok (.lload 6, 2) := by decide +kernel
theorem dX2_isNext_140 : decode cX2_isNext 140 = .ok (.lmul, 1) := by decide +kernel
theorem dX2_isNext_141 : decode cX2_isNext 141 = .ok (.lload 8, 2) := by decide +kernel
theorem dX2_isNext_143 : decode cX2_isNext 143 = .ok (.lload 8, 2) := by decide +kernel
theorem dX2_isNext_145 : decode cX2_isNext 145 = .ok (.lmul, 1) := by decide +kernel
theorem dX2_isNext_146 : decode cX2_isNext 146 = .ok (.ladd, 1) := by decide +kernel
theorem dX2_isNext_147 : decode cX2_isNext 147 = .ok (.lcmp, 1) := by decide +kernel
theorem dX2_isNext_148 : decode cX2_isNext 148 = .ok (.ifCond .le 7, 3) := by decide +kernel
theorem dX2_isNext_151 : decode cX2_isNext 151 = .ok (.iconst 1, 1) := by decide +kernel
theorem dX2_isNext_152 : decode cX2_isNext 152 = .ok (.goto 4, 3) := by decide +kernel
theorem dX2_isNext_155 : decode cX2_isNext 155 = .ok (.iconst 0, 1) := by decide +kernel
theorem dX2_isNext_156 : decode cX2_isNext 156 = .ok (.ireturn, 1) := by decide +kernel
abbrev cX2_size : ByteArray := prog_3_method_10_code
def yX2_size : MethodName := ⟨RX2, "size", "()I"⟩
theorem dX2_size_0 : decode cX2_size 0 = .ok (.aload_n 0, 1) := by decide +kernel
theorem dX2_size_1 : decode cX2_size 1 = .ok (.getfield 29, 3) := by decide +kernel
theorem dX2_size_4 : decode cX2_size 4 = .ok (.ireturn, 1) := by decide +kernel
abbrev cX2_xOf : ByteArray := prog_3_method_11_code
def yX2_xOf : MethodName := ⟨RX2, "xOf", "(I)I"⟩
theorem dX2_xOf_0 : decode cX2_xOf 0 = .ok (.iload_n 1, 1) := by decide +kernel
theorem dX2_xOf_1 : decode cX2_xOf 1 = .ok (.ifCond .lt 20, 3) := by decide +kernel
theorem dX2_xOf_4 : decode cX2_xOf 4 = .ok (.iload_n 1, 1) := by decide +kernel
theorem dX2_xOf_5 : decode cX2_xOf 5 = .ok (.aload_n 0, 1) := by decide +kernel
theorem dX2_xOf_6 : decode cX2_xOf 6 = .ok (.getfield 29, 3) := by decide +kernel
theorem dX2_xOf_9 : decode cX2_xOf 9 = .ok (.if_icmp .ge 12, 3) := by decide +kernel
theorem dX2_xOf_12 : decode cX2_xOf 12 = .ok (.aload_n 0, 1) := by decide +kernel
theorem dX2_xOf_13 : decode cX2_xOf 13 = .ok (.getfield 7, 3) := by decide +kernel
theorem dX2_xOf_16 : decode cX2_xOf 16 = .ok (.iload_n 1, 1) := by decide +kernel
theorem dX2_xOf_17 : decode cX2_xOf 17 = .ok (.iaload, 1) := by decide +kernel
theorem dX2_xOf_18 : decode cX2_xOf 18 = .ok (.goto 4, 3) := by decide +kernel
theorem dX2_xOf_21 : decode cX2_xOf 21 = .ok (.iconst 0, 1) := by decide +kernel
theorem dX2_xOf_22 : decode cX2_xOf 22 = .ok (.ireturn, 1) := by decide +kernel
abbrev cX2_yOf : ByteArray := prog_3_method_12_code
def yX2_yOf : MethodName := ⟨RX2, "yOf", "(I)I"⟩
theorem dX2_yOf_0 : decode cX2_yOf 0 = .ok (.iload_n 1, 1) := by decide +kernel
theorem dX2_yOf_1 : decode cX2_yOf 1 = .ok (.ifCond .lt 20, 3) := by decide +kernel
theorem dX2_yOf_4 : decode cX2_yOf 4 = .ok (.iload_n 1, 1) := by decide +kernel
theorem dX2_yOf_5 : decode cX2_yOf 5 = .ok (.aload_n 0, 1) := by decide +kernel
theorem dX2_yOf_6 : decode cX2_yOf 6 = .ok (.getfield 29, 3) := by decide +kernel
theorem dX2_yOf_9 : decode cX2_yOf 9 = .ok (.if_icmp .ge 12, 3) := by decide +kernel
theorem dX2_yOf_12 : decode cX2_yOf 12 = .ok (.aload_n 0, 1) := by decide +kernel
theorem dX2_yOf_13 : decode cX2_yOf 13 = .ok (.getfield 13, 3) := by decide +kernel
theorem dX2_yOf_16 : decode cX2_yOf 16 = .ok (.iload_n 1, 1) := by decide +kernel
theorem dX2_yOf_17 : decode cX2_yOf 17 = .ok (.iaload, 1) := by decide +kernel
theorem dX2_yOf_18 : decode cX2_yOf 18 = .ok (.goto 4, 3) := by decide +kernel
theorem dX2_yOf_21 : decode cX2_yOf 21 = .ok (.iconst 0, 1) := by decide +kernel
theorem dX2_yOf_22 : decode cX2_yOf 22 = .ok (.ireturn, 1) := by decide +kernel
abbrev cX2_twiceArea : ByteArray := prog_3_method_13_code
def yX2_twiceArea : MethodName := ⟨RX2, "twiceArea", "()I"⟩
theorem dX2_twiceArea_0 : decode cX2_twiceArea 0 = .ok (.lconst 0, 1) := by decide +kernel
theorem dX2_twiceArea_1 : decode cX2_twiceArea 1 = .ok (.lstore_n 1, 1) := by decide +kernel
theorem dX2_twiceArea_2 : decode cX2_twiceArea 2 = .ok (.iconst 1, 1) := by decide +kernel
theorem dX2_twiceArea_3 : decode cX2_twiceArea 3 = .ok (.istore_n 3, 1) := by decide +kernel
theorem dX2_twiceArea_4 : decode cX2_twiceArea 4 = .ok (.iload_n 3, 1) := by decide +kernel
theorem dX2_twiceArea_5 : decode cX2_twiceArea 5 = .ok (.iconst 1, 1) := by decide +kernel
theorem dX2_twiceArea_6 : decode cX2_twiceArea 6 = .ok (.iadd, 1) := by decide +kernel
theorem dX2_twiceArea_7 : decode cX2_twiceArea 7 = .ok (.aload_n 0, 1) := by decide +kernel
theorem dX2_twiceArea_8 : decode cX2_twiceArea 8 = .ok (.getfield 29, 3) := by decide +kernel
theorem dX2_twiceArea_11 : decode cX2_twiceArea 11 = .ok (.if_icmp .ge 61, 3) := by decide +kernel
theorem dX2_twiceArea_14 : decode cX2_twiceArea 14 = .ok (.lload_n 1, 1) := by decide +kernel
theorem dX2_twiceArea_15 : decode cX2_twiceArea 15 = .ok (.aload_n 0, 1) := by decide +kernel
theorem dX2_twiceArea_16 : decode cX2_twiceArea 16 = .ok (.getfield 7, 3) := by decide +kernel
theorem dX2_twiceArea_19 : decode cX2_twiceArea 19 = .ok (.iconst 0, 1) := by decide +kernel
theorem dX2_twiceArea_20 : decode cX2_twiceArea 20 = .ok (.iaload, 1) := by decide +kernel
theorem dX2_twiceArea_21 : decode cX2_twiceArea 21 = .ok (.i2l, 1) := by decide +kernel
theorem dX2_twiceArea_22 : decode cX2_twiceArea 22 = .ok (.aload_n 0, 1) := by decide +kernel
theorem dX2_twiceArea_23 : decode cX2_twiceArea 23 = .ok (.getfield 13, 3) := by decide +kernel
theorem dX2_twiceArea_26 : decode cX2_twiceArea 26 = .ok (.iconst 0, 1) := by decide +kernel
theorem dX2_twiceArea_27 : decode cX2_twiceArea 27 = .ok (.iaload, 1) := by decide +kernel
theorem dX2_twiceArea_28 : decode cX2_twiceArea 28 = .ok (.i2l, 1) := by decide +kernel
theorem dX2_twiceArea_29 : decode cX2_twiceArea 29 = .ok (.aload_n 0, 1) := by decide +kernel
theorem dX2_twiceArea_30 : decode cX2_twiceArea 30 = .ok (.getfield 7, 3) := by decide +kernel
theorem dX2_twiceArea_33 : decode cX2_twiceArea 33 = .ok (.iload_n 3, 1) := by decide +kernel
theorem dX2_twiceArea_34 : decode cX2_twiceArea 34 = .ok (.iaload, 1) := by decide +kernel
theorem dX2_twiceArea_35 : decode cX2_twiceArea 35 = .ok (.i2l, 1) := by decide +kernel
theorem dX2_twiceArea_36 : decode cX2_twiceArea 36 = .ok (.aload_n 0, 1) := by decide +kernel
theorem dX2_twiceArea_37 : decode cX2_twiceArea 37 = .ok (.getfield 13, 3) := by decide +kernel
theorem dX2_twiceArea_40 : decode cX2_twiceArea 40 = .ok (.iload_n 3, 1) := by decide +kernel
theorem dX2_twiceArea_41 : decode cX2_twiceArea 41 = .ok (.iaload, 1) := by decide +kernel
theorem dX2_twiceArea_42 : decode cX2_twiceArea 42 = .ok (.i2l, 1) := by decide +kernel
theorem dX2_twiceArea_43 : decode cX2_twiceArea 43 = .ok (.aload_n 0, 1) := by decide +kernel
theorem dX2_twiceArea_44 : decode cX2_twiceArea 44 = .ok (.getfield 7, 3) := by decide +kernel
theorem dX2_twiceArea_47 : decode cX2_twiceArea 47 = .ok (.iload_n 3, 1) := by decide +kernel
theorem dX2_twiceArea_48 : decode cX2_twiceArea 48 = .ok (.iconst 1, 1) := by decide +kernel
theorem dX2_twiceArea_49 : decode cX2_twiceArea 49 = .ok (.iadd, 1) := by decide +kernel
theorem dX2_twiceArea_50 : decode cX2_twiceArea 50 = .ok (.iaload, 1) := by decide +kernel
theorem dX2_twiceArea_51 : decode cX2_twiceArea 51 = .ok (.i2l, 1) := by decide +kernel
theorem dX2_twiceArea_52 : decode cX2_twiceArea 52 = .ok (.aload_n 0, 1) := by decide +kernel
theorem dX2_twiceArea_53 : decode cX2_twiceArea 53 = .ok (.getfield 13, 3) := by decide +kernel
theorem dX2_twiceArea_56 : decode cX2_twiceArea 56 = .ok (.iload_n 3, 1) := by decide +kernel
theorem dX2_twiceArea_57 : decode cX2_twiceArea 57 = .ok (.iconst 1, 1) := by decide +kernel
theorem dX2_twiceArea_58 : decode cX2_twiceArea 58 = .ok (.iadd, 1) := by decide +kernel
theorem dX2_twiceArea_59 : decode cX2_twiceArea 59 = .ok (.iaload, 1) := by decide +kernel
theorem dX2_twiceArea_60 : decode cX2_twiceArea 60 = .ok (.i2l, 1) := by decide +kernel
theorem dX2_twiceArea_61 : decode cX2_twiceArea 61 = .ok (.invokestatic 32, 3) := by decide +kernel
theorem dX2_twiceArea_64 : decode cX2_twiceArea 64 = .ok (.ladd, 1) := by decide +kernel
theorem dX2_twiceArea_65 : decode cX2_twiceArea 65 = .ok (.lstore_n 1, 1) := by decide +kernel
theorem dX2_twiceArea_66 : decode cX2_twiceArea 66 = .ok (.iinc 3 1, 3) := by decide +kernel
theorem dX2_twiceArea_69 : decode cX2_twiceArea 69 = .ok (.goto (-65), 3) := by decide +kernel
theorem dX2_twiceArea_72 : decode cX2_twiceArea 72 = .ok (.lload_n 1, 1) := by decide +kernel
theorem dX2_twiceArea_73 : decode cX2_twiceArea 73 = .ok (.l2i, 1) := by decide +kernel
theorem dX2_twiceArea_74 : decode cX2_twiceArea 74 = .ok (.ireturn, 1) := by decide +kernel
abbrev cX2_farthest : ByteArray := prog_3_method_14_code
def yX2_farthest : MethodName := ⟨RX2, "farthest", "(II)I"⟩
theorem dX2_farthest_0 : decode cX2_farthest 0 = .ok (.aload_n 0, 1) := by decide +kernel
theorem dX2_farthest_1 : decode cX2_farthest 1 = .ok (.getfield 29, 3) := by decide +kernel
theorem dX2_farthest_4 : decode cX2_farthest 4 = .ok (.ifCond .eq 11, 3) := by decide +kernel
theorem dX2_farthest_7 : decode cX2_farthest 7 = .ok (.iload_n 1, 1) := by decide +kernel
theorem dX2_farthest_8 : decode cX2_farthest 8 = .ok (.iload_n 2, 1) := by decide +kernel
theorem dX2_farthest_9 : decode cX2_farthest 9 = .ok (.invokestatic 36, 3) := by decide +kernel
theorem dX2_farthest_12 : decode cX2_farthest 12 = .ok (.ifCond .ne 5, 3) := by decide +kernel
theorem dX2_farthest_15 : decode cX2_farthest 15 = .ok (.iconst (-1), 1) := by decide +kernel
theorem dX2_farthest_16 : decode cX2_farthest 16 = .ok (.ireturn, 1) := by decide +kernel
theorem dX2_farthest_17 : decode cX2_farthest 17 = .ok (.iconst 0, 1) := by decide +kernel
theorem dX2_farthest_18 : decode cX2_farthest 18 = .ok (.istore_n 3, 1) := by decide +kernel
theorem dX2_farthest_19 : decode cX2_farthest 19 = .ok (.iconst 1, 1) := by decide +kernel
theorem dX2_farthest_20 : decode cX2_farthest 20 = .ok (.istore 4, 2) := by decide +kernel
theorem dX2_farthest_22 : decode cX2_farthest 22 = .ok (.iload 4, 2) := by decide +kernel
theorem dX2_farthest_24 : decode cX2_farthest 24 = .ok (.aload_n 0, 1) := by decide +kernel
theorem dX2_farthest_25 : decode cX2_farthest 25 = .ok (.getfield 29, 3) := by decide +kernel
theorem dX2_farthest_28 : decode cX2_farthest 28 = .ok (.if_icmp .ge 55, 3) := by decide +kernel
theorem dX2_farthest_31 : decode cX2_farthest 31 = .ok (.aload_n 0, 1) := by decide +kernel
theorem dX2_farthest_32 : decode cX2_farthest 32 = .ok (.getfield 7, 3) := by decide +kernel
theorem dX2_farthest_35 : decode cX2_farthest 35 = .ok (.iload 4, 2) := by decide +kernel
theorem dX2_farthest_37 : decode cX2_farthest 37 = .ok (.iaload, 1) := by decide +kernel
theorem dX2_farthest_38 : decode cX2_farthest 38 = .ok (.iload_n 1, 1) := by decide +kernel
theorem dX2_farthest_39 : decode cX2_farthest 39 = .ok (.imul, 1) := by decide +kernel
theorem dX2_farthest_40 : decode cX2_farthest 40 = .ok (.aload_n 0, 1) := by decide +kernel
theorem dX2_farthest_41 : decode cX2_farthest 41 = .ok (.getfield 13, 3) := by decide +kernel
theorem dX2_farthest_44 : decode cX2_farthest 44 = .ok (.iload 4, 2) := by decide +kernel
theorem dX2_farthest_46 : decode cX2_farthest 46 = .ok (.iaload, 1) := by decide +kernel
theorem dX2_farthest_47 : decode cX2_farthest 47 = .ok (.iload_n 2, 1) := by decide +kernel
theorem dX2_farthest_48 : decode cX2_farthest 48 = .ok (.imul, 1) := by decide +kernel
theorem dX2_farthest_49 : decode cX2_farthest 49 = .ok (.iadd, 1) := by decide +kernel
theorem dX2_farthest_50 : decode cX2_farthest 50 = .ok (.aload_n 0, 1) := by decide +kernel
theorem dX2_farthest_51 : decode cX2_farthest 51 = .ok (.getfield 7, 3) := by decide +kernel
theorem dX2_farthest_54 : decode cX2_farthest 54 = .ok (.iload_n 3, 1) := by decide +kernel
theorem dX2_farthest_55 : decode cX2_farthest 55 = .ok (.iaload, 1) := by decide +kernel
theorem dX2_farthest_56 : decode cX2_farthest 56 = .ok (.iload_n 1, 1) := by decide +kernel
theorem dX2_farthest_57 : decode cX2_farthest 57 = .ok (.imul, 1) := by decide +kernel
theorem dX2_farthest_58 : decode cX2_farthest 58 = .ok (.aload_n 0, 1) := by decide +kernel
theorem dX2_farthest_59 : decode cX2_farthest 59 = .ok (.getfield 13, 3) := by decide +kernel
theorem dX2_farthest_62 : decode cX2_farthest 62 = .ok (.iload_n 3, 1) := by decide +kernel
theorem dX2_farthest_63 : decode cX2_farthest 63 = .ok (.iaload, 1) := by decide +kernel
theorem dX2_farthest_64 : decode cX2_farthest 64 = .ok (.iload_n 2, 1) := by decide +kernel
theorem dX2_farthest_65 : decode cX2_farthest 65 = .ok (.imul, 1) := by decide +kernel
theorem dX2_farthest_66 : decode cX2_farthest 66 = .ok (.iadd, 1) := by decide +kernel
theorem dX2_farthest_67 : decode cX2_farthest 67 = .ok (.if_icmp .le 8, 3) := by decide +kernel
theorem dX2_farthest_70 : decode cX2_farthest 70 = .ok (.iload 4, 2) := by decide +kernel
theorem dX2_farthest_72 : decode cX2_farthest 72 = .ok (.goto 4, 3) := by decide +kernel
theorem dX2_farthest_75 : decode cX2_farthest 75 = .ok (.iload_n 3, 1) := by decide +kernel
theorem dX2_farthest_76 : decode cX2_farthest 76 = .ok (.istore_n 3, 1) := by decide +kernel
theorem dX2_farthest_77 : decode cX2_farthest 77 = .ok (.iinc 4 1, 3) := by decide +kernel
theorem dX2_farthest_80 : decode cX2_farthest 80 = .ok (.goto (-58), 3) := by decide +kernel
theorem dX2_farthest_83 : decode cX2_farthest 83 = .ok (.iload_n 3, 1) := by decide +kernel
theorem dX2_farthest_84 : decode cX2_farthest 84 = .ok (.ireturn, 1) := by decide +kernel
abbrev cX2_tangent : ByteArray := prog_3_method_15_code
def yX2_tangent : MethodName := ⟨RX2, "tangent", "(III)I"⟩
theorem dX2_tangent_0 : decode cX2_tangent 0 = .ok (.aload_n 0, 1) := by decide +kernel
theorem dX2_tangent_1 : decode cX2_tangent 1 = .ok (.getfield 29, 3) := by decide +kernel
theorem dX2_tangent_4 : decode cX2_tangent 4 = .ok (.iconst 3, 1) := by decide +kernel
theorem dX2_tangent_5 : decode cX2_tangent 5 = .ok (.if_icmp .lt 29, 3) := by decide +kernel
theorem dX2_tangent_8 : decode cX2_tangent 8 = .ok (.iload_n 3, 1) := by decide +kernel
theorem dX2_tangent_9 : decode cX2_tangent 9 = .ok (.ifCond .lt 25, 3) := by decide +kernel
theorem dX2_tangent_12 : decode cX2_tangent 12 = .ok (.iload_n 3, 1) := by decide +kernel
theorem dX2_tangent_13 : decode cX2_tangent 13 = .ok (.iconst 1, 1) := by decide +kernel
theorem dX2_tangent_14 : decode cX2_tangent 14 = .ok (.if_icmp .gt 20, 3) := by decide +kernel
theorem dX2_tangent_17 : decode cX2_tangent 17 = .ok (.iload_n 1, 1) := by decide +kernel
theorem dX2_tangent_18 : decode cX2_tangent 18 = .ok (.iload_n 2, 1) := by decide +kernel
theorem dX2_tangent_19 : decode cX2_tangent 19 = .ok (.invokestatic 36, 3) := by decide +kernel
theorem dX2_tangent_22 : decode cX2_tangent 22 = .ok (.ifCond .eq 12, 3) := by decide +kernel
theorem dX2_tangent_25 : decode cX2_tangent 25 = .ok (.aload_n 0, 1) := by decide +kernel
theorem dX2_tangent_26 : decode cX2_tangent 26 = .ok (.iload_n 1, 1) := by decide +kernel
theorem dX2_tangent_27 : decode cX2_tangent 27 = .ok (.iload_n 2, 1) := by decide +kernel
theorem dX2_tangent_28 : decode cX2_tangent 28 = .ok (.invokevirtual 51, 3) := by decide +kernel
theorem dX2_tangent_31 : decode cX2_tangent 31 = .ok (.ifCond .le 5, 3) := by decide +kernel
theorem dX2_tangent_34 : decode cX2_tangent 34 = .ok (.iconst (-1), 1) := by decide +kernel
theorem dX2_tangent_35 : decode cX2_tangent 35 = .ok (.ireturn, 1) := by decide +kernel
theorem dX2_tangent_36 : decode cX2_tangent 36 = .ok (.iconst (-1), 1) := by decide +kernel
theorem dX2_tangent_37 : decode cX2_tangent 37 = .ok (.istore 4, 2) := by decide +kernel
theorem dX2_tangent_39 : decode cX2_tangent 39 = .ok (.iconst 0, 1) := by decide +kernel
theorem dX2_tangent_40 : decode cX2_tangent 40 = .ok (.istore 5, 2) := by decide +kernel
theorem dX2_tangent_42 : decode cX2_tangent 42 = .ok (.iload 5, 2) := by decide +kernel
theorem dX2_tangent_44 : decode cX2_tangent 44 = .ok (.aload_n 0, 1) := by decide +kernel
theorem dX2_tangent_45 : decode cX2_tangent 45 = .ok (.getfield 29, 3) := by decide +kernel
theorem dX2_tangent_48 : decode cX2_tangent 48 = .ok (.if_icmp .ge 122, 3) := by decide +kernel
theorem dX2_tangent_51 : decode cX2_tangent 51 = .ok (.iload 5, 2) := by decide +kernel
theorem dX2_tangent_53 : decode cX2_tangent 53 = .ok (.ifCond .ne 12, 3) := by decide +kernel
theorem dX2_tangent_56 : decode cX2_tangent 56 = .ok (.aload_n 0, 1) := by decide +kernel
theorem dX2_tangent_57 : decode cX2_tangent 57 = .ok (.getfield 29, 3) := by decide +kernel
theorem dX2_tangent_60 : decode cX2_tangent 60 = .ok (.iconst 1, 1) := by decide +kernel
theorem dX2_tangent_61 : decode cX2_tangent 61 = .ok (.isub, 1) := by decide +kernel
theorem dX2_tangent_62 : decode cX2_tangent 62 = .ok (.goto 7, 3) := by decide +kernel
theorem dX2_tangent_65 : decode cX2_tangent 65 = .ok (.iload 5, 2) := by decide +kernel
theorem dX2_tangent_67 : decode cX2_tangent 67 = .ok (.iconst 1, 1) := by decide +kernel
theorem dX2_tangent_68 : decode cX2_tangent 68 = .ok (.isub, 1) := by decide +kernel
theorem dX2_tangent_69 : decode cX2_tangent 69 = .ok (.istore 6, 2) := by decide +kernel
theorem dX2_tangent_71 : decode cX2_tangent 71 = .ok (.aload_n 0, 1) := by decide +kernel
theorem dX2_tangent_72 : decode cX2_tangent 72 = .ok (.iload 5, 2) := by decide +kernel
theorem dX2_tangent_74 : decode cX2_tangent 74 = .ok (.iload_n 1, 1) := by decide +kernel
theorem dX2_tangent_75 : decode cX2_tangent 75 = .ok (.iload_n 2, 1) := by decide +kernel
theorem dX2_tangent_76 : decode cX2_tangent 76 = .ok (.invokevirtual 44, 3) := by decide +kernel
theorem dX2_tangent_79 : decode cX2_tangent 79 = .ok (.lconst 0, 1) := by decide +kernel
theorem dX2_tangent_80 : decode cX2_tangent 80 = .ok (.lcmp, 1) := by decide +kernel
theorem dX2_tangent_81 : decode cX2_tangent 81 = .ok (.ifCond .ge 7, 3) := by decide +kernel
theorem dX2_tangent_84 : decode cX2_tangent 84 = .ok (.iconst 1, 1) := by decide +kernel
theorem dX2_tangent_85 : decode cX2_tangent 85 = .ok (.goto 4, 3) := by decide +kernel
theorem dX2_tangent_88 : decode cX2_tangent 88 = .ok (.iconst 0, 1) := by decide +kernel
theorem dX2_tangent_89 : decode cX2_tangent 89 = .ok (.istore 7, 2) := by decide +kernel
theorem dX2_tangent_91 : decode cX2_tangent 91 = .ok (.aload_n 0, 1) := by decide +kernel
theorem dX2_tangent_92 : decode cX2_tangent 92 = .ok (.iload 6, 2) := by decide +kernel
theorem dX2_tangent_94 : decode cX2_tangent 94 = .ok (.iload_n 1, 1) := by decide +kernel
theorem dX2_tangent_95 : decode cX2_tangent 95 = .ok (.iload_n 2, 1) := by decide +kernel
theorem dX2_tangent_96 : decode cX2_tangent 96 = .ok (.invokevirtual 44, 3) := by decide +kernel
theorem dX2_tangent_99 : decode cX2_tangent 99 = .ok (.lconst 0, 1) := by decide +kernel
theorem dX2_tangent_100 : decode cX2_tangent 100 = .ok (.lcmp, 1) := by decide +kernel
theorem dX2_tangent_101 : decode cX2_tangent 101 = .ok (.ifCond .ge 7, 3) := by decide +kernel
theorem dX2_tangent_104 : decode cX2_tangent 104 = .ok (.iconst 1, 1) := by decide +kernel
theorem dX2_tangent_105 : decode cX2_tangent 105 = .ok (.goto 4, 3) := by decide +kernel
theorem dX2_tangent_108 : decode cX2_tangent 108 = .ok (.iconst 0, 1) := by decide +kernel
theorem dX2_tangent_109 : decode cX2_tangent 109 = .ok (.istore 8, 2) := by decide +kernel
theorem dX2_tangent_111 : decode cX2_tangent 111 = .ok (.iload_n 3, 1) := by decide +kernel
theorem dX2_tangent_112 : decode cX2_tangent 112 = .ok (.ifCond .ne 21, 3) := by decide +kernel
theorem dX2_tangent_115 : decode cX2_tangent 115 = .ok (.iload 7, 2) := by decide +kernel
theorem dX2_tangent_117 : decode cX2_tangent 117 = .ok (.ifCond .eq 12, 3) := by decide +kernel
theorem dX2_tangent_120 : decode cX2_tangent 120 = .ok (.iload 8, 2) := by decide +kernel
theorem dX2_tangent_122 : decode cX2_tangent 122 = .ok (.ifCond .ne 7, 3) := by decide +kernel
theorem dX2_tangent_125 : decode cX2_tangent 125 = .ok (.iconst 1, 1) := by decide +kernel
theorem dX2_tangent_126 : decode cX2_tangent 126 = .ok (.goto 22, 3) := by decide +kernel
theorem dX2_tangent_129 : decode cX2_tangent 129 = .ok (.iconst 0, 1) := by decide +kernel
theorem dX2_tangent_130 : decode cX2_tangent 130 = .ok (.goto 18, 3) := by decide +kernel
theorem dX2_tangent_133 : decode cX2_tangent 133 = .ok (.iload 8, 2) := by decide +kernel
theorem dX2_tangent_135 : decode cX2_tangent 135 = .ok (.ifCond .eq 12, 3) := by decide +kernel
theorem dX2_tangent_138 : decode cX2_tangent 138 = .ok (.iload 7, 2) := by decide +kernel
theorem dX2_tangent_140 : decode cX2_tangent 140 = .ok (.ifCond .ne 7, 3) := by decide +kernel
theorem dX2_tangent_143 : decode cX2_tangent 143 = .ok (.iconst 1, 1) := by decide +kernel
theorem dX2_tangent_144 : decode cX2_tangent 144 = .ok (.goto 4, 3) := by decide +kernel
theorem dX2_tangent_147 : decode cX2_tangent 147 = .ok (.iconst 0, 1) := by decide +kernel
theorem dX2_tangent_148 : decode cX2_tangent 148 = .ok (.istore 9, 2) := by decide +kernel
theorem dX2_tangent_150 : decode cX2_tangent 150 = .ok (.iload 9, 2) := by decide +kernel
theorem dX2_tangent_152 : decode cX2_tangent 152 = .ok (.ifCond .eq 8, 3) := by decide +kernel
theorem dX2_tangent_155 : decode cX2_tangent 155 = .ok (.iload 5, 2) := by decide +kernel
theorem dX2_tangent_157 : decode cX2_tangent 157 = .ok (.goto 5, 3) := by decide +kernel
theorem dX2_tangent_160 : decode cX2_tangent 160 = .ok (.iload 4, 2) := by decide +kernel
theorem dX2_tangent_162 : decode cX2_tangent 162 = .ok (.istore 4, 2) := by decide +kernel
theorem dX2_tangent_164 : decode cX2_tangent 164 = .ok (.iinc 5 1, 3) := by decide +kernel
theorem dX2_tangent_167 : decode cX2_tangent 167 = .ok (.goto (-125), 3) := by decide +kernel
theorem dX2_tangent_170 : decode cX2_tangent 170 = .ok (.iload 4, 2) := by decide +kernel
theorem dX2_tangent_172 : decode cX2_tangent 172 = .ok (.ireturn, 1) := by decide +kernel
abbrev cX2_diameter : ByteArray := prog_3_method_16_code
def yX2_diameter : MethodName := ⟨RX2, "diameter", "()I"⟩
theorem dX2_diameter_0 : decode cX2_diameter 0 = .ok (.lconst 0, 1) := by decide +kernel
theorem dX2_diameter_1 : decode cX2_diameter 1 = .ok (.lstore_n 1, 1) := by decide +kernel
theorem dX2_diameter_2 : decode cX2_diameter 2 = .ok (.iconst 0, 1) := by decide +kernel
theorem dX2_diameter_3 : decode cX2_diameter 3 = .ok (.istore_n 3, 1) := by decide +kernel
theorem dX2_diameter_4 : decode cX2_diameter 4 = .ok (.iload_n 3, 1) := by decide +kernel
theorem dX2_diameter_5 : decode cX2_diameter 5 = .ok (.aload_n 0, 1) := by decide +kernel
theorem dX2_diameter_6 : decode cX2_diameter 6 = .ok (.getfield 29, 3) := by decide +kernel
theorem dX2_diameter_9 : decode cX2_diameter 9 = .ok (.if_icmp .ge 90, 3) := by decide +kernel
theorem dX2_diameter_12 : decode cX2_diameter 12 = .ok (.iconst 0, 1) := by decide +kernel
theorem dX2_diameter_13 : decode cX2_diameter 13 = .ok (.istore 4, 2) := by decide +kernel
theorem dX2_diameter_15 : decode cX2_diameter 15 = .ok (.iload 4, 2) := by decide +kernel
theorem dX2_diameter_17 : decode cX2_diameter 17 = .ok (.iload_n 3, 1) := by decide +kernel
theorem dX2_diameter_18 : decode cX2_diameter 18 = .ok (.if_icmp .ge 75, 3) := by decide +kernel
theorem dX2_diameter_21 : decode cX2_diameter 21 = .ok (.aload_n 0, 1) := by decide +kernel
theorem dX2_diameter_22 : decode cX2_diameter 22 = .ok (.getfield 7, 3) := by decide +kernel
theorem dX2_diameter_25 : decode cX2_diameter 25 = .ok (.iload_n 3, 1) := by decide +kernel
theorem dX2_diameter_26 : decode cX2_diameter 26 = .ok (.iaload, 1) := by decide +kernel
theorem dX2_diameter_27 : decode cX2_diameter 27 = .ok (.aload_n 0, 1) := by decide +kernel
theorem dX2_diameter_28 : decode cX2_diameter 28 = .ok (.getfield 7, 3) := by decide +kernel
theorem dX2_diameter_31 : decode cX2_diameter 31 = .ok (.iload 4, 2) := by decide +kernel
theorem dX2_diameter_33 : decode cX2_diameter 33 = .ok (.iaload, 1) := by decide +kernel
theorem dX2_diameter_34 : decode cX2_diameter 34 = .ok (.isub, 1) := by decide +kernel
theorem dX2_diameter_35 : decode cX2_diameter 35 = .ok (.i2l, 1) := by decide +kernel
theorem dX2_diameter_36 : decode cX2_diameter 36 = .ok (.lstore 5, 2) := by decide +kernel
theorem dX2_diameter_38 : decode cX2_diameter 38 = .ok (.aload_n 0, 1) := by decide +kernel
theorem dX2_diameter_39 : decode cX2_diameter 39 = .ok (.getfield 13, 3) := by decide +kernel
theorem dX2_diameter_42 : decode cX2_diameter 42 = .ok (.iload_n 3, 1) := by decide +kernel
theorem dX2_diameter_43 : decode cX2_diameter 43 = .ok (.iaload, 1) := by decide +kernel
theorem dX2_diameter_44 : decode cX2_diameter 44 = .ok (.aload_n 0, 1) := by decide +kernel
theorem dX2_diameter_45 : decode cX2_diameter 45 = .ok (.getfield 13, 3) := by decide +kernel
theorem dX2_diameter_48 : decode cX2_diameter 48 = .ok (.iload 4, 2) := by decide +kernel
theorem dX2_diameter_50 : decode cX2_diameter 50 = .ok (.iaload, 1) := by decide +kernel
theorem dX2_diameter_51 : decode cX2_diameter 51 = .ok (.isub, 1) := by decide +kernel
theorem dX2_diameter_52 : decode cX2_diameter 52 = .ok (.i2l, 1) := by decide +kernel
theorem dX2_diameter_53 : decode cX2_diameter 53 = .ok (.lstore 7, 2) := by decide +kernel
theorem dX2_diameter_55 : decode cX2_diameter 55 = .ok (.lload 5, 2) := by decide +kernel
theorem dX2_diameter_57 : decode cX2_diameter 57 = .ok (.lload 5, 2) := by decide +kernel
theorem dX2_diameter_59 : decode cX2_diameter 59 = .ok (.lmul, 1) := by decide +kernel
theorem dX2_diameter_60 : decode cX2_diameter 60 = .ok (.lload 7, 2) := by decide +kernel
theorem dX2_diameter_62 : decode cX2_diameter 62 = .ok (.lload 7, 2) := by decide +kernel
theorem dX2_diameter_64 : decode cX2_diameter 64 = .ok (.lmul, 1) := by decide +kernel
theorem dX2_diameter_65 : decode cX2_diameter 65 = .ok (.ladd, 1) := by decide +kernel
theorem dX2_diameter_66 : decode cX2_diameter 66 = .ok (.lload_n 1, 1) := by decide +kernel
theorem dX2_diameter_67 : decode cX2_diameter 67 = .ok (.lcmp, 1) := by decide +kernel
theorem dX2_diameter_68 : decode cX2_diameter 68 = .ok (.ifCond .le 17, 3) := by decide +kernel
theorem dX2_diameter_71 : decode cX2_diameter 71 = .ok (.lload 5, 2) := by decide +kernel
theorem dX2_diameter_73 : decode cX2_diameter 73 = .ok (.lload 5, 2) := by decide +kernel
theorem dX2_diameter_75 : decode cX2_diameter 75 = .ok (.lmul, 1) := by decide +kernel
theorem dX2_diameter_76 : decode cX2_diameter 76 = .ok (.lload 7, 2) := by decide +kernel
theorem dX2_diameter_78 : decode cX2_diameter 78 = .ok (.lload 7, 2) := by decide +kernel
theorem dX2_diameter_80 : decode cX2_diameter 80 = .ok (.lmul, 1) := by decide +kernel
theorem dX2_diameter_81 : decode cX2_diameter 81 = .ok (.ladd, 1) := by decide +kernel
theorem dX2_diameter_82 : decode cX2_diameter 82 = .ok (.goto 4, 3) := by decide +kernel
theorem dX2_diameter_85 : decode cX2_diameter 85 = .ok (.lload_n 1, 1) := by decide +kernel
theorem dX2_diameter_86 : decode cX2_diameter 86 = .ok (.lstore_n 1, 1) := by decide +kernel
theorem dX2_diameter_87 : decode cX2_diameter 87 = .ok (.iinc 4 1, 3) := by decide +kernel
theorem dX2_diameter_90 : decode cX2_diameter 90 = .ok (.goto (-75), 3) := by decide +kernel
theorem dX2_diameter_93 : decode cX2_diameter 93 = .ok (.iinc 3 1, 3) := by decide +kernel
theorem dX2_diameter_96 : decode cX2_diameter 96 = .ok (.goto (-92), 3) := by decide +kernel
theorem dX2_diameter_99 : decode cX2_diameter 99 = .ok (.lload_n 1, 1) := by decide +kernel
theorem dX2_diameter_100 : decode cX2_diameter 100 = .ok (.l2i, 1) := by decide +kernel
theorem dX2_diameter_101 : decode cX2_diameter 101 = .ok (.ireturn, 1) := by decide +kernel
abbrev cX2_points : ByteArray := prog_3_method_17_code
def yX2_points : MethodName := ⟨RX2, "points", "()I"⟩
theorem dX2_points_0 : decode cX2_points 0 = .ok (.aload_n 0, 1) := by decide +kernel
theorem dX2_points_1 : decode cX2_points 1 = .ok (.getfield 55, 3) := by decide +kernel
theorem dX2_points_4 : decode cX2_points 4 = .ok (.ireturn, 1) := by decide +kernel
theorem q12 : (Jvm.Cond.initialized "OnlineHullModel") ∈ lw_all := lw_g (lw_at lw_m0 2 rfl) rfl
theorem q142 : (Jvm.Cond.instantiable "OnlineHullModel" (8 : Nat)) ∈ lw_all := lw_g (lw_at lw_m0 132 rfl) rfl
theorem q144 : (Jvm.Cond.instanceMethod ({ cls := "OnlineHullModel", name := "<init>", desc := "(I)V" } : Jvm.MethodName)) ∈ lw_all := lw_g (lw_at lw_m0 134 rfl) rfl
theorem q145 : (Jvm.Cond.code ({ cls := "OnlineHullModel", name := "<init>", desc := "(I)V" } : Jvm.MethodName) prog_3_method_1_code (3 : Nat) (Option.none : Option Jvm.ClassFile.FieldType)) ∈ lw_all := lw_g (lw_at lw_m0 135 rfl) rfl
theorem q146 : (Jvm.Cond.methodLink "OnlineHullModel" (1 : Nat) ({ cls := "java/lang/Object", name := "<init>", desc := "()V" } : Jvm.MethodName)) ∈ lw_all := lw_g (lw_at lw_m0 136 rfl) rfl
theorem q147 : (Jvm.Cond.fieldLink "OnlineHullModel" (25 : Nat) "OnlineHullModel" "cap" "I") ∈ lw_all := lw_g (lw_at lw_m0 137 rfl) rfl
theorem q148 : (Jvm.Cond.fieldLink "OnlineHullModel" (29 : Nat) "OnlineHullModel" "corners" "I") ∈ lw_all := lw_g (lw_at lw_m0 138 rfl) rfl
theorem q149 : (Jvm.Cond.fieldLink "OnlineHullModel" (55 : Nat) "OnlineHullModel" "points" "I") ∈ lw_all := lw_g (lw_at lw_m0 139 rfl) rfl
theorem q150 : (Jvm.Cond.fieldLink "OnlineHullModel" (7 : Nat) "OnlineHullModel" "xs" "[I") ∈ lw_all := lw_g (lw_at lw_m0 140 rfl) rfl
theorem q151 : (Jvm.Cond.fieldLink "OnlineHullModel" (13 : Nat) "OnlineHullModel" "ys" "[I") ∈ lw_all := lw_g (lw_at lw_m0 141 rfl) rfl
theorem q152 : (Jvm.Cond.fieldLink "OnlineHullModel" (16 : Nat) "OnlineHullModel" "px" "[I") ∈ lw_all := lw_g (lw_at lw_m0 142 rfl) rfl
theorem q153 : (Jvm.Cond.fieldLink "OnlineHullModel" (19 : Nat) "OnlineHullModel" "py" "[I") ∈ lw_all := lw_g (lw_at lw_m0 143 rfl) rfl
theorem q154 : (Jvm.Cond.fieldLink "OnlineHullModel" (22 : Nat) "OnlineHullModel" "round" "[I") ∈ lw_all := lw_g (lw_at lw_m0 144 rfl) rfl
theorem q155 : (Jvm.Cond.laysFinal "OnlineHullModel" "OnlineHullModel" "cap" "I") ∈ lw_all := lw_g (lw_at lw_m0 145 rfl) rfl
theorem q156 : (Jvm.Cond.soleField "OnlineHullModel" "cap") ∈ lw_all := lw_g (lw_at lw_m0 146 rfl) rfl
theorem q157 : (Jvm.Cond.lays "OnlineHullModel" "OnlineHullModel" "corners" "I") ∈ lw_all := lw_g (lw_at lw_m0 147 rfl) rfl
theorem q158 : (Jvm.Cond.soleField "OnlineHullModel" "corners") ∈ lw_all := lw_g (lw_at lw_m0 148 rfl) rfl
theorem q159 : (Jvm.Cond.lays "OnlineHullModel" "OnlineHullModel" "points" "I") ∈ lw_all := lw_g (lw_at lw_m0 149 rfl) rfl
theorem q160 : (Jvm.Cond.soleField "OnlineHullModel" "points") ∈ lw_all := lw_g (lw_at lw_m0 150 rfl) rfl
theorem q161 : (Jvm.Cond.laysFinal "OnlineHullModel" "OnlineHullModel" "xs" "[I") ∈ lw_all := lw_g (lw_at lw_m0 151 rfl) rfl
theorem q162 : (Jvm.Cond.soleField "OnlineHullModel" "xs") ∈ lw_all := lw_g (lw_at lw_m0 152 rfl) rfl
theorem q163 : (Jvm.Cond.laysFinal "OnlineHullModel" "OnlineHullModel" "ys" "[I") ∈ lw_all := lw_g (lw_at lw_m0 153 rfl) rfl
theorem q164 : (Jvm.Cond.soleField "OnlineHullModel" "ys") ∈ lw_all := lw_g (lw_at lw_m0 154 rfl) rfl
theorem q165 : (Jvm.Cond.laysFinal "OnlineHullModel" "OnlineHullModel" "px" "[I") ∈ lw_all := lw_g (lw_at lw_m0 155 rfl) rfl
theorem q166 : (Jvm.Cond.soleField "OnlineHullModel" "px") ∈ lw_all := lw_g (lw_at lw_m0 156 rfl) rfl
theorem q167 : (Jvm.Cond.laysFinal "OnlineHullModel" "OnlineHullModel" "py" "[I") ∈ lw_all := lw_g (lw_at lw_m0 157 rfl) rfl
theorem q168 : (Jvm.Cond.soleField "OnlineHullModel" "py") ∈ lw_all := lw_g (lw_at lw_m0 158 rfl) rfl
theorem q169 : (Jvm.Cond.laysFinal "OnlineHullModel" "OnlineHullModel" "round" "[I") ∈ lw_all := lw_g (lw_at lw_m0 159 rfl) rfl
theorem q170 : (Jvm.Cond.soleField "OnlineHullModel" "round") ∈ lw_all := lw_g (lw_at lw_m0 160 rfl) rfl
theorem q171 : (Jvm.Cond.superclass "OnlineHullModel" "java/lang/Object") ∈ lw_all := lw_g (lw_at lw_m0 161 rfl) rfl
theorem q173 : (Jvm.Cond.instanceMethod ({ cls := "OnlineHullModel", name := "inside", desc := "(II)I" } : Jvm.MethodName)) ∈ lw_all := lw_g (lw_at lw_m0 163 rfl) rfl
theorem q174 : (Jvm.Cond.selects "OnlineHullModel" ({ cls := "OnlineHullModel", name := "inside", desc := "(II)I" } : Jvm.MethodName) ({ cls := "OnlineHullModel", name := "inside", desc := "(II)I" } : Jvm.MethodName)) ∈ lw_all := lw_g (lw_at lw_m0 164 rfl) rfl
theorem q175 : (Jvm.Cond.code ({ cls := "OnlineHullModel", name := "inside", desc := "(II)I" } : Jvm.MethodName) prog_3_method_6_code (7 : Nat) (Option.some Jvm.ClassFile.FieldType.int)) ∈ lw_all := lw_g (lw_at lw_m0 165 rfl) rfl
theorem q176 : (Jvm.Cond.methodLink "OnlineHullModel" (36 : Nat) ({ cls := "OnlineHullModel", name := "inRange", desc := "(II)Z" } : Jvm.MethodName)) ∈ lw_all := lw_g (lw_at lw_m0 166 rfl) rfl
theorem q177 : (Jvm.Cond.static ({ cls := "OnlineHullModel", name := "inRange", desc := "(II)Z" } : Jvm.MethodName)) ∈ lw_all := lw_g (lw_at lw_m0 167 rfl) rfl
theorem q178 : (Jvm.Cond.code ({ cls := "OnlineHullModel", name := "inRange", desc := "(II)Z" } : Jvm.MethodName) prog_3_method_2_code (2 : Nat) (Option.some Jvm.ClassFile.FieldType.boolean)) ∈ lw_all := lw_g (lw_at lw_m0 168 rfl) rfl
theorem q179 : (Jvm.Cond.methodLink "OnlineHullModel" (32 : Nat) ({ cls := "OnlineHullModel", name := "turn", desc := "(JJJJJJ)J" } : Jvm.MethodName)) ∈ lw_all := lw_g (lw_at lw_m0 169 rfl) rfl
theorem q180 : (Jvm.Cond.static ({ cls := "OnlineHullModel", name := "turn", desc := "(JJJJJJ)J" } : Jvm.MethodName)) ∈ lw_all := lw_g (lw_at lw_m0 170 rfl) rfl
theorem q181 : (Jvm.Cond.code ({ cls := "OnlineHullModel", name := "turn", desc := "(JJJJJJ)J" } : Jvm.MethodName) prog_3_method_3_code (12 : Nat) (Option.some Jvm.ClassFile.FieldType.long)) ∈ lw_all := lw_g (lw_at lw_m0 171 rfl) rfl
theorem q182 : (Jvm.Cond.methodLink "OnlineHullModel" (40 : Nat) ({ cls := "OnlineHullModel", name := "between", desc := "(III)Z" } : Jvm.MethodName)) ∈ lw_all := lw_g (lw_at lw_m0 172 rfl) rfl
theorem q183 : (Jvm.Cond.static ({ cls := "OnlineHullModel", name := "between", desc := "(III)Z" } : Jvm.MethodName)) ∈ lw_all := lw_g (lw_at lw_m0 173 rfl) rfl
theorem q184 : (Jvm.Cond.code ({ cls := "OnlineHullModel", name := "between", desc := "(III)Z" } : Jvm.MethodName) prog_3_method_4_code (3 : Nat) (Option.some Jvm.ClassFile.FieldType.boolean)) ∈ lw_all := lw_g (lw_at lw_m0 174 rfl) rfl
theorem q185 : (Jvm.Cond.methodLink "OnlineHullModel" (44 : Nat) ({ cls := "OnlineHullModel", name := "side", desc := "(III)J" } : Jvm.MethodName)) ∈ lw_all := lw_g (lw_at lw_m0 175 rfl) rfl
theorem q186 : (Jvm.Cond.privateMethod ({ cls := "OnlineHullModel", name := "side", desc := "(III)J" } : Jvm.MethodName)) ∈ lw_tbl := lw_at lw_m0 176 rfl
theorem q187 : (Jvm.Cond.instanceMethod ({ cls := "OnlineHullModel", name := "side", desc := "(III)J" } : Jvm.MethodName)) ∈ lw_all := lw_g (lw_at lw_m0 177 rfl) rfl
theorem q188 : (Jvm.Cond.code ({ cls := "OnlineHullModel", name := "side", desc := "(III)J" } : Jvm.MethodName) prog_3_method_5_code (5 : Nat) (Option.some Jvm.ClassFile.FieldType.long)) ∈ lw_all := lw_g (lw_at lw_m0 178 rfl) rfl
theorem q190 : (Jvm.Cond.instanceMethod ({ cls := "OnlineHullModel", name := "add", desc := "(II)I" } : Jvm.MethodName)) ∈ lw_all := lw_g (lw_at lw_m0 180 rfl) rfl
theorem q191 : (Jvm.Cond.selects "OnlineHullModel" ({ cls := "OnlineHullModel", name := "add", desc := "(II)I" } : Jvm.MethodName) ({ cls := "OnlineHullModel", name := "add", desc := "(II)I" } : Jvm.MethodName)) ∈ lw_all := lw_g (lw_at lw_m0 181 rfl) rfl
theorem q192 : (Jvm.Cond.code ({ cls := "OnlineHullModel", name := "add", desc := "(II)I" } : Jvm.MethodName) prog_3_method_9_code (6 : Nat) (Option.some Jvm.ClassFile.FieldType.int)) ∈ lw_all := lw_g (lw_at lw_m0 182 rfl) rfl
theorem q193 : (Jvm.Cond.methodLink "OnlineHullModel" (51 : Nat) ({ cls := "OnlineHullModel", name := "inside", desc := "(II)I" } : Jvm.MethodName)) ∈ lw_all := lw_g (lw_at lw_m0 183 rfl) rfl
theorem q194 : (Jvm.Cond.methodLink "OnlineHullModel" (58 : Nat) ({ cls := "OnlineHullModel", name := "goRound", desc := "(I)I" } : Jvm.MethodName)) ∈ lw_all := lw_g (lw_at lw_m0 184 rfl) rfl
theorem q195 : (Jvm.Cond.privateMethod ({ cls := "OnlineHullModel", name := "goRound", desc := "(I)I" } : Jvm.MethodName)) ∈ lw_tbl := lw_at lw_m0 185 rfl
theorem q196 : (Jvm.Cond.instanceMethod ({ cls := "OnlineHullModel", name := "goRound", desc := "(I)I" } : Jvm.MethodName)) ∈ lw_all := lw_g (lw_at lw_m0 186 rfl) rfl
theorem q197 : (Jvm.Cond.code ({ cls := "OnlineHullModel", name := "goRound", desc := "(I)I" } : Jvm.MethodName) prog_3_method_8_code (8 : Nat) (Option.some Jvm.ClassFile.FieldType.int)) ∈ lw_all := lw_g (lw_at lw_m0 187 rfl) rfl
theorem q198 : (Jvm.Cond.methodLink "OnlineHullModel" (48 : Nat) ({ cls := "OnlineHullModel", name := "isNext", desc := "(III)Z" } : Jvm.MethodName)) ∈ lw_all := lw_g (lw_at lw_m0 188 rfl) rfl
theorem q199 : (Jvm.Cond.privateMethod ({ cls := "OnlineHullModel", name := "isNext", desc := "(III)Z" } : Jvm.MethodName)) ∈ lw_tbl := lw_at lw_m0 189 rfl
theorem q200 : (Jvm.Cond.instanceMethod ({ cls := "OnlineHullModel", name := "isNext", desc := "(III)Z" } : Jvm.MethodName)) ∈ lw_all := lw_g (lw_at lw_m0 190 rfl) rfl
theorem q201 : (Jvm.Cond.code ({ cls := "OnlineHullModel", name := "isNext", desc := "(III)Z" } : Jvm.MethodName) prog_3_method_7_code (14 : Nat) (Option.some Jvm.ClassFile.FieldType.boolean)) ∈ lw_all := lw_g (lw_at lw_m0 191 rfl) rfl
theorem q203 : (Jvm.Cond.instanceMethod ({ cls := "OnlineHullModel", name := "size", desc := "()I" } : Jvm.MethodName)) ∈ lw_all := lw_g (lw_at lw_m0 193 rfl) rfl
theorem q204 : (Jvm.Cond.selects "OnlineHullModel" ({ cls := "OnlineHullModel", name := "size", desc := "()I" } : Jvm.MethodName) ({ cls := "OnlineHullModel", name := "size", desc := "()I" } : Jvm.MethodName)) ∈ lw_all := lw_g (lw_at lw_m0 194 rfl) rfl
theorem q205 : (Jvm.Cond.code ({ cls := "OnlineHullModel", name := "size", desc := "()I" } : Jvm.MethodName) prog_3_method_10_code (1 : Nat) (Option.some Jvm.ClassFile.FieldType.int)) ∈ lw_all := lw_g (lw_at lw_m0 195 rfl) rfl
theorem q207 : (Jvm.Cond.instanceMethod ({ cls := "OnlineHullModel", name := "xOf", desc := "(I)I" } : Jvm.MethodName)) ∈ lw_all := lw_g (lw_at lw_m0 197 rfl) rfl
theorem q208 : (Jvm.Cond.selects "OnlineHullModel" ({ cls := "OnlineHullModel", name := "xOf", desc := "(I)I" } : Jvm.MethodName) ({ cls := "OnlineHullModel", name := "xOf", desc := "(I)I" } : Jvm.MethodName)) ∈ lw_all := lw_g (lw_at lw_m0 198 rfl) rfl
theorem q209 : (Jvm.Cond.code ({ cls := "OnlineHullModel", name := "xOf", desc := "(I)I" } : Jvm.MethodName) prog_3_method_11_code (2 : Nat) (Option.some Jvm.ClassFile.FieldType.int)) ∈ lw_all := lw_g (lw_at lw_m0 199 rfl) rfl
theorem q211 : (Jvm.Cond.instanceMethod ({ cls := "OnlineHullModel", name := "yOf", desc := "(I)I" } : Jvm.MethodName)) ∈ lw_all := lw_g (lw_at lw_m0 201 rfl) rfl
theorem q212 : (Jvm.Cond.selects "OnlineHullModel" ({ cls := "OnlineHullModel", name := "yOf", desc := "(I)I" } : Jvm.MethodName) ({ cls := "OnlineHullModel", name := "yOf", desc := "(I)I" } : Jvm.MethodName)) ∈ lw_all := lw_g (lw_at lw_m0 202 rfl) rfl
theorem q213 : (Jvm.Cond.code ({ cls := "OnlineHullModel", name := "yOf", desc := "(I)I" } : Jvm.MethodName) prog_3_method_12_code (2 : Nat) (Option.some Jvm.ClassFile.FieldType.int)) ∈ lw_all := lw_g (lw_at lw_m0 203 rfl) rfl
theorem q215 : (Jvm.Cond.instanceMethod ({ cls := "OnlineHullModel", name := "twiceArea", desc := "()I" } : Jvm.MethodName)) ∈ lw_all := lw_g (lw_at lw_m0 205 rfl) rfl
theorem q216 : (Jvm.Cond.selects "OnlineHullModel" ({ cls := "OnlineHullModel", name := "twiceArea", desc := "()I" } : Jvm.MethodName) ({ cls := "OnlineHullModel", name := "twiceArea", desc := "()I" } : Jvm.MethodName)) ∈ lw_all := lw_g (lw_at lw_m0 206 rfl) rfl
theorem q217 : (Jvm.Cond.code ({ cls := "OnlineHullModel", name := "twiceArea", desc := "()I" } : Jvm.MethodName) prog_3_method_13_code (4 : Nat) (Option.some Jvm.ClassFile.FieldType.int)) ∈ lw_all := lw_g (lw_at lw_m0 207 rfl) rfl
theorem q219 : (Jvm.Cond.instanceMethod ({ cls := "OnlineHullModel", name := "farthest", desc := "(II)I" } : Jvm.MethodName)) ∈ lw_all := lw_g (lw_at lw_m0 209 rfl) rfl
theorem q220 : (Jvm.Cond.selects "OnlineHullModel" ({ cls := "OnlineHullModel", name := "farthest", desc := "(II)I" } : Jvm.MethodName) ({ cls := "OnlineHullModel", name := "farthest", desc := "(II)I" } : Jvm.MethodName)) ∈ lw_all := lw_g (lw_at lw_m0 210 rfl) rfl
theorem q221 : (Jvm.Cond.code ({ cls := "OnlineHullModel", name := "farthest", desc := "(II)I" } : Jvm.MethodName) prog_3_method_14_code (5 : Nat) (Option.some Jvm.ClassFile.FieldType.int)) ∈ lw_all := lw_g (lw_at lw_m0 211 rfl) rfl
theorem q223 : (Jvm.Cond.instanceMethod ({ cls := "OnlineHullModel", name := "tangent", desc := "(III)I" } : Jvm.MethodName)) ∈ lw_all := lw_g (lw_at lw_m0 213 rfl) rfl
theorem q224 : (Jvm.Cond.selects "OnlineHullModel" ({ cls := "OnlineHullModel", name := "tangent", desc := "(III)I" } : Jvm.MethodName) ({ cls := "OnlineHullModel", name := "tangent", desc := "(III)I" } : Jvm.MethodName)) ∈ lw_all := lw_g (lw_at lw_m0 214 rfl) rfl
theorem q225 : (Jvm.Cond.code ({ cls := "OnlineHullModel", name := "tangent", desc := "(III)I" } : Jvm.MethodName) prog_3_method_15_code (10 : Nat) (Option.some Jvm.ClassFile.FieldType.int)) ∈ lw_all := lw_g (lw_at lw_m0 215 rfl) rfl
theorem q227 : (Jvm.Cond.instanceMethod ({ cls := "OnlineHullModel", name := "diameter", desc := "()I" } : Jvm.MethodName)) ∈ lw_all := lw_g (lw_at lw_m0 217 rfl) rfl
theorem q228 : (Jvm.Cond.selects "OnlineHullModel" ({ cls := "OnlineHullModel", name := "diameter", desc := "()I" } : Jvm.MethodName) ({ cls := "OnlineHullModel", name := "diameter", desc := "()I" } : Jvm.MethodName)) ∈ lw_all := lw_g (lw_at lw_m0 218 rfl) rfl
theorem q229 : (Jvm.Cond.code ({ cls := "OnlineHullModel", name := "diameter", desc := "()I" } : Jvm.MethodName) prog_3_method_16_code (9 : Nat) (Option.some Jvm.ClassFile.FieldType.int)) ∈ lw_all := lw_g (lw_at lw_m0 219 rfl) rfl
theorem q231 : (Jvm.Cond.instanceMethod ({ cls := "OnlineHullModel", name := "points", desc := "()I" } : Jvm.MethodName)) ∈ lw_all := lw_g (lw_at lw_m0 221 rfl) rfl
theorem q232 : (Jvm.Cond.selects "OnlineHullModel" ({ cls := "OnlineHullModel", name := "points", desc := "()I" } : Jvm.MethodName) ({ cls := "OnlineHullModel", name := "points", desc := "()I" } : Jvm.MethodName)) ∈ lw_all := lw_g (lw_at lw_m0 222 rfl) rfl
theorem q233 : (Jvm.Cond.code ({ cls := "OnlineHullModel", name := "points", desc := "()I" } : Jvm.MethodName) prog_3_method_17_code (1 : Nat) (Option.some Jvm.ClassFile.FieldType.int)) ∈ lw_all := lw_g (lw_at lw_m0 223 rfl) rfl
theorem in_X2 : ∀ w ∈ wsX20, w ∈ lw_all := lw_in wsX20 [155, 157, 159, 161, 163, 165, 167, 169] (by decide +kernel) (by decide +kernel)
end
section
/-! ===== helpers for the walks ===== -/
abbrev vwCl : List vw_C := [(RX1, TX1, 11), (RX2, TX2, 8)]
/-- the start of a method that only reads: its world's cells -/
def gr_Pc (D : va_G) (av : List Value) (ws : va_W) (tys : List (ClassId × FieldType)) : Array Value → State → Prop := va_Pc av (fun U => va_P D vwCl ws U.heap ∧ va_K D vwCl tys U)
theorem gr_blind {D : va_G} {av : List Value} {ws : va_W} {tys : List (ClassId × FieldType)} : FrameBlind (gr_Pc D av ws tys) := fun a U g mk q => ⟨q.1, q.2.1, va_K.moved (u := U) (U := U.calling g mk a) (Vm.Alike.refl U.vm) q.2.2⟩
theorem gr_preS {D : va_G} {s : State} {H : Heap} {As : List Value} {ws : va_W} {tys : List (ClassId × FieldType)} (hP : va_P D vwCl ws H) (hK : va_K D vwCl tys s) : PreS s H (gr_Pc D As ws tys) As := ⟨gr_blind, fun U hU hW => ⟨rfl, by rw [hU]; exact hP, va_K.moved hW.alike hK⟩⟩
theorem gr_preV {D : va_G} {s : State} {H : Heap} {b : Nat} {As : List Value} {ws ws0 : va_W} {tys tys0 : List (ClassId × FieldType)} {q : vw_C} {ci q0 : Nat} {fs : List Value} (hK0 : va_K D vwCl tys0 s) (hP0 : va_P D vwCl ws0 H) (hc : vwCl[ci]? = some q) (he : ws0[q0]? = some (b, .inr (ci, fs))) (hP : va_P D vwCl ws H) (hK : va_K D vwCl tys s) : PreV s H q.1 b (gr_Pc D (.ref b :: As) ws tys) As := ⟨gr_blind, va_recv hK0 hP0 hc he, fun U hU hW => ⟨rfl, by rw [hU]; exact hP, va_K.moved hW.alike hK⟩⟩
section GRW
variable {p : Program} {l : Launch} {e : Env} {R : Room} {s : State} {m : MethodId} {args : Array Value} {below : List Frame} {meth : Method} {c : Code} {H : Heap} {locs : List Loc} {cells slots : Nat} {Q : State → Prop}
variable {cc : ByteArray} {pc : Nat} {ls : Array Slot} {rest : List Value} {D : va_G} {cl : List vw_C} {A : Nat → Prop} {a : Nat} {tys : List (ClassId × FieldType)} {ws : va_W} {H0 : Heap}
theorem gr_topi {x y : Int32} (h : x = y) (k : W p l e R s m args below meth c H locs cells slots Q (F0 m pc ls (.int y :: rest))) : W p l e R s m args below meth c H locs cells slots Q (F0 m pc ls (.int x :: rest)) := by
  rw [h]
  exact k
theorem gr_topl {x y : Int64} (h : x = y) (k : W p l e R s m args below meth c H locs cells slots Q (F0 m pc ls (.long y :: rest))) : W p l e R s m args below meth c H locs cells slots Q (F0 m pc ls (.long x :: rest)) := by
  rw [h]
  exact k
theorem gr_iald (hexec : p.tables.exec = Jvm.exec) (hb : c.code = cc) (hK : va_K D cl tys s) (hP : va_P D cl ws H) (q0 t0 : Nat) {cA : ClassId} {n : Nat} {f : Nat → Int32} (ha : ws[q0]? = some (a, .inl (cA, n, .inl f))) (ht : tys[t0]? = some (cA, .int)) {k : Nat} (hk : k < n) (hn : n < 2 ^ 31) (hdg : decode cc pc = .ok (.iaload, 1))
    (kk : W p l e R s m args below meth c H locs cells slots Q (F0 m (pc + 1) ls (.int (f k) :: rest))) : W p l e R s m args below meth c H locs cells slots Q (F0 m pc ls (.int (nI k) :: .ref a :: rest)) :=
  va_iald hexec hb hK hP q0 t0 ha ht (vp_in_nI hk hn) hdg (by rw [nI_clamp (by omega)]; exact kk)
theorem gr_iast (hexec : p.tables.exec = Jvm.exec) (hb : c.code = cc) (hK : va_K D cl tys s) (hP : va_P D cl ws H) (hD : va_D A ws) (hS : va_S A H0 H locs) (q0 t0 : Nat) {cA : ClassId} {n : Nat} {f : Nat → Int32} (ha : ws[q0]? = some (a, .inl (cA, n, .inl f))) (ht : tys[t0]? = some (cA, .int)) {k : Nat} {x : Int32} (hk : k < n) (hn : n < 2 ^ 31) (hdg : decode cc pc = .ok (.iastore, 1))
    (kk : ∀ (H1 : Heap) (locs1 : List Loc), va_P D cl (ws.set q0 (a, .inl (cA, n, .inl (upd f k x)))) H1 → va_D A (ws.set q0 (a, .inl (cA, n, .inl (upd f k x)))) → va_S A H0 H1 locs1 → W p l e R s m args below meth c H1 locs1 cells slots Q (F0 m (pc + 1) ls rest)) : W p l e R s m args below meth c H locs cells slots Q (F0 m pc ls (.int x :: .int (nI k) :: .ref a :: rest)) :=
  va_iast hexec hb hK hP hD hS q0 t0 ha ht (vp_in_nI hk hn) hdg (by rw [nI_clamp (by omega)]; exact kk)
end GRW
/-! numbers -/
/-- a point out of two arrays -/
def gp (f g : Nat → Int32) (i : Nat) : Int × Int := ((f i).toInt, (g i).toInt)
def g2 (x y : Int32) : Int × Int := (x.toInt, y.toInt)
theorem gp_eq (f g : Nat → Int32) (i : Nat) : gp f g i = g2 (f i) (g i) := rfl
theorem g2_inj {a b c d : Int32} (h : g2 a b = g2 c d) : a = c ∧ b = d := by
  have h1 := congrArg Prod.fst h
  have h2 := congrArg Prod.snd h
  exact ⟨Int32.toInt_inj.mp h1, Int32.toInt_inj.mp h2⟩
theorem g2_lt {a b c d : Int32} (ha : gh_ok (g2 a b)) (hb : gh_ok (g2 c d)) : gh_K (g2 a b) < gh_K (g2 c d) ↔ a < c ∨ (a = c ∧ b < d) := by
  rw [gh_Klt ha hb]
  simp only [g2, Int32.lt_iff_toInt_lt, ← Int32.toInt_inj]
theorem gi_ofS {x y : Int32} (hx : -16383 ≤ x.toInt ∧ x.toInt ≤ 16383) (hy : -16383 ≤ y.toInt ∧ y.toInt ≤ 16383) : (x - y).toInt = x.toInt - y.toInt := Kit.i32_sub (by omega) (by omega)
theorem gi_bd {B x y : Int} (h1 : -B ≤ x) (h2 : x ≤ B) (h3 : -B ≤ y) (h4 : y ≤ B) : -(B * B) ≤ x * y ∧ x * y ≤ B * B := by
  have a1 := Int.mul_nonneg (show 0 ≤ B - x by omega) (show 0 ≤ B + y by omega)
  have a2 := Int.mul_nonneg (show 0 ≤ B + x by omega) (show 0 ≤ B - y by omega)
  have a3 := Int.mul_nonneg (show 0 ≤ B - x by omega) (show 0 ≤ B - y by omega)
  have a4 := Int.mul_nonneg (show 0 ≤ B + x by omega) (show 0 ≤ B + y by omega)
  have e1 : (B - x) * (B + y) = B * B + B * y - B * x - x * y := by grind
  have e2 : (B + x) * (B - y) = B * B - B * y + B * x - x * y := by grind
  have e3 : (B - x) * (B - y) = B * B - B * y - B * x + x * y := by grind
  have e4 : (B + x) * (B + y) = B * B + B * y + B * x + x * y := by grind
  omega
theorem gi_bd2 {x y : Int} (h1 : -32766 ≤ x) (h2 : x ≤ 32766) (h3 : -32766 ≤ y) (h4 : y ≤ 32766) : -1073610756 ≤ x * y ∧ x * y ≤ 1073610756 := by
  have := gi_bd h1 h2 h3 h4
  omega
theorem gi_mul {x y : Int64} (h1 : -32766 ≤ x.toInt) (h2 : x.toInt ≤ 32766) (h3 : -32766 ≤ y.toInt) (h4 : y.toInt ≤ 32766) : (x * y).toInt = x.toInt * y.toInt := by
  have := gi_bd2 h1 h2 h3 h4
  exact Kit.i64_mul (by omega) (by omega)
/-- what OnlineHull.turn answers -/
def gt_turn (ax ay bx by_ cx cy : Int32) : Int64 := (bx - ax).toInt64 * (cy - ay).toInt64 - (by_ - ay).toInt64 * (cx - ax).toInt64
theorem gt_turn_ok {ax ay bx by_ cx cy : Int32} (ha : gh_ok (g2 ax ay)) (hb : gh_ok (g2 bx by_)) (hc : gh_ok (g2 cx cy)) : (gt_turn ax ay bx by_ cx cy).toInt = gh_T (g2 ax ay) (g2 bx by_) (g2 cx cy) ∧ -2147221512 ≤ gh_T (g2 ax ay) (g2 bx by_) (g2 cx cy) ∧ gh_T (g2 ax ay) (g2 bx by_) (g2 cx cy) ≤ 2147221512 := by
  simp only [gh_ok, g2] at ha hb hc
  have s1 : (bx - ax).toInt = bx.toInt - ax.toInt := gi_ofS (by omega) (by omega)
  have s2 : (cy - ay).toInt = cy.toInt - ay.toInt := gi_ofS (by omega) (by omega)
  have s3 : (by_ - ay).toInt = by_.toInt - ay.toInt := gi_ofS (by omega) (by omega)
  have s4 : (cx - ax).toInt = cx.toInt - ax.toInt := gi_ofS (by omega) (by omega)
  have b1 := gi_bd2 (x := bx.toInt - ax.toInt) (y := cy.toInt - ay.toInt) (by omega) (by omega) (by omega) (by omega)
  have b2 := gi_bd2 (x := by_.toInt - ay.toInt) (y := cx.toInt - ax.toInt) (by omega) (by omega) (by omega) (by omega)
  have m1 : ((bx - ax).toInt64 * (cy - ay).toInt64).toInt = (bx.toInt - ax.toInt) * (cy.toInt - ay.toInt) := by
    rw [gi_mul (by rw [Kit.i64_of_i32]; omega) (by rw [Kit.i64_of_i32]; omega) (by rw [Kit.i64_of_i32]; omega) (by rw [Kit.i64_of_i32]; omega), Kit.i64_of_i32, Kit.i64_of_i32, s1, s2]
  have m2 : ((by_ - ay).toInt64 * (cx - ax).toInt64).toInt = (by_.toInt - ay.toInt) * (cx.toInt - ax.toInt) := by
    rw [gi_mul (by rw [Kit.i64_of_i32]; omega) (by rw [Kit.i64_of_i32]; omega) (by rw [Kit.i64_of_i32]; omega) (by rw [Kit.i64_of_i32]; omega), Kit.i64_of_i32, Kit.i64_of_i32, s3, s4]
  have e : gh_T (g2 ax ay) (g2 bx by_) (g2 cx cy) = (bx.toInt - ax.toInt) * (cy.toInt - ay.toInt) - (by_.toInt - ay.toInt) * (cx.toInt - ax.toInt) := rfl
  rw [e]
  refine ⟨?_, by omega, by omega⟩
  unfold gt_turn
  rw [Kit.i64_sub (by rw [m1, m2]; omega) (by rw [m1, m2]; omega), m1, m2]
theorem gt_sig {sg : Int32} {t : Int64} (hs : sg = 1 ∨ sg = -1) (h1 : -2147221512 ≤ t.toInt) (h2 : t.toInt ≤ 2147221512) : (sg.toInt64 * t).toInt = sg.toInt * t.toInt := by
  have e : sg.toInt = 1 ∨ sg.toInt = -1 := by
    rcases hs with h | h
    · left; rw [h]; rfl
    · right; rw [h]; rfl
  rw [Kit.i64_mul, Kit.i64_of_i32]
  · rw [Kit.i64_of_i32]
    rcases e with e | e <;> rw [e] <;> omega
  · rw [Kit.i64_of_i32]
    rcases e with e | e <;> rw [e] <;> omega
theorem gi_half {a b : Nat} (h : a + b < 2 ^ 31) : ((nI a + nI b).toUInt32 >>> ((1 : Int32).toUInt32 &&& Int32.toUInt32 31)).toInt32 = nI ((a + b) / 2) := by
  rw [nI_add]
  exact pk_ushrN (by omega) 1 1 (by decide)
theorem gi_m1 {k : Nat} (h : 0 < k) : nI k - 1 = nI (k - 1) := by
  have := nI_pred (k - 1)
  rw [show k - 1 + 1 = k by omega] at this
  exact this
theorem gi_m2 {k : Nat} (h : 1 < k) : nI k - 2 = nI (k - 2) := by
  have := pk_sub (a := k) (b := 2) (by omega)
  exact this
end
section
/-! ===== OnlineHull: isPoint, turn, place, side ===== -/
theorem gk_c1 : ((-16383 : Int32)).toInt = -16383 := by decide
theorem gk_c2 : ((16383 : Int32)).toInt = 16383 := by decide
theorem gk_p1 {x y : Int32} (h : x < -16383) : ¬ gh_ok (g2 x y) := by
  intro k
  have h := Int32.lt_iff_toInt_lt.mp h
  rw [gk_c1] at h
  simp only [gh_ok, g2] at k
  omega
theorem gk_p2 {x y : Int32} (h : 16383 < x) : ¬ gh_ok (g2 x y) := by
  intro k
  have h := Int32.lt_iff_toInt_lt.mp h
  rw [gk_c2] at h
  simp only [gh_ok, g2] at k
  omega
theorem gk_p3 {x y : Int32} (h : y < -16383) : ¬ gh_ok (g2 x y) := by
  intro k
  have h := Int32.lt_iff_toInt_lt.mp h
  rw [gk_c1] at h
  simp only [gh_ok, g2] at k
  omega
theorem gk_p4 {x y : Int32} (h : 16383 < y) : ¬ gh_ok (g2 x y) := by
  intro k
  have h := Int32.lt_iff_toInt_lt.mp h
  rw [gk_c2] at h
  simp only [gh_ok, g2] at k
  omega
theorem gk_p5 {x y : Int32} (h1 : ¬ x < -16383) (h2 : ¬ 16383 < x) (h3 : ¬ y < -16383) (h4 : ¬ 16383 < y) : gh_ok (g2 x y) := by
  rw [Int32.lt_iff_toInt_lt, gk_c1] at h1 h3
  rw [Int32.lt_iff_toInt_lt, gk_c2] at h2 h4
  simp only [gh_ok, g2]
  omega
/-- a truth value as Java has it -/
def gk_b (r : Int32) (P : Prop) : Prop := (r = 1 ∧ P) ∨ (r = 0 ∧ ¬ P)
theorem gk_b.pos {r : Int32} {P : Prop} (h : gk_b r P) (h0 : ¬ r = 0) : P := by
  rcases h with ⟨_, h⟩ | ⟨h, _⟩
  · exact h
  · exact absurd h h0
theorem gk_b.neg {r : Int32} {P : Prop} (h : gk_b r P) (h0 : r = 0) : ¬ P := by
  rcases h with ⟨h, _⟩ | ⟨_, h⟩
  · rw [h] at h0
    exact absurd h0 (by decide)
  · exact h
/-- what side answers -/
def gs_post (σ : Int) (n : Nat) (f : Nat → Int × Int) (p : Int × Int) (r : Int32) : Prop := (r = 1 ∧ gh_SA σ n f p) ∨ (r = 0 ∧ gh_A σ n f p ∧ ¬ gh_SA σ n f p) ∨ (r = -1 ∧ ¬ gh_A σ n f p)
theorem gs_vert {σ : Int} {n : Nat} {f : Nat → Int × Int} {p : Int × Int} {k : Nat} (hC : gh_C σ n f) (hk : k < n) (e : f k = p) : gs_post σ n f p 0 := by
  refine Or.inr (Or.inl ⟨rfl, by rw [← e]; exact hC.vert hk, fun h => ?_⟩)
  obtain ⟨_, h2, h3⟩ := h
  by_cases e2 : k + 1 < n
  · have := h3 k e2
    rw [← e, gh_S_0] at this
    exact absurd this (Int.lt_irrefl _)
  · have := h3 (k - 1) (by omega)
    rw [show k - 1 + 1 = k by omega, ← e, gh_S_1] at this
    exact absurd this (Int.lt_irrefl _)
theorem gs_out {σ : Int} {n : Nat} {f : Nat → Int × Int} {p : Int × Int} (hC : gh_C σ n f) (hf : ∀ i, i < n → gh_ok (f i)) (hp : gh_ok p) {k : Nat} (hk : k = gh_plc f p n) (h0 : k = 0 ∨ k = n) (hne : ¬ (k < n ∧ f k = p)) : gs_post σ n f p (-1) := by
  refine Or.inr (Or.inr ⟨rfl, fun h => ?_⟩)
  obtain ⟨a0, a1, a2, a3⟩ := h
  obtain ⟨p1, p2⟩ := gh_plc_ok (p := p) hC
  rw [← hk] at p1 p2
  rcases h0 with h0 | h0
  · have := p2 0 (by omega) a0
    exact hne ⟨by omega, by rw [h0]; exact gh_Kinj (hf 0 a0) hp (by omega)⟩
  · have := p1 (n - 1) (by omega)
    omega
theorem gs_mid {σ : Int} {n : Nat} {f : Nat → Int × Int} {p : Int × Int} (hC : gh_C σ n f) {k : Nat} (hk : k = gh_plc f p n) (h0 : 0 < k) (hn : k < n) {t : Int64} (ht : t.toInt = gh_S σ (f (k - 1)) (f k) p) : (0 < t → gs_post σ n f p 1) ∧ (t < 0 → gs_post σ n f p (-1)) ∧ (¬ 0 < t → ¬ t < 0 → gs_post σ n f p 0) := by
  obtain ⟨p1, p2⟩ := gh_plc_ok (p := p) hC
  rw [← hk] at p1 p2
  have q1 := p1 (k - 1) (by omega)
  have q2 := p2 k (Nat.le_refl _) hn
  have e : k - 1 + 1 = k := by omega
  have z : (0 : Int64).toInt = 0 := by decide
  refine ⟨fun h => Or.inl ⟨rfl, ?_⟩, fun h => Or.inr (Or.inr ⟨rfl, fun hA => ?_⟩), fun h h' => Or.inr (Or.inl ⟨rfl, ?_, fun hS => ?_⟩)⟩
  · have h := Int64.lt_iff_toInt_lt.mp h
    exact hC.inSA (k := k - 1) (by omega) (by omega) (by rw [e]; exact q2) (by rw [e]; omega)
  · have h := Int64.lt_iff_toInt_lt.mp h
    have := hA.2.2.2 (k - 1) (by omega)
    rw [e] at this
    omega
  · rw [Int64.lt_iff_toInt_lt] at h h'
    exact hC.inA (k := k - 1) (by omega) (by omega) (by rw [e]; exact q2) (by rw [e]; omega)
  · rw [Int64.lt_iff_toInt_lt] at h h'
    have := hS.2.2 (k - 1) (by omega)
    rw [e] at this
    omega
set_option maxHeartbeats 4000000 in
set_option maxRecDepth 100000 in
theorem metX1_isPoint (l : Launch) (dC : Nat → ClassId) (dI : Nat → Nat → Nat) (dA : ClassId) (x y : Int32) : Met l yX1_isPoint (ws_ yX1_isPoint cX1_isPoint 2 (some .boolean)) ({ frames := 0, cells := 0, slots := 0, locals := 0 }) (gr_Pc (dC, dI) [.int x, .int y] [] []) (vp_Si (fun r => gk_b r (gh_ok (g2 x y)))) 0 0 (fun _ => False) := by
  refine Met.ofW (cc := cX1_isPoint) (maxL := 2) (ret := (some .boolean)) (by decide) rfl ?_
  intro p e s m args below meth c s₁ B hml hv
  obtain ⟨rfl, hP, hK⟩ := hv
  have hx := B.exec
  have hb := B.bytes
  have hr := B.returns
  have hts := atoms_spec (ws := (ws_ yX1_isPoint cX1_isPoint 2 (some .boolean))) B.pre
  have hts : ∀ w ∈ lw_all, w.before _ s = true := fun w h => hts w (List.mem_cons_of_mem _ h)
  have hown : s.vm.findClass RX1 = some m.cls := findClass_of_methodNamed B.named
  have hlocks := B.notSynchronized
  have hl := lv_entry ([.int x, .int y]) (n := 2) (Nat.le_of_ble_eq_true rfl)
  rw [lg_entry_eq]
  generalize (lg_sl ([.int x, .int y]) ++ List.replicate (2 - (lg_sl ([.int x, .int y])).length) Slot.unset).toArray = ls at hl ⊢
  have hl : lv_has ls 2 [(0, .int x), (1, .int y)] := hl
  refine lv_iload_n hx hb dX1_isPoint_0 rfl (lv_at hl 0 rfl) ?_
  refine lv_sipush (v := (-16383)) hx hb dX1_isPoint_1 (by decide) ?_
  refine lv_icmp_lt (tgt := 32) hx hb dX1_isPoint_4 (by decide) (fun c_1 => ?_) (fun c_1 => ?_)
  · refine lv_iconst (v := 0) hx hb dX1_isPoint_32 (by decide) ?_
    exact W.zret (v := 0) hx hb hr rfl (fun t ht hW => ⟨0, rfl, Or.inr ⟨rfl, gk_p1 c_1⟩, ht⟩) (fun q h => by cases h) dX1_isPoint_33
  · refine lv_iload_n hx hb dX1_isPoint_7 rfl (lv_at hl 0 rfl) ?_
    refine lv_sipush (v := 16383) hx hb dX1_isPoint_8 (by decide) ?_
    refine lv_icmp_gt (tgt := 32) hx hb dX1_isPoint_11 (by decide) (fun c_2 => ?_) (fun c_2 => ?_)
    · refine lv_iconst (v := 0) hx hb dX1_isPoint_32 (by decide) ?_
      exact W.zret (v := 0) hx hb hr rfl (fun t ht hW => ⟨0, rfl, Or.inr ⟨rfl, gk_p2 c_2⟩, ht⟩) (fun q h => by cases h) dX1_isPoint_33
    · refine lv_iload_n hx hb dX1_isPoint_14 rfl (lv_at hl 1 rfl) ?_
      refine lv_sipush (v := (-16383)) hx hb dX1_isPoint_15 (by decide) ?_
      refine lv_icmp_lt (tgt := 32) hx hb dX1_isPoint_18 (by decide) (fun c_3 => ?_) (fun c_3 => ?_)
      · refine lv_iconst (v := 0) hx hb dX1_isPoint_32 (by decide) ?_
        exact W.zret (v := 0) hx hb hr rfl (fun t ht hW => ⟨0, rfl, Or.inr ⟨rfl, gk_p3 c_3⟩, ht⟩) (fun q h => by cases h) dX1_isPoint_33
      · refine lv_iload_n hx hb dX1_isPoint_21 rfl (lv_at hl 1 rfl) ?_
        refine lv_sipush (v := 16383) hx hb dX1_isPoint_22 (by decide) ?_
        refine lv_icmp_gt (tgt := 32) hx hb dX1_isPoint_25 (by decide) (fun c_4 => ?_) (fun c_4 => ?_)
        · refine lv_iconst (v := 0) hx hb dX1_isPoint_32 (by decide) ?_
          exact W.zret (v := 0) hx hb hr rfl (fun t ht hW => ⟨0, rfl, Or.inr ⟨rfl, gk_p4 c_4⟩, ht⟩) (fun q h => by cases h) dX1_isPoint_33
        · refine lv_iconst (v := 1) hx hb dX1_isPoint_28 (by decide) ?_
          refine lv_goto (tgt := 33) hx hb dX1_isPoint_29 (by decide) ?_
          exact W.zret (v := 1) hx hb hr rfl (fun t ht hW => ⟨1, rfl, Or.inl ⟨rfl, gk_p5 c_1 c_2 c_3 c_4⟩, ht⟩) (fun q h => by cases h) dX1_isPoint_33
set_option maxHeartbeats 4000000 in
set_option maxRecDepth 100000 in
theorem metX1_turn (l : Launch) (dC : Nat → ClassId) (dI : Nat → Nat → Nat) (dA : ClassId) (ax ay bx by_ cx cy : Int32) : Met l yX1_turn (ws_ yX1_turn cX1_turn 6 (some .long)) ({ frames := 0, cells := 0, slots := 0, locals := 0 }) (gr_Pc (dC, dI) [.int ax, .int ay, .int bx, .int by_, .int cx, .int cy] [] []) (vp_Sl (fun r => r = gt_turn ax ay bx by_ cx cy)) 0 0 (fun _ => False) := by
  refine Met.ofW (cc := cX1_turn) (maxL := 6) (ret := (some .long)) (by decide) rfl ?_
  intro p e s m args below meth c s₁ B hml hv
  obtain ⟨rfl, hP, hK⟩ := hv
  have hx := B.exec
  have hb := B.bytes
  have hr := B.returns
  have hts := atoms_spec (ws := (ws_ yX1_turn cX1_turn 6 (some .long))) B.pre
  have hts : ∀ w ∈ lw_all, w.before _ s = true := fun w h => hts w (List.mem_cons_of_mem _ h)
  have hown : s.vm.findClass RX1 = some m.cls := findClass_of_methodNamed B.named
  have hlocks := B.notSynchronized
  have hl := lv_entry ([.int ax, .int ay, .int bx, .int by_, .int cx, .int cy]) (n := 6) (Nat.le_of_ble_eq_true rfl)
  rw [lg_entry_eq]
  generalize (lg_sl ([.int ax, .int ay, .int bx, .int by_, .int cx, .int cy]) ++ List.replicate (6 - (lg_sl ([.int ax, .int ay, .int bx, .int by_, .int cx, .int cy])).length) Slot.unset).toArray = ls at hl ⊢
  have hl : lv_has ls 6 [(0, .int ax), (1, .int ay), (2, .int bx), (3, .int by_), (4, .int cx), (5, .int cy)] := hl
  refine lv_iload_n hx hb dX1_turn_0 rfl (lv_at hl 2 rfl) ?_
  refine lv_iload_n hx hb dX1_turn_1 rfl (lv_at hl 0 rfl) ?_
  refine lv_isub hx hb dX1_turn_2 ?_
  refine lv_i2l hx hb dX1_turn_3 rfl ?_
  refine lv_iload hx hb dX1_turn_4 (lv_at hl 5 rfl) ?_
  refine lv_iload_n hx hb dX1_turn_6 rfl (lv_at hl 1 rfl) ?_
  refine lv_isub hx hb dX1_turn_7 ?_
  refine lv_i2l hx hb dX1_turn_8 rfl ?_
  refine lv_lmul hx hb dX1_turn_9 ?_
  refine lv_iload_n hx hb dX1_turn_10 rfl (lv_at hl 3 rfl) ?_
  refine lv_iload_n hx hb dX1_turn_11 rfl (lv_at hl 1 rfl) ?_
  refine lv_isub hx hb dX1_turn_12 ?_
  refine lv_i2l hx hb dX1_turn_13 rfl ?_
  refine lv_iload hx hb dX1_turn_14 (lv_at hl 4 rfl) ?_
  refine lv_iload_n hx hb dX1_turn_16 rfl (lv_at hl 0 rfl) ?_
  refine lv_isub hx hb dX1_turn_17 ?_
  refine lv_i2l hx hb dX1_turn_18 rfl ?_
  refine lv_lmul hx hb dX1_turn_19 ?_
  refine lv_lsub hx hb dX1_turn_20 ?_
  exact W.lret (v := ((((bx - ax).toInt64) * ((cy - ay).toInt64)) - (((by_ - ay).toInt64) * ((cx - ax).toInt64)))) hx hb hr (fun t ht hW => ⟨((((bx - ax).toInt64) * ((cy - ay).toInt64)) - (((by_ - ay).toInt64) * ((cx - ax).toInt64))), rfl, rfl, ht⟩) (fun q h => by cases h) dX1_turn_21
set_option maxHeartbeats 4000000 in
set_option maxRecDepth 100000 in
theorem metX1_place (l : Launch) (dC : Nat → ClassId) (dI : Nat → Nat → Nat) (dA : ClassId) (a1 a2 n : Nat) (xs ys : Nat → Int32) (x y : Int32) (hn : n ≤ 68) (σ : Int) (hC : gh_C σ n (gp xs ys)) (hok : ∀ i, i < n → gh_ok (gp xs ys i)) (hp : gh_ok (g2 x y)) : Met l yX1_place (ws_ yX1_place cX1_place 8 (some .int)) ({ frames := 0, cells := 0, slots := 0, locals := 0 }) (gr_Pc (dC, dI) [.ref a1, .ref a2, .int (nI n), .int x, .int y] [(a1, .inl (dA, 68, .inl xs)), (a2, .inl (dA, 68, .inl ys))] [(dA, .int)]) (vp_Si (fun r => r = nI (gh_plc (gp xs ys) (g2 x y) n))) 0 0 (fun _ => False) := by
  refine Met.ofW (cc := cX1_place) (maxL := 8) (ret := (some .int)) (by decide) rfl ?_
  intro p e s m args below meth c s₁ B hml hv
  obtain ⟨rfl, hP, hK⟩ := hv
  have hx := B.exec
  have hb := B.bytes
  have hr := B.returns
  have hts := atoms_spec (ws := (ws_ yX1_place cX1_place 8 (some .int))) B.pre
  have hts : ∀ w ∈ lw_all, w.before _ s = true := fun w h => hts w (List.mem_cons_of_mem _ h)
  have hown : s.vm.findClass RX1 = some m.cls := findClass_of_methodNamed B.named
  have hlocks := B.notSynchronized
  have hl := lv_entry ([.ref a1, .ref a2, .int (nI n), .int x, .int y]) (n := 8) (Nat.le_of_ble_eq_true rfl)
  rw [lg_entry_eq]
  generalize (lg_sl ([.ref a1, .ref a2, .int (nI n), .int x, .int y]) ++ List.replicate (8 - (lg_sl ([.ref a1, .ref a2, .int (nI n), .int x, .int y])).length) Slot.unset).toArray = ls at hl ⊢
  have hl : lv_has ls 8 [(0, .ref a1), (1, .ref a2), (2, .int (nI n)), (3, .int x), (4, .int y)] := hl
  have loop : ∀ (d lo hi : Nat), hi < lo + d → lo ≤ hi → hi ≤ n → (∀ i, i < lo → gh_K (gp xs ys i) < gh_K (g2 x y)) → (∀ i, hi ≤ i → i < n → gh_K (g2 x y) ≤ gh_K (gp xs ys i)) → ∀ (ls : Array Slot), lv_has ls 8 [(0, .ref a1), (1, .ref a2), (2, .int (nI n)), (3, .int x), (4, .int y), (5, .int (nI lo)), (6, .int (nI hi))] → W p l e (headSpec (ws_ yX1_place cX1_place 8 (some .int)) ({ frames := 0, cells := 0, slots := 0, locals := 0 })).room s m ([.ref a1, .ref a2, .int (nI n), .int x, .int y] : List Value).toArray below meth c s.heap [] 0 0 (MQ below (vp_Si (fun r => r = nI (gh_plc (gp xs ys) (g2 x y) n))) ([.ref a1, .ref a2, .int (nI n), .int x, .int y] : List Value).toArray s 0 0 (fun _ => False)) (F0 m 6 ls []) := by
    intro d
    induction d with
    | zero => intro lo hi h1 h2; omega
    | succ d ih =>
      intro lo hi hd hlh hhn hA hB ls hl
      refine lv_iload hx hb dX1_place_6 (lv_at hl 5 rfl) ?_
      refine lv_iload hx hb dX1_place_8 (lv_at hl 6 rfl) ?_
      refine lv_icmp_ge (tgt := 63) hx hb dX1_place_10 (by decide) (fun c_1 => ?_) (fun c_1 => ?_)
      · have c_1 := (nI_leI (by omega) (by omega)).mp c_1
        refine lv_iload hx hb dX1_place_63 (lv_at hl 5 rfl) ?_
        exact W.iret (v := (nI lo)) hx hb hr (fun t ht hW => ⟨(nI lo), rfl, by rw [gh_plc_is (σ := σ) (k := lo) (by omega) hA (fun i h1 h2 => hB i (by omega) h2)], ht⟩) (fun q h => by cases h) dX1_place_65
      · have c_1 : ¬ hi ≤ lo := fun z => c_1 ((nI_leI (by omega) (by omega)).mpr z)
        obtain ⟨md, hmd⟩ : ∃ md, md = (lo + hi) / 2 := ⟨_, rfl⟩
        have hm1 : lo ≤ md := by omega
        have hm2 : md < hi := by omega
        have hkm := g2_lt (hok md (by omega)) hp
        rw [← gp_eq] at hkm
        refine lv_iload hx hb dX1_place_13 (lv_at hl 5 rfl) ?_
        refine lv_iload hx hb dX1_place_15 (lv_at hl 6 rfl) ?_
        refine lv_iadd hx hb dX1_place_17 ?_
        refine lv_iconst (v := 1) hx hb dX1_place_18 (by decide) ?_
        refine lv_iushr (v := nI md) hx hb dX1_place_19 (by rw [hmd]; exact gi_half (by omega)) ?_
        refine lv_istore (lv' := [(7, .int (nI md)), (0, .ref a1), (1, .ref a2), (2, .int (nI n)), (3, .int x), (4, .int y), (5, .int (nI lo)), (6, .int (nI hi))]) hx hb dX1_place_20 hl (by decide) rfl (fun ls hl => ?_)
        refine lv_aload_n hx hb dX1_place_22 rfl (lv_at hl 1 rfl) ?_
        refine lv_iload hx hb dX1_place_23 (lv_at hl 0 rfl) ?_
        refine gr_iald (k := md) hx hb hK hP 0 0 rfl rfl (by omega) (by decide) dX1_place_25 ?_
        refine lv_iload_n hx hb dX1_place_26 rfl (lv_at hl 4 rfl) ?_
        refine lv_icmp_lt (tgt := 47) hx hb dX1_place_27 (by decide) (fun c_2 => ?_) (fun c_2 => ?_)
        · have hlt : gh_K (gp xs ys md) < gh_K (g2 x y) := hkm.mpr (Or.inl c_2)
          refine lv_iload hx hb dX1_place_47 (lv_at hl 0 rfl) ?_
          refine lv_iconst (v := 1) hx hb dX1_place_49 (by decide) ?_
          refine lv_iadd hx hb dX1_place_50 ?_
          refine gr_topi (y := nI (md + 1)) (nI_1 md) ?_
          refine lv_istore (lv' := [(5, .int (nI (md + 1))), (7, .int (nI md)), (0, .ref a1), (1, .ref a2), (2, .int (nI n)), (3, .int x), (4, .int y), (6, .int (nI hi))]) hx hb dX1_place_51 hl (by decide) rfl (fun ls hl => ?_)
          refine lv_goto (tgt := 60) hx hb dX1_place_53 (by decide) ?_
          refine lv_goto (tgt := 6) hx hb dX1_place_60 (by decide) ?_
          exact ih (md + 1) hi (by omega) (by omega) hhn (fun i hi => by have := hC.monole i md (by omega) (by omega); omega) hB ls (lv_sub hl [2, 3, 4, 5, 6, 0, 7] rfl)
        · refine lv_aload_n hx hb dX1_place_30 rfl (lv_at hl 1 rfl) ?_
          refine lv_iload hx hb dX1_place_31 (lv_at hl 0 rfl) ?_
          refine gr_iald (k := md) hx hb hK hP 0 0 rfl rfl (by omega) (by decide) dX1_place_33 ?_
          refine lv_iload_n hx hb dX1_place_34 rfl (lv_at hl 4 rfl) ?_
          refine lv_icmp_ne (tgt := 56) hx hb dX1_place_35 (by decide) (fun c_3 => ?_) (fun c_3 => ?_)
          · have hge : gh_K (g2 x y) ≤ gh_K (gp xs ys md) := Int.not_lt.mp (fun z => by rcases hkm.mp z with q | q; exact c_2 q; exact c_3 q.1)
            refine lv_iload hx hb dX1_place_56 (lv_at hl 0 rfl) ?_
            refine lv_istore (lv' := [(6, .int (nI md)), (7, .int (nI md)), (0, .ref a1), (1, .ref a2), (2, .int (nI n)), (3, .int x), (4, .int y), (5, .int (nI lo))]) hx hb dX1_place_58 hl (by decide) rfl (fun ls hl => ?_)
            refine lv_goto (tgt := 6) hx hb dX1_place_60 (by decide) ?_
            exact ih lo md (by omega) (by omega) (by omega) hA (fun i h1 h2 => by have := hC.monole md i (by omega) (by omega); omega) ls (lv_sub hl [2, 3, 4, 5, 6, 7, 0] rfl)
          · refine lv_aload_n hx hb dX1_place_38 rfl (lv_at hl 2 rfl) ?_
            refine lv_iload hx hb dX1_place_39 (lv_at hl 0 rfl) ?_
            refine gr_iald (k := md) hx hb hK hP 1 0 rfl rfl (by omega) (by decide) dX1_place_41 ?_
            refine lv_iload hx hb dX1_place_42 (lv_at hl 5 rfl) ?_
            refine lv_icmp_ge (tgt := 56) hx hb dX1_place_44 (by decide) (fun c_4 => ?_) (fun c_4 => ?_)
            · have hge : gh_K (g2 x y) ≤ gh_K (gp xs ys md) := Int.not_lt.mp (fun z => by rcases hkm.mp z with q | q; exact c_2 q; exact absurd q.2 (Int32.not_lt.mpr c_4))
              refine lv_iload hx hb dX1_place_56 (lv_at hl 0 rfl) ?_
              refine lv_istore (lv' := [(6, .int (nI md)), (7, .int (nI md)), (0, .ref a1), (1, .ref a2), (2, .int (nI n)), (3, .int x), (4, .int y), (5, .int (nI lo))]) hx hb dX1_place_58 hl (by decide) rfl (fun ls hl => ?_)
              refine lv_goto (tgt := 6) hx hb dX1_place_60 (by decide) ?_
              exact ih lo md (by omega) (by omega) (by omega) hA (fun i h1 h2 => by have := hC.monole md i (by omega) (by omega); omega) ls (lv_sub hl [2, 3, 4, 5, 6, 7, 0] rfl)
            · have hlt : gh_K (gp xs ys md) < gh_K (g2 x y) := hkm.mpr (Or.inr ⟨c_3, Int32.not_le.mp c_4⟩)
              refine lv_iload hx hb dX1_place_47 (lv_at hl 0 rfl) ?_
              refine lv_iconst (v := 1) hx hb dX1_place_49 (by decide) ?_
              refine lv_iadd hx hb dX1_place_50 ?_
              refine gr_topi (y := nI (md + 1)) (nI_1 md) ?_
              refine lv_istore (lv' := [(5, .int (nI (md + 1))), (7, .int (nI md)), (0, .ref a1), (1, .ref a2), (2, .int (nI n)), (3, .int x), (4, .int y), (6, .int (nI hi))]) hx hb dX1_place_51 hl (by decide) rfl (fun ls hl => ?_)
              refine lv_goto (tgt := 60) hx hb dX1_place_53 (by decide) ?_
              refine lv_goto (tgt := 6) hx hb dX1_place_60 (by decide) ?_
              exact ih (md + 1) hi (by omega) (by omega) hhn (fun i hi => by have := hC.monole i md (by omega) (by omega); omega) hB ls (lv_sub hl [2, 3, 4, 5, 6, 0, 7] rfl)
  refine lv_iconst (v := 0) hx hb dX1_place_0 (by decide) ?_
  refine lv_istore (lv' := [(5, .int 0), (0, .ref a1), (1, .ref a2), (2, .int (nI n)), (3, .int x), (4, .int y)]) hx hb dX1_place_1 hl (by decide) rfl (fun ls hl => ?_)
  refine lv_iload_n hx hb dX1_place_3 rfl (lv_at hl 3 rfl) ?_
  refine lv_istore (lv' := [(6, .int (nI n)), (5, .int 0), (0, .ref a1), (1, .ref a2), (2, .int (nI n)), (3, .int x), (4, .int y)]) hx hb dX1_place_4 hl (by decide) rfl (fun ls hl => ?_)
  exact loop (n + 1) 0 n (by omega) (by omega) (Nat.le_refl _) (fun i hi => by omega) (fun i h1 h2 => by omega) ls (lv_sub hl [2, 3, 4, 5, 6, 1, 0] rfl)
set_option maxHeartbeats 4000000 in
set_option maxRecDepth 100000 in
theorem metX1_side (l : Launch) (dC : Nat → ClassId) (dI : Nat → Nat → Nat) (dA : ClassId) (a1 a2 n : Nat) (xs ys : Nat → Int32) (x y sg : Int32) (hn : n ≤ 68) (hsg : sg = 1 ∨ sg = -1) (hC : gh_C sg.toInt n (gp xs ys)) (hok : ∀ i, i < n → gh_ok (gp xs ys i)) (hp : gh_ok (g2 x y)) : Met l yX1_side (ws_ yX1_side cX1_side 9 (some .int)) ({ frames := 1, cells := 0, slots := 0, locals := 27 }) (gr_Pc (dC, dI) [.ref a1, .ref a2, .int (nI n), .int x, .int y, .int sg] [(a1, .inl (dA, 68, .inl xs)), (a2, .inl (dA, 68, .inl ys))] [(dA, .int)]) (vp_Si (fun r => gs_post sg.toInt n (gp xs ys) (g2 x y) r)) 0 0 (fun _ => False) := by
  refine Met.ofW (cc := cX1_side) (maxL := 9) (ret := (some .int)) (by decide) rfl ?_
  intro p e s m args below meth c s₁ B hml hv
  obtain ⟨rfl, hP, hK⟩ := hv
  have hx := B.exec
  have hb := B.bytes
  have hr := B.returns
  have hts := atoms_spec (ws := (ws_ yX1_side cX1_side 9 (some .int))) B.pre
  have hts : ∀ w ∈ lw_all, w.before _ s = true := fun w h => hts w (List.mem_cons_of_mem _ h)
  have hown : s.vm.findClass RX1 = some m.cls := findClass_of_methodNamed B.named
  have hlocks := B.notSynchronized
  have hl := lv_entry ([.ref a1, .ref a2, .int (nI n), .int x, .int y, .int sg]) (n := 9) (Nat.le_of_ble_eq_true rfl)
  rw [lg_entry_eq]
  generalize (lg_sl ([.ref a1, .ref a2, .int (nI n), .int x, .int y, .int sg]) ++ List.replicate (9 - (lg_sl ([.ref a1, .ref a2, .int (nI n), .int x, .int y, .int sg])).length) Slot.unset).toArray = ls at hl ⊢
  have hl : lv_has ls 9 [(0, .ref a1), (1, .ref a2), (2, .int (nI n)), (3, .int x), (4, .int y), (5, .int sg)] := hl
  refine lv_aload_n hx hb dX1_side_0 rfl (lv_at hl 0 rfl) ?_
  refine lv_aload_n hx hb dX1_side_1 rfl (lv_at hl 1 rfl) ?_
  refine lv_iload_n hx hb dX1_side_2 rfl (lv_at hl 2 rfl) ?_
  refine lv_iload_n hx hb dX1_side_3 rfl (lv_at hl 3 rfl) ?_
  refine lv_iload hx hb dX1_side_4 (lv_at hl 4 rfl) ?_
  refine vp_callSi (va_Run.run (va_runS (As := [.ref a1, .ref a2, .int (nI n), .int x, .int y]) (rest := []) ⟨hx, hb, hml, hown, hts⟩ (metX1_place l dC dI dA a1 a2 n xs ys x y hn sg.toInt hC hok hp) (va_cwS 5 hts (lw_S q66 q67 q11 q68) rfl rfl rfl (by decide +kernel) ⟨Nat.le_of_ble_eq_true rfl, Nat.le_of_ble_eq_true rfl⟩) (gr_preS (hP.sub (ws' := [(a1, .inl (dA, 68, .inl xs)), (a2, .inl (dA, 68, .inl ys))]) [0, 1] rfl) (hK.sub (tys' := [(dA, .int)]) [0] rfl)) rfl rfl hl.1 rfl (lv_room (Nat.le_of_ble_eq_true rfl)) dX1_side_6 ⟨Nat.zero_le _, Nat.zero_le _⟩)) (fun z hz => ?_)
  obtain ⟨k, hk⟩ : ∃ k, k = gh_plc (gp xs ys) (g2 x y) n := ⟨_, rfl⟩
  have hkn := gh_plc_le (gp xs ys) (g2 x y) n
  have hz : z = nI (gh_plc (gp xs ys) (g2 x y) n) := hz
  rw [← hk] at hkn hz
  subst hz
  refine lv_istore (lv' := [(6, .int (nI k)), (0, .ref a1), (1, .ref a2), (2, .int (nI n)), (3, .int x), (4, .int y), (5, .int sg)]) hx hb dX1_side_9 hl (by decide) rfl (fun ls hl => ?_)
  have at36 : ¬ (k < n ∧ gp xs ys k = g2 x y) → ∀ (ls : Array Slot), lv_has ls 9 [(6, .int (nI k)), (0, .ref a1), (1, .ref a2), (2, .int (nI n)), (3, .int x), (4, .int y), (5, .int sg)] → W p l e (headSpec (ws_ yX1_side cX1_side 9 (some .int)) ({ frames := 1, cells := 0, slots := 0, locals := 27 })).room s m ([.ref a1, .ref a2, .int (nI n), .int x, .int y, .int sg] : List Value).toArray below meth c s.heap [] 0 0 (MQ below (vp_Si (fun r => gs_post sg.toInt n (gp xs ys) (g2 x y) r)) ([.ref a1, .ref a2, .int (nI n), .int x, .int y, .int sg] : List Value).toArray s 0 0 (fun _ => False)) (F0 m 36 ls []) := by
    intro hne ls hl
    refine lv_iload hx hb dX1_side_36 (lv_at hl 0 rfl) ?_
    refine lv_if_eq (tgt := 47) hx hb dX1_side_38 (by decide) (fun c_2 => ?_) (fun c_2 => ?_)
    · have c_2 : k = 0 := (nI_eq (by omega) (by omega)).mp c_2
      refine lv_iconst (v := (-1)) hx hb dX1_side_47 (by decide) ?_
      exact W.iret (v := (-1)) hx hb hr (fun t ht hW => ⟨(-1), rfl, gs_out hC hok hp hk (Or.inl c_2) hne, ht⟩) (fun q h => by cases h) dX1_side_48
    · have c_2 : k ≠ 0 := fun z => c_2 (by rw [z]; rfl)
      refine lv_iload hx hb dX1_side_41 (lv_at hl 0 rfl) ?_
      refine lv_iload_n hx hb dX1_side_43 rfl (lv_at hl 3 rfl) ?_
      refine lv_icmp_ne (tgt := 49) hx hb dX1_side_44 (by decide) (fun c_3 => ?_) (fun c_3 => ?_)
      · have c_3 : k ≠ n := fun z => c_3 (by rw [z])
        refine lv_iload hx hb dX1_side_49 (lv_at hl 6 rfl) ?_
        refine lv_i2l hx hb dX1_side_51 rfl ?_
        refine lv_aload_n hx hb dX1_side_52 rfl (lv_at hl 1 rfl) ?_
        refine lv_iload hx hb dX1_side_53 (lv_at hl 0 rfl) ?_
        refine lv_iconst (v := 1) hx hb dX1_side_55 (by decide) ?_
        refine lv_isub hx hb dX1_side_56 ?_
        refine gr_topi (y := nI (k - 1)) (gi_m1 (by omega)) ?_
        refine gr_iald (k := k - 1) hx hb hK hP 0 0 rfl rfl (by omega) (by decide) dX1_side_57 ?_
        refine lv_aload_n hx hb dX1_side_58 rfl (lv_at hl 2 rfl) ?_
        refine lv_iload hx hb dX1_side_59 (lv_at hl 0 rfl) ?_
        refine lv_iconst (v := 1) hx hb dX1_side_61 (by decide) ?_
        refine lv_isub hx hb dX1_side_62 ?_
        refine gr_topi (y := nI (k - 1)) (gi_m1 (by omega)) ?_
        refine gr_iald (k := k - 1) hx hb hK hP 1 0 rfl rfl (by omega) (by decide) dX1_side_63 ?_
        refine lv_aload_n hx hb dX1_side_64 rfl (lv_at hl 1 rfl) ?_
        refine lv_iload hx hb dX1_side_65 (lv_at hl 0 rfl) ?_
        refine gr_iald (k := k) hx hb hK hP 0 0 rfl rfl (by omega) (by decide) dX1_side_67 ?_
        refine lv_aload_n hx hb dX1_side_68 rfl (lv_at hl 2 rfl) ?_
        refine lv_iload hx hb dX1_side_69 (lv_at hl 0 rfl) ?_
        refine gr_iald (k := k) hx hb hK hP 1 0 rfl rfl (by omega) (by decide) dX1_side_71 ?_
        refine lv_iload_n hx hb dX1_side_72 rfl (lv_at hl 4 rfl) ?_
        refine lv_iload hx hb dX1_side_73 (lv_at hl 5 rfl) ?_
        refine vp_callSl (va_Run.run (va_runS (As := [.int (xs (k - 1)), .int (ys (k - 1)), .int (xs k), .int (ys k), .int x, .int y]) (rest := [.long sg.toInt64]) ⟨hx, hb, hml, hown, hts⟩ (metX1_turn l dC dI dA (xs (k - 1)) (ys (k - 1)) (xs k) (ys k) x y) (va_cwS 6 hts (lw_S q69 q70 q11 q71) rfl rfl rfl (by decide +kernel) ⟨Nat.le_of_ble_eq_true rfl, Nat.le_of_ble_eq_true rfl⟩) (gr_preS (hP.sub (ws' := []) [] rfl) (hK.sub (tys' := []) [] rfl)) rfl rfl hl.1 rfl (lv_room (Nat.le_of_ble_eq_true rfl)) dX1_side_75 ⟨Nat.zero_le _, Nat.zero_le _⟩)) (fun tt htt => ?_)
        have htt : tt = gt_turn (xs (k - 1)) (ys (k - 1)) (xs k) (ys k) x y := htt
        have hto := gt_turn_ok (hok (k - 1) (by omega)) (hok k (by omega)) hp
        have hto : tt.toInt = gh_T (gp xs ys (k - 1)) (gp xs ys k) (g2 x y) ∧ -2147221512 ≤ gh_T (gp xs ys (k - 1)) (gp xs ys k) (g2 x y) ∧ gh_T (gp xs ys (k - 1)) (gp xs ys k) (g2 x y) ≤ 2147221512 := by rw [htt]; exact hto
        have hsx := gt_sig (t := tt) hsg (by omega) (by omega)
        refine lv_lmul hx hb dX1_side_78 ?_
        refine lv_topl (fun t2 et2 => ?_)
        have ht2 : t2.toInt = gh_S sg.toInt (gp xs ys (k - 1)) (gp xs ys k) (g2 x y) := by rw [et2, hsx, hto.1]; rfl
        have hmid := gs_mid hC hk (by omega) (by omega) ht2
        refine lv_lstore (lv' := [(7, .long t2), (6, .int (nI k)), (0, .ref a1), (1, .ref a2), (2, .int (nI n)), (3, .int x), (4, .int y), (5, .int sg)]) hx hb dX1_side_79 hl (by decide) rfl (fun ls hl => ?_)
        refine lv_lload hx hb dX1_side_81 (lv_at hl 0 rfl) ?_
        refine lv_lconst (v := 0) hx hb dX1_side_83 (by decide) ?_
        refine W.lcmp hx hb dX1_side_84 ?_
        refine lv_if_le (tgt := 92) hx hb dX1_side_85 (by decide) (fun c_5 => ?_) (fun c_5 => ?_)
        · rw [lg_cmp_le] at c_5
          refine lv_lload hx hb dX1_side_92 (lv_at hl 0 rfl) ?_
          refine lv_lconst (v := 0) hx hb dX1_side_94 (by decide) ?_
          refine W.lcmp hx hb dX1_side_95 ?_
          refine lv_if_ge (tgt := 103) hx hb dX1_side_96 (by decide) (fun c_6 => ?_) (fun c_6 => ?_)
          · rw [lg_cmp_ge] at c_6
            refine lv_iconst (v := 0) hx hb dX1_side_103 (by decide) ?_
            exact W.iret (v := 0) hx hb hr (fun t ht hW => ⟨0, rfl, hmid.2.2 (Int64.not_lt.mpr c_5) (Int64.not_lt.mpr c_6), ht⟩) (fun q h => by cases h) dX1_side_104
          · rw [lg_cmp_ge] at c_6
            refine lv_iconst (v := (-1)) hx hb dX1_side_99 (by decide) ?_
            refine lv_goto (tgt := 104) hx hb dX1_side_100 (by decide) ?_
            exact W.iret (v := (-1)) hx hb hr (fun t ht hW => ⟨(-1), rfl, hmid.2.1 (Int64.not_le.mp c_6), ht⟩) (fun q h => by cases h) dX1_side_104
        · rw [lg_cmp_le] at c_5
          refine lv_iconst (v := 1) hx hb dX1_side_88 (by decide) ?_
          refine lv_goto (tgt := 104) hx hb dX1_side_89 (by decide) ?_
          exact W.iret (v := 1) hx hb hr (fun t ht hW => ⟨1, rfl, hmid.1 (Int64.not_le.mp c_5), ht⟩) (fun q h => by cases h) dX1_side_104
      · have c_3 : k = n := (nI_eq (by omega) (by omega)).mp c_3
        refine lv_iconst (v := (-1)) hx hb dX1_side_47 (by decide) ?_
        exact W.iret (v := (-1)) hx hb hr (fun t ht hW => ⟨(-1), rfl, gs_out hC hok hp hk (Or.inr c_3) hne, ht⟩) (fun q h => by cases h) dX1_side_48
  refine lv_iload hx hb dX1_side_11 (lv_at hl 0 rfl) ?_
  refine lv_iload_n hx hb dX1_side_13 rfl (lv_at hl 3 rfl) ?_
  refine lv_icmp_ge (tgt := 36) hx hb dX1_side_14 (by decide) (fun c_7 => ?_) (fun c_7 => ?_)
  · have c_7 := (nI_leI (by omega) (by omega)).mp c_7
    exact at36 (fun z => by omega) ls (lv_sub hl [0, 1, 2, 3, 4, 5, 6] rfl)
  · have c_7 : k < n := Nat.not_le.mp (fun z => c_7 ((nI_leI (by omega) (by omega)).mpr z))
    refine lv_aload_n hx hb dX1_side_17 rfl (lv_at hl 1 rfl) ?_
    refine lv_iload hx hb dX1_side_18 (lv_at hl 0 rfl) ?_
    refine gr_iald (k := k) hx hb hK hP 0 0 rfl rfl (by omega) (by decide) dX1_side_20 ?_
    refine lv_iload_n hx hb dX1_side_21 rfl (lv_at hl 4 rfl) ?_
    refine lv_icmp_ne (tgt := 36) hx hb dX1_side_22 (by decide) (fun c_8 => ?_) (fun c_8 => ?_)
    · exact at36 (fun z => c_8 (g2_inj (gp_eq xs ys k ▸ z.2)).1) ls (lv_sub hl [0, 1, 2, 3, 4, 5, 6] rfl)
    · refine lv_aload_n hx hb dX1_side_25 rfl (lv_at hl 2 rfl) ?_
      refine lv_iload hx hb dX1_side_26 (lv_at hl 0 rfl) ?_
      refine gr_iald (k := k) hx hb hK hP 1 0 rfl rfl (by omega) (by decide) dX1_side_28 ?_
      refine lv_iload hx hb dX1_side_29 (lv_at hl 5 rfl) ?_
      refine lv_icmp_ne (tgt := 36) hx hb dX1_side_31 (by decide) (fun c_9 => ?_) (fun c_9 => ?_)
      · exact at36 (fun z => c_9 (g2_inj (gp_eq xs ys k ▸ z.2)).2) ls (lv_sub hl [0, 1, 2, 3, 4, 5, 6] rfl)
      · refine lv_iconst (v := 0) hx hb dX1_side_34 (by decide) ?_
        exact W.iret (v := 0) hx hb hr (fun t ht hW => ⟨0, rfl, gs_vert hC c_7 (by rw [gp_eq, c_8, c_9]), ht⟩) (fun q h => by cases h) dX1_side_35
end
section
/-! ===== what the questions answer, told of the corners V 0 .. V (N-1) ===== -/
theorem gk_s1 : ((1 : Int32)).toInt = 1 := by decide
theorem gk_sm : ((-1 : Int32)).toInt = -1 := by decide
theorem gs_post.neg {σ : Int} {n : Nat} {f : Nat → Int × Int} {p : Int × Int} {r : Int32} (h : gs_post σ n f p r) : r < 0 ↔ ¬ gh_A σ n f p := by
  rcases h with ⟨e, h⟩ | ⟨e, h, _⟩ | ⟨e, h⟩
  · rw [e]
    exact ⟨fun z => absurd z (by decide), fun z => absurd h.1 z⟩
  · rw [e]
    exact ⟨fun z => absurd z (by decide), fun z => absurd h z⟩
  · rw [e]
    exact ⟨fun _ => h, fun _ => by decide⟩
theorem gs_post.le {σ : Int} {n : Nat} {f : Nat → Int × Int} {p : Int × Int} {r : Int32} (h : gs_post σ n f p r) : r ≤ 0 ↔ ¬ gh_SA σ n f p := by
  rcases h with ⟨e, h⟩ | ⟨e, _, h⟩ | ⟨e, h⟩
  · rw [e]
    exact ⟨fun z => absurd z (by decide), fun z => absurd h z⟩
  · rw [e]
    exact ⟨fun _ => h, fun _ => by decide⟩
  · rw [e]
    exact ⟨fun _ z => h z.1, fun _ => by decide⟩
/-- what inside answers -/
def gI_post (nl : Nat) (L : Nat → Int × Int) (nu : Nat) (U : Nat → Int × Int) (p : Int × Int) (r : Int32) : Prop :=
  (r = 2 ∧ gh_ok p ∧ gh_SA 1 nl L p ∧ gh_SA (-1) nu U p) ∨ (r = 1 ∧ (gh_ok p ∧ gh_A 1 nl L p ∧ gh_A (-1) nu U p) ∧ ¬ (gh_SA 1 nl L p ∧ gh_SA (-1) nu U p)) ∨ (r = 0 ∧ ¬ (gh_ok p ∧ gh_A 1 nl L p ∧ gh_A (-1) nu U p))
theorem gI_one {nl : Nat} {L : Nat → Int × Int} {nu : Nat} {U : Nat → Int × Int} {p : Int × Int} {r r' : Int32} (h : gI_post nl L nu U p r) (h' : gI_post nl L nu U p r') : r = r' := by
  rcases h with ⟨e, a1, a2, a3⟩ | ⟨e, a1, a2⟩ | ⟨e, a⟩ <;> rcases h' with ⟨e', b1, b2, b3⟩ | ⟨e', b1, b2⟩ | ⟨e', b⟩ <;> rw [e, e']
  · exact absurd ⟨a2, a3⟩ b2
  · exact absurd ⟨a1, a2.1, a3.1⟩ b
  · exact absurd ⟨b2, b3⟩ a2
  · exact absurd a1 b
  · exact absurd ⟨b1, b2.1, b3.1⟩ a
  · exact absurd b1 a
theorem gI_pos {nl : Nat} {L : Nat → Int × Int} {nu : Nat} {U : Nat → Int × Int} {p : Int × Int} {r : Int32} (h : gI_post nl L nu U p r) : r ≤ 0 ↔ ¬ (gh_ok p ∧ gh_A 1 nl L p ∧ gh_A (-1) nu U p) := by
  rcases h with ⟨e, a1, a2, a3⟩ | ⟨e, a1, a2⟩ | ⟨e, a⟩
  · rw [e]
    exact ⟨fun z => absurd z (by decide), fun z => absurd ⟨a1, a2.1, a3.1⟩ z⟩
  · rw [e]
    exact ⟨fun z => absurd z (by decide), fun z => absurd a1 z⟩
  · rw [e]
    exact ⟨fun _ => a, fun _ => by decide⟩
/-- a coordinate of corner i, out of the two chains -/
def gv (nl : Nat) (f : Nat → Int32) (nu : Nat) (g : Nat → Int32) (i : Nat) : Int32 := if i < nl then f i else g (nu - 2 - (i - nl))
theorem gv_V (nl : Nat) (lx ly : Nat → Int32) (nu : Nat) (ux uy : Nat → Int32) (i : Nat) : gh_V nl (gp lx ly) nu (gp ux uy) i = g2 (gv nl lx nu ux i) (gv nl ly nu uy i) := by
  unfold gh_V gv
  by_cases h : i < nl
  · rw [if_pos h, if_pos h, if_pos h]; rfl
  · rw [if_neg h, if_neg h, if_neg h]; rfl
def gq_of (N : Nat) (f : Nat → Int32) (i r : Int32) : Prop := ((i < 0 ∨ nI N ≤ i) → r = 0) ∧ (∀ j, j < N → i = nI j → r = f j)
theorem gq_of_one {N : Nat} {f g : Nat → Int32} {i r r' : Int32} (hN : N < 2 ^ 31) (h : gq_of N f i r) (h' : gq_of N g i r') (e : ∀ j, j < N → f j = g j) : r = r' := by
  rcases pk_ix i hN with a | a | ⟨j, hj, a⟩
  · rw [h.1 (Or.inl a), h'.1 (Or.inl a)]
  · rw [h.1 (Or.inr a), h'.1 (Or.inr a)]
  · rw [h.2 j hj a, h'.2 j hj a, e j hj]
def gq_area (V : Nat → Int × Int) : Nat → Int
  | 0 => 0
  | k + 1 => gq_area V k + gh_T (V 0) (V (k + 1)) (V (k + 2))
def gq_val (V : Nat → Int × Int) (p : Int × Int) (i : Nat) : Int := p.1 * (V i).1 + p.2 * (V i).2
/-- farthest: the first of the best ones -/
def gq_far (N : Nat) (V : Nat → Int × Int) (p : Int × Int) (r : Int32) : Prop := (¬ (gh_ok p ∧ 0 < N) → r = -1) ∧ (gh_ok p → 0 < N → ∃ b, b < N ∧ r = nI b ∧ (∀ j, j < N → gq_val V p j ≤ gq_val V p b) ∧ (∀ j, j < b → gq_val V p j < gq_val V p b))
theorem gq_far_one {N : Nat} {V : Nat → Int × Int} {p : Int × Int} {r r' : Int32} (h : gq_far N V p r) (h' : gq_far N V p r') : r = r' := by
  by_cases e : gh_ok p ∧ 0 < N
  · obtain ⟨b, b1, b2, b3, b4⟩ := h.2 e.1 e.2
    obtain ⟨c, c1, c2, c3, c4⟩ := h'.2 e.1 e.2
    have : b = c := by
      rcases Nat.lt_trichotomy b c with q | q | q
      · have x1 := c4 b q
        have x2 := b3 c c1
        omega
      · exact q
      · have x1 := b4 c q
        have x2 := c3 b b1
        omega
    rw [b2, c2, this]
  · rw [h.1 e, h'.1 e]
/-- a tangent's corner: the seen sides begin there (which = 0), or end there -/
def gq_at (N : Nat) (V : Nat → Int × Int) (p : Int × Int) (which : Int32) (i : Nat) : Prop :=
  (which = 0 ∧ gh_T (V i) (V (gh_nx N i)) p < 0 ∧ ¬ gh_T (V (gh_pv N i)) (V i) p < 0) ∨ (¬ which = 0 ∧ gh_T (V (gh_pv N i)) (V i) p < 0 ∧ ¬ gh_T (V i) (V (gh_nx N i)) p < 0)
def gq_tan (N : Nat) (V : Nat → Int × Int) (p : Int × Int) (which : Int32) (ins : Prop) (r : Int32) : Prop :=
  ((which < 0 ∨ 1 < which ∨ N < 3 ∨ ¬ gh_ok p ∨ ins) → r = -1) ∧ (¬ which < 0 → ¬ 1 < which → 3 ≤ N → gh_ok p → ¬ ins → (∃ i, i < N ∧ r = nI i ∧ gq_at N V p which i) ∨ (r = -1 ∧ ∀ i, i < N → ¬ gq_at N V p which i))
theorem gq_tan_one {N : Nat} {V : Nat → Int × Int} {p : Int × Int} {which : Int32} {ins : Prop} {r r' : Int32} (hV : gh_Poly N V) (h : gq_tan N V p which ins r) (h' : gq_tan N V p which ins r') : r = r' := by
  by_cases e : which < 0 ∨ 1 < which ∨ N < 3 ∨ ¬ gh_ok p ∨ ins
  · rw [h.1 e, h'.1 e]
  · have e1 : ¬ which < 0 := fun z => e (Or.inl z)
    have e2 : ¬ 1 < which := fun z => e (Or.inr (Or.inl z))
    have e3 : 3 ≤ N := Nat.not_lt.mp (fun z => e (Or.inr (Or.inr (Or.inl z))))
    have e4 : gh_ok p := Classical.byContradiction (fun z => e (Or.inr (Or.inr (Or.inr (Or.inl z)))))
    have e5 : ¬ ins := fun z => e (Or.inr (Or.inr (Or.inr (Or.inr z))))
    rcases h.2 e1 e2 e3 e4 e5 with ⟨i, i1, i2, i3⟩ | ⟨i1, i2⟩ <;> rcases h'.2 e1 e2 e3 e4 e5 with ⟨j, j1, j2, j3⟩ | ⟨j1, j2⟩
    · have : i = j := by
        rcases i3 with ⟨a, b, c⟩ | ⟨a, b, c⟩ <;> rcases j3 with ⟨a', b', c'⟩ | ⟨a', b', c'⟩
        · exact hV.oneB e3 i1 j1 b (Int.not_lt.mp c) b' (Int.not_lt.mp c')
        · exact absurd a a'
        · exact absurd a' a
        · exact hV.oneE e3 i1 j1 b (Int.not_lt.mp c) b' (Int.not_lt.mp c')
      rw [i2, j2, this]
    · exact absurd i3 (j2 i i1)
    · exact absurd j3 (i2 j j1)
    · rw [i1, j1]
/-- diameter: the greatest square of a distance -/
def gq_dia (N : Nat) (V : Nat → Int × Int) (mst : Int) : Prop := 0 ≤ mst ∧ (∀ i j, i < N → j < i → gh_D (V j) (V i) ≤ mst) ∧ (mst = 0 ∨ ∃ i j, i < N ∧ j < i ∧ mst = gh_D (V j) (V i))
theorem gq_dia_one {N : Nat} {V : Nat → Int × Int} {a b : Int} (h : gq_dia N V a) (h' : gq_dia N V b) : a = b := by
  obtain ⟨h1, h2, h3⟩ := h
  obtain ⟨k1, k2, k3⟩ := h'
  have x : a ≤ b := by
    rcases h3 with e | ⟨i, j, hi, hj, e⟩
    · omega
    · rw [e]; exact k2 i j hi hj
  have y : b ≤ a := by
    rcases k3 with e | ⟨i, j, hi, hj, e⟩
    · omega
    · rw [e]; exact h2 i j hi hj
  omega
/-! numbers again -/
theorem gi_val {x y a b : Int32} (hp : gh_ok (g2 x y)) (hq : gh_ok (g2 a b)) : (x.toInt64 * a.toInt64 + y.toInt64 * b.toInt64).toInt = x.toInt * a.toInt + y.toInt * b.toInt := by
  simp only [gh_ok, g2] at hp hq
  have b1 := gi_bd2 (x := x.toInt) (y := a.toInt) (by omega) (by omega) (by omega) (by omega)
  have b2 := gi_bd2 (x := y.toInt) (y := b.toInt) (by omega) (by omega) (by omega) (by omega)
  have m1 : (x.toInt64 * a.toInt64).toInt = x.toInt * a.toInt := by
    rw [gi_mul (by rw [Kit.i64_of_i32]; omega) (by rw [Kit.i64_of_i32]; omega) (by rw [Kit.i64_of_i32]; omega) (by rw [Kit.i64_of_i32]; omega), Kit.i64_of_i32, Kit.i64_of_i32]
  have m2 : (y.toInt64 * b.toInt64).toInt = y.toInt * b.toInt := by
    rw [gi_mul (by rw [Kit.i64_of_i32]; omega) (by rw [Kit.i64_of_i32]; omega) (by rw [Kit.i64_of_i32]; omega) (by rw [Kit.i64_of_i32]; omega), Kit.i64_of_i32, Kit.i64_of_i32]
  rw [Kit.i64_add (by rw [m1, m2]; omega) (by rw [m1, m2]; omega), m1, m2]
theorem gi_val32 {x y a b : Int32} (hp : gh_ok (g2 x y)) (hq : gh_ok (g2 a b)) : (a * x + b * y).toInt = x.toInt * a.toInt + y.toInt * b.toInt := by
  simp only [gh_ok, g2] at hp hq
  have b1 := gi_bd (B := 16383) (x := a.toInt) (y := x.toInt) (by omega) (by omega) (by omega) (by omega)
  have b2 := gi_bd (B := 16383) (x := b.toInt) (y := y.toInt) (by omega) (by omega) (by omega) (by omega)
  have m1 : (a * x).toInt = a.toInt * x.toInt := Kit.i32_mul (by omega) (by omega)
  have m2 : (b * y).toInt = b.toInt * y.toInt := Kit.i32_mul (by omega) (by omega)
  rw [Kit.i32_add (by rw [m1, m2]; omega) (by rw [m1, m2]; omega), m1, m2, Int.mul_comm, Int.mul_comm b.toInt]
/-- the square of a distance, as both compute it -/
def gt_dist (ax ay bx by_ : Int32) : Int64 := (bx - ax).toInt64 * (bx - ax).toInt64 + (by_ - ay).toInt64 * (by_ - ay).toInt64
theorem gt_dist_ok {ax ay bx by_ : Int32} (ha : gh_ok (g2 ax ay)) (hb : gh_ok (g2 bx by_)) : (gt_dist ax ay bx by_).toInt = gh_D (g2 ax ay) (g2 bx by_) ∧ gh_D (g2 ax ay) (g2 bx by_) ≤ 2147221512 := by
  simp only [gh_ok, g2] at ha hb
  have s1 : (bx - ax).toInt = bx.toInt - ax.toInt := gi_ofS (by omega) (by omega)
  have s3 : (by_ - ay).toInt = by_.toInt - ay.toInt := gi_ofS (by omega) (by omega)
  have b1 := gi_bd2 (x := bx.toInt - ax.toInt) (y := bx.toInt - ax.toInt) (by omega) (by omega) (by omega) (by omega)
  have b2 := gi_bd2 (x := by_.toInt - ay.toInt) (y := by_.toInt - ay.toInt) (by omega) (by omega) (by omega) (by omega)
  have m1 : ((bx - ax).toInt64 * (bx - ax).toInt64).toInt = (bx.toInt - ax.toInt) * (bx.toInt - ax.toInt) := by
    rw [gi_mul (by rw [Kit.i64_of_i32]; omega) (by rw [Kit.i64_of_i32]; omega) (by rw [Kit.i64_of_i32]; omega) (by rw [Kit.i64_of_i32]; omega), Kit.i64_of_i32, s1]
  have m2 : ((by_ - ay).toInt64 * (by_ - ay).toInt64).toInt = (by_.toInt - ay.toInt) * (by_.toInt - ay.toInt) := by
    rw [gi_mul (by rw [Kit.i64_of_i32]; omega) (by rw [Kit.i64_of_i32]; omega) (by rw [Kit.i64_of_i32]; omega) (by rw [Kit.i64_of_i32]; omega), Kit.i64_of_i32, s3]
  have e : gh_D (g2 ax ay) (g2 bx by_) = (bx.toInt - ax.toInt) * (bx.toInt - ax.toInt) + (by_.toInt - ay.toInt) * (by_.toInt - ay.toInt) := rfl
  rw [e]
  refine ⟨?_, by omega⟩
  unfold gt_dist
  rw [Kit.i64_add (by rw [m1, m2]; omega) (by rw [m1, m2]; omega), m1, m2]
theorem gi_of (x : Int64) {t : Int} (h : x.toInt = t) : x = Int64.ofInt t := by
  rw [← h, Int64.ofInt_toInt]
theorem gv_ok {nl : Nat} {lx ly : Nat → Int32} {nu : Nat} {ux uy : Nat → Int32} (h : gh_H nl (gp lx ly) nu (gp ux uy)) {i : Nat} (hi : i < gh_N nl nu) : gh_ok (g2 (gv nl lx nu ux i) (gv nl ly nu uy i)) := by
  rw [← gv_V]
  exact h.vok hi
theorem gh_H.Poly {nl : Nat} {L : Nat → Int × Int} {nu : Nat} {U : Nat → Int × Int} (h : gh_H nl L nu U) (h3 : 3 ≤ gh_N nl nu) : gh_Poly (gh_N nl nu) (gh_V nl L nu U) := by
  intro i j hi hj h1 h2
  refine h.poly ?_ hi hj h1 h2
  rcases Nat.lt_or_ge nl 2 with q | q
  · simp only [gh_N, if_pos q] at h3
    omega
  · exact q
end
section
/-! ===== OnlineHull: the methods that only read ===== -/
set_option maxHeartbeats 4000000 in
set_option maxRecDepth 100000 in
theorem metX1_inside (l : Launch) (dC : Nat → ClassId) (dI : Nat → Nat → Nat) (dA : ClassId) (h a1 a2 a3 a4 a5 a6 nl nu : Nat) (lx ly ux uy tx ty : Nat → Int32) (nt cap seen : Int32) (x y : Int32) (hnl : nl ≤ 68) (hnu : nu ≤ 68) (hH : gh_H nl (gp lx ly) nu (gp ux uy)) : Met l yX1_inside (ws_ yX1_inside cX1_inside 5 (some .int)) ({ frames := 2, cells := 0, slots := 0, locals := 55 }) (gr_Pc (dC, dI) [.ref h, .int x, .int y] [(h, .inr (0, [.ref a1, .ref a2, .ref a3, .ref a4, .int (nI nl), .int (nI nu), .ref a5, .ref a6, .int nt, .int cap, .int seen])), (a1, .inl (dA, 68, .inl lx)), (a2, .inl (dA, 68, .inl ly)), (a3, .inl (dA, 68, .inl ux)), (a4, .inl (dA, 68, .inl uy)), (a5, .inl (dA, 68, .inl tx)), (a6, .inl (dA, 68, .inl ty))] [(dA, .int)]) (vp_Si (fun r => gI_post nl (gp lx ly) nu (gp ux uy) (g2 x y) r)) 0 0 (fun _ => False) := by
  refine Met.ofW (cc := cX1_inside) (maxL := 5) (ret := (some .int)) (by decide) rfl ?_
  intro p e s m args below meth c s₁ B hml hv
  obtain ⟨rfl, hP, hK⟩ := hv
  have hx := B.exec
  have hb := B.bytes
  have hr := B.returns
  have hts := atoms_spec (ws := (ws_ yX1_inside cX1_inside 5 (some .int))) B.pre
  have hts : ∀ w ∈ lw_all, w.before _ s = true := fun w h => hts w (List.mem_cons_of_mem _ h)
  have hown : s.vm.findClass RX1 = some m.cls := findClass_of_methodNamed B.named
  have hlocks := B.notSynchronized
  have hl := lv_entry ([.ref h, .int x, .int y]) (n := 5) (Nat.le_of_ble_eq_true rfl)
  rw [lg_entry_eq]
  generalize (lg_sl ([.ref h, .int x, .int y]) ++ List.replicate (5 - (lg_sl ([.ref h, .int x, .int y])).length) Slot.unset).toArray = ls at hl ⊢
  have hl : lv_has ls 5 [(0, .ref h), (1, .int x), (2, .int y)] := hl
  refine lv_iload_n hx hb dX1_inside_0 rfl (lv_at hl 1 rfl) ?_
  refine lv_iload_n hx hb dX1_inside_1 rfl (lv_at hl 2 rfl) ?_
  refine vp_callSi (va_Run.run (va_runS (As := [.int x, .int y]) (rest := []) ⟨hx, hb, hml, hown, hts⟩ (metX1_isPoint l dC dI dA x y) (va_cwS 2 hts (lw_S q60 q61 q11 q62) rfl rfl rfl (by decide +kernel) ⟨Nat.le_of_ble_eq_true rfl, Nat.le_of_ble_eq_true rfl⟩) (gr_preS (hP.sub (ws' := []) [] rfl) (hK.sub (tys' := []) [] rfl)) rfl rfl hl.1 rfl (lv_room (Nat.le_of_ble_eq_true rfl)) dX1_inside_2 ⟨Nat.zero_le _, Nat.zero_le _⟩)) (fun z1 hz1 => ?_)
  refine lv_if_eq (tgt := 15) hx hb dX1_inside_5 (by decide) (fun c_2 => ?_) (fun c_2 => ?_)
  · refine lv_iconst (v := 0) hx hb dX1_inside_15 (by decide) ?_
    exact W.iret (v := 0) hx hb hr (fun t ht hW => ⟨0, rfl, Or.inr (Or.inr ⟨rfl, fun z => gk_b.neg hz1 c_2 z.1⟩), ht⟩) (fun q h => by cases h) dX1_inside_16
  · have hok : gh_ok (g2 x y) := gk_b.pos hz1 c_2
    refine lv_aload_n hx hb dX1_inside_8 rfl (lv_at hl 0 rfl) ?_
    refine va_get (D := (dC, dI)) (ci := 0) (v := .int (nI nl)) (C := RX1) (T := TX1) (N := 11) hx hb hts in_X1 hown hK hP 0 rfl rfl 4 (by decide) (hts _ q25) (fun _ h9 => h9) rfl dX1_inside_9 ?_
    refine lv_if_ne (tgt := 17) hx hb dX1_inside_12 (by decide) (fun c_3 => ?_) (fun c_3 => ?_)
    · have hn0 : nl ≠ 0 := fun z => c_3 (by rw [z]; rfl)
      refine lv_aload_n hx hb dX1_inside_17 rfl (lv_at hl 0 rfl) ?_
      refine va_get (D := (dC, dI)) (ci := 0) (v := .ref a1) (C := RX1) (T := TX1) (N := 11) hx hb hts in_X1 hown hK hP 0 rfl rfl 0 (by decide) (hts _ q21) (fun _ h9 => h9) rfl dX1_inside_18 ?_
      refine lv_aload_n hx hb dX1_inside_21 rfl (lv_at hl 0 rfl) ?_
      refine va_get (D := (dC, dI)) (ci := 0) (v := .ref a2) (C := RX1) (T := TX1) (N := 11) hx hb hts in_X1 hown hK hP 0 rfl rfl 1 (by decide) (hts _ q22) (fun _ h9 => h9) rfl dX1_inside_22 ?_
      refine lv_aload_n hx hb dX1_inside_25 rfl (lv_at hl 0 rfl) ?_
      refine va_get (D := (dC, dI)) (ci := 0) (v := .int (nI nl)) (C := RX1) (T := TX1) (N := 11) hx hb hts in_X1 hown hK hP 0 rfl rfl 4 (by decide) (hts _ q25) (fun _ h9 => h9) rfl dX1_inside_26 ?_
      refine lv_iload_n hx hb dX1_inside_29 rfl (lv_at hl 1 rfl) ?_
      refine lv_iload_n hx hb dX1_inside_30 rfl (lv_at hl 2 rfl) ?_
      refine lv_iconst (v := 1) hx hb dX1_inside_31 (by decide) ?_
      refine vp_callSi (va_Run.run (va_runS (As := [.ref a1, .ref a2, .int (nI nl), .int x, .int y, .int 1]) (rest := []) ⟨hx, hb, hml, hown, hts⟩ (metX1_side l dC dI dA a1 a2 nl lx ly x y 1 hnl (Or.inl rfl) (by rw [gk_s1]; exact hH.1) hH.2.2.1 hok) (va_cwS 6 hts (lw_S q63 q64 q11 q65) rfl rfl rfl (by decide +kernel) ⟨Nat.le_of_ble_eq_true rfl, Nat.le_of_ble_eq_true rfl⟩) (gr_preS (hP.sub (ws' := [(a1, .inl (dA, 68, .inl lx)), (a2, .inl (dA, 68, .inl ly))]) [1, 2] rfl) (hK.sub (tys' := [(dA, .int)]) [0] rfl)) rfl rfl hl.1 rfl (lv_room (Nat.le_of_ble_eq_true rfl)) dX1_inside_32 ⟨Nat.zero_le _, Nat.zero_le _⟩)) (fun za hza => ?_)
      have hza : gs_post ((1 : Int32)).toInt nl (gp lx ly) (g2 x y) za := hza
      rw [gk_s1] at hza
      refine lv_istore_n (lv' := [(3, .int za), (0, .ref h), (1, .int x), (2, .int y)]) hx hb dX1_inside_35 rfl hl (by decide) rfl (fun ls hl => ?_)
      refine lv_aload_n hx hb dX1_inside_36 rfl (lv_at hl 1 rfl) ?_
      refine va_get (D := (dC, dI)) (ci := 0) (v := .ref a3) (C := RX1) (T := TX1) (N := 11) hx hb hts in_X1 hown hK hP 0 rfl rfl 2 (by decide) (hts _ q23) (fun _ h9 => h9) rfl dX1_inside_37 ?_
      refine lv_aload_n hx hb dX1_inside_40 rfl (lv_at hl 1 rfl) ?_
      refine va_get (D := (dC, dI)) (ci := 0) (v := .ref a4) (C := RX1) (T := TX1) (N := 11) hx hb hts in_X1 hown hK hP 0 rfl rfl 3 (by decide) (hts _ q24) (fun _ h9 => h9) rfl dX1_inside_41 ?_
      refine lv_aload_n hx hb dX1_inside_44 rfl (lv_at hl 1 rfl) ?_
      refine va_get (D := (dC, dI)) (ci := 0) (v := .int (nI nu)) (C := RX1) (T := TX1) (N := 11) hx hb hts in_X1 hown hK hP 0 rfl rfl 5 (by decide) (hts _ q26) (fun _ h9 => h9) rfl dX1_inside_45 ?_
      refine lv_iload_n hx hb dX1_inside_48 rfl (lv_at hl 2 rfl) ?_
      refine lv_iload_n hx hb dX1_inside_49 rfl (lv_at hl 3 rfl) ?_
      refine lv_iconst (v := (-1)) hx hb dX1_inside_50 (by decide) ?_
      refine vp_callSi (va_Run.run (va_runS (As := [.ref a3, .ref a4, .int (nI nu), .int x, .int y, .int (-1)]) (rest := []) ⟨hx, hb, hml, hown, hts⟩ (metX1_side l dC dI dA a3 a4 nu ux uy x y (-1) hnu (Or.inr rfl) (by rw [gk_sm]; exact hH.2.1) hH.2.2.2.1 hok) (va_cwS 6 hts (lw_S q63 q64 q11 q65) rfl rfl rfl (by decide +kernel) ⟨Nat.le_of_ble_eq_true rfl, Nat.le_of_ble_eq_true rfl⟩) (gr_preS (hP.sub (ws' := [(a3, .inl (dA, 68, .inl ux)), (a4, .inl (dA, 68, .inl uy))]) [3, 4] rfl) (hK.sub (tys' := [(dA, .int)]) [0] rfl)) rfl rfl hl.1 rfl (lv_room (Nat.le_of_ble_eq_true rfl)) dX1_inside_51 ⟨Nat.zero_le _, Nat.zero_le _⟩)) (fun zb hzb => ?_)
      have hzb : gs_post ((-1 : Int32)).toInt nu (gp ux uy) (g2 x y) zb := hzb
      rw [gk_sm] at hzb
      refine lv_istore (lv' := [(4, .int zb), (3, .int za), (0, .ref h), (1, .int x), (2, .int y)]) hx hb dX1_inside_54 hl (by decide) rfl (fun ls hl => ?_)
      refine lv_iload_n hx hb dX1_inside_56 rfl (lv_at hl 1 rfl) ?_
      refine lv_if_lt (tgt := 65) hx hb dX1_inside_57 (by decide) (fun c_6 => ?_) (fun c_6 => ?_)
      · refine lv_iconst (v := 0) hx hb dX1_inside_65 (by decide) ?_
        refine lv_goto (tgt := 83) hx hb dX1_inside_66 (by decide) ?_
        exact W.iret (v := 0) hx hb hr (fun t ht hW => ⟨0, rfl, Or.inr (Or.inr ⟨rfl, fun z => hza.neg.mp c_6 z.2.1⟩), ht⟩) (fun q h => by cases h) dX1_inside_83
      · have hA := Classical.not_not.mp (fun z => c_6 (hza.neg.mpr z))
        refine lv_iload hx hb dX1_inside_60 (lv_at hl 0 rfl) ?_
        refine lv_if_ge (tgt := 69) hx hb dX1_inside_62 (by decide) (fun c_7 => ?_) (fun c_7 => ?_)
        · have hB := Classical.not_not.mp (fun z => absurd (hzb.neg.mpr z) (Int32.not_lt.mpr c_7))
          refine lv_iload_n hx hb dX1_inside_69 rfl (lv_at hl 1 rfl) ?_
          refine lv_if_le (tgt := 82) hx hb dX1_inside_70 (by decide) (fun c_8 => ?_) (fun c_8 => ?_)
          · refine lv_iconst (v := 1) hx hb dX1_inside_82 (by decide) ?_
            exact W.iret (v := 1) hx hb hr (fun t ht hW => ⟨1, rfl, Or.inr (Or.inl ⟨rfl, ⟨hok, hA, hB⟩, fun z => hza.le.mp c_8 z.1⟩), ht⟩) (fun q h => by cases h) dX1_inside_83
          · refine lv_iload hx hb dX1_inside_73 (lv_at hl 0 rfl) ?_
            refine lv_if_le (tgt := 82) hx hb dX1_inside_75 (by decide) (fun c_9 => ?_) (fun c_9 => ?_)
            · refine lv_iconst (v := 1) hx hb dX1_inside_82 (by decide) ?_
              exact W.iret (v := 1) hx hb hr (fun t ht hW => ⟨1, rfl, Or.inr (Or.inl ⟨rfl, ⟨hok, hA, hB⟩, fun z => hzb.le.mp c_9 z.2⟩), ht⟩) (fun q h => by cases h) dX1_inside_83
            · refine lv_iconst (v := 2) hx hb dX1_inside_78 (by decide) ?_
              refine lv_goto (tgt := 83) hx hb dX1_inside_79 (by decide) ?_
              exact W.iret (v := 2) hx hb hr (fun t ht hW => ⟨2, rfl, Or.inl ⟨rfl, hok, Classical.not_not.mp (fun z => c_8 (hza.le.mpr z)), Classical.not_not.mp (fun z => c_9 (hzb.le.mpr z))⟩, ht⟩) (fun q h => by cases h) dX1_inside_83
        · refine lv_iconst (v := 0) hx hb dX1_inside_65 (by decide) ?_
          refine lv_goto (tgt := 83) hx hb dX1_inside_66 (by decide) ?_
          exact W.iret (v := 0) hx hb hr (fun t ht hW => ⟨0, rfl, Or.inr (Or.inr ⟨rfl, fun z => hzb.neg.mp (Int32.not_le.mp c_7) z.2.2⟩), ht⟩) (fun q h => by cases h) dX1_inside_83
    · have hn0 : nl = 0 := (nI_eq (by omega) (by omega)).mp c_3
      refine lv_iconst (v := 0) hx hb dX1_inside_15 (by decide) ?_
      exact W.iret (v := 0) hx hb hr (fun t ht hW => ⟨0, rfl, Or.inr (Or.inr ⟨rfl, fun z => by have := z.2.1.1; omega⟩), ht⟩) (fun q h => by cases h) dX1_inside_16
set_option maxHeartbeats 4000000 in
set_option maxRecDepth 100000 in
theorem metX1_isBeyond (l : Launch) (dC : Nat → ClassId) (dI : Nat → Nat → Nat) (dA : ClassId) (h a1 a2 n : Nat) (xs ys : Nat → Int32) (x y sg : Int32) (hn : n ≤ 68) (hsg : sg = 1 ∨ sg = -1) (hC : gh_C sg.toInt n (gp xs ys)) (hok : ∀ i, i < n → gh_ok (gp xs ys i)) (hp : gh_ok (g2 x y)) : Met l yX1_isBeyond (ws_ yX1_isBeyond cX1_isBeyond 7 (some .boolean)) ({ frames := 2, cells := 0, slots := 0, locals := 55 }) (gr_Pc (dC, dI) [.ref h, .ref a1, .ref a2, .int (nI n), .int x, .int y, .int sg] [(a1, .inl (dA, 68, .inl xs)), (a2, .inl (dA, 68, .inl ys))] [(dA, .int)]) (vp_Si (fun r => gk_b r (¬ gh_A sg.toInt n (gp xs ys) (g2 x y)))) 0 0 (fun _ => False) := by
  refine Met.ofW (cc := cX1_isBeyond) (maxL := 7) (ret := (some .boolean)) (by decide) rfl ?_
  intro p e s m args below meth c s₁ B hml hv
  obtain ⟨rfl, hP, hK⟩ := hv
  have hx := B.exec
  have hb := B.bytes
  have hr := B.returns
  have hts := atoms_spec (ws := (ws_ yX1_isBeyond cX1_isBeyond 7 (some .boolean))) B.pre
  have hts : ∀ w ∈ lw_all, w.before _ s = true := fun w h => hts w (List.mem_cons_of_mem _ h)
  have hown : s.vm.findClass RX1 = some m.cls := findClass_of_methodNamed B.named
  have hlocks := B.notSynchronized
  have hl := lv_entry ([.ref h, .ref a1, .ref a2, .int (nI n), .int x, .int y, .int sg]) (n := 7) (Nat.le_of_ble_eq_true rfl)
  rw [lg_entry_eq]
  generalize (lg_sl ([.ref h, .ref a1, .ref a2, .int (nI n), .int x, .int y, .int sg]) ++ List.replicate (7 - (lg_sl ([.ref h, .ref a1, .ref a2, .int (nI n), .int x, .int y, .int sg])).length) Slot.unset).toArray = ls at hl ⊢
  have hl : lv_has ls 7 [(0, .ref h), (1, .ref a1), (2, .ref a2), (3, .int (nI n)), (4, .int x), (5, .int y), (6, .int sg)] := hl
  refine lv_iload_n hx hb dX1_isBeyond_0 rfl (lv_at hl 3 rfl) ?_
  refine lv_if_eq (tgt := 19) hx hb dX1_isBeyond_1 (by decide) (fun c_1 => ?_) (fun c_1 => ?_)
  · have hn0 : n = 0 := (nI_eq (by omega) (by omega)).mp c_1
    refine lv_iconst (v := 1) hx hb dX1_isBeyond_19 (by decide) ?_
    refine lv_goto (tgt := 24) hx hb dX1_isBeyond_20 (by decide) ?_
    exact W.zret (v := 1) hx hb hr rfl (fun t ht hW => ⟨1, rfl, Or.inl ⟨rfl, fun z => by have := z.1; omega⟩, ht⟩) (fun q h => by cases h) dX1_isBeyond_24
  · refine lv_aload_n hx hb dX1_isBeyond_4 rfl (lv_at hl 1 rfl) ?_
    refine lv_aload_n hx hb dX1_isBeyond_5 rfl (lv_at hl 2 rfl) ?_
    refine lv_iload_n hx hb dX1_isBeyond_6 rfl (lv_at hl 3 rfl) ?_
    refine lv_iload hx hb dX1_isBeyond_7 (lv_at hl 4 rfl) ?_
    refine lv_iload hx hb dX1_isBeyond_9 (lv_at hl 5 rfl) ?_
    refine lv_iload hx hb dX1_isBeyond_11 (lv_at hl 6 rfl) ?_
    refine vp_callSi (va_Run.run (va_runS (As := [.ref a1, .ref a2, .int (nI n), .int x, .int y, .int sg]) (rest := []) ⟨hx, hb, hml, hown, hts⟩ (metX1_side l dC dI dA a1 a2 n xs ys x y sg hn hsg hC hok hp) (va_cwS 6 hts (lw_S q63 q64 q11 q65) rfl rfl rfl (by decide +kernel) ⟨Nat.le_of_ble_eq_true rfl, Nat.le_of_ble_eq_true rfl⟩) (gr_preS (hP.sub (ws' := [(a1, .inl (dA, 68, .inl xs)), (a2, .inl (dA, 68, .inl ys))]) [0, 1] rfl) (hK.sub (tys' := [(dA, .int)]) [0] rfl)) rfl rfl hl.1 rfl (lv_room (Nat.le_of_ble_eq_true rfl)) dX1_isBeyond_13 ⟨Nat.zero_le _, Nat.zero_le _⟩)) (fun z hz => ?_)
    refine lv_if_ge (tgt := 23) hx hb dX1_isBeyond_16 (by decide) (fun c_3 => ?_) (fun c_3 => ?_)
    · refine lv_iconst (v := 0) hx hb dX1_isBeyond_23 (by decide) ?_
      exact W.zret (v := 0) hx hb hr rfl (fun t ht hW => ⟨0, rfl, Or.inr ⟨rfl, fun q => absurd ((show gs_post sg.toInt n (gp xs ys) (g2 x y) z from hz).neg.mpr q) (Int32.not_lt.mpr c_3)⟩, ht⟩) (fun q h => by cases h) dX1_isBeyond_24
    · refine lv_iconst (v := 1) hx hb dX1_isBeyond_19 (by decide) ?_
      refine lv_goto (tgt := 24) hx hb dX1_isBeyond_20 (by decide) ?_
      exact W.zret (v := 1) hx hb hr rfl (fun t ht hW => ⟨1, rfl, Or.inl ⟨rfl, (show gs_post sg.toInt n (gp xs ys) (g2 x y) z from hz).neg.mp (Int32.not_le.mp c_3)⟩, ht⟩) (fun q h => by cases h) dX1_isBeyond_24
set_option maxHeartbeats 4000000 in
set_option maxRecDepth 100000 in
theorem metX1_size (l : Launch) (dC : Nat → ClassId) (dI : Nat → Nat → Nat) (dA : ClassId) (h a1 a2 a3 a4 a5 a6 nl nu : Nat) (lx ly ux uy tx ty : Nat → Int32) (nt cap seen : Int32) (hnl : nl ≤ 68) (hnu : nu ≤ 68) (hH : gh_H nl (gp lx ly) nu (gp ux uy)) : Met l yX1_size (ws_ yX1_size cX1_size 1 (some .int)) ({ frames := 0, cells := 0, slots := 0, locals := 0 }) (gr_Pc (dC, dI) [.ref h] [(h, .inr (0, [.ref a1, .ref a2, .ref a3, .ref a4, .int (nI nl), .int (nI nu), .ref a5, .ref a6, .int nt, .int cap, .int seen])), (a1, .inl (dA, 68, .inl lx)), (a2, .inl (dA, 68, .inl ly)), (a3, .inl (dA, 68, .inl ux)), (a4, .inl (dA, 68, .inl uy)), (a5, .inl (dA, 68, .inl tx)), (a6, .inl (dA, 68, .inl ty))] [(dA, .int)]) (vp_Si (fun r => r = nI (gh_N nl nu))) 0 0 (fun _ => False) := by
  refine Met.ofW (cc := cX1_size) (maxL := 1) (ret := (some .int)) (by decide) rfl ?_
  intro p e s m args below meth c s₁ B hml hv
  obtain ⟨rfl, hP, hK⟩ := hv
  have hx := B.exec
  have hb := B.bytes
  have hr := B.returns
  have hts := atoms_spec (ws := (ws_ yX1_size cX1_size 1 (some .int))) B.pre
  have hts : ∀ w ∈ lw_all, w.before _ s = true := fun w h => hts w (List.mem_cons_of_mem _ h)
  have hown : s.vm.findClass RX1 = some m.cls := findClass_of_methodNamed B.named
  have hlocks := B.notSynchronized
  have hl := lv_entry ([.ref h]) (n := 1) (Nat.le_of_ble_eq_true rfl)
  rw [lg_entry_eq]
  generalize (lg_sl ([.ref h]) ++ List.replicate (1 - (lg_sl ([.ref h])).length) Slot.unset).toArray = ls at hl ⊢
  have hl : lv_has ls 1 [(0, .ref h)] := hl
  refine lv_aload_n hx hb dX1_size_0 rfl (lv_at hl 0 rfl) ?_
  refine va_get (D := (dC, dI)) (ci := 0) (v := .int (nI nl)) (C := RX1) (T := TX1) (N := 11) hx hb hts in_X1 hown hK hP 0 rfl rfl 4 (by decide) (hts _ q25) (fun _ h9 => h9) rfl dX1_size_1 ?_
  refine lv_iconst (v := 2) hx hb dX1_size_4 (by decide) ?_
  refine lv_icmp_ge (tgt := 15) hx hb dX1_size_5 (by decide) (fun c_1 => ?_) (fun c_1 => ?_)
  · have h2 : 2 ≤ nl := (nI_leI (a := 2) (by omega) (by omega)).mp c_1
    have h3 := hH.two.mp h2
    refine lv_aload_n hx hb dX1_size_15 rfl (lv_at hl 0 rfl) ?_
    refine va_get (D := (dC, dI)) (ci := 0) (v := .int (nI nl)) (C := RX1) (T := TX1) (N := 11) hx hb hts in_X1 hown hK hP 0 rfl rfl 4 (by decide) (hts _ q25) (fun _ h9 => h9) rfl dX1_size_16 ?_
    refine lv_aload_n hx hb dX1_size_19 rfl (lv_at hl 0 rfl) ?_
    refine va_get (D := (dC, dI)) (ci := 0) (v := .int (nI nu)) (C := RX1) (T := TX1) (N := 11) hx hb hts in_X1 hown hK hP 0 rfl rfl 5 (by decide) (hts _ q26) (fun _ h9 => h9) rfl dX1_size_20 ?_
    refine lv_iadd hx hb dX1_size_23 ?_
    refine gr_topi (y := nI (nl + nu)) (nI_add _ _) ?_
    refine lv_iconst (v := 2) hx hb dX1_size_24 (by decide) ?_
    refine lv_isub hx hb dX1_size_25 ?_
    refine gr_topi (y := nI (nl + nu - 2)) (gi_m2 (by omega)) ?_
    exact W.iret (v := (nI (nl + nu - 2))) hx hb hr (fun t ht hW => ⟨(nI (nl + nu - 2)), rfl, by rw [gh_N_two h2], ht⟩) (fun q h => by cases h) dX1_size_26
  · have h2 : ¬ 2 ≤ nl := fun z => c_1 ((nI_leI (a := 2) (by omega) (by omega)).mpr z)
    refine lv_aload_n hx hb dX1_size_8 rfl (lv_at hl 0 rfl) ?_
    refine va_get (D := (dC, dI)) (ci := 0) (v := .int (nI nl)) (C := RX1) (T := TX1) (N := 11) hx hb hts in_X1 hown hK hP 0 rfl rfl 4 (by decide) (hts _ q25) (fun _ h9 => h9) rfl dX1_size_9 ?_
    refine lv_goto (tgt := 26) hx hb dX1_size_12 (by decide) ?_
    exact W.iret (v := (nI nl)) hx hb hr (fun t ht hW => ⟨(nI nl), rfl, by unfold gh_N; rw [if_pos (by omega)], ht⟩) (fun q h => by cases h) dX1_size_26
set_option maxHeartbeats 4000000 in
set_option maxRecDepth 100000 in
theorem metX1_x (l : Launch) (dC : Nat → ClassId) (dI : Nat → Nat → Nat) (dA : ClassId) (h a1 a2 a3 a4 a5 a6 nl nu : Nat) (lx ly ux uy tx ty : Nat → Int32) (nt cap seen : Int32) (i : Nat) (hnl : nl ≤ 68) (hnu : nu ≤ 68) (hH : gh_H nl (gp lx ly) nu (gp ux uy)) (hi : i < gh_N nl nu) : Met l yX1_x (ws_ yX1_x cX1_x 2 (some .int)) ({ frames := 0, cells := 0, slots := 0, locals := 0 }) (gr_Pc (dC, dI) [.ref h, .int (nI i)] [(h, .inr (0, [.ref a1, .ref a2, .ref a3, .ref a4, .int (nI nl), .int (nI nu), .ref a5, .ref a6, .int nt, .int cap, .int seen])), (a1, .inl (dA, 68, .inl lx)), (a2, .inl (dA, 68, .inl ly)), (a3, .inl (dA, 68, .inl ux)), (a4, .inl (dA, 68, .inl uy)), (a5, .inl (dA, 68, .inl tx)), (a6, .inl (dA, 68, .inl ty))] [(dA, .int)]) (vp_Si (fun r => r = gv nl lx nu ux i)) 0 0 (fun _ => False) := by
  refine Met.ofW (cc := cX1_x) (maxL := 2) (ret := (some .int)) (by decide) rfl ?_
  intro p e s m args below meth c s₁ B hml hv
  obtain ⟨rfl, hP, hK⟩ := hv
  have hx := B.exec
  have hb := B.bytes
  have hr := B.returns
  have hts := atoms_spec (ws := (ws_ yX1_x cX1_x 2 (some .int))) B.pre
  have hts : ∀ w ∈ lw_all, w.before _ s = true := fun w h => hts w (List.mem_cons_of_mem _ h)
  have hown : s.vm.findClass RX1 = some m.cls := findClass_of_methodNamed B.named
  have hlocks := B.notSynchronized
  have hl := lv_entry ([.ref h, .int (nI i)]) (n := 2) (Nat.le_of_ble_eq_true rfl)
  rw [lg_entry_eq]
  generalize (lg_sl ([.ref h, .int (nI i)]) ++ List.replicate (2 - (lg_sl ([.ref h, .int (nI i)])).length) Slot.unset).toArray = ls at hl ⊢
  have hl : lv_has ls 2 [(0, .ref h), (1, .int (nI i))] := hl
  have hmem := hH.mem hi
  refine lv_iload_n hx hb dX1_x_0 rfl (lv_at hl 1 rfl) ?_
  refine lv_aload_n hx hb dX1_x_1 rfl (lv_at hl 0 rfl) ?_
  refine va_get (D := (dC, dI)) (ci := 0) (v := .int (nI nl)) (C := RX1) (T := TX1) (N := 11) hx hb hts in_X1 hown hK hP 0 rfl rfl 4 (by decide) (hts _ q25) (fun _ h9 => h9) rfl dX1_x_2 ?_
  refine lv_icmp_ge (tgt := 17) hx hb dX1_x_5 (by decide) (fun c_1 => ?_) (fun c_1 => ?_)
  · have c1 : nl ≤ i := (nI_leI (by omega) (by rcases hmem with q | ⟨j, q⟩ <;> omega)).mp c_1
    obtain ⟨j, j1, j2, j3, j4, j5, _⟩ : ∃ j, 1 ≤ j ∧ j + 1 < nu ∧ nl ≤ i ∧ 2 ≤ nl ∧ i + j = nl + nu - 2 ∧ True := by
      rcases hmem with q | ⟨j, q⟩
      · omega
      · exact ⟨j, by omega, by omega, by omega, by omega, by omega, trivial⟩
    refine lv_aload_n hx hb dX1_x_17 rfl (lv_at hl 0 rfl) ?_
    refine va_get (D := (dC, dI)) (ci := 0) (v := .ref a3) (C := RX1) (T := TX1) (N := 11) hx hb hts in_X1 hown hK hP 0 rfl rfl 2 (by decide) (hts _ q23) (fun _ h9 => h9) rfl dX1_x_18 ?_
    refine lv_aload_n hx hb dX1_x_21 rfl (lv_at hl 0 rfl) ?_
    refine va_get (D := (dC, dI)) (ci := 0) (v := .int (nI nu)) (C := RX1) (T := TX1) (N := 11) hx hb hts in_X1 hown hK hP 0 rfl rfl 5 (by decide) (hts _ q26) (fun _ h9 => h9) rfl dX1_x_22 ?_
    refine lv_iconst (v := 2) hx hb dX1_x_25 (by decide) ?_
    refine lv_isub hx hb dX1_x_26 ?_
    refine gr_topi (y := nI (nu - 2)) (gi_m2 (by omega)) ?_
    refine lv_iload_n hx hb dX1_x_27 rfl (lv_at hl 1 rfl) ?_
    refine lv_aload_n hx hb dX1_x_28 rfl (lv_at hl 0 rfl) ?_
    refine va_get (D := (dC, dI)) (ci := 0) (v := .int (nI nl)) (C := RX1) (T := TX1) (N := 11) hx hb hts in_X1 hown hK hP 0 rfl rfl 4 (by decide) (hts _ q25) (fun _ h9 => h9) rfl dX1_x_29 ?_
    refine lv_isub hx hb dX1_x_32 ?_
    refine gr_topi (y := nI (i - nl)) (pk_sub (by omega)) ?_
    refine lv_isub hx hb dX1_x_33 ?_
    refine gr_topi (y := nI (nu - 2 - (i - nl))) (pk_sub (by omega)) ?_
    refine gr_iald (k := nu - 2 - (i - nl)) hx hb hK hP 3 0 rfl rfl (by omega) (by decide) dX1_x_34 ?_
    exact W.iret (v := (ux (nu - 2 - (i - nl)))) hx hb hr (fun t ht hW => ⟨(ux (nu - 2 - (i - nl))), rfl, by unfold gv; rw [if_neg (by omega)], ht⟩) (fun q h => by cases h) dX1_x_35
  · have c1 : i < nl := Nat.not_le.mp (fun z => c_1 ((nI_leI (by omega) (by rcases hmem with q | ⟨j, q⟩ <;> omega)).mpr z))
    refine lv_aload_n hx hb dX1_x_8 rfl (lv_at hl 0 rfl) ?_
    refine va_get (D := (dC, dI)) (ci := 0) (v := .ref a1) (C := RX1) (T := TX1) (N := 11) hx hb hts in_X1 hown hK hP 0 rfl rfl 0 (by decide) (hts _ q21) (fun _ h9 => h9) rfl dX1_x_9 ?_
    refine lv_iload_n hx hb dX1_x_12 rfl (lv_at hl 1 rfl) ?_
    refine gr_iald (k := i) hx hb hK hP 1 0 rfl rfl (by omega) (by decide) dX1_x_13 ?_
    refine lv_goto (tgt := 35) hx hb dX1_x_14 (by decide) ?_
    exact W.iret (v := (lx i)) hx hb hr (fun t ht hW => ⟨(lx i), rfl, by unfold gv; rw [if_pos c1], ht⟩) (fun q h => by cases h) dX1_x_35
set_option maxHeartbeats 4000000 in
set_option maxRecDepth 100000 in
theorem metX1_y (l : Launch) (dC : Nat → ClassId) (dI : Nat → Nat → Nat) (dA : ClassId) (h a1 a2 a3 a4 a5 a6 nl nu : Nat) (lx ly ux uy tx ty : Nat → Int32) (nt cap seen : Int32) (i : Nat) (hnl : nl ≤ 68) (hnu : nu ≤ 68) (hH : gh_H nl (gp lx ly) nu (gp ux uy)) (hi : i < gh_N nl nu) : Met l yX1_y (ws_ yX1_y cX1_y 2 (some .int)) ({ frames := 0, cells := 0, slots := 0, locals := 0 }) (gr_Pc (dC, dI) [.ref h, .int (nI i)] [(h, .inr (0, [.ref a1, .ref a2, .ref a3, .ref a4, .int (nI nl), .int (nI nu), .ref a5, .ref a6, .int nt, .int cap, .int seen])), (a1, .inl (dA, 68, .inl lx)), (a2, .inl (dA, 68, .inl ly)), (a3, .inl (dA, 68, .inl ux)), (a4, .inl (dA, 68, .inl uy)), (a5, .inl (dA, 68, .inl tx)), (a6, .inl (dA, 68, .inl ty))] [(dA, .int)]) (vp_Si (fun r => r = gv nl ly nu uy i)) 0 0 (fun _ => False) := by
  refine Met.ofW (cc := cX1_y) (maxL := 2) (ret := (some .int)) (by decide) rfl ?_
  intro p e s m args below meth c s₁ B hml hv
  obtain ⟨rfl, hP, hK⟩ := hv
  have hx := B.exec
  have hb := B.bytes
  have hr := B.returns
  have hts := atoms_spec (ws := (ws_ yX1_y cX1_y 2 (some .int))) B.pre
  have hts : ∀ w ∈ lw_all, w.before _ s = true := fun w h => hts w (List.mem_cons_of_mem _ h)
  have hown : s.vm.findClass RX1 = some m.cls := findClass_of_methodNamed B.named
  have hlocks := B.notSynchronized
  have hl := lv_entry ([.ref h, .int (nI i)]) (n := 2) (Nat.le_of_ble_eq_true rfl)
  rw [lg_entry_eq]
  generalize (lg_sl ([.ref h, .int (nI i)]) ++ List.replicate (2 - (lg_sl ([.ref h, .int (nI i)])).length) Slot.unset).toArray = ls at hl ⊢
  have hl : lv_has ls 2 [(0, .ref h), (1, .int (nI i))] := hl
  have hmem := hH.mem hi
  refine lv_iload_n hx hb dX1_y_0 rfl (lv_at hl 1 rfl) ?_
  refine lv_aload_n hx hb dX1_y_1 rfl (lv_at hl 0 rfl) ?_
  refine va_get (D := (dC, dI)) (ci := 0) (v := .int (nI nl)) (C := RX1) (T := TX1) (N := 11) hx hb hts in_X1 hown hK hP 0 rfl rfl 4 (by decide) (hts _ q25) (fun _ h9 => h9) rfl dX1_y_2 ?_
  refine lv_icmp_ge (tgt := 17) hx hb dX1_y_5 (by decide) (fun c_1 => ?_) (fun c_1 => ?_)
  · have c1 : nl ≤ i := (nI_leI (by omega) (by rcases hmem with q | ⟨j, q⟩ <;> omega)).mp c_1
    obtain ⟨j, j1, j2, j3, j4, j5, _⟩ : ∃ j, 1 ≤ j ∧ j + 1 < nu ∧ nl ≤ i ∧ 2 ≤ nl ∧ i + j = nl + nu - 2 ∧ True := by
      rcases hmem with q | ⟨j, q⟩
      · omega
      · exact ⟨j, by omega, by omega, by omega, by omega, by omega, trivial⟩
    refine lv_aload_n hx hb dX1_y_17 rfl (lv_at hl 0 rfl) ?_
    refine va_get (D := (dC, dI)) (ci := 0) (v := .ref a4) (C := RX1) (T := TX1) (N := 11) hx hb hts in_X1 hown hK hP 0 rfl rfl 3 (by decide) (hts _ q24) (fun _ h9 => h9) rfl dX1_y_18 ?_
    refine lv_aload_n hx hb dX1_y_21 rfl (lv_at hl 0 rfl) ?_
    refine va_get (D := (dC, dI)) (ci := 0) (v := .int (nI nu)) (C := RX1) (T := TX1) (N := 11) hx hb hts in_X1 hown hK hP 0 rfl rfl 5 (by decide) (hts _ q26) (fun _ h9 => h9) rfl dX1_y_22 ?_
    refine lv_iconst (v := 2) hx hb dX1_y_25 (by decide) ?_
    refine lv_isub hx hb dX1_y_26 ?_
    refine gr_topi (y := nI (nu - 2)) (gi_m2 (by omega)) ?_
    refine lv_iload_n hx hb dX1_y_27 rfl (lv_at hl 1 rfl) ?_
    refine lv_aload_n hx hb dX1_y_28 rfl (lv_at hl 0 rfl) ?_
    refine va_get (D := (dC, dI)) (ci := 0) (v := .int (nI nl)) (C := RX1) (T := TX1) (N := 11) hx hb hts in_X1 hown hK hP 0 rfl rfl 4 (by decide) (hts _ q25) (fun _ h9 => h9) rfl dX1_y_29 ?_
    refine lv_isub hx hb dX1_y_32 ?_
    refine gr_topi (y := nI (i - nl)) (pk_sub (by omega)) ?_
    refine lv_isub hx hb dX1_y_33 ?_
    refine gr_topi (y := nI (nu - 2 - (i - nl))) (pk_sub (by omega)) ?_
    refine gr_iald (k := nu - 2 - (i - nl)) hx hb hK hP 4 0 rfl rfl (by omega) (by decide) dX1_y_34 ?_
    exact W.iret (v := (uy (nu - 2 - (i - nl)))) hx hb hr (fun t ht hW => ⟨(uy (nu - 2 - (i - nl))), rfl, by unfold gv; rw [if_neg (by omega)], ht⟩) (fun q h => by cases h) dX1_y_35
  · have c1 : i < nl := Nat.not_le.mp (fun z => c_1 ((nI_leI (by omega) (by rcases hmem with q | ⟨j, q⟩ <;> omega)).mpr z))
    refine lv_aload_n hx hb dX1_y_8 rfl (lv_at hl 0 rfl) ?_
    refine va_get (D := (dC, dI)) (ci := 0) (v := .ref a2) (C := RX1) (T := TX1) (N := 11) hx hb hts in_X1 hown hK hP 0 rfl rfl 1 (by decide) (hts _ q22) (fun _ h9 => h9) rfl dX1_y_9 ?_
    refine lv_iload_n hx hb dX1_y_12 rfl (lv_at hl 1 rfl) ?_
    refine gr_iald (k := i) hx hb hK hP 2 0 rfl rfl (by omega) (by decide) dX1_y_13 ?_
    refine lv_goto (tgt := 35) hx hb dX1_y_14 (by decide) ?_
    exact W.iret (v := (ly i)) hx hb hr (fun t ht hW => ⟨(ly i), rfl, by unfold gv; rw [if_pos c1], ht⟩) (fun q h => by cases h) dX1_y_35
set_option maxHeartbeats 4000000 in
set_option maxRecDepth 100000 in
theorem metX1_xOf (l : Launch) (dC : Nat → ClassId) (dI : Nat → Nat → Nat) (dA : ClassId) (h a1 a2 a3 a4 a5 a6 nl nu : Nat) (lx ly ux uy tx ty : Nat → Int32) (nt cap seen : Int32) (i : Int32) (hnl : nl ≤ 68) (hnu : nu ≤ 68) (hH : gh_H nl (gp lx ly) nu (gp ux uy)) : Met l yX1_xOf (ws_ yX1_xOf cX1_xOf 2 (some .int)) ({ frames := 1, cells := 0, slots := 0, locals := 21 }) (gr_Pc (dC, dI) [.ref h, .int i] [(h, .inr (0, [.ref a1, .ref a2, .ref a3, .ref a4, .int (nI nl), .int (nI nu), .ref a5, .ref a6, .int nt, .int cap, .int seen])), (a1, .inl (dA, 68, .inl lx)), (a2, .inl (dA, 68, .inl ly)), (a3, .inl (dA, 68, .inl ux)), (a4, .inl (dA, 68, .inl uy)), (a5, .inl (dA, 68, .inl tx)), (a6, .inl (dA, 68, .inl ty))] [(dA, .int)]) (vp_Si (fun r => gq_of (gh_N nl nu) (gv nl lx nu ux) i r)) 0 0 (fun _ => False) := by
  refine Met.ofW (cc := cX1_xOf) (maxL := 2) (ret := (some .int)) (by decide) rfl ?_
  intro p e s m args below meth c s₁ B hml hv
  obtain ⟨rfl, hP, hK⟩ := hv
  have hx := B.exec
  have hb := B.bytes
  have hr := B.returns
  have hts := atoms_spec (ws := (ws_ yX1_xOf cX1_xOf 2 (some .int))) B.pre
  have hts : ∀ w ∈ lw_all, w.before _ s = true := fun w h => hts w (List.mem_cons_of_mem _ h)
  have hown : s.vm.findClass RX1 = some m.cls := findClass_of_methodNamed B.named
  have hlocks := B.notSynchronized
  have hl := lv_entry ([.ref h, .int i]) (n := 2) (Nat.le_of_ble_eq_true rfl)
  rw [lg_entry_eq]
  generalize (lg_sl ([.ref h, .int i]) ++ List.replicate (2 - (lg_sl ([.ref h, .int i])).length) Slot.unset).toArray = ls at hl ⊢
  have hl : lv_has ls 2 [(0, .ref h), (1, .int i)] := hl
  have hN : gh_N nl nu < 2 ^ 31 := by unfold gh_N; split <;> omega
  refine lv_iload_n hx hb dX1_xOf_0 rfl (lv_at hl 1 rfl) ?_
  refine lv_if_lt (tgt := 12) hx hb dX1_xOf_1 (by decide) (fun c_1 => ?_) (fun c_1 => ?_)
  · refine lv_iconst (v := 0) hx hb dX1_xOf_12 (by decide) ?_
    refine lv_goto (tgt := 21) hx hb dX1_xOf_13 (by decide) ?_
    exact W.iret (v := 0) hx hb hr (fun t ht hW => ⟨0, rfl, ⟨fun _ => rfl, fun j hj e => absurd c_1 (by rw [e]; exact nI_pos (by omega))⟩, ht⟩) (fun q h => by cases h) dX1_xOf_21
  · refine lv_iload_n hx hb dX1_xOf_4 rfl (lv_at hl 1 rfl) ?_
    refine lv_aload_n hx hb dX1_xOf_5 rfl (lv_at hl 0 rfl) ?_
    refine vp_callSi (va_Run.run (va_runV (As := []) (rest := [.int i]) ⟨hx, hb, hml, hown, hts⟩ (metX1_size l dC dI dA h a1 a2 a3 a4 a5 a6 nl nu lx ly ux uy tx ty nt cap seen hnl hnu hH) (cwV 0 hts (lw_V q81 q82 q83 q11 q84) rfl rfl rfl (by decide +kernel) ⟨Nat.le_of_ble_eq_true rfl, Nat.le_of_ble_eq_true rfl⟩) (gr_preV hK hP (ci := 0) (q0 := 0) rfl rfl (hP.sub (ws' := [(h, .inr (0, [.ref a1, .ref a2, .ref a3, .ref a4, .int (nI nl), .int (nI nu), .ref a5, .ref a6, .int nt, .int cap, .int seen])), (a1, .inl (dA, 68, .inl lx)), (a2, .inl (dA, 68, .inl ly)), (a3, .inl (dA, 68, .inl ux)), (a4, .inl (dA, 68, .inl uy)), (a5, .inl (dA, 68, .inl tx)), (a6, .inl (dA, 68, .inl ty))]) [0, 1, 2, 3, 4, 5, 6] rfl) (hK.sub (tys' := [(dA, .int)]) [0] rfl)) rfl rfl hl.1 rfl (lv_room (Nat.le_of_ble_eq_true rfl)) dX1_xOf_6 ⟨Nat.zero_le _, Nat.zero_le _⟩)) (fun z hz => ?_)
    have hz : z = nI (gh_N nl nu) := hz
    subst hz
    refine lv_icmp_lt (tgt := 16) hx hb dX1_xOf_9 (by decide) (fun c_3 => ?_) (fun c_3 => ?_)
    · obtain ⟨j, hj, e⟩ : ∃ j : Nat, j < gh_N nl nu ∧ i = nI j := by
        rcases pk_ix i hN with q | q | q
        · exact absurd q c_1
        · exact absurd q (Int32.not_le.mpr c_3)
        · exact q
      subst e
      refine lv_aload_n hx hb dX1_xOf_16 rfl (lv_at hl 0 rfl) ?_
      refine lv_iload_n hx hb dX1_xOf_17 rfl (lv_at hl 1 rfl) ?_
      refine vp_callSi (va_Run.run (va_runV (As := [.int (nI j)]) (rest := []) ⟨hx, hb, hml, hown, hts⟩ (metX1_x l dC dI dA h a1 a2 a3 a4 a5 a6 nl nu lx ly ux uy tx ty nt cap seen j hnl hnu hH hj) (cwV 1 hts (lw_V q102 q104 qs4 q11 q105) rfl rfl rfl (by decide +kernel) ⟨Nat.le_of_ble_eq_true rfl, Nat.le_of_ble_eq_true rfl⟩) (gr_preV hK hP (ci := 0) (q0 := 0) rfl rfl (hP.sub (ws' := [(h, .inr (0, [.ref a1, .ref a2, .ref a3, .ref a4, .int (nI nl), .int (nI nu), .ref a5, .ref a6, .int nt, .int cap, .int seen])), (a1, .inl (dA, 68, .inl lx)), (a2, .inl (dA, 68, .inl ly)), (a3, .inl (dA, 68, .inl ux)), (a4, .inl (dA, 68, .inl uy)), (a5, .inl (dA, 68, .inl tx)), (a6, .inl (dA, 68, .inl ty))]) [0, 1, 2, 3, 4, 5, 6] rfl) (hK.sub (tys' := [(dA, .int)]) [0] rfl)) rfl rfl hl.1 rfl (lv_room (Nat.le_of_ble_eq_true rfl)) dX1_xOf_18 ⟨Nat.zero_le _, Nat.zero_le _⟩)) (fun zx hzx => ?_)
      exact W.iret (v := zx) hx hb hr (fun t ht hW => ⟨zx, rfl, ⟨fun q => by
          rcases q with q | q
          · exact absurd q c_1
          · exact absurd q (Int32.not_le.mpr c_3), fun j2 hj2 e => by
          have e3 : j = j2 := (nI_eq (by omega) (by omega)).mp e
          rw [← e3]; exact hzx⟩, ht⟩) (fun q h => by cases h) dX1_xOf_21
    · refine lv_iconst (v := 0) hx hb dX1_xOf_12 (by decide) ?_
      refine lv_goto (tgt := 21) hx hb dX1_xOf_13 (by decide) ?_
      exact W.iret (v := 0) hx hb hr (fun t ht hW => ⟨0, rfl, ⟨fun _ => rfl, fun j hj e => absurd (by rw [e]; exact nI_lt hj hN) c_3⟩, ht⟩) (fun q h => by cases h) dX1_xOf_21
set_option maxHeartbeats 4000000 in
set_option maxRecDepth 100000 in
theorem metX1_yOf (l : Launch) (dC : Nat → ClassId) (dI : Nat → Nat → Nat) (dA : ClassId) (h a1 a2 a3 a4 a5 a6 nl nu : Nat) (lx ly ux uy tx ty : Nat → Int32) (nt cap seen : Int32) (i : Int32) (hnl : nl ≤ 68) (hnu : nu ≤ 68) (hH : gh_H nl (gp lx ly) nu (gp ux uy)) : Met l yX1_yOf (ws_ yX1_yOf cX1_yOf 2 (some .int)) ({ frames := 1, cells := 0, slots := 0, locals := 21 }) (gr_Pc (dC, dI) [.ref h, .int i] [(h, .inr (0, [.ref a1, .ref a2, .ref a3, .ref a4, .int (nI nl), .int (nI nu), .ref a5, .ref a6, .int nt, .int cap, .int seen])), (a1, .inl (dA, 68, .inl lx)), (a2, .inl (dA, 68, .inl ly)), (a3, .inl (dA, 68, .inl ux)), (a4, .inl (dA, 68, .inl uy)), (a5, .inl (dA, 68, .inl tx)), (a6, .inl (dA, 68, .inl ty))] [(dA, .int)]) (vp_Si (fun r => gq_of (gh_N nl nu) (gv nl ly nu uy) i r)) 0 0 (fun _ => False) := by
  refine Met.ofW (cc := cX1_yOf) (maxL := 2) (ret := (some .int)) (by decide) rfl ?_
  intro p e s m args below meth c s₁ B hml hv
  obtain ⟨rfl, hP, hK⟩ := hv
  have hx := B.exec
  have hb := B.bytes
  have hr := B.returns
  have hts := atoms_spec (ws := (ws_ yX1_yOf cX1_yOf 2 (some .int))) B.pre
  have hts : ∀ w ∈ lw_all, w.before _ s = true := fun w h => hts w (List.mem_cons_of_mem _ h)
  have hown : s.vm.findClass RX1 = some m.cls := findClass_of_methodNamed B.named
  have hlocks := B.notSynchronized
  have hl := lv_entry ([.ref h, .int i]) (n := 2) (Nat.le_of_ble_eq_true rfl)
  rw [lg_entry_eq]
  generalize (lg_sl ([.ref h, .int i]) ++ List.replicate (2 - (lg_sl ([.ref h, .int i])).length) Slot.unset).toArray = ls at hl ⊢
  have hl : lv_has ls 2 [(0, .ref h), (1, .int i)] := hl
  have hN : gh_N nl nu < 2 ^ 31 := by unfold gh_N; split <;> omega
  refine lv_iload_n hx hb dX1_yOf_0 rfl (lv_at hl 1 rfl) ?_
  refine lv_if_lt (tgt := 12) hx hb dX1_yOf_1 (by decide) (fun c_1 => ?_) (fun c_1 => ?_)
  · refine lv_iconst (v := 0) hx hb dX1_yOf_12 (by decide) ?_
    refine lv_goto (tgt := 21) hx hb dX1_yOf_13 (by decide) ?_
    exact W.iret (v := 0) hx hb hr (fun t ht hW => ⟨0, rfl, ⟨fun _ => rfl, fun j hj e => absurd c_1 (by rw [e]; exact nI_pos (by omega))⟩, ht⟩) (fun q h => by cases h) dX1_yOf_21
  · refine lv_iload_n hx hb dX1_yOf_4 rfl (lv_at hl 1 rfl) ?_
    refine lv_aload_n hx hb dX1_yOf_5 rfl (lv_at hl 0 rfl) ?_
    refine vp_callSi (va_Run.run (va_runV (As := []) (rest := [.int i]) ⟨hx, hb, hml, hown, hts⟩ (metX1_size l dC dI dA h a1 a2 a3 a4 a5 a6 nl nu lx ly ux uy tx ty nt cap seen hnl hnu hH) (cwV 0 hts (lw_V q81 q82 q83 q11 q84) rfl rfl rfl (by decide +kernel) ⟨Nat.le_of_ble_eq_true rfl, Nat.le_of_ble_eq_true rfl⟩) (gr_preV hK hP (ci := 0) (q0 := 0) rfl rfl (hP.sub (ws' := [(h, .inr (0, [.ref a1, .ref a2, .ref a3, .ref a4, .int (nI nl), .int (nI nu), .ref a5, .ref a6, .int nt, .int cap, .int seen])), (a1, .inl (dA, 68, .inl lx)), (a2, .inl (dA, 68, .inl ly)), (a3, .inl (dA, 68, .inl ux)), (a4, .inl (dA, 68, .inl uy)), (a5, .inl (dA, 68, .inl tx)), (a6, .inl (dA, 68, .inl ty))]) [0, 1, 2, 3, 4, 5, 6] rfl) (hK.sub (tys' := [(dA, .int)]) [0] rfl)) rfl rfl hl.1 rfl (lv_room (Nat.le_of_ble_eq_true rfl)) dX1_yOf_6 ⟨Nat.zero_le _, Nat.zero_le _⟩)) (fun z hz => ?_)
    have hz : z = nI (gh_N nl nu) := hz
    subst hz
    refine lv_icmp_lt (tgt := 16) hx hb dX1_yOf_9 (by decide) (fun c_3 => ?_) (fun c_3 => ?_)
    · obtain ⟨j, hj, e⟩ : ∃ j : Nat, j < gh_N nl nu ∧ i = nI j := by
        rcases pk_ix i hN with q | q | q
        · exact absurd q c_1
        · exact absurd q (Int32.not_le.mpr c_3)
        · exact q
      subst e
      refine lv_aload_n hx hb dX1_yOf_16 rfl (lv_at hl 0 rfl) ?_
      refine lv_iload_n hx hb dX1_yOf_17 rfl (lv_at hl 1 rfl) ?_
      refine vp_callSi (va_Run.run (va_runV (As := [.int (nI j)]) (rest := []) ⟨hx, hb, hml, hown, hts⟩ (metX1_y l dC dI dA h a1 a2 a3 a4 a5 a6 nl nu lx ly ux uy tx ty nt cap seen j hnl hnu hH hj) (cwV 1 hts (lw_V q110 q112 qs5 q11 q113) rfl rfl rfl (by decide +kernel) ⟨Nat.le_of_ble_eq_true rfl, Nat.le_of_ble_eq_true rfl⟩) (gr_preV hK hP (ci := 0) (q0 := 0) rfl rfl (hP.sub (ws' := [(h, .inr (0, [.ref a1, .ref a2, .ref a3, .ref a4, .int (nI nl), .int (nI nu), .ref a5, .ref a6, .int nt, .int cap, .int seen])), (a1, .inl (dA, 68, .inl lx)), (a2, .inl (dA, 68, .inl ly)), (a3, .inl (dA, 68, .inl ux)), (a4, .inl (dA, 68, .inl uy)), (a5, .inl (dA, 68, .inl tx)), (a6, .inl (dA, 68, .inl ty))]) [0, 1, 2, 3, 4, 5, 6] rfl) (hK.sub (tys' := [(dA, .int)]) [0] rfl)) rfl rfl hl.1 rfl (lv_room (Nat.le_of_ble_eq_true rfl)) dX1_yOf_18 ⟨Nat.zero_le _, Nat.zero_le _⟩)) (fun zx hzx => ?_)
      exact W.iret (v := zx) hx hb hr (fun t ht hW => ⟨zx, rfl, ⟨fun q => by
          rcases q with q | q
          · exact absurd q c_1
          · exact absurd q (Int32.not_le.mpr c_3), fun j2 hj2 e => by
          have e3 : j = j2 := (nI_eq (by omega) (by omega)).mp e
          rw [← e3]; exact hzx⟩, ht⟩) (fun q h => by cases h) dX1_yOf_21
    · refine lv_iconst (v := 0) hx hb dX1_yOf_12 (by decide) ?_
      refine lv_goto (tgt := 21) hx hb dX1_yOf_13 (by decide) ?_
      exact W.iret (v := 0) hx hb hr (fun t ht hW => ⟨0, rfl, ⟨fun _ => rfl, fun j hj e => absurd (by rw [e]; exact nI_lt hj hN) c_3⟩, ht⟩) (fun q h => by cases h) dX1_yOf_21
set_option maxHeartbeats 4000000 in
set_option maxRecDepth 100000 in
theorem metX1_points (l : Launch) (dC : Nat → ClassId) (dI : Nat → Nat → Nat) (dA : ClassId) (h a1 a2 a3 a4 a5 a6 nl nu : Nat) (lx ly ux uy tx ty : Nat → Int32) (nt cap seen : Int32) : Met l yX1_points (ws_ yX1_points cX1_points 1 (some .int)) ({ frames := 0, cells := 0, slots := 0, locals := 0 }) (gr_Pc (dC, dI) [.ref h] [(h, .inr (0, [.ref a1, .ref a2, .ref a3, .ref a4, .int (nI nl), .int (nI nu), .ref a5, .ref a6, .int nt, .int cap, .int seen])), (a1, .inl (dA, 68, .inl lx)), (a2, .inl (dA, 68, .inl ly)), (a3, .inl (dA, 68, .inl ux)), (a4, .inl (dA, 68, .inl uy)), (a5, .inl (dA, 68, .inl tx)), (a6, .inl (dA, 68, .inl ty))] [(dA, .int)]) (vp_Si (fun r => r = seen)) 0 0 (fun _ => False) := by
  refine Met.ofW (cc := cX1_points) (maxL := 1) (ret := (some .int)) (by decide) rfl ?_
  intro p e s m args below meth c s₁ B hml hv
  obtain ⟨rfl, hP, hK⟩ := hv
  have hx := B.exec
  have hb := B.bytes
  have hr := B.returns
  have hts := atoms_spec (ws := (ws_ yX1_points cX1_points 1 (some .int))) B.pre
  have hts : ∀ w ∈ lw_all, w.before _ s = true := fun w h => hts w (List.mem_cons_of_mem _ h)
  have hown : s.vm.findClass RX1 = some m.cls := findClass_of_methodNamed B.named
  have hlocks := B.notSynchronized
  have hl := lv_entry ([.ref h]) (n := 1) (Nat.le_of_ble_eq_true rfl)
  rw [lg_entry_eq]
  generalize (lg_sl ([.ref h]) ++ List.replicate (1 - (lg_sl ([.ref h])).length) Slot.unset).toArray = ls at hl ⊢
  have hl : lv_has ls 1 [(0, .ref h)] := hl
  refine lv_aload_n hx hb dX1_points_0 rfl (lv_at hl 0 rfl) ?_
  refine va_get (D := (dC, dI)) (ci := 0) (v := .int seen) (C := RX1) (T := TX1) (N := 11) hx hb hts in_X1 hown hK hP 0 rfl rfl 10 (by decide) (hts _ q31) (fun _ h9 => h9) rfl dX1_points_1 ?_
  exact W.iret (v := seen) hx hb hr (fun t ht hW => ⟨seen, rfl, rfl, ht⟩) (fun q h => by cases h) dX1_points_4
end
section
/-! ===== OnlineHull: the questions over all corners ===== -/
def gq_fi (V : Nat → Int × Int) (p : Int × Int) (k : Nat) (bst : Int32) (mst : Int64) : Prop := (k = 0 ∧ bst = -1) ∨ (∃ b, b < k ∧ bst = nI b ∧ k < 2 ^ 31 ∧ mst.toInt = gq_val V p b ∧ (∀ j, j < k → gq_val V p j ≤ gq_val V p b) ∧ (∀ j, j < b → gq_val V p j < gq_val V p b))
theorem gq_fi_new {V : Nat → Int × Int} {p : Int × Int} {k : Nat} {bst : Int32} {mst v : Int64} (hk : k < 2 ^ 30) (h : gq_fi V p k bst mst) (hv : v.toInt = gq_val V p k) (hc : bst < 0 ∨ mst < v) : gq_fi V p (k + 1) (nI k) v := by
  refine Or.inr ⟨k, by omega, rfl, by omega, hv, ?_, ?_⟩
  · intro j hj
    rcases h with ⟨h0, _⟩ | ⟨b, b1, b2, _, b3, b4, b5⟩
    · have : j = k := by omega
      rw [this]
      exact Int.le_refl _
    · rcases hc with hc | hc
      · exact absurd hc (by rw [b2]; exact nI_pos (by omega))
      · have hc := Int64.lt_iff_toInt_lt.mp hc
        by_cases e : j = k
        · rw [e]
          exact Int.le_refl _
        · have := b4 j (by omega)
          omega
  · intro j hj
    rcases h with ⟨h0, _⟩ | ⟨b, b1, b2, _, b3, b4, b5⟩
    · omega
    · rcases hc with hc | hc
      · exact absurd hc (by rw [b2]; exact nI_pos (by omega))
      · have hc := Int64.lt_iff_toInt_lt.mp hc
        have := b4 j hj
        omega
theorem gq_fi_keep {V : Nat → Int × Int} {p : Int × Int} {k : Nat} {bst : Int32} {mst v : Int64} (hk : k < 2 ^ 30) (h : gq_fi V p k bst mst) (hv : v.toInt = gq_val V p k) (h1 : ¬ bst < 0) (h2 : ¬ mst < v) : gq_fi V p (k + 1) bst mst := by
  rcases h with ⟨_, h0⟩ | ⟨b, b1, b2, _, b3, b4, b5⟩
  · rw [h0] at h1
    exact absurd (by decide) h1
  · refine Or.inr ⟨b, by omega, b2, by omega, b3, ?_, b5⟩
    intro j hj
    by_cases e : j = k
    · rw [e]
      rw [Int64.lt_iff_toInt_lt] at h2
      omega
    · exact b4 j (by omega)
theorem gq_fi_end {V : Nat → Int × Int} {p : Int × Int} {N : Nat} {bst : Int32} {mst : Int64} (h : gq_fi V p N bst mst) (hp : gh_ok p) : gq_far N V p bst := by
  rcases h with ⟨h0, h1⟩ | ⟨b, b1, b2, _, b3, b4, b5⟩
  · exact ⟨fun _ => h1, fun _ z => by omega⟩
  · exact ⟨fun z => absurd ⟨hp, by omega⟩ z, fun _ _ => ⟨b, b1, b2, b4, b5⟩⟩
def gq_di (N : Nat) (V : Nat → Int × Int) (a b : Nat) (M : Int) : Prop := 0 ≤ M ∧ (∀ i j, i < a → j < i → gh_D (V j) (V i) ≤ M) ∧ (∀ j, j < b → gh_D (V j) (V a) ≤ M) ∧ (M = 0 ∨ ∃ i j, i < N ∧ j < i ∧ M = gh_D (V j) (V i))
theorem gq_di_take {N : Nat} {V : Nat → Int × Int} {a b : Nat} {M D : Int} (h : gq_di N V a b M) (ha : a < N) (hb : b < a) (hD : D = gh_D (V b) (V a)) (hM : M < D) : gq_di N V a (b + 1) D := by
  obtain ⟨h1, h2, h3, h4⟩ := h
  refine ⟨by omega, fun i j hi hj => ?_, fun j hj => ?_, Or.inr ⟨a, b, ha, hb, hD⟩⟩
  · have := h2 i j hi hj
    omega
  · by_cases e : j = b
    · rw [e, hD]
      exact Int.le_refl _
    · have := h3 j (by omega)
      omega
theorem gq_di_keep {N : Nat} {V : Nat → Int × Int} {a b : Nat} {M D : Int} (h : gq_di N V a b M) (hD : D = gh_D (V b) (V a)) (hM : D ≤ M) : gq_di N V a (b + 1) M := by
  obtain ⟨h1, h2, h3, h4⟩ := h
  refine ⟨h1, h2, fun j hj => ?_, h4⟩
  by_cases e : j = b
  · rw [e, ← hD]
    exact hM
  · exact h3 j (by omega)
theorem gq_di_next {N : Nat} {V : Nat → Int × Int} {a : Nat} {M : Int} (h : gq_di N V a a M) : gq_di N V (a + 1) 0 M := by
  obtain ⟨h1, h2, h3, h4⟩ := h
  refine ⟨h1, fun i j hi hj => ?_, fun j hj => by omega, h4⟩
  by_cases e : i = a
  · rw [e]
    exact h3 j (by omega)
  · exact h2 i j (by omega) hj
theorem gq_di_end {N : Nat} {V : Nat → Int × Int} {M : Int} (h : gq_di N V N 0 M) : gq_dia N V M := ⟨h.1, h.2.1, h.2.2.2⟩
theorem gq_di_0 {N : Nat} {V : Nat → Int × Int} : gq_di N V 0 0 0 := ⟨Int.le_refl _, fun i j hi _ => by omega, fun j hj => by omega, Or.inl rfl⟩
set_option maxHeartbeats 4000000 in
set_option maxRecDepth 100000 in
theorem metX1_twiceArea (l : Launch) (dC : Nat → ClassId) (dI : Nat → Nat → Nat) (dA : ClassId) (h a1 a2 a3 a4 a5 a6 nl nu : Nat) (lx ly ux uy tx ty : Nat → Int32) (nt cap seen : Int32) (hnl : nl ≤ 68) (hnu : nu ≤ 68) (hH : gh_H nl (gp lx ly) nu (gp ux uy)) : Met l yX1_twiceArea (ws_ yX1_twiceArea cX1_twiceArea 4 (some .int)) ({ frames := 1, cells := 0, slots := 0, locals := 27 }) (gr_Pc (dC, dI) [.ref h] [(h, .inr (0, [.ref a1, .ref a2, .ref a3, .ref a4, .int (nI nl), .int (nI nu), .ref a5, .ref a6, .int nt, .int cap, .int seen])), (a1, .inl (dA, 68, .inl lx)), (a2, .inl (dA, 68, .inl ly)), (a3, .inl (dA, 68, .inl ux)), (a4, .inl (dA, 68, .inl uy)), (a5, .inl (dA, 68, .inl tx)), (a6, .inl (dA, 68, .inl ty))] [(dA, .int)]) (vp_Si (fun r => r = (Int64.ofInt (gq_area (gh_V nl (gp lx ly) nu (gp ux uy)) (gh_N nl nu - 2))).toInt32)) 0 0 (fun _ => False) := by
  refine Met.ofW (cc := cX1_twiceArea) (maxL := 4) (ret := (some .int)) (by decide) rfl ?_
  intro p e s m args below meth c s₁ B hml hv
  obtain ⟨rfl, hP, hK⟩ := hv
  have hx := B.exec
  have hb := B.bytes
  have hr := B.returns
  have hts := atoms_spec (ws := (ws_ yX1_twiceArea cX1_twiceArea 4 (some .int))) B.pre
  have hts : ∀ w ∈ lw_all, w.before _ s = true := fun w h => hts w (List.mem_cons_of_mem _ h)
  have hown : s.vm.findClass RX1 = some m.cls := findClass_of_methodNamed B.named
  have hlocks := B.notSynchronized
  have hl := lv_entry ([.ref h]) (n := 4) (Nat.le_of_ble_eq_true rfl)
  rw [lg_entry_eq]
  generalize (lg_sl ([.ref h]) ++ List.replicate (4 - (lg_sl ([.ref h])).length) Slot.unset).toArray = ls at hl ⊢
  have hl : lv_has ls 4 [(0, .ref h)] := hl
  have hN : gh_N nl nu ≤ 136 := by unfold gh_N; split <;> omega
  have loop : ∀ (d k : Nat), gh_N nl nu < k + d → (k = 0 ∨ k + 2 ≤ gh_N nl nu) → ∀ (ls : Array Slot), lv_has ls 4 [(0, .ref h), (1, .long (Int64.ofInt (gq_area (gh_V nl (gp lx ly) nu (gp ux uy)) k))), (3, .int (nI (k + 1)))] → W p l e (headSpec (ws_ yX1_twiceArea cX1_twiceArea 4 (some .int)) ({ frames := 1, cells := 0, slots := 0, locals := 27 })).room s m ([.ref h] : List Value).toArray below meth c s.heap [] 0 0 (MQ below (vp_Si (fun r => r = (Int64.ofInt (gq_area (gh_V nl (gp lx ly) nu (gp ux uy)) (gh_N nl nu - 2))).toInt32)) ([.ref h] : List Value).toArray s 0 0 (fun _ => False)) (F0 m 4 ls []) := by
    intro d
    induction d with
    | zero => intro k h1 h2; omega
    | succ d ih =>
      intro k hd hk ls hl
      refine lv_iload_n hx hb dX1_twiceArea_4 rfl (lv_at hl 2 rfl) ?_
      refine lv_iconst (v := 1) hx hb dX1_twiceArea_5 (by decide) ?_
      refine lv_iadd hx hb dX1_twiceArea_6 ?_
      refine gr_topi (y := nI (k + 2)) (nI_1 (k + 1)) ?_
      refine lv_aload_n hx hb dX1_twiceArea_7 rfl (lv_at hl 0 rfl) ?_
      refine vp_callSi (va_Run.run (va_runV (As := []) (rest := [.int (nI (k + 2))]) ⟨hx, hb, hml, hown, hts⟩ (metX1_size l dC dI dA h a1 a2 a3 a4 a5 a6 nl nu lx ly ux uy tx ty nt cap seen hnl hnu hH) (cwV 0 hts (lw_V q81 q82 q83 q11 q84) rfl rfl rfl (by decide +kernel) ⟨Nat.le_of_ble_eq_true rfl, Nat.le_of_ble_eq_true rfl⟩) (gr_preV hK hP (ci := 0) (q0 := 0) rfl rfl (hP.sub (ws' := [(h, .inr (0, [.ref a1, .ref a2, .ref a3, .ref a4, .int (nI nl), .int (nI nu), .ref a5, .ref a6, .int nt, .int cap, .int seen])), (a1, .inl (dA, 68, .inl lx)), (a2, .inl (dA, 68, .inl ly)), (a3, .inl (dA, 68, .inl ux)), (a4, .inl (dA, 68, .inl uy)), (a5, .inl (dA, 68, .inl tx)), (a6, .inl (dA, 68, .inl ty))]) [0, 1, 2, 3, 4, 5, 6] rfl) (hK.sub (tys' := [(dA, .int)]) [0] rfl)) rfl rfl hl.1 rfl (lv_room (Nat.le_of_ble_eq_true rfl)) dX1_twiceArea_8 ⟨Nat.zero_le _, Nat.zero_le _⟩)) (fun z hz => ?_)
      have hz : z = nI (gh_N nl nu) := hz
      subst hz
      refine lv_icmp_ge (tgt := 60) hx hb dX1_twiceArea_11 (by decide) (fun c_2 => ?_) (fun c_2 => ?_)
      · have c_2 := (nI_leI (by omega) (by omega)).mp c_2
        refine lv_lload_n hx hb dX1_twiceArea_60 rfl (lv_at hl 1 rfl) ?_
        refine lv_l2i hx hb dX1_twiceArea_61 rfl ?_
        exact W.iret (v := (Int64.ofInt (gq_area (gh_V nl (gp lx ly) nu (gp ux uy)) k)).toInt32) hx hb hr (fun t ht hW => ⟨(Int64.ofInt (gq_area (gh_V nl (gp lx ly) nu (gp ux uy)) k)).toInt32, rfl, by rw [show gh_N nl nu - 2 = k by omega], ht⟩) (fun q h => by cases h) dX1_twiceArea_62
      · have c1 : k + 2 < gh_N nl nu := Nat.not_le.mp (fun z => c_2 ((nI_leI (by omega) (by omega)).mpr z))
        refine lv_lload_n hx hb dX1_twiceArea_14 rfl (lv_at hl 1 rfl) ?_
        refine lv_aload_n hx hb dX1_twiceArea_15 rfl (lv_at hl 0 rfl) ?_
        refine lv_iconst (v := 0) hx hb dX1_twiceArea_16 (by decide) ?_
        refine gr_topi (y := nI 0) (nI_0.symm) ?_
        refine vp_callSi (va_Run.run (va_runV (As := [.int (nI 0)]) (rest := [.long (Int64.ofInt (gq_area (gh_V nl (gp lx ly) nu (gp ux uy)) k))]) ⟨hx, hb, hml, hown, hts⟩ (metX1_x l dC dI dA h a1 a2 a3 a4 a5 a6 nl nu lx ly ux uy tx ty nt cap seen 0 hnl hnu hH (by omega)) (cwV 1 hts (lw_V q102 q104 qs4 q11 q105) rfl rfl rfl (by decide +kernel) ⟨Nat.le_of_ble_eq_true rfl, Nat.le_of_ble_eq_true rfl⟩) (gr_preV hK hP (ci := 0) (q0 := 0) rfl rfl (hP.sub (ws' := [(h, .inr (0, [.ref a1, .ref a2, .ref a3, .ref a4, .int (nI nl), .int (nI nu), .ref a5, .ref a6, .int nt, .int cap, .int seen])), (a1, .inl (dA, 68, .inl lx)), (a2, .inl (dA, 68, .inl ly)), (a3, .inl (dA, 68, .inl ux)), (a4, .inl (dA, 68, .inl uy)), (a5, .inl (dA, 68, .inl tx)), (a6, .inl (dA, 68, .inl ty))]) [0, 1, 2, 3, 4, 5, 6] rfl) (hK.sub (tys' := [(dA, .int)]) [0] rfl)) rfl rfl hl.1 rfl (lv_room (Nat.le_of_ble_eq_true rfl)) dX1_twiceArea_17 ⟨Nat.zero_le _, Nat.zero_le _⟩)) (fun z1 hz1 => ?_)
        have hz1 : z1 = gv nl lx nu ux 0 := hz1
        refine lv_aload_n hx hb dX1_twiceArea_20 rfl (lv_at hl 0 rfl) ?_
        refine lv_iconst (v := 0) hx hb dX1_twiceArea_21 (by decide) ?_
        refine gr_topi (y := nI 0) (nI_0.symm) ?_
        refine vp_callSi (va_Run.run (va_runV (As := [.int (nI 0)]) (rest := [.int z1, .long (Int64.ofInt (gq_area (gh_V nl (gp lx ly) nu (gp ux uy)) k))]) ⟨hx, hb, hml, hown, hts⟩ (metX1_y l dC dI dA h a1 a2 a3 a4 a5 a6 nl nu lx ly ux uy tx ty nt cap seen 0 hnl hnu hH (by omega)) (cwV 1 hts (lw_V q110 q112 qs5 q11 q113) rfl rfl rfl (by decide +kernel) ⟨Nat.le_of_ble_eq_true rfl, Nat.le_of_ble_eq_true rfl⟩) (gr_preV hK hP (ci := 0) (q0 := 0) rfl rfl (hP.sub (ws' := [(h, .inr (0, [.ref a1, .ref a2, .ref a3, .ref a4, .int (nI nl), .int (nI nu), .ref a5, .ref a6, .int nt, .int cap, .int seen])), (a1, .inl (dA, 68, .inl lx)), (a2, .inl (dA, 68, .inl ly)), (a3, .inl (dA, 68, .inl ux)), (a4, .inl (dA, 68, .inl uy)), (a5, .inl (dA, 68, .inl tx)), (a6, .inl (dA, 68, .inl ty))]) [0, 1, 2, 3, 4, 5, 6] rfl) (hK.sub (tys' := [(dA, .int)]) [0] rfl)) rfl rfl hl.1 rfl (lv_room (Nat.le_of_ble_eq_true rfl)) dX1_twiceArea_22 ⟨Nat.zero_le _, Nat.zero_le _⟩)) (fun z2 hz2 => ?_)
        have hz2 : z2 = gv nl ly nu uy 0 := hz2
        refine lv_aload_n hx hb dX1_twiceArea_25 rfl (lv_at hl 0 rfl) ?_
        refine lv_iload_n hx hb dX1_twiceArea_26 rfl (lv_at hl 2 rfl) ?_
        refine vp_callSi (va_Run.run (va_runV (As := [.int (nI (k + 1))]) (rest := [.int z2, .int z1, .long (Int64.ofInt (gq_area (gh_V nl (gp lx ly) nu (gp ux uy)) k))]) ⟨hx, hb, hml, hown, hts⟩ (metX1_x l dC dI dA h a1 a2 a3 a4 a5 a6 nl nu lx ly ux uy tx ty nt cap seen (k + 1) hnl hnu hH (by omega)) (cwV 1 hts (lw_V q102 q104 qs4 q11 q105) rfl rfl rfl (by decide +kernel) ⟨Nat.le_of_ble_eq_true rfl, Nat.le_of_ble_eq_true rfl⟩) (gr_preV hK hP (ci := 0) (q0 := 0) rfl rfl (hP.sub (ws' := [(h, .inr (0, [.ref a1, .ref a2, .ref a3, .ref a4, .int (nI nl), .int (nI nu), .ref a5, .ref a6, .int nt, .int cap, .int seen])), (a1, .inl (dA, 68, .inl lx)), (a2, .inl (dA, 68, .inl ly)), (a3, .inl (dA, 68, .inl ux)), (a4, .inl (dA, 68, .inl uy)), (a5, .inl (dA, 68, .inl tx)), (a6, .inl (dA, 68, .inl ty))]) [0, 1, 2, 3, 4, 5, 6] rfl) (hK.sub (tys' := [(dA, .int)]) [0] rfl)) rfl rfl hl.1 rfl (lv_room (Nat.le_of_ble_eq_true rfl)) dX1_twiceArea_27 ⟨Nat.zero_le _, Nat.zero_le _⟩)) (fun z3 hz3 => ?_)
        have hz3 : z3 = gv nl lx nu ux (k + 1) := hz3
        refine lv_aload_n hx hb dX1_twiceArea_30 rfl (lv_at hl 0 rfl) ?_
        refine lv_iload_n hx hb dX1_twiceArea_31 rfl (lv_at hl 2 rfl) ?_
        refine vp_callSi (va_Run.run (va_runV (As := [.int (nI (k + 1))]) (rest := [.int z3, .int z2, .int z1, .long (Int64.ofInt (gq_area (gh_V nl (gp lx ly) nu (gp ux uy)) k))]) ⟨hx, hb, hml, hown, hts⟩ (metX1_y l dC dI dA h a1 a2 a3 a4 a5 a6 nl nu lx ly ux uy tx ty nt cap seen (k + 1) hnl hnu hH (by omega)) (cwV 1 hts (lw_V q110 q112 qs5 q11 q113) rfl rfl rfl (by decide +kernel) ⟨Nat.le_of_ble_eq_true rfl, Nat.le_of_ble_eq_true rfl⟩) (gr_preV hK hP (ci := 0) (q0 := 0) rfl rfl (hP.sub (ws' := [(h, .inr (0, [.ref a1, .ref a2, .ref a3, .ref a4, .int (nI nl), .int (nI nu), .ref a5, .ref a6, .int nt, .int cap, .int seen])), (a1, .inl (dA, 68, .inl lx)), (a2, .inl (dA, 68, .inl ly)), (a3, .inl (dA, 68, .inl ux)), (a4, .inl (dA, 68, .inl uy)), (a5, .inl (dA, 68, .inl tx)), (a6, .inl (dA, 68, .inl ty))]) [0, 1, 2, 3, 4, 5, 6] rfl) (hK.sub (tys' := [(dA, .int)]) [0] rfl)) rfl rfl hl.1 rfl (lv_room (Nat.le_of_ble_eq_true rfl)) dX1_twiceArea_32 ⟨Nat.zero_le _, Nat.zero_le _⟩)) (fun z4 hz4 => ?_)
        have hz4 : z4 = gv nl ly nu uy (k + 1) := hz4
        refine lv_aload_n hx hb dX1_twiceArea_35 rfl (lv_at hl 0 rfl) ?_
        refine lv_iload_n hx hb dX1_twiceArea_36 rfl (lv_at hl 2 rfl) ?_
        refine lv_iconst (v := 1) hx hb dX1_twiceArea_37 (by decide) ?_
        refine lv_iadd hx hb dX1_twiceArea_38 ?_
        refine gr_topi (y := nI (k + 2)) (nI_1 (k + 1)) ?_
        refine vp_callSi (va_Run.run (va_runV (As := [.int (nI (k + 2))]) (rest := [.int z4, .int z3, .int z2, .int z1, .long (Int64.ofInt (gq_area (gh_V nl (gp lx ly) nu (gp ux uy)) k))]) ⟨hx, hb, hml, hown, hts⟩ (metX1_x l dC dI dA h a1 a2 a3 a4 a5 a6 nl nu lx ly ux uy tx ty nt cap seen (k + 2) hnl hnu hH (by omega)) (cwV 1 hts (lw_V q102 q104 qs4 q11 q105) rfl rfl rfl (by decide +kernel) ⟨Nat.le_of_ble_eq_true rfl, Nat.le_of_ble_eq_true rfl⟩) (gr_preV hK hP (ci := 0) (q0 := 0) rfl rfl (hP.sub (ws' := [(h, .inr (0, [.ref a1, .ref a2, .ref a3, .ref a4, .int (nI nl), .int (nI nu), .ref a5, .ref a6, .int nt, .int cap, .int seen])), (a1, .inl (dA, 68, .inl lx)), (a2, .inl (dA, 68, .inl ly)), (a3, .inl (dA, 68, .inl ux)), (a4, .inl (dA, 68, .inl uy)), (a5, .inl (dA, 68, .inl tx)), (a6, .inl (dA, 68, .inl ty))]) [0, 1, 2, 3, 4, 5, 6] rfl) (hK.sub (tys' := [(dA, .int)]) [0] rfl)) rfl rfl hl.1 rfl (lv_room (Nat.le_of_ble_eq_true rfl)) dX1_twiceArea_39 ⟨Nat.zero_le _, Nat.zero_le _⟩)) (fun z5 hz5 => ?_)
        have hz5 : z5 = gv nl lx nu ux (k + 2) := hz5
        refine lv_aload_n hx hb dX1_twiceArea_42 rfl (lv_at hl 0 rfl) ?_
        refine lv_iload_n hx hb dX1_twiceArea_43 rfl (lv_at hl 2 rfl) ?_
        refine lv_iconst (v := 1) hx hb dX1_twiceArea_44 (by decide) ?_
        refine lv_iadd hx hb dX1_twiceArea_45 ?_
        refine gr_topi (y := nI (k + 2)) (nI_1 (k + 1)) ?_
        refine vp_callSi (va_Run.run (va_runV (As := [.int (nI (k + 2))]) (rest := [.int z5, .int z4, .int z3, .int z2, .int z1, .long (Int64.ofInt (gq_area (gh_V nl (gp lx ly) nu (gp ux uy)) k))]) ⟨hx, hb, hml, hown, hts⟩ (metX1_y l dC dI dA h a1 a2 a3 a4 a5 a6 nl nu lx ly ux uy tx ty nt cap seen (k + 2) hnl hnu hH (by omega)) (cwV 1 hts (lw_V q110 q112 qs5 q11 q113) rfl rfl rfl (by decide +kernel) ⟨Nat.le_of_ble_eq_true rfl, Nat.le_of_ble_eq_true rfl⟩) (gr_preV hK hP (ci := 0) (q0 := 0) rfl rfl (hP.sub (ws' := [(h, .inr (0, [.ref a1, .ref a2, .ref a3, .ref a4, .int (nI nl), .int (nI nu), .ref a5, .ref a6, .int nt, .int cap, .int seen])), (a1, .inl (dA, 68, .inl lx)), (a2, .inl (dA, 68, .inl ly)), (a3, .inl (dA, 68, .inl ux)), (a4, .inl (dA, 68, .inl uy)), (a5, .inl (dA, 68, .inl tx)), (a6, .inl (dA, 68, .inl ty))]) [0, 1, 2, 3, 4, 5, 6] rfl) (hK.sub (tys' := [(dA, .int)]) [0] rfl)) rfl rfl hl.1 rfl (lv_room (Nat.le_of_ble_eq_true rfl)) dX1_twiceArea_46 ⟨Nat.zero_le _, Nat.zero_le _⟩)) (fun z6 hz6 => ?_)
        have hz6 : z6 = gv nl ly nu uy (k + 2) := hz6
        have hVz1 : gh_V nl (gp lx ly) nu (gp ux uy) 0 = g2 z1 z2 := by rw [gv_V, hz1, hz2]
        have hVz3 : gh_V nl (gp lx ly) nu (gp ux uy) (k + 1) = g2 z3 z4 := by rw [gv_V, hz3, hz4]
        have hVz5 : gh_V nl (gp lx ly) nu (gp ux uy) (k + 2) = g2 z5 z6 := by rw [gv_V, hz5, hz6]
        refine vp_callSl (va_Run.run (va_runS (As := [.int z1, .int z2, .int z3, .int z4, .int z5, .int z6]) (rest := [.long (Int64.ofInt (gq_area (gh_V nl (gp lx ly) nu (gp ux uy)) k))]) ⟨hx, hb, hml, hown, hts⟩ (metX1_turn l dC dI dA z1 z2 z3 z4 z5 z6) (va_cwS 6 hts (lw_S q69 q70 q11 q71) rfl rfl rfl (by decide +kernel) ⟨Nat.le_of_ble_eq_true rfl, Nat.le_of_ble_eq_true rfl⟩) (gr_preS (hP.sub (ws' := []) [] rfl) (hK.sub (tys' := []) [] rfl)) rfl rfl hl.1 rfl (lv_room (Nat.le_of_ble_eq_true rfl)) dX1_twiceArea_49 ⟨Nat.zero_le _, Nat.zero_le _⟩)) (fun tt htt => ?_)
        have htt : tt = gt_turn z1 z2 z3 z4 z5 z6 := htt
        have hto : tt.toInt = gh_T ((gh_V nl (gp lx ly) nu (gp ux uy)) 0) ((gh_V nl (gp lx ly) nu (gp ux uy)) (k + 1)) ((gh_V nl (gp lx ly) nu (gp ux uy)) (k + 2)) := by
          rw [htt, hVz1, hVz3, hVz5]
          exact (gt_turn_ok (by rw [← hVz1]; exact hH.vok (by omega)) (by rw [← hVz3]; exact hH.vok (by omega)) (by rw [← hVz5]; exact hH.vok (by omega))).1
        refine lv_ladd hx hb dX1_twiceArea_52 ?_
        refine gr_topl (y := Int64.ofInt (gq_area (gh_V nl (gp lx ly) nu (gp ux uy)) (k + 1))) (by rw [gi_of tt hto, ← Int64.ofInt_add]; rfl) ?_
        refine lv_lstore_n (lv' := [(1, .long (Int64.ofInt (gq_area (gh_V nl (gp lx ly) nu (gp ux uy)) (k + 1)))), (0, .ref h), (3, .int (nI (k + 1)))]) hx hb dX1_twiceArea_53 rfl hl (by decide) rfl (fun ls hl => ?_)
        refine lv_iinc (v := nI (k + 1 + 1)) (lv' := [(3, .int (nI (k + 1 + 1))), (1, .long (Int64.ofInt (gq_area (gh_V nl (gp lx ly) nu (gp ux uy)) (k + 1)))), (0, .ref h)]) hx hb dX1_twiceArea_54 hl (k := 2) rfl (nI_1 (k + 1)) (by decide) rfl (fun ls hl => ?_)
        refine lv_goto (tgt := 4) hx hb dX1_twiceArea_57 (by decide) ?_
        exact ih (k + 1) (by omega) (by omega) ls (lv_sub hl [2, 1, 0] rfl)
  refine lv_lconst (v := 0) hx hb dX1_twiceArea_0 (by decide) ?_
  refine lv_lstore_n (lv' := [(1, .long 0), (0, .ref h)]) hx hb dX1_twiceArea_1 rfl hl (by decide) rfl (fun ls hl => ?_)
  refine lv_iconst (v := 1) hx hb dX1_twiceArea_2 (by decide) ?_
  refine lv_istore_n (lv' := [(3, .int 1), (1, .long 0), (0, .ref h)]) hx hb dX1_twiceArea_3 rfl hl (by decide) rfl (fun ls hl => ?_)
  exact loop (gh_N nl nu + 1) 0 (by omega) (Or.inl rfl) ls (lv_sub hl [2, 1, 0] rfl)
set_option maxHeartbeats 4000000 in
set_option maxRecDepth 100000 in
theorem metX1_farthest (l : Launch) (dC : Nat → ClassId) (dI : Nat → Nat → Nat) (dA : ClassId) (h a1 a2 a3 a4 a5 a6 nl nu : Nat) (lx ly ux uy tx ty : Nat → Int32) (nt cap seen : Int32) (x y : Int32) (hnl : nl ≤ 68) (hnu : nu ≤ 68) (hH : gh_H nl (gp lx ly) nu (gp ux uy)) : Met l yX1_farthest (ws_ yX1_farthest cX1_farthest 9 (some .int)) ({ frames := 1, cells := 0, slots := 0, locals := 21 }) (gr_Pc (dC, dI) [.ref h, .int x, .int y] [(h, .inr (0, [.ref a1, .ref a2, .ref a3, .ref a4, .int (nI nl), .int (nI nu), .ref a5, .ref a6, .int nt, .int cap, .int seen])), (a1, .inl (dA, 68, .inl lx)), (a2, .inl (dA, 68, .inl ly)), (a3, .inl (dA, 68, .inl ux)), (a4, .inl (dA, 68, .inl uy)), (a5, .inl (dA, 68, .inl tx)), (a6, .inl (dA, 68, .inl ty))] [(dA, .int)]) (vp_Si (fun r => gq_far (gh_N nl nu) (gh_V nl (gp lx ly) nu (gp ux uy)) (g2 x y) r)) 0 0 (fun _ => False) := by
  refine Met.ofW (cc := cX1_farthest) (maxL := 9) (ret := (some .int)) (by decide) rfl ?_
  intro p e s m args below meth c s₁ B hml hv
  obtain ⟨rfl, hP, hK⟩ := hv
  have hx := B.exec
  have hb := B.bytes
  have hr := B.returns
  have hts := atoms_spec (ws := (ws_ yX1_farthest cX1_farthest 9 (some .int))) B.pre
  have hts : ∀ w ∈ lw_all, w.before _ s = true := fun w h => hts w (List.mem_cons_of_mem _ h)
  have hown : s.vm.findClass RX1 = some m.cls := findClass_of_methodNamed B.named
  have hlocks := B.notSynchronized
  have hl := lv_entry ([.ref h, .int x, .int y]) (n := 9) (Nat.le_of_ble_eq_true rfl)
  rw [lg_entry_eq]
  generalize (lg_sl ([.ref h, .int x, .int y]) ++ List.replicate (9 - (lg_sl ([.ref h, .int x, .int y])).length) Slot.unset).toArray = ls at hl ⊢
  have hl : lv_has ls 9 [(0, .ref h), (1, .int x), (2, .int y)] := hl
  have hN : gh_N nl nu ≤ 136 := by unfold gh_N; split <;> omega
  refine lv_iload_n hx hb dX1_farthest_0 rfl (lv_at hl 1 rfl) ?_
  refine lv_iload_n hx hb dX1_farthest_1 rfl (lv_at hl 2 rfl) ?_
  refine vp_callSi (va_Run.run (va_runS (As := [.int x, .int y]) (rest := []) ⟨hx, hb, hml, hown, hts⟩ (metX1_isPoint l dC dI dA x y) (va_cwS 2 hts (lw_S q60 q61 q11 q62) rfl rfl rfl (by decide +kernel) ⟨Nat.le_of_ble_eq_true rfl, Nat.le_of_ble_eq_true rfl⟩) (gr_preS (hP.sub (ws' := []) [] rfl) (hK.sub (tys' := []) [] rfl)) rfl rfl hl.1 rfl (lv_room (Nat.le_of_ble_eq_true rfl)) dX1_farthest_2 ⟨Nat.zero_le _, Nat.zero_le _⟩)) (fun zp hzp => ?_)
  refine lv_if_ne (tgt := 10) hx hb dX1_farthest_5 (by decide) (fun c_2 => ?_) (fun c_2 => ?_)
  · have hok : gh_ok (g2 x y) := gk_b.pos hzp c_2
    have loop : ∀ (d k : Nat) (bst : Int32) (mst : Int64), gh_N nl nu < k + d → k ≤ gh_N nl nu → gq_fi (gh_V nl (gp lx ly) nu (gp ux uy)) (g2 x y) k bst mst → ∀ (ls : Array Slot), lv_has ls 9 [(0, .ref h), (1, .int x), (2, .int y), (3, .int bst), (4, .long mst), (6, .int (nI k))] → W p l e (headSpec (ws_ yX1_farthest cX1_farthest 9 (some .int)) ({ frames := 1, cells := 0, slots := 0, locals := 21 })).room s m ([.ref h, .int x, .int y] : List Value).toArray below meth c s.heap [] 0 0 (MQ below (vp_Si (fun r => gq_far (gh_N nl nu) (gh_V nl (gp lx ly) nu (gp ux uy)) (g2 x y) r)) ([.ref h, .int x, .int y] : List Value).toArray s 0 0 (fun _ => False)) (F0 m 18 ls []) := by
      intro d
      induction d with
      | zero => intro k bst mst h1 h2; omega
      | succ d ih =>
        intro k bst mst hd hk hfi ls hl
        refine lv_iload hx hb dX1_farthest_18 (lv_at hl 5 rfl) ?_
        refine lv_aload_n hx hb dX1_farthest_20 rfl (lv_at hl 0 rfl) ?_
        refine vp_callSi (va_Run.run (va_runV (As := []) (rest := [.int (nI k)]) ⟨hx, hb, hml, hown, hts⟩ (metX1_size l dC dI dA h a1 a2 a3 a4 a5 a6 nl nu lx ly ux uy tx ty nt cap seen hnl hnu hH) (cwV 0 hts (lw_V q81 q82 q83 q11 q84) rfl rfl rfl (by decide +kernel) ⟨Nat.le_of_ble_eq_true rfl, Nat.le_of_ble_eq_true rfl⟩) (gr_preV hK hP (ci := 0) (q0 := 0) rfl rfl (hP.sub (ws' := [(h, .inr (0, [.ref a1, .ref a2, .ref a3, .ref a4, .int (nI nl), .int (nI nu), .ref a5, .ref a6, .int nt, .int cap, .int seen])), (a1, .inl (dA, 68, .inl lx)), (a2, .inl (dA, 68, .inl ly)), (a3, .inl (dA, 68, .inl ux)), (a4, .inl (dA, 68, .inl uy)), (a5, .inl (dA, 68, .inl tx)), (a6, .inl (dA, 68, .inl ty))]) [0, 1, 2, 3, 4, 5, 6] rfl) (hK.sub (tys' := [(dA, .int)]) [0] rfl)) rfl rfl hl.1 rfl (lv_room (Nat.le_of_ble_eq_true rfl)) dX1_farthest_21 ⟨Nat.zero_le _, Nat.zero_le _⟩)) (fun z hz => ?_)
        have hz : z = nI (gh_N nl nu) := hz
        subst hz
        refine lv_icmp_ge (tgt := 78) hx hb dX1_farthest_24 (by decide) (fun c_4 => ?_) (fun c_4 => ?_)
        · have c_4 := (nI_leI (by omega) (by omega)).mp c_4
          have hkN : k = gh_N nl nu := by omega
          rw [hkN] at hfi
          refine lv_iload_n hx hb dX1_farthest_78 rfl (lv_at hl 3 rfl) ?_
          exact W.iret (v := bst) hx hb hr (fun t ht hW => ⟨bst, rfl, gq_fi_end hfi hok, ht⟩) (fun q h => by cases h) dX1_farthest_79
        · have c1 : k < gh_N nl nu := Nat.not_le.mp (fun z => c_4 ((nI_leI (by omega) (by omega)).mpr z))
          refine lv_iload_n hx hb dX1_farthest_27 rfl (lv_at hl 1 rfl) ?_
          refine lv_i2l hx hb dX1_farthest_28 rfl ?_
          refine lv_aload_n hx hb dX1_farthest_29 rfl (lv_at hl 0 rfl) ?_
          refine lv_iload hx hb dX1_farthest_30 (lv_at hl 5 rfl) ?_
          refine vp_callSi (va_Run.run (va_runV (As := [.int (nI k)]) (rest := [.long x.toInt64]) ⟨hx, hb, hml, hown, hts⟩ (metX1_x l dC dI dA h a1 a2 a3 a4 a5 a6 nl nu lx ly ux uy tx ty nt cap seen k hnl hnu hH (by omega)) (cwV 1 hts (lw_V q102 q104 qs4 q11 q105) rfl rfl rfl (by decide +kernel) ⟨Nat.le_of_ble_eq_true rfl, Nat.le_of_ble_eq_true rfl⟩) (gr_preV hK hP (ci := 0) (q0 := 0) rfl rfl (hP.sub (ws' := [(h, .inr (0, [.ref a1, .ref a2, .ref a3, .ref a4, .int (nI nl), .int (nI nu), .ref a5, .ref a6, .int nt, .int cap, .int seen])), (a1, .inl (dA, 68, .inl lx)), (a2, .inl (dA, 68, .inl ly)), (a3, .inl (dA, 68, .inl ux)), (a4, .inl (dA, 68, .inl uy)), (a5, .inl (dA, 68, .inl tx)), (a6, .inl (dA, 68, .inl ty))]) [0, 1, 2, 3, 4, 5, 6] rfl) (hK.sub (tys' := [(dA, .int)]) [0] rfl)) rfl rfl hl.1 rfl (lv_room (Nat.le_of_ble_eq_true rfl)) dX1_farthest_32 ⟨Nat.zero_le _, Nat.zero_le _⟩)) (fun z1 hz1 => ?_)
          have hz1 : z1 = gv nl lx nu ux k := hz1
          refine lv_i2l hx hb dX1_farthest_35 rfl ?_
          refine lv_lmul hx hb dX1_farthest_36 ?_
          refine lv_iload_n hx hb dX1_farthest_37 rfl (lv_at hl 2 rfl) ?_
          refine lv_i2l hx hb dX1_farthest_38 rfl ?_
          refine lv_aload_n hx hb dX1_farthest_39 rfl (lv_at hl 0 rfl) ?_
          refine lv_iload hx hb dX1_farthest_40 (lv_at hl 5 rfl) ?_
          refine vp_callSi (va_Run.run (va_runV (As := [.int (nI k)]) (rest := [.long y.toInt64, .long (x.toInt64 * z1.toInt64)]) ⟨hx, hb, hml, hown, hts⟩ (metX1_y l dC dI dA h a1 a2 a3 a4 a5 a6 nl nu lx ly ux uy tx ty nt cap seen k hnl hnu hH (by omega)) (cwV 1 hts (lw_V q110 q112 qs5 q11 q113) rfl rfl rfl (by decide +kernel) ⟨Nat.le_of_ble_eq_true rfl, Nat.le_of_ble_eq_true rfl⟩) (gr_preV hK hP (ci := 0) (q0 := 0) rfl rfl (hP.sub (ws' := [(h, .inr (0, [.ref a1, .ref a2, .ref a3, .ref a4, .int (nI nl), .int (nI nu), .ref a5, .ref a6, .int nt, .int cap, .int seen])), (a1, .inl (dA, 68, .inl lx)), (a2, .inl (dA, 68, .inl ly)), (a3, .inl (dA, 68, .inl ux)), (a4, .inl (dA, 68, .inl uy)), (a5, .inl (dA, 68, .inl tx)), (a6, .inl (dA, 68, .inl ty))]) [0, 1, 2, 3, 4, 5, 6] rfl) (hK.sub (tys' := [(dA, .int)]) [0] rfl)) rfl rfl hl.1 rfl (lv_room (Nat.le_of_ble_eq_true rfl)) dX1_farthest_42 ⟨Nat.zero_le _, Nat.zero_le _⟩)) (fun z2 hz2 => ?_)
          have hz2 : z2 = gv nl ly nu uy k := hz2
          have hVz1 : gh_V nl (gp lx ly) nu (gp ux uy) k = g2 z1 z2 := by rw [gv_V, hz1, hz2]
          refine lv_i2l hx hb dX1_farthest_45 rfl ?_
          refine lv_lmul hx hb dX1_farthest_46 ?_
          refine lv_ladd hx hb dX1_farthest_47 ?_
          refine lv_topl (fun vv evv => ?_)
          have hvv : vv.toInt = gq_val (gh_V nl (gp lx ly) nu (gp ux uy)) (g2 x y) k := by
            rw [evv, gi_val hok (by rw [← hVz1]; exact hH.vok c1)]
            unfold gq_val
            rw [hVz1]
            rfl
          refine lv_lstore (lv' := [(7, .long vv), (0, .ref h), (1, .int x), (2, .int y), (3, .int bst), (4, .long mst), (6, .int (nI k))]) hx hb dX1_farthest_48 hl (by decide) rfl (fun ls hl => ?_)
          refine lv_iload_n hx hb dX1_farthest_50 rfl (lv_at hl 4 rfl) ?_
          refine lv_if_lt (tgt := 65) hx hb dX1_farthest_51 (by decide) (fun c_7 => ?_) (fun c_7 => ?_)
          · refine lv_iload hx hb dX1_farthest_65 (lv_at hl 6 rfl) ?_
            refine lv_istore_n (lv' := [(3, .int (nI k)), (7, .long vv), (0, .ref h), (1, .int x), (2, .int y), (4, .long mst), (6, .int (nI k))]) hx hb dX1_farthest_67 rfl hl (by decide) rfl (fun ls hl => ?_)
            refine lv_lload hx hb dX1_farthest_68 (lv_at hl 1 rfl) ?_
            refine lv_lstore (lv' := [(4, .long vv), (3, .int (nI k)), (7, .long vv), (0, .ref h), (1, .int x), (2, .int y), (6, .int (nI k))]) hx hb dX1_farthest_70 hl (by decide) rfl (fun ls hl => ?_)
            refine lv_iinc (v := nI (k + 1)) (lv' := [(6, .int (nI (k + 1))), (4, .long vv), (3, .int (nI k)), (7, .long vv), (0, .ref h), (1, .int x), (2, .int y)]) hx hb dX1_farthest_72 hl (k := 6) rfl (nI_1 k) (by decide) rfl (fun ls hl => ?_)
            refine lv_goto (tgt := 18) hx hb dX1_farthest_75 (by decide) ?_
            exact ih (k + 1) (nI k) vv (by omega) (by omega) (gq_fi_new (by omega) hfi hvv (Or.inl c_7)) ls (lv_sub hl [4, 5, 6, 2, 1, 0] rfl)
          · refine lv_lload hx hb dX1_farthest_54 (lv_at hl 0 rfl) ?_
            refine lv_lload hx hb dX1_farthest_56 (lv_at hl 5 rfl) ?_
            refine W.lcmp hx hb dX1_farthest_58 ?_
            refine lv_if_gt (tgt := 65) hx hb dX1_farthest_59 (by decide) (fun c_8 => ?_) (fun c_8 => ?_)
            · rw [lg_cmp_gt] at c_8
              refine lv_iload hx hb dX1_farthest_65 (lv_at hl 6 rfl) ?_
              refine lv_istore_n (lv' := [(3, .int (nI k)), (7, .long vv), (0, .ref h), (1, .int x), (2, .int y), (4, .long mst), (6, .int (nI k))]) hx hb dX1_farthest_67 rfl hl (by decide) rfl (fun ls hl => ?_)
              refine lv_lload hx hb dX1_farthest_68 (lv_at hl 1 rfl) ?_
              refine lv_lstore (lv' := [(4, .long vv), (3, .int (nI k)), (7, .long vv), (0, .ref h), (1, .int x), (2, .int y), (6, .int (nI k))]) hx hb dX1_farthest_70 hl (by decide) rfl (fun ls hl => ?_)
              refine lv_iinc (v := nI (k + 1)) (lv' := [(6, .int (nI (k + 1))), (4, .long vv), (3, .int (nI k)), (7, .long vv), (0, .ref h), (1, .int x), (2, .int y)]) hx hb dX1_farthest_72 hl (k := 6) rfl (nI_1 k) (by decide) rfl (fun ls hl => ?_)
              refine lv_goto (tgt := 18) hx hb dX1_farthest_75 (by decide) ?_
              exact ih (k + 1) (nI k) vv (by omega) (by omega) (gq_fi_new (by omega) hfi hvv (Or.inr c_8)) ls (lv_sub hl [4, 5, 6, 2, 1, 0] rfl)
            · rw [lg_cmp_gt] at c_8
              refine lv_goto (tgt := 72) hx hb dX1_farthest_62 (by decide) ?_
              refine lv_iinc (v := nI (k + 1)) (lv' := [(6, .int (nI (k + 1))), (7, .long vv), (0, .ref h), (1, .int x), (2, .int y), (3, .int bst), (4, .long mst)]) hx hb dX1_farthest_72 hl (k := 6) rfl (nI_1 k) (by decide) rfl (fun ls hl => ?_)
              refine lv_goto (tgt := 18) hx hb dX1_farthest_75 (by decide) ?_
              exact ih (k + 1) bst mst (by omega) (by omega) (gq_fi_keep (by omega) hfi hvv c_7 c_8) ls (lv_sub hl [2, 3, 4, 5, 6, 0] rfl)
    refine lv_iconst (v := (-1)) hx hb dX1_farthest_10 (by decide) ?_
    refine lv_istore_n (lv' := [(3, .int (-1)), (0, .ref h), (1, .int x), (2, .int y)]) hx hb dX1_farthest_11 rfl hl (by decide) rfl (fun ls hl => ?_)
    refine lv_lconst (v := 0) hx hb dX1_farthest_12 (by decide) ?_
    refine lv_lstore (lv' := [(4, .long 0), (3, .int (-1)), (0, .ref h), (1, .int x), (2, .int y)]) hx hb dX1_farthest_13 hl (by decide) rfl (fun ls hl => ?_)
    refine lv_iconst (v := 0) hx hb dX1_farthest_15 (by decide) ?_
    refine lv_istore (lv' := [(6, .int 0), (4, .long 0), (3, .int (-1)), (0, .ref h), (1, .int x), (2, .int y)]) hx hb dX1_farthest_16 hl (by decide) rfl (fun ls hl => ?_)
    exact loop (gh_N nl nu + 1) 0 (-1) 0 (by omega) (by omega) (Or.inl ⟨rfl, rfl⟩) ls (lv_sub hl [3, 4, 5, 2, 1, 0] rfl)
  · refine lv_iconst (v := (-1)) hx hb dX1_farthest_8 (by decide) ?_
    exact W.iret (v := (-1)) hx hb hr (fun t ht hW => ⟨(-1), rfl, ⟨fun _ => rfl, fun z => absurd z (gk_b.neg hzp c_2)⟩, ht⟩) (fun q h => by cases h) dX1_farthest_9
set_option maxHeartbeats 4000000 in
set_option maxRecDepth 100000 in
theorem metX1_sees (l : Launch) (dC : Nat → ClassId) (dI : Nat → Nat → Nat) (dA : ClassId) (h a1 a2 a3 a4 a5 a6 nl nu : Nat) (lx ly ux uy tx ty : Nat → Int32) (nt cap seen : Int32) (i : Nat) (x y : Int32) (hnl : nl ≤ 68) (hnu : nu ≤ 68) (hH : gh_H nl (gp lx ly) nu (gp ux uy)) (hi : i < gh_N nl nu) (hp : gh_ok (g2 x y)) : Met l yX1_sees (ws_ yX1_sees cX1_sees 5 (some .boolean)) ({ frames := 1, cells := 0, slots := 0, locals := 27 }) (gr_Pc (dC, dI) [.ref h, .int (nI i), .int x, .int y] [(h, .inr (0, [.ref a1, .ref a2, .ref a3, .ref a4, .int (nI nl), .int (nI nu), .ref a5, .ref a6, .int nt, .int cap, .int seen])), (a1, .inl (dA, 68, .inl lx)), (a2, .inl (dA, 68, .inl ly)), (a3, .inl (dA, 68, .inl ux)), (a4, .inl (dA, 68, .inl uy)), (a5, .inl (dA, 68, .inl tx)), (a6, .inl (dA, 68, .inl ty))] [(dA, .int)]) (vp_Si (fun r => gk_b r (gh_T ((gh_V nl (gp lx ly) nu (gp ux uy)) i) ((gh_V nl (gp lx ly) nu (gp ux uy)) (gh_nx (gh_N nl nu) i)) (g2 x y) < 0))) 0 0 (fun _ => False) := by
  refine Met.ofW (cc := cX1_sees) (maxL := 5) (ret := (some .boolean)) (by decide) rfl ?_
  intro p e s m args below meth c s₁ B hml hv
  obtain ⟨rfl, hP, hK⟩ := hv
  have hx := B.exec
  have hb := B.bytes
  have hr := B.returns
  have hts := atoms_spec (ws := (ws_ yX1_sees cX1_sees 5 (some .boolean))) B.pre
  have hts : ∀ w ∈ lw_all, w.before _ s = true := fun w h => hts w (List.mem_cons_of_mem _ h)
  have hown : s.vm.findClass RX1 = some m.cls := findClass_of_methodNamed B.named
  have hlocks := B.notSynchronized
  have hl := lv_entry ([.ref h, .int (nI i), .int x, .int y]) (n := 5) (Nat.le_of_ble_eq_true rfl)
  rw [lg_entry_eq]
  generalize (lg_sl ([.ref h, .int (nI i), .int x, .int y]) ++ List.replicate (5 - (lg_sl ([.ref h, .int (nI i), .int x, .int y])).length) Slot.unset).toArray = ls at hl ⊢
  have hl : lv_has ls 5 [(0, .ref h), (1, .int (nI i)), (2, .int x), (3, .int y)] := hl
  have hN : gh_N nl nu ≤ 136 := by unfold gh_N; split <;> omega
  obtain ⟨j, hj⟩ : ∃ j, j = gh_nx (gh_N nl nu) i := ⟨_, rfl⟩
  have hjN : j < gh_N nl nu := by rw [hj]; exact gh_nxlt hi
  rw [← hj]
  have tail : ∀ (ls : Array Slot), lv_has ls 5 [(0, .ref h), (1, .int (nI i)), (2, .int x), (3, .int y)] → W p l e (headSpec (ws_ yX1_sees cX1_sees 5 (some .boolean)) ({ frames := 1, cells := 0, slots := 0, locals := 27 })).room s m ([.ref h, .int (nI i), .int x, .int y] : List Value).toArray below meth c s.heap [] 0 0 (MQ below (vp_Si (fun r => gk_b r (gh_T ((gh_V nl (gp lx ly) nu (gp ux uy)) i) ((gh_V nl (gp lx ly) nu (gp ux uy)) j) (g2 x y) < 0))) ([.ref h, .int (nI i), .int x, .int y] : List Value).toArray s 0 0 (fun _ => False)) (F0 m 17 ls [.int (nI j)]) := by
    intro  ls hl
    refine lv_istore (lv' := [(4, .int (nI j)), (0, .ref h), (1, .int (nI i)), (2, .int x), (3, .int y)]) hx hb dX1_sees_17 hl (by decide) rfl (fun ls hl => ?_)
    refine lv_aload_n hx hb dX1_sees_19 rfl (lv_at hl 1 rfl) ?_
    refine lv_iload_n hx hb dX1_sees_20 rfl (lv_at hl 2 rfl) ?_
    refine vp_callSi (va_Run.run (va_runV (As := [.int (nI i)]) (rest := []) ⟨hx, hb, hml, hown, hts⟩ (metX1_x l dC dI dA h a1 a2 a3 a4 a5 a6 nl nu lx ly ux uy tx ty nt cap seen i hnl hnu hH (by omega)) (cwV 1 hts (lw_V q102 q104 qs4 q11 q105) rfl rfl rfl (by decide +kernel) ⟨Nat.le_of_ble_eq_true rfl, Nat.le_of_ble_eq_true rfl⟩) (gr_preV hK hP (ci := 0) (q0 := 0) rfl rfl (hP.sub (ws' := [(h, .inr (0, [.ref a1, .ref a2, .ref a3, .ref a4, .int (nI nl), .int (nI nu), .ref a5, .ref a6, .int nt, .int cap, .int seen])), (a1, .inl (dA, 68, .inl lx)), (a2, .inl (dA, 68, .inl ly)), (a3, .inl (dA, 68, .inl ux)), (a4, .inl (dA, 68, .inl uy)), (a5, .inl (dA, 68, .inl tx)), (a6, .inl (dA, 68, .inl ty))]) [0, 1, 2, 3, 4, 5, 6] rfl) (hK.sub (tys' := [(dA, .int)]) [0] rfl)) rfl rfl hl.1 rfl (lv_room (Nat.le_of_ble_eq_true rfl)) dX1_sees_21 ⟨Nat.zero_le _, Nat.zero_le _⟩)) (fun z1 hz1 => ?_)
    have hz1 : z1 = gv nl lx nu ux i := hz1
    refine lv_aload_n hx hb dX1_sees_24 rfl (lv_at hl 1 rfl) ?_
    refine lv_iload_n hx hb dX1_sees_25 rfl (lv_at hl 2 rfl) ?_
    refine vp_callSi (va_Run.run (va_runV (As := [.int (nI i)]) (rest := [.int z1]) ⟨hx, hb, hml, hown, hts⟩ (metX1_y l dC dI dA h a1 a2 a3 a4 a5 a6 nl nu lx ly ux uy tx ty nt cap seen i hnl hnu hH (by omega)) (cwV 1 hts (lw_V q110 q112 qs5 q11 q113) rfl rfl rfl (by decide +kernel) ⟨Nat.le_of_ble_eq_true rfl, Nat.le_of_ble_eq_true rfl⟩) (gr_preV hK hP (ci := 0) (q0 := 0) rfl rfl (hP.sub (ws' := [(h, .inr (0, [.ref a1, .ref a2, .ref a3, .ref a4, .int (nI nl), .int (nI nu), .ref a5, .ref a6, .int nt, .int cap, .int seen])), (a1, .inl (dA, 68, .inl lx)), (a2, .inl (dA, 68, .inl ly)), (a3, .inl (dA, 68, .inl ux)), (a4, .inl (dA, 68, .inl uy)), (a5, .inl (dA, 68, .inl tx)), (a6, .inl (dA, 68, .inl ty))]) [0, 1, 2, 3, 4, 5, 6] rfl) (hK.sub (tys' := [(dA, .int)]) [0] rfl)) rfl rfl hl.1 rfl (lv_room (Nat.le_of_ble_eq_true rfl)) dX1_sees_26 ⟨Nat.zero_le _, Nat.zero_le _⟩)) (fun z2 hz2 => ?_)
    have hz2 : z2 = gv nl ly nu uy i := hz2
    refine lv_aload_n hx hb dX1_sees_29 rfl (lv_at hl 1 rfl) ?_
    refine lv_iload hx hb dX1_sees_30 (lv_at hl 0 rfl) ?_
    refine vp_callSi (va_Run.run (va_runV (As := [.int (nI j)]) (rest := [.int z2, .int z1]) ⟨hx, hb, hml, hown, hts⟩ (metX1_x l dC dI dA h a1 a2 a3 a4 a5 a6 nl nu lx ly ux uy tx ty nt cap seen j hnl hnu hH (by omega)) (cwV 1 hts (lw_V q102 q104 qs4 q11 q105) rfl rfl rfl (by decide +kernel) ⟨Nat.le_of_ble_eq_true rfl, Nat.le_of_ble_eq_true rfl⟩) (gr_preV hK hP (ci := 0) (q0 := 0) rfl rfl (hP.sub (ws' := [(h, .inr (0, [.ref a1, .ref a2, .ref a3, .ref a4, .int (nI nl), .int (nI nu), .ref a5, .ref a6, .int nt, .int cap, .int seen])), (a1, .inl (dA, 68, .inl lx)), (a2, .inl (dA, 68, .inl ly)), (a3, .inl (dA, 68, .inl ux)), (a4, .inl (dA, 68, .inl uy)), (a5, .inl (dA, 68, .inl tx)), (a6, .inl (dA, 68, .inl ty))]) [0, 1, 2, 3, 4, 5, 6] rfl) (hK.sub (tys' := [(dA, .int)]) [0] rfl)) rfl rfl hl.1 rfl (lv_room (Nat.le_of_ble_eq_true rfl)) dX1_sees_32 ⟨Nat.zero_le _, Nat.zero_le _⟩)) (fun z3 hz3 => ?_)
    have hz3 : z3 = gv nl lx nu ux j := hz3
    refine lv_aload_n hx hb dX1_sees_35 rfl (lv_at hl 1 rfl) ?_
    refine lv_iload hx hb dX1_sees_36 (lv_at hl 0 rfl) ?_
    refine vp_callSi (va_Run.run (va_runV (As := [.int (nI j)]) (rest := [.int z3, .int z2, .int z1]) ⟨hx, hb, hml, hown, hts⟩ (metX1_y l dC dI dA h a1 a2 a3 a4 a5 a6 nl nu lx ly ux uy tx ty nt cap seen j hnl hnu hH (by omega)) (cwV 1 hts (lw_V q110 q112 qs5 q11 q113) rfl rfl rfl (by decide +kernel) ⟨Nat.le_of_ble_eq_true rfl, Nat.le_of_ble_eq_true rfl⟩) (gr_preV hK hP (ci := 0) (q0 := 0) rfl rfl (hP.sub (ws' := [(h, .inr (0, [.ref a1, .ref a2, .ref a3, .ref a4, .int (nI nl), .int (nI nu), .ref a5, .ref a6, .int nt, .int cap, .int seen])), (a1, .inl (dA, 68, .inl lx)), (a2, .inl (dA, 68, .inl ly)), (a3, .inl (dA, 68, .inl ux)), (a4, .inl (dA, 68, .inl uy)), (a5, .inl (dA, 68, .inl tx)), (a6, .inl (dA, 68, .inl ty))]) [0, 1, 2, 3, 4, 5, 6] rfl) (hK.sub (tys' := [(dA, .int)]) [0] rfl)) rfl rfl hl.1 rfl (lv_room (Nat.le_of_ble_eq_true rfl)) dX1_sees_38 ⟨Nat.zero_le _, Nat.zero_le _⟩)) (fun z4 hz4 => ?_)
    have hz4 : z4 = gv nl ly nu uy j := hz4
    have hVz1 : gh_V nl (gp lx ly) nu (gp ux uy) i = g2 z1 z2 := by rw [gv_V, hz1, hz2]
    have hVz3 : gh_V nl (gp lx ly) nu (gp ux uy) j = g2 z3 z4 := by rw [gv_V, hz3, hz4]
    refine lv_iload_n hx hb dX1_sees_41 rfl (lv_at hl 3 rfl) ?_
    refine lv_iload_n hx hb dX1_sees_42 rfl (lv_at hl 4 rfl) ?_
    refine vp_callSl (va_Run.run (va_runS (As := [.int z1, .int z2, .int z3, .int z4, .int x, .int y]) (rest := []) ⟨hx, hb, hml, hown, hts⟩ (metX1_turn l dC dI dA z1 z2 z3 z4 x y) (va_cwS 6 hts (lw_S q69 q70 q11 q71) rfl rfl rfl (by decide +kernel) ⟨Nat.le_of_ble_eq_true rfl, Nat.le_of_ble_eq_true rfl⟩) (gr_preS (hP.sub (ws' := []) [] rfl) (hK.sub (tys' := []) [] rfl)) rfl rfl hl.1 rfl (lv_room (Nat.le_of_ble_eq_true rfl)) dX1_sees_43 ⟨Nat.zero_le _, Nat.zero_le _⟩)) (fun tt htt => ?_)
    have htt : tt = gt_turn z1 z2 z3 z4 x y := htt
    have hto : tt.toInt = gh_T ((gh_V nl (gp lx ly) nu (gp ux uy)) i) ((gh_V nl (gp lx ly) nu (gp ux uy)) j) (g2 x y) := by
      rw [htt, hVz1, hVz3]
      exact (gt_turn_ok (by rw [← hVz1]; exact hH.vok hi) (by rw [← hVz3]; exact hH.vok hjN) hp).1
    refine lv_lconst (v := 0) hx hb dX1_sees_46 (by decide) ?_
    refine W.lcmp hx hb dX1_sees_47 ?_
    refine lv_if_ge (tgt := 55) hx hb dX1_sees_48 (by decide) (fun c_6 => ?_) (fun c_6 => ?_)
    · rw [lg_cmp_ge, Int64.le_iff_toInt_le, hto] at c_6
      refine lv_iconst (v := 0) hx hb dX1_sees_55 (by decide) ?_
      exact W.zret (v := 0) hx hb hr rfl (fun t ht hW => ⟨0, rfl, Or.inr ⟨rfl, Int.not_lt.mpr c_6⟩, ht⟩) (fun q h => by cases h) dX1_sees_56
    · rw [lg_cmp_ge, Int64.le_iff_toInt_le, hto] at c_6
      refine lv_iconst (v := 1) hx hb dX1_sees_51 (by decide) ?_
      refine lv_goto (tgt := 56) hx hb dX1_sees_52 (by decide) ?_
      exact W.zret (v := 1) hx hb hr rfl (fun t ht hW => ⟨1, rfl, Or.inl ⟨rfl, Int.not_le.mp c_6⟩, ht⟩) (fun q h => by cases h) dX1_sees_56
  refine lv_iload_n hx hb dX1_sees_0 rfl (lv_at hl 1 rfl) ?_
  refine lv_iconst (v := 1) hx hb dX1_sees_1 (by decide) ?_
  refine lv_iadd hx hb dX1_sees_2 ?_
  refine gr_topi (y := nI (i + 1)) (nI_1 i) ?_
  refine lv_aload_n hx hb dX1_sees_3 rfl (lv_at hl 0 rfl) ?_
  refine vp_callSi (va_Run.run (va_runV (As := []) (rest := [.int (nI (i + 1))]) ⟨hx, hb, hml, hown, hts⟩ (metX1_size l dC dI dA h a1 a2 a3 a4 a5 a6 nl nu lx ly ux uy tx ty nt cap seen hnl hnu hH) (cwV 0 hts (lw_V q81 q82 q83 q11 q84) rfl rfl rfl (by decide +kernel) ⟨Nat.le_of_ble_eq_true rfl, Nat.le_of_ble_eq_true rfl⟩) (gr_preV hK hP (ci := 0) (q0 := 0) rfl rfl (hP.sub (ws' := [(h, .inr (0, [.ref a1, .ref a2, .ref a3, .ref a4, .int (nI nl), .int (nI nu), .ref a5, .ref a6, .int nt, .int cap, .int seen])), (a1, .inl (dA, 68, .inl lx)), (a2, .inl (dA, 68, .inl ly)), (a3, .inl (dA, 68, .inl ux)), (a4, .inl (dA, 68, .inl uy)), (a5, .inl (dA, 68, .inl tx)), (a6, .inl (dA, 68, .inl ty))]) [0, 1, 2, 3, 4, 5, 6] rfl) (hK.sub (tys' := [(dA, .int)]) [0] rfl)) rfl rfl hl.1 rfl (lv_room (Nat.le_of_ble_eq_true rfl)) dX1_sees_4 ⟨Nat.zero_le _, Nat.zero_le _⟩)) (fun z hz => ?_)
  have hz : z = nI (gh_N nl nu) := hz
  subst hz
  refine lv_icmp_ge (tgt := 16) hx hb dX1_sees_7 (by decide) (fun c_8 => ?_) (fun c_8 => ?_)
  · have c1 := (nI_leI (by omega) (by omega)).mp c_8
    refine lv_iconst (v := 0) hx hb dX1_sees_16 (by decide) ?_
    refine gr_topi (y := nI j) (by rw [hj]; unfold gh_nx; rw [if_pos (by omega)]; exact nI_0.symm) ?_
    exact tail ls (lv_sub hl [0, 1, 2, 3] rfl)
  · have c1 : i + 1 < gh_N nl nu := Nat.not_le.mp (fun z => c_8 ((nI_leI (by omega) (by omega)).mpr z))
    refine lv_iload_n hx hb dX1_sees_10 rfl (lv_at hl 1 rfl) ?_
    refine lv_iconst (v := 1) hx hb dX1_sees_11 (by decide) ?_
    refine lv_iadd hx hb dX1_sees_12 ?_
    refine gr_topi (y := nI (i + 1)) (nI_1 i) ?_
    refine lv_goto (tgt := 17) hx hb dX1_sees_13 (by decide) ?_
    refine gr_topi (y := nI j) (by rw [hj]; unfold gh_nx; rw [if_neg (by omega)]) ?_
    exact tail ls (lv_sub hl [0, 1, 2, 3] rfl)
set_option maxHeartbeats 4000000 in
set_option maxRecDepth 100000 in
theorem metX1_tangent (l : Launch) (dC : Nat → ClassId) (dI : Nat → Nat → Nat) (dA : ClassId) (h a1 a2 a3 a4 a5 a6 nl nu : Nat) (lx ly ux uy tx ty : Nat → Int32) (nt cap seen : Int32) (x y wh : Int32) (hnl : nl ≤ 68) (hnu : nu ≤ 68) (hH : gh_H nl (gp lx ly) nu (gp ux uy)) : Met l yX1_tangent (ws_ yX1_tangent cX1_tangent 9 (some .int)) ({ frames := 3, cells := 0, slots := 0, locals := 79 }) (gr_Pc (dC, dI) [.ref h, .int x, .int y, .int wh] [(h, .inr (0, [.ref a1, .ref a2, .ref a3, .ref a4, .int (nI nl), .int (nI nu), .ref a5, .ref a6, .int nt, .int cap, .int seen])), (a1, .inl (dA, 68, .inl lx)), (a2, .inl (dA, 68, .inl ly)), (a3, .inl (dA, 68, .inl ux)), (a4, .inl (dA, 68, .inl uy)), (a5, .inl (dA, 68, .inl tx)), (a6, .inl (dA, 68, .inl ty))] [(dA, .int)]) (vp_Si (fun r => gq_tan (gh_N nl nu) (gh_V nl (gp lx ly) nu (gp ux uy)) (g2 x y) wh (gh_ok (g2 x y) ∧ gh_A 1 nl (gp lx ly) (g2 x y) ∧ gh_A (-1) nu (gp ux uy) (g2 x y)) r)) 0 0 (fun _ => False) := by
  refine Met.ofW (cc := cX1_tangent) (maxL := 9) (ret := (some .int)) (by decide) rfl ?_
  intro p e s m args below meth c s₁ B hml hv
  obtain ⟨rfl, hP, hK⟩ := hv
  have hx := B.exec
  have hb := B.bytes
  have hr := B.returns
  have hts := atoms_spec (ws := (ws_ yX1_tangent cX1_tangent 9 (some .int))) B.pre
  have hts : ∀ w ∈ lw_all, w.before _ s = true := fun w h => hts w (List.mem_cons_of_mem _ h)
  have hown : s.vm.findClass RX1 = some m.cls := findClass_of_methodNamed B.named
  have hlocks := B.notSynchronized
  have hl := lv_entry ([.ref h, .int x, .int y, .int wh]) (n := 9) (Nat.le_of_ble_eq_true rfl)
  rw [lg_entry_eq]
  generalize (lg_sl ([.ref h, .int x, .int y, .int wh]) ++ List.replicate (9 - (lg_sl ([.ref h, .int x, .int y, .int wh])).length) Slot.unset).toArray = ls at hl ⊢
  have hl : lv_has ls 9 [(0, .ref h), (1, .int x), (2, .int y), (3, .int wh)] := hl
  have hN : gh_N nl nu ≤ 136 := by unfold gh_N; split <;> omega
  refine lv_aload_n hx hb dX1_tangent_0 rfl (lv_at hl 0 rfl) ?_
  refine vp_callSi (va_Run.run (va_runV (As := []) (rest := []) ⟨hx, hb, hml, hown, hts⟩ (metX1_size l dC dI dA h a1 a2 a3 a4 a5 a6 nl nu lx ly ux uy tx ty nt cap seen hnl hnu hH) (cwV 0 hts (lw_V q81 q82 q83 q11 q84) rfl rfl rfl (by decide +kernel) ⟨Nat.le_of_ble_eq_true rfl, Nat.le_of_ble_eq_true rfl⟩) (gr_preV hK hP (ci := 0) (q0 := 0) rfl rfl (hP.sub (ws' := [(h, .inr (0, [.ref a1, .ref a2, .ref a3, .ref a4, .int (nI nl), .int (nI nu), .ref a5, .ref a6, .int nt, .int cap, .int seen])), (a1, .inl (dA, 68, .inl lx)), (a2, .inl (dA, 68, .inl ly)), (a3, .inl (dA, 68, .inl ux)), (a4, .inl (dA, 68, .inl uy)), (a5, .inl (dA, 68, .inl tx)), (a6, .inl (dA, 68, .inl ty))]) [0, 1, 2, 3, 4, 5, 6] rfl) (hK.sub (tys' := [(dA, .int)]) [0] rfl)) rfl rfl hl.1 rfl (lv_room (Nat.le_of_ble_eq_true rfl)) dX1_tangent_1 ⟨Nat.zero_le _, Nat.zero_le _⟩)) (fun z hz => ?_)
  have hz : z = nI (gh_N nl nu) := hz
  subst hz
  refine lv_istore (lv' := [(4, .int (nI (gh_N nl nu))), (0, .ref h), (1, .int x), (2, .int y), (3, .int wh)]) hx hb dX1_tangent_4 hl (by decide) rfl (fun ls hl => ?_)
  refine lv_iload_n hx hb dX1_tangent_6 rfl (lv_at hl 4 rfl) ?_
  refine lv_if_lt (tgt := 38) hx hb dX1_tangent_7 (by decide) (fun c_2 => ?_) (fun c_2 => ?_)
  · refine lv_iconst (v := (-1)) hx hb dX1_tangent_38 (by decide) ?_
    exact W.iret (v := (-1)) hx hb hr (fun t ht hW => ⟨(-1), rfl, ⟨fun _ => rfl, fun g1 g2_ g3 g4 g5 => False.elim (g1 c_2)⟩, ht⟩) (fun q h => by cases h) dX1_tangent_39
  · refine lv_iload_n hx hb dX1_tangent_10 rfl (lv_at hl 4 rfl) ?_
    refine lv_iconst (v := 1) hx hb dX1_tangent_11 (by decide) ?_
    refine lv_icmp_gt (tgt := 38) hx hb dX1_tangent_12 (by decide) (fun c_3 => ?_) (fun c_3 => ?_)
    · refine lv_iconst (v := (-1)) hx hb dX1_tangent_38 (by decide) ?_
      exact W.iret (v := (-1)) hx hb hr (fun t ht hW => ⟨(-1), rfl, ⟨fun _ => rfl, fun g1 g2_ g3 g4 g5 => False.elim (g2_ c_3)⟩, ht⟩) (fun q h => by cases h) dX1_tangent_39
    · refine lv_iload hx hb dX1_tangent_15 (lv_at hl 0 rfl) ?_
      refine lv_iconst (v := 3) hx hb dX1_tangent_17 (by decide) ?_
      refine lv_icmp_lt (tgt := 38) hx hb dX1_tangent_18 (by decide) (fun c_4 => ?_) (fun c_4 => ?_)
      · have c3 : gh_N nl nu < 3 := (nI_ltI (b := 3) (by omega) (by omega)).mp c_4
        refine lv_iconst (v := (-1)) hx hb dX1_tangent_38 (by decide) ?_
        exact W.iret (v := (-1)) hx hb hr (fun t ht hW => ⟨(-1), rfl, ⟨fun _ => rfl, fun g1 g2_ g3 g4 g5 => False.elim (by omega)⟩, ht⟩) (fun q h => by cases h) dX1_tangent_39
      · have c3 : 3 ≤ gh_N nl nu := Nat.not_lt.mp (fun z => c_4 ((nI_ltI (b := 3) (by omega) (by omega)).mpr z))
        refine lv_iload_n hx hb dX1_tangent_21 rfl (lv_at hl 2 rfl) ?_
        refine lv_iload_n hx hb dX1_tangent_22 rfl (lv_at hl 3 rfl) ?_
        refine vp_callSi (va_Run.run (va_runS (As := [.int x, .int y]) (rest := []) ⟨hx, hb, hml, hown, hts⟩ (metX1_isPoint l dC dI dA x y) (va_cwS 2 hts (lw_S q60 q61 q11 q62) rfl rfl rfl (by decide +kernel) ⟨Nat.le_of_ble_eq_true rfl, Nat.le_of_ble_eq_true rfl⟩) (gr_preS (hP.sub (ws' := []) [] rfl) (hK.sub (tys' := []) [] rfl)) rfl rfl hl.1 rfl (lv_room (Nat.le_of_ble_eq_true rfl)) dX1_tangent_23 ⟨Nat.zero_le _, Nat.zero_le _⟩)) (fun zp hzp => ?_)
        refine lv_if_eq (tgt := 38) hx hb dX1_tangent_26 (by decide) (fun c_6 => ?_) (fun c_6 => ?_)
        · refine lv_iconst (v := (-1)) hx hb dX1_tangent_38 (by decide) ?_
          exact W.iret (v := (-1)) hx hb hr (fun t ht hW => ⟨(-1), rfl, ⟨fun _ => rfl, fun g1 g2_ g3 g4 g5 => False.elim (gk_b.neg hzp c_6 g4)⟩, ht⟩) (fun q h => by cases h) dX1_tangent_39
        · have hok : gh_ok (g2 x y) := gk_b.pos hzp c_6
          refine lv_aload_n hx hb dX1_tangent_29 rfl (lv_at hl 1 rfl) ?_
          refine lv_iload_n hx hb dX1_tangent_30 rfl (lv_at hl 2 rfl) ?_
          refine lv_iload_n hx hb dX1_tangent_31 rfl (lv_at hl 3 rfl) ?_
          refine vp_callSi (va_Run.run (va_runV (As := [.int x, .int y]) (rest := []) ⟨hx, hb, hml, hown, hts⟩ (metX1_inside l dC dI dA h a1 a2 a3 a4 a5 a6 nl nu lx ly ux uy tx ty nt cap seen x y hnl hnu hH) (cwV 2 hts (lw_V q76 q57 q58 q11 q59) rfl rfl rfl (by decide +kernel) ⟨Nat.le_of_ble_eq_true rfl, Nat.le_of_ble_eq_true rfl⟩) (gr_preV hK hP (ci := 0) (q0 := 0) rfl rfl (hP.sub (ws' := [(h, .inr (0, [.ref a1, .ref a2, .ref a3, .ref a4, .int (nI nl), .int (nI nu), .ref a5, .ref a6, .int nt, .int cap, .int seen])), (a1, .inl (dA, 68, .inl lx)), (a2, .inl (dA, 68, .inl ly)), (a3, .inl (dA, 68, .inl ux)), (a4, .inl (dA, 68, .inl uy)), (a5, .inl (dA, 68, .inl tx)), (a6, .inl (dA, 68, .inl ty))]) [0, 1, 2, 3, 4, 5, 6] rfl) (hK.sub (tys' := [(dA, .int)]) [0] rfl)) rfl rfl hl.1 rfl (lv_room (Nat.le_of_ble_eq_true rfl)) dX1_tangent_32 ⟨Nat.zero_le _, Nat.zero_le _⟩)) (fun zi hzi => ?_)
          have hzi : gI_post nl (gp lx ly) nu (gp ux uy) (g2 x y) zi := hzi
          refine lv_if_le (tgt := 40) hx hb dX1_tangent_35 (by decide) (fun c_8 => ?_) (fun c_8 => ?_)
          · have hins := (gI_pos hzi).mp c_8
            have loop : ∀ (d i : Nat), gh_N nl nu < i + d → i ≤ gh_N nl nu → (∀ j, j < i → ¬ gq_at (gh_N nl nu) (gh_V nl (gp lx ly) nu (gp ux uy)) (g2 x y) wh j) → ∀ (ls : Array Slot), lv_has ls 9 [(0, .ref h), (1, .int x), (2, .int y), (3, .int wh), (4, .int (nI (gh_N nl nu))), (5, .int (nI i))] → W p l e (headSpec (ws_ yX1_tangent cX1_tangent 9 (some .int)) ({ frames := 3, cells := 0, slots := 0, locals := 79 })).room s m ([.ref h, .int x, .int y, .int wh] : List Value).toArray below meth c s.heap [] 0 0 (MQ below (vp_Si (fun r => gq_tan (gh_N nl nu) (gh_V nl (gp lx ly) nu (gp ux uy)) (g2 x y) wh (gh_ok (g2 x y) ∧ gh_A 1 nl (gp lx ly) (g2 x y) ∧ gh_A (-1) nu (gp ux uy) (g2 x y)) r)) ([.ref h, .int x, .int y, .int wh] : List Value).toArray s 0 0 (fun _ => False)) (F0 m 43 ls []) := by
              intro d
              induction d with
              | zero => intro i h1 h2; omega
              | succ d ih =>
                intro i hd hi hno ls hl
                refine lv_iload hx hb dX1_tangent_43 (lv_at hl 5 rfl) ?_
                refine lv_iload hx hb dX1_tangent_45 (lv_at hl 4 rfl) ?_
                refine lv_icmp_ge (tgt := 124) hx hb dX1_tangent_47 (by decide) (fun c_9 => ?_) (fun c_9 => ?_)
                · have c_9 := (nI_leI (by omega) (by omega)).mp c_9
                  refine lv_iconst (v := (-1)) hx hb dX1_tangent_124 (by decide) ?_
                  exact W.iret (v := (-1)) hx hb hr (fun t ht hW => ⟨(-1), rfl, ⟨fun _ => rfl, fun _ _ _ _ _ => Or.inr ⟨rfl, fun j hj => hno j (by omega)⟩⟩, ht⟩) (fun q h => by cases h) dX1_tangent_125
                · have c5 : i < gh_N nl nu := Nat.not_le.mp (fun z => c_9 ((nI_leI (by omega) (by omega)).mpr z))
                  obtain ⟨pv, hpv⟩ : ∃ pv, pv = gh_pv (gh_N nl nu) i := ⟨_, rfl⟩
                  obtain ⟨pv1, pv2⟩ := gh_nxpv (N := gh_N nl nu) (by omega) c5
                  rw [← hpv] at pv1 pv2
                  have tail : ∀ (ls : Array Slot), lv_has ls 9 [(0, .ref h), (1, .int x), (2, .int y), (3, .int wh), (4, .int (nI (gh_N nl nu))), (5, .int (nI i))] → W p l e (headSpec (ws_ yX1_tangent cX1_tangent 9 (some .int)) ({ frames := 3, cells := 0, slots := 0, locals := 79 })).room s m ([.ref h, .int x, .int y, .int wh] : List Value).toArray below meth c s.heap [] 0 0 (MQ below (vp_Si (fun r => gq_tan (gh_N nl nu) (gh_V nl (gp lx ly) nu (gp ux uy)) (g2 x y) wh (gh_ok (g2 x y) ∧ gh_A 1 nl (gp lx ly) (g2 x y) ∧ gh_A (-1) nu (gp ux uy) (g2 x y)) r)) ([.ref h, .int x, .int y, .int wh] : List Value).toArray s 0 0 (fun _ => False)) (F0 m 66 ls [.int (nI pv)]) := by
                    intro  ls hl
                    refine lv_istore (lv' := [(6, .int (nI pv)), (0, .ref h), (1, .int x), (2, .int y), (3, .int wh), (4, .int (nI (gh_N nl nu))), (5, .int (nI i))]) hx hb dX1_tangent_66 hl (by decide) rfl (fun ls hl => ?_)
                    refine lv_aload_n hx hb dX1_tangent_68 rfl (lv_at hl 1 rfl) ?_
                    refine lv_iload hx hb dX1_tangent_69 (lv_at hl 6 rfl) ?_
                    refine lv_iload_n hx hb dX1_tangent_71 rfl (lv_at hl 2 rfl) ?_
                    refine lv_iload_n hx hb dX1_tangent_72 rfl (lv_at hl 3 rfl) ?_
                    refine vp_callSi (va_Run.run (va_runV (As := [.int (nI i), .int x, .int y]) (rest := []) ⟨hx, hb, hml, hown, hts⟩ (metX1_sees l dC dI dA h a1 a2 a3 a4 a5 a6 nl nu lx ly ux uy tx ty nt cap seen i x y hnl hnu hH c5 hok) (cwV 3 hts (lw_V q126 q128 qs6 q11 q129) rfl rfl rfl (by decide +kernel) ⟨Nat.le_of_ble_eq_true rfl, Nat.le_of_ble_eq_true rfl⟩) (gr_preV hK hP (ci := 0) (q0 := 0) rfl rfl (hP.sub (ws' := [(h, .inr (0, [.ref a1, .ref a2, .ref a3, .ref a4, .int (nI nl), .int (nI nu), .ref a5, .ref a6, .int nt, .int cap, .int seen])), (a1, .inl (dA, 68, .inl lx)), (a2, .inl (dA, 68, .inl ly)), (a3, .inl (dA, 68, .inl ux)), (a4, .inl (dA, 68, .inl uy)), (a5, .inl (dA, 68, .inl tx)), (a6, .inl (dA, 68, .inl ty))]) [0, 1, 2, 3, 4, 5, 6] rfl) (hK.sub (tys' := [(dA, .int)]) [0] rfl)) rfl rfl hl.1 rfl (lv_room (Nat.le_of_ble_eq_true rfl)) dX1_tangent_73 ⟨Nat.zero_le _, Nat.zero_le _⟩)) (fun z7 hz7 => ?_)
                    have hz7 : gk_b z7 (gh_T ((gh_V nl (gp lx ly) nu (gp ux uy)) i) ((gh_V nl (gp lx ly) nu (gp ux uy)) (gh_nx (gh_N nl nu) i)) (g2 x y) < 0) := hz7
                    refine lv_istore (lv' := [(7, .int z7), (6, .int (nI pv)), (0, .ref h), (1, .int x), (2, .int y), (3, .int wh), (4, .int (nI (gh_N nl nu))), (5, .int (nI i))]) hx hb dX1_tangent_76 hl (by decide) rfl (fun ls hl => ?_)
                    refine lv_aload_n hx hb dX1_tangent_78 rfl (lv_at hl 2 rfl) ?_
                    refine lv_iload hx hb dX1_tangent_79 (lv_at hl 1 rfl) ?_
                    refine lv_iload_n hx hb dX1_tangent_81 rfl (lv_at hl 3 rfl) ?_
                    refine lv_iload_n hx hb dX1_tangent_82 rfl (lv_at hl 4 rfl) ?_
                    refine vp_callSi (va_Run.run (va_runV (As := [.int (nI pv), .int x, .int y]) (rest := []) ⟨hx, hb, hml, hown, hts⟩ (metX1_sees l dC dI dA h a1 a2 a3 a4 a5 a6 nl nu lx ly ux uy tx ty nt cap seen pv x y hnl hnu hH pv2 hok) (cwV 3 hts (lw_V q126 q128 qs6 q11 q129) rfl rfl rfl (by decide +kernel) ⟨Nat.le_of_ble_eq_true rfl, Nat.le_of_ble_eq_true rfl⟩) (gr_preV hK hP (ci := 0) (q0 := 0) rfl rfl (hP.sub (ws' := [(h, .inr (0, [.ref a1, .ref a2, .ref a3, .ref a4, .int (nI nl), .int (nI nu), .ref a5, .ref a6, .int nt, .int cap, .int seen])), (a1, .inl (dA, 68, .inl lx)), (a2, .inl (dA, 68, .inl ly)), (a3, .inl (dA, 68, .inl ux)), (a4, .inl (dA, 68, .inl uy)), (a5, .inl (dA, 68, .inl tx)), (a6, .inl (dA, 68, .inl ty))]) [0, 1, 2, 3, 4, 5, 6] rfl) (hK.sub (tys' := [(dA, .int)]) [0] rfl)) rfl rfl hl.1 rfl (lv_room (Nat.le_of_ble_eq_true rfl)) dX1_tangent_83 ⟨Nat.zero_le _, Nat.zero_le _⟩)) (fun z8 hz8 => ?_)
                    have hz8 : gk_b z8 (gh_T ((gh_V nl (gp lx ly) nu (gp ux uy)) pv) ((gh_V nl (gp lx ly) nu (gp ux uy)) (gh_nx (gh_N nl nu) pv)) (g2 x y) < 0) := hz8
                    rw [pv1] at hz8
                    refine lv_istore (lv' := [(8, .int z8), (7, .int z7), (6, .int (nI pv)), (0, .ref h), (1, .int x), (2, .int y), (3, .int wh), (4, .int (nI (gh_N nl nu))), (5, .int (nI i))]) hx hb dX1_tangent_86 hl (by decide) rfl (fun ls hl => ?_)
                    refine lv_iload_n hx hb dX1_tangent_88 rfl (lv_at hl 6 rfl) ?_
                    refine lv_if_ne (tgt := 105) hx hb dX1_tangent_89 (by decide) (fun c_12 => ?_) (fun c_12 => ?_)
                    · refine lv_iload hx hb dX1_tangent_105 (lv_at hl 0 rfl) ?_
                      refine lv_if_eq (tgt := 118) hx hb dX1_tangent_107 (by decide) (fun c_13 => ?_) (fun c_13 => ?_)
                      · refine lv_iinc (v := nI (i + 1)) (lv' := [(5, .int (nI (i + 1))), (8, .int z8), (7, .int z7), (6, .int (nI pv)), (0, .ref h), (1, .int x), (2, .int y), (3, .int wh), (4, .int (nI (gh_N nl nu)))]) hx hb dX1_tangent_118 hl (k := 8) rfl (nI_1 i) (by decide) rfl (fun ls hl => ?_)
                        refine lv_goto (tgt := 43) hx hb dX1_tangent_121 (by decide) ?_
                        exact ih (i + 1) (by omega) (by omega) (fun j hj => by
                          by_cases e : j = i
                          · rw [e]; intro z; rcases z with ⟨z1, z2, z3⟩ | ⟨z1, z2, z3⟩; exact c_12 z1; exact gk_b.neg hz8 c_13 (by rw [← hpv] at z2; exact z2)
                          · exact hno j (by omega)) ls (lv_sub hl [4, 5, 6, 7, 8, 0] rfl)
                      · refine lv_iload hx hb dX1_tangent_110 (lv_at hl 1 rfl) ?_
                        refine lv_if_ne (tgt := 118) hx hb dX1_tangent_112 (by decide) (fun c_14 => ?_) (fun c_14 => ?_)
                        · refine lv_iinc (v := nI (i + 1)) (lv' := [(5, .int (nI (i + 1))), (8, .int z8), (7, .int z7), (6, .int (nI pv)), (0, .ref h), (1, .int x), (2, .int y), (3, .int wh), (4, .int (nI (gh_N nl nu)))]) hx hb dX1_tangent_118 hl (k := 8) rfl (nI_1 i) (by decide) rfl (fun ls hl => ?_)
                          refine lv_goto (tgt := 43) hx hb dX1_tangent_121 (by decide) ?_
                          exact ih (i + 1) (by omega) (by omega) (fun j hj => by
                            by_cases e : j = i
                            · rw [e]; intro z; rcases z with ⟨z1, z2, z3⟩ | ⟨z1, z2, z3⟩; exact c_12 z1; exact z3 (gk_b.pos hz7 c_14)
                            · exact hno j (by omega)) ls (lv_sub hl [4, 5, 6, 7, 8, 0] rfl)
                        · refine lv_iload hx hb dX1_tangent_115 (lv_at hl 8 rfl) ?_
                          exact W.iret (v := (nI i)) hx hb hr (fun t ht hW => ⟨(nI i), rfl, ⟨fun z => by
                              rcases z with z | z | z | z | z
                              · exact absurd z c_2
                              · exact absurd z c_3
                              · omega
                              · exact absurd hok z
                              · exact absurd z hins, fun _ _ _ _ _ => Or.inl ⟨i, c5, rfl, Or.inr ⟨c_12, by rw [← hpv]; exact gk_b.pos hz8 c_13, gk_b.neg hz7 c_14⟩⟩⟩, ht⟩) (fun q h => by cases h) dX1_tangent_117
                    · refine lv_iload hx hb dX1_tangent_92 (lv_at hl 1 rfl) ?_
                      refine lv_if_eq (tgt := 118) hx hb dX1_tangent_94 (by decide) (fun c_15 => ?_) (fun c_15 => ?_)
                      · refine lv_iinc (v := nI (i + 1)) (lv' := [(5, .int (nI (i + 1))), (8, .int z8), (7, .int z7), (6, .int (nI pv)), (0, .ref h), (1, .int x), (2, .int y), (3, .int wh), (4, .int (nI (gh_N nl nu)))]) hx hb dX1_tangent_118 hl (k := 8) rfl (nI_1 i) (by decide) rfl (fun ls hl => ?_)
                        refine lv_goto (tgt := 43) hx hb dX1_tangent_121 (by decide) ?_
                        exact ih (i + 1) (by omega) (by omega) (fun j hj => by
                          by_cases e : j = i
                          · rw [e]; intro z; rcases z with ⟨z1, z2, z3⟩ | ⟨z1, z2, z3⟩; exact gk_b.neg hz7 c_15 z2; exact z1 c_12
                          · exact hno j (by omega)) ls (lv_sub hl [4, 5, 6, 7, 8, 0] rfl)
                      · refine lv_iload hx hb dX1_tangent_97 (lv_at hl 0 rfl) ?_
                        refine lv_if_ne (tgt := 118) hx hb dX1_tangent_99 (by decide) (fun c_16 => ?_) (fun c_16 => ?_)
                        · refine lv_iinc (v := nI (i + 1)) (lv' := [(5, .int (nI (i + 1))), (8, .int z8), (7, .int z7), (6, .int (nI pv)), (0, .ref h), (1, .int x), (2, .int y), (3, .int wh), (4, .int (nI (gh_N nl nu)))]) hx hb dX1_tangent_118 hl (k := 8) rfl (nI_1 i) (by decide) rfl (fun ls hl => ?_)
                          refine lv_goto (tgt := 43) hx hb dX1_tangent_121 (by decide) ?_
                          exact ih (i + 1) (by omega) (by omega) (fun j hj => by
                            by_cases e : j = i
                            · rw [e]; intro z; rcases z with ⟨z1, z2, z3⟩ | ⟨z1, z2, z3⟩; exact z3 (by rw [← hpv]; exact gk_b.pos hz8 c_16); exact z1 c_12
                            · exact hno j (by omega)) ls (lv_sub hl [4, 5, 6, 7, 8, 0] rfl)
                        · refine lv_goto (tgt := 115) hx hb dX1_tangent_102 (by decide) ?_
                          refine lv_iload hx hb dX1_tangent_115 (lv_at hl 8 rfl) ?_
                          exact W.iret (v := (nI i)) hx hb hr (fun t ht hW => ⟨(nI i), rfl, ⟨fun z => by
                              rcases z with z | z | z | z | z
                              · exact absurd z c_2
                              · exact absurd z c_3
                              · omega
                              · exact absurd hok z
                              · exact absurd z hins, fun _ _ _ _ _ => Or.inl ⟨i, c5, rfl, Or.inl ⟨c_12, gk_b.pos hz7 c_15, by rw [← hpv]; exact gk_b.neg hz8 c_16⟩⟩⟩, ht⟩) (fun q h => by cases h) dX1_tangent_117
                  refine lv_iload hx hb dX1_tangent_50 (lv_at hl 5 rfl) ?_
                  refine lv_if_le (tgt := 62) hx hb dX1_tangent_52 (by decide) (fun c_17 => ?_) (fun c_17 => ?_)
                  · have c6 : i = 0 := by
                      have := (nI_leI (b := 0) (by omega) (by omega)).mp c_17
                      omega
                    refine lv_iload hx hb dX1_tangent_62 (lv_at hl 4 rfl) ?_
                    refine lv_iconst (v := 1) hx hb dX1_tangent_64 (by decide) ?_
                    refine lv_isub hx hb dX1_tangent_65 ?_
                    refine gr_topi (y := nI pv) (by rw [hpv]; unfold gh_pv; rw [if_pos c6]; exact gi_m1 (by omega)) ?_
                    exact tail ls (lv_sub hl [0, 1, 2, 3, 4, 5] rfl)
                  · have c6 : i ≠ 0 := fun z => c_17 (by rw [z]; decide)
                    refine lv_iload hx hb dX1_tangent_55 (lv_at hl 5 rfl) ?_
                    refine lv_iconst (v := 1) hx hb dX1_tangent_57 (by decide) ?_
                    refine lv_isub hx hb dX1_tangent_58 ?_
                    refine gr_topi (y := nI pv) (by rw [hpv]; unfold gh_pv; rw [if_neg c6]; exact gi_m1 (by omega)) ?_
                    refine lv_goto (tgt := 66) hx hb dX1_tangent_59 (by decide) ?_
                    exact tail ls (lv_sub hl [0, 1, 2, 3, 4, 5] rfl)
            refine lv_iconst (v := 0) hx hb dX1_tangent_40 (by decide) ?_
            refine lv_istore (lv' := [(5, .int 0), (4, .int (nI (gh_N nl nu))), (0, .ref h), (1, .int x), (2, .int y), (3, .int wh)]) hx hb dX1_tangent_41 hl (by decide) rfl (fun ls hl => ?_)
            exact loop (gh_N nl nu + 1) 0 (by omega) (by omega) (fun j hj => by omega) ls (lv_sub hl [2, 3, 4, 5, 1, 0] rfl)
          · refine lv_iconst (v := (-1)) hx hb dX1_tangent_38 (by decide) ?_
            exact W.iret (v := (-1)) hx hb hr (fun t ht hW => ⟨(-1), rfl, ⟨fun _ => rfl, fun g1 g2_ g3 g4 g5 => False.elim (g5 (Classical.not_not.mp (fun z => c_8 ((gI_pos hzi).mpr z))))⟩, ht⟩) (fun q h => by cases h) dX1_tangent_39
set_option maxHeartbeats 4000000 in
set_option maxRecDepth 100000 in
theorem metX1_diameter (l : Launch) (dC : Nat → ClassId) (dI : Nat → Nat → Nat) (dA : ClassId) (h a1 a2 a3 a4 a5 a6 nl nu : Nat) (lx ly ux uy tx ty : Nat → Int32) (nt cap seen : Int32) (hnl : nl ≤ 68) (hnu : nu ≤ 68) (hH : gh_H nl (gp lx ly) nu (gp ux uy)) : Met l yX1_diameter (ws_ yX1_diameter cX1_diameter 9 (some .int)) ({ frames := 1, cells := 0, slots := 0, locals := 21 }) (gr_Pc (dC, dI) [.ref h] [(h, .inr (0, [.ref a1, .ref a2, .ref a3, .ref a4, .int (nI nl), .int (nI nu), .ref a5, .ref a6, .int nt, .int cap, .int seen])), (a1, .inl (dA, 68, .inl lx)), (a2, .inl (dA, 68, .inl ly)), (a3, .inl (dA, 68, .inl ux)), (a4, .inl (dA, 68, .inl uy)), (a5, .inl (dA, 68, .inl tx)), (a6, .inl (dA, 68, .inl ty))] [(dA, .int)]) (vp_Si (fun r => ∃ M, gq_dia (gh_N nl nu) (gh_V nl (gp lx ly) nu (gp ux uy)) M ∧ r = (Int64.ofInt M).toInt32)) 0 0 (fun _ => False) := by
  refine Met.ofW (cc := cX1_diameter) (maxL := 9) (ret := (some .int)) (by decide) rfl ?_
  intro p e s m args below meth c s₁ B hml hv
  obtain ⟨rfl, hP, hK⟩ := hv
  have hx := B.exec
  have hb := B.bytes
  have hr := B.returns
  have hts := atoms_spec (ws := (ws_ yX1_diameter cX1_diameter 9 (some .int))) B.pre
  have hts : ∀ w ∈ lw_all, w.before _ s = true := fun w h => hts w (List.mem_cons_of_mem _ h)
  have hown : s.vm.findClass RX1 = some m.cls := findClass_of_methodNamed B.named
  have hlocks := B.notSynchronized
  have hl := lv_entry ([.ref h]) (n := 9) (Nat.le_of_ble_eq_true rfl)
  rw [lg_entry_eq]
  generalize (lg_sl ([.ref h]) ++ List.replicate (9 - (lg_sl ([.ref h])).length) Slot.unset).toArray = ls at hl ⊢
  have hl : lv_has ls 9 [(0, .ref h)] := hl
  have hN : gh_N nl nu ≤ 136 := by unfold gh_N; split <;> omega
  have loop : ∀ (d a : Nat) (mst : Int64), gh_N nl nu < a + d → a ≤ gh_N nl nu → gq_di (gh_N nl nu) (gh_V nl (gp lx ly) nu (gp ux uy)) a 0 mst.toInt → ∀ (ls : Array Slot), lv_has ls 9 [(0, .ref h), (1, .long mst), (3, .int (nI a))] → W p l e (headSpec (ws_ yX1_diameter cX1_diameter 9 (some .int)) ({ frames := 1, cells := 0, slots := 0, locals := 21 })).room s m ([.ref h] : List Value).toArray below meth c s.heap [] 0 0 (MQ below (vp_Si (fun r => ∃ M, gq_dia (gh_N nl nu) (gh_V nl (gp lx ly) nu (gp ux uy)) M ∧ r = (Int64.ofInt M).toInt32)) ([.ref h] : List Value).toArray s 0 0 (fun _ => False)) (F0 m 4 ls []) := by
    intro d
    induction d with
    | zero => intro a mst h1 h2; omega
    | succ d ih =>
      intro a mst hd ha hdi ls hl
      refine lv_iload_n hx hb dX1_diameter_4 rfl (lv_at hl 2 rfl) ?_
      refine lv_aload_n hx hb dX1_diameter_5 rfl (lv_at hl 0 rfl) ?_
      refine vp_callSi (va_Run.run (va_runV (As := []) (rest := [.int (nI a)]) ⟨hx, hb, hml, hown, hts⟩ (metX1_size l dC dI dA h a1 a2 a3 a4 a5 a6 nl nu lx ly ux uy tx ty nt cap seen hnl hnu hH) (cwV 0 hts (lw_V q81 q82 q83 q11 q84) rfl rfl rfl (by decide +kernel) ⟨Nat.le_of_ble_eq_true rfl, Nat.le_of_ble_eq_true rfl⟩) (gr_preV hK hP (ci := 0) (q0 := 0) rfl rfl (hP.sub (ws' := [(h, .inr (0, [.ref a1, .ref a2, .ref a3, .ref a4, .int (nI nl), .int (nI nu), .ref a5, .ref a6, .int nt, .int cap, .int seen])), (a1, .inl (dA, 68, .inl lx)), (a2, .inl (dA, 68, .inl ly)), (a3, .inl (dA, 68, .inl ux)), (a4, .inl (dA, 68, .inl uy)), (a5, .inl (dA, 68, .inl tx)), (a6, .inl (dA, 68, .inl ty))]) [0, 1, 2, 3, 4, 5, 6] rfl) (hK.sub (tys' := [(dA, .int)]) [0] rfl)) rfl rfl hl.1 rfl (lv_room (Nat.le_of_ble_eq_true rfl)) dX1_diameter_6 ⟨Nat.zero_le _, Nat.zero_le _⟩)) (fun z hz => ?_)
      have hz : z = nI (gh_N nl nu) := hz
      subst hz
      refine lv_icmp_ge (tgt := 95) hx hb dX1_diameter_9 (by decide) (fun c_2 => ?_) (fun c_2 => ?_)
      · have c_2 := (nI_leI (by omega) (by omega)).mp c_2
        have haN : a = gh_N nl nu := by omega
        rw [haN] at hdi
        refine lv_lload_n hx hb dX1_diameter_95 rfl (lv_at hl 1 rfl) ?_
        refine lv_l2i hx hb dX1_diameter_96 rfl ?_
        exact W.iret (v := mst.toInt32) hx hb hr (fun t ht hW => ⟨mst.toInt32, rfl, ⟨mst.toInt, gq_di_end hdi, by rw [Int64.ofInt_toInt]⟩, ht⟩) (fun q h => by cases h) dX1_diameter_97
      · have c1 : a < gh_N nl nu := Nat.not_le.mp (fun z => c_2 ((nI_leI (by omega) (by omega)).mpr z))
        have inner : ∀ (g b : Nat) (mst : Int64), a < b + g → b ≤ a → gq_di (gh_N nl nu) (gh_V nl (gp lx ly) nu (gp ux uy)) a b mst.toInt → ∀ (ls : Array Slot), lv_has ls 9 [(0, .ref h), (1, .long mst), (3, .int (nI a)), (4, .int (nI b))] → W p l e (headSpec (ws_ yX1_diameter cX1_diameter 9 (some .int)) ({ frames := 1, cells := 0, slots := 0, locals := 21 })).room s m ([.ref h] : List Value).toArray below meth c s.heap [] 0 0 (MQ below (vp_Si (fun r => ∃ M, gq_dia (gh_N nl nu) (gh_V nl (gp lx ly) nu (gp ux uy)) M ∧ r = (Int64.ofInt M).toInt32)) ([.ref h] : List Value).toArray s 0 0 (fun _ => False)) (F0 m 15 ls []) := by
          intro g
          induction g with
          | zero => intro b mst h1 h2; omega
          | succ g ihb =>
            intro b mst hg hb_ hdi ls hl
            refine lv_iload hx hb dX1_diameter_15 (lv_at hl 3 rfl) ?_
            refine lv_iload_n hx hb dX1_diameter_17 rfl (lv_at hl 2 rfl) ?_
            refine lv_icmp_ge (tgt := 89) hx hb dX1_diameter_18 (by decide) (fun c_3 => ?_) (fun c_3 => ?_)
            · have c2 := (nI_leI (by omega) (by omega)).mp c_3
              have hba : b = a := by omega
              rw [hba] at hdi
              refine lv_iinc (v := nI (a + 1)) (lv' := [(3, .int (nI (a + 1))), (0, .ref h), (1, .long mst), (4, .int (nI b))]) hx hb dX1_diameter_89 hl (k := 2) rfl (nI_1 a) (by decide) rfl (fun ls hl => ?_)
              refine lv_goto (tgt := 4) hx hb dX1_diameter_92 (by decide) ?_
              exact ih (a + 1) mst (by omega) (by omega) (gq_di_next hdi) ls (lv_sub hl [1, 2, 0] rfl)
            · have c2 : b < a := Nat.not_le.mp (fun z => c_3 ((nI_leI (by omega) (by omega)).mpr z))
              refine lv_aload_n hx hb dX1_diameter_21 rfl (lv_at hl 0 rfl) ?_
              refine lv_iload_n hx hb dX1_diameter_22 rfl (lv_at hl 2 rfl) ?_
              refine vp_callSi (va_Run.run (va_runV (As := [.int (nI a)]) (rest := []) ⟨hx, hb, hml, hown, hts⟩ (metX1_x l dC dI dA h a1 a2 a3 a4 a5 a6 nl nu lx ly ux uy tx ty nt cap seen a hnl hnu hH (by omega)) (cwV 1 hts (lw_V q102 q104 qs4 q11 q105) rfl rfl rfl (by decide +kernel) ⟨Nat.le_of_ble_eq_true rfl, Nat.le_of_ble_eq_true rfl⟩) (gr_preV hK hP (ci := 0) (q0 := 0) rfl rfl (hP.sub (ws' := [(h, .inr (0, [.ref a1, .ref a2, .ref a3, .ref a4, .int (nI nl), .int (nI nu), .ref a5, .ref a6, .int nt, .int cap, .int seen])), (a1, .inl (dA, 68, .inl lx)), (a2, .inl (dA, 68, .inl ly)), (a3, .inl (dA, 68, .inl ux)), (a4, .inl (dA, 68, .inl uy)), (a5, .inl (dA, 68, .inl tx)), (a6, .inl (dA, 68, .inl ty))]) [0, 1, 2, 3, 4, 5, 6] rfl) (hK.sub (tys' := [(dA, .int)]) [0] rfl)) rfl rfl hl.1 rfl (lv_room (Nat.le_of_ble_eq_true rfl)) dX1_diameter_23 ⟨Nat.zero_le _, Nat.zero_le _⟩)) (fun z1 hz1 => ?_)
              have hz1 : z1 = gv nl lx nu ux a := hz1
              refine lv_aload_n hx hb dX1_diameter_26 rfl (lv_at hl 0 rfl) ?_
              refine lv_iload hx hb dX1_diameter_27 (lv_at hl 3 rfl) ?_
              refine vp_callSi (va_Run.run (va_runV (As := [.int (nI b)]) (rest := [.int z1]) ⟨hx, hb, hml, hown, hts⟩ (metX1_x l dC dI dA h a1 a2 a3 a4 a5 a6 nl nu lx ly ux uy tx ty nt cap seen b hnl hnu hH (by omega)) (cwV 1 hts (lw_V q102 q104 qs4 q11 q105) rfl rfl rfl (by decide +kernel) ⟨Nat.le_of_ble_eq_true rfl, Nat.le_of_ble_eq_true rfl⟩) (gr_preV hK hP (ci := 0) (q0 := 0) rfl rfl (hP.sub (ws' := [(h, .inr (0, [.ref a1, .ref a2, .ref a3, .ref a4, .int (nI nl), .int (nI nu), .ref a5, .ref a6, .int nt, .int cap, .int seen])), (a1, .inl (dA, 68, .inl lx)), (a2, .inl (dA, 68, .inl ly)), (a3, .inl (dA, 68, .inl ux)), (a4, .inl (dA, 68, .inl uy)), (a5, .inl (dA, 68, .inl tx)), (a6, .inl (dA, 68, .inl ty))]) [0, 1, 2, 3, 4, 5, 6] rfl) (hK.sub (tys' := [(dA, .int)]) [0] rfl)) rfl rfl hl.1 rfl (lv_room (Nat.le_of_ble_eq_true rfl)) dX1_diameter_29 ⟨Nat.zero_le _, Nat.zero_le _⟩)) (fun z3 hz3 => ?_)
              have hz3 : z3 = gv nl lx nu ux b := hz3
              refine lv_isub hx hb dX1_diameter_32 ?_
              refine lv_i2l hx hb dX1_diameter_33 rfl ?_
              refine lv_lstore (lv' := [(5, .long (z1 - z3).toInt64), (0, .ref h), (1, .long mst), (3, .int (nI a)), (4, .int (nI b))]) hx hb dX1_diameter_34 hl (by decide) rfl (fun ls hl => ?_)
              refine lv_aload_n hx hb dX1_diameter_36 rfl (lv_at hl 1 rfl) ?_
              refine lv_iload_n hx hb dX1_diameter_37 rfl (lv_at hl 3 rfl) ?_
              refine vp_callSi (va_Run.run (va_runV (As := [.int (nI a)]) (rest := []) ⟨hx, hb, hml, hown, hts⟩ (metX1_y l dC dI dA h a1 a2 a3 a4 a5 a6 nl nu lx ly ux uy tx ty nt cap seen a hnl hnu hH (by omega)) (cwV 1 hts (lw_V q110 q112 qs5 q11 q113) rfl rfl rfl (by decide +kernel) ⟨Nat.le_of_ble_eq_true rfl, Nat.le_of_ble_eq_true rfl⟩) (gr_preV hK hP (ci := 0) (q0 := 0) rfl rfl (hP.sub (ws' := [(h, .inr (0, [.ref a1, .ref a2, .ref a3, .ref a4, .int (nI nl), .int (nI nu), .ref a5, .ref a6, .int nt, .int cap, .int seen])), (a1, .inl (dA, 68, .inl lx)), (a2, .inl (dA, 68, .inl ly)), (a3, .inl (dA, 68, .inl ux)), (a4, .inl (dA, 68, .inl uy)), (a5, .inl (dA, 68, .inl tx)), (a6, .inl (dA, 68, .inl ty))]) [0, 1, 2, 3, 4, 5, 6] rfl) (hK.sub (tys' := [(dA, .int)]) [0] rfl)) rfl rfl hl.1 rfl (lv_room (Nat.le_of_ble_eq_true rfl)) dX1_diameter_38 ⟨Nat.zero_le _, Nat.zero_le _⟩)) (fun z2 hz2 => ?_)
              have hz2 : z2 = gv nl ly nu uy a := hz2
              refine lv_aload_n hx hb dX1_diameter_41 rfl (lv_at hl 1 rfl) ?_
              refine lv_iload hx hb dX1_diameter_42 (lv_at hl 4 rfl) ?_
              refine vp_callSi (va_Run.run (va_runV (As := [.int (nI b)]) (rest := [.int z2]) ⟨hx, hb, hml, hown, hts⟩ (metX1_y l dC dI dA h a1 a2 a3 a4 a5 a6 nl nu lx ly ux uy tx ty nt cap seen b hnl hnu hH (by omega)) (cwV 1 hts (lw_V q110 q112 qs5 q11 q113) rfl rfl rfl (by decide +kernel) ⟨Nat.le_of_ble_eq_true rfl, Nat.le_of_ble_eq_true rfl⟩) (gr_preV hK hP (ci := 0) (q0 := 0) rfl rfl (hP.sub (ws' := [(h, .inr (0, [.ref a1, .ref a2, .ref a3, .ref a4, .int (nI nl), .int (nI nu), .ref a5, .ref a6, .int nt, .int cap, .int seen])), (a1, .inl (dA, 68, .inl lx)), (a2, .inl (dA, 68, .inl ly)), (a3, .inl (dA, 68, .inl ux)), (a4, .inl (dA, 68, .inl uy)), (a5, .inl (dA, 68, .inl tx)), (a6, .inl (dA, 68, .inl ty))]) [0, 1, 2, 3, 4, 5, 6] rfl) (hK.sub (tys' := [(dA, .int)]) [0] rfl)) rfl rfl hl.1 rfl (lv_room (Nat.le_of_ble_eq_true rfl)) dX1_diameter_44 ⟨Nat.zero_le _, Nat.zero_le _⟩)) (fun z4 hz4 => ?_)
              have hz4 : z4 = gv nl ly nu uy b := hz4
              have hVz1 : gh_V nl (gp lx ly) nu (gp ux uy) a = g2 z1 z2 := by rw [gv_V, hz1, hz2]
              have hVz3 : gh_V nl (gp lx ly) nu (gp ux uy) b = g2 z3 z4 := by rw [gv_V, hz3, hz4]
              obtain ⟨ds, hds⟩ : ∃ ds, ds = gt_dist z3 z4 z1 z2 := ⟨_, rfl⟩
              have hdo : ds.toInt = gh_D ((gh_V nl (gp lx ly) nu (gp ux uy)) b) ((gh_V nl (gp lx ly) nu (gp ux uy)) a) := by
                rw [hds, hVz1, hVz3]
                exact (gt_dist_ok (by rw [← hVz3]; exact hH.vok (by omega)) (by rw [← hVz1]; exact hH.vok c1)).1
              refine lv_isub hx hb dX1_diameter_47 ?_
              refine lv_i2l hx hb dX1_diameter_48 rfl ?_
              refine lv_lstore (lv' := [(7, .long (z2 - z4).toInt64), (5, .long (z1 - z3).toInt64), (0, .ref h), (1, .long mst), (3, .int (nI a)), (4, .int (nI b))]) hx hb dX1_diameter_49 hl (by decide) rfl (fun ls hl => ?_)
              refine lv_lload hx hb dX1_diameter_51 (lv_at hl 1 rfl) ?_
              refine lv_lload hx hb dX1_diameter_53 (lv_at hl 1 rfl) ?_
              refine lv_lmul hx hb dX1_diameter_55 ?_
              refine lv_lload hx hb dX1_diameter_56 (lv_at hl 0 rfl) ?_
              refine lv_lload hx hb dX1_diameter_58 (lv_at hl 0 rfl) ?_
              refine lv_lmul hx hb dX1_diameter_60 ?_
              refine lv_ladd hx hb dX1_diameter_61 ?_
              refine gr_topl (y := ds) (hds.symm) ?_
              refine lv_lload_n hx hb dX1_diameter_62 rfl (lv_at hl 3 rfl) ?_
              refine W.lcmp hx hb dX1_diameter_63 ?_
              refine lv_if_le (tgt := 81) hx hb dX1_diameter_64 (by decide) (fun c_8 => ?_) (fun c_8 => ?_)
              · rw [lg_cmp_le, Int64.le_iff_toInt_le] at c_8
                refine lv_lload_n hx hb dX1_diameter_81 rfl (lv_at hl 3 rfl) ?_
                refine lv_lstore_n (lv' := [(1, .long mst), (7, .long (z2 - z4).toInt64), (5, .long (z1 - z3).toInt64), (0, .ref h), (3, .int (nI a)), (4, .int (nI b))]) hx hb dX1_diameter_82 rfl hl (by decide) rfl (fun ls hl => ?_)
                refine lv_iinc (v := nI (b + 1)) (lv' := [(4, .int (nI (b + 1))), (1, .long mst), (7, .long (z2 - z4).toInt64), (5, .long (z1 - z3).toInt64), (0, .ref h), (3, .int (nI a))]) hx hb dX1_diameter_83 hl (k := 5) rfl (nI_1 b) (by decide) rfl (fun ls hl => ?_)
                refine lv_goto (tgt := 15) hx hb dX1_diameter_86 (by decide) ?_
                exact ihb (b + 1) mst (by omega) (by omega) (gq_di_keep hdi hdo c_8) ls (lv_sub hl [4, 1, 5, 0] rfl)
              · rw [lg_cmp_le, Int64.le_iff_toInt_le] at c_8
                refine lv_lload hx hb dX1_diameter_67 (lv_at hl 1 rfl) ?_
                refine lv_lload hx hb dX1_diameter_69 (lv_at hl 1 rfl) ?_
                refine lv_lmul hx hb dX1_diameter_71 ?_
                refine lv_lload hx hb dX1_diameter_72 (lv_at hl 0 rfl) ?_
                refine lv_lload hx hb dX1_diameter_74 (lv_at hl 0 rfl) ?_
                refine lv_lmul hx hb dX1_diameter_76 ?_
                refine lv_ladd hx hb dX1_diameter_77 ?_
                refine gr_topl (y := ds) (hds.symm) ?_
                refine lv_goto (tgt := 82) hx hb dX1_diameter_78 (by decide) ?_
                refine lv_lstore_n (lv' := [(1, .long ds), (7, .long (z2 - z4).toInt64), (5, .long (z1 - z3).toInt64), (0, .ref h), (3, .int (nI a)), (4, .int (nI b))]) hx hb dX1_diameter_82 rfl hl (by decide) rfl (fun ls hl => ?_)
                refine lv_iinc (v := nI (b + 1)) (lv' := [(4, .int (nI (b + 1))), (1, .long ds), (7, .long (z2 - z4).toInt64), (5, .long (z1 - z3).toInt64), (0, .ref h), (3, .int (nI a))]) hx hb dX1_diameter_83 hl (k := 5) rfl (nI_1 b) (by decide) rfl (fun ls hl => ?_)
                refine lv_goto (tgt := 15) hx hb dX1_diameter_86 (by decide) ?_
                exact ihb (b + 1) ds (by omega) (by omega) (gq_di_take hdi c1 c2 hdo (Int.not_le.mp c_8)) ls (lv_sub hl [4, 1, 5, 0] rfl)
        refine lv_iconst (v := 0) hx hb dX1_diameter_12 (by decide) ?_
        refine lv_istore (lv' := [(4, .int 0), (0, .ref h), (1, .long mst), (3, .int (nI a))]) hx hb dX1_diameter_13 hl (by decide) rfl (fun ls hl => ?_)
        exact inner (a + 1) 0 mst (by omega) (by omega) hdi ls (lv_sub hl [1, 2, 3, 0] rfl)
  refine lv_lconst (v := 0) hx hb dX1_diameter_0 (by decide) ?_
  refine lv_lstore_n (lv' := [(1, .long 0), (0, .ref h)]) hx hb dX1_diameter_1 rfl hl (by decide) rfl (fun ls hl => ?_)
  refine lv_iconst (v := 0) hx hb dX1_diameter_2 (by decide) ?_
  refine lv_istore_n (lv' := [(3, .int 0), (1, .long 0), (0, .ref h)]) hx hb dX1_diameter_3 rfl hl (by decide) rfl (fun ls hl => ?_)
  exact loop (gh_N nl nu + 1) 0 0 (by omega) (by omega) gq_di_0 ls (lv_sub hl [2, 1, 0] rfl)
end
section
/-! ===== helpers for methods that write ===== -/
def gm_Pc (D : va_G) (av : List Value) (sz : Nat) (ws : va_W) (tys : List (ClassId × FieldType)) : Array Value → State → Prop := va_Pc av (fun U => U.heap.size = sz ∧ va_P D vwCl ws U.heap ∧ va_K D vwCl tys U ∧ va_D (fun _ => True) ws)
def gm_B {S : Type} (D : va_G) (tys : List (ClassId × FieldType)) (A : Nat → Prop) (ws' : S → va_W) (u : S) (t : State) : Prop := va_P D vwCl (ws' u) t.heap ∧ va_K D vwCl tys t ∧ va_D A (ws' u)
theorem gm_blind {D : va_G} {av : List Value} {sz : Nat} {ws : va_W} {tys : List (ClassId × FieldType)} : FrameBlind (gm_Pc D av sz ws tys) := fun a U g mk q => ⟨q.1, q.2.1, q.2.2.1, va_K.moved (u := U) (U := U.calling g mk a) (Vm.Alike.refl U.vm) q.2.2.2.1, q.2.2.2.2⟩
theorem gm_preV {D : va_G} {s : State} {H : Heap} {b : Nat} {As : List Value} {ws ws0 : va_W} {tys tys0 : List (ClassId × FieldType)} {q : vw_C} {ci q0 : Nat} {fs : List Value} {A : Nat → Prop} (hK0 : va_K D vwCl tys0 s) (hP0 : va_P D vwCl ws0 H) (hc : vwCl[ci]? = some q) (he : ws0[q0]? = some (b, .inr (ci, fs))) (hP : va_P D vwCl ws H) (hK : va_K D vwCl tys s) (hD : va_D A ws) : PreV s H q.1 b (gm_Pc D (.ref b :: As) H.size ws tys) As :=
  ⟨gm_blind, va_recv hK0 hP0 hc he, fun U hU hW => ⟨rfl, by rw [hU], by rw [hU]; exact hP, va_K.moved hW.alike hK, hD.weaken (fun _ _ _ _ => trivial)⟩⟩
theorem gm_preS {D : va_G} {s : State} {H : Heap} {As : List Value} {ws : va_W} {tys : List (ClassId × FieldType)} {A : Nat → Prop} (hP : va_P D vwCl ws H) (hK : va_K D vwCl tys s) (hD : va_D A ws) : PreS s H (gm_Pc D As H.size ws tys) As :=
  ⟨gm_blind, fun U hU hW => ⟨rfl, by rw [hU], by rw [hU]; exact hP, va_K.moved hW.alike hK, hD.weaken (fun _ _ _ _ => trivial)⟩⟩
/-- all int arrays are of one array type -/
theorem gm_one {D : va_G} {cl : List vw_C} {s : State} {a b : ClassId} (h : va_K D cl ([(a, .int)] ++ [(b, .int)]) s) : b = a := by
  have h1 := (h.2 0 (a, .int) rfl).2
  have h2 := (h.2 1 (b, .int) rfl).2
  have h1 : s.vm.findClass ("[" ++ FieldType.int.toString) = some a := h1
  have h2 : s.vm.findClass ("[" ++ FieldType.int.toString) = some b := h2
  rw [h1] at h2
  exact (Option.some.inj h2).symm
theorem gm_arr {args : Array Value} {s : State} (h : (Cond.arrayClass .int).before args s = true) : ∃ dA : ClassId, ArrOfT s dA .int ∧ va_RA s dA .int := by
  obtain ⟨cA, kA, comp, h1, h2, h3⟩ := Cond.arrayClass_spec h
  exact ⟨cA, fun n z => ⟨fun k h => (by cases h), kA, h2, comp, h3⟩, h1⟩
/-! pure rows for with -/
theorem gh_lft_stop {σ : Int} {f : Nat → Int × Int} {p : Int × Int} {k : Nat} (h : k ≤ 1 ∨ ∃ j, j + 2 = k ∧ 0 < gh_S σ (f j) (f (j + 1)) p) : gh_lft σ f p k = k := by
  rcases h with h | ⟨j, e, h⟩
  · match k, h with
    | 0, _ => rfl
    | 1, _ => rfl
  · rw [← e]
    show (if gh_S σ (f j) (f (j + 1)) p ≤ 0 then gh_lft σ f p (j + 1) else j + 2) = j + 2
    rw [if_neg (by omega)]
theorem gh_lft_go {σ : Int} {f : Nat → Int × Int} {p : Int × Int} {j : Nat} (h : gh_S σ (f j) (f (j + 1)) p ≤ 0) : gh_lft σ f p (j + 2) = gh_lft σ f p (j + 1) := by
  show (if gh_S σ (f j) (f (j + 1)) p ≤ 0 then gh_lft σ f p (j + 1) else j + 2) = _
  rw [if_pos h]
theorem gh_rgt_stop {σ : Int} {n : Nat} {f : Nat → Int × Int} {p : Int × Int} {d r : Nat} (h : ¬ (r + 1 < n ∧ gh_S σ p (f r) (f (r + 1)) ≤ 0)) : gh_rgt σ n f p d r = r := by
  cases d with
  | zero => rfl
  | succ d =>
    show (if r + 1 < n ∧ gh_S σ p (f r) (f (r + 1)) ≤ 0 then gh_rgt σ n f p d (r + 1) else r) = r
    rw [if_neg h]
theorem gh_rgt_go {σ : Int} {n : Nat} {f : Nat → Int × Int} {p : Int × Int} {d r : Nat} (h : r + 1 < n) (h2 : gh_S σ p (f r) (f (r + 1)) ≤ 0) : gh_rgt σ n f p (d + 1) r = gh_rgt σ n f p d (r + 1) := by
  show (if r + 1 < n ∧ gh_S σ p (f r) (f (r + 1)) ≤ 0 then gh_rgt σ n f p d (r + 1) else r) = _
  rw [if_pos ⟨h, h2⟩]
theorem gh_w_le (σ : Int) (n : Nat) (f : Nat → Int × Int) (p : Int × Int) : gh_wl σ n f p ≤ gh_plc f p n ∧ gh_plc f p n ≤ gh_wr σ n f p ∧ gh_wr σ n f p ≤ n ∧ gh_plc f p n ≤ n := by
  have h0 := gh_plc_le f p n
  have h1 := (gh_lft_ok σ f p (gh_plc f p n)).1
  obtain ⟨r0, r1, r2, _, _⟩ := gh_rgt_ok σ n f p n (gh_plc f p n) (by omega)
  refine ⟨h1, r0, ?_, h0⟩
  rcases Nat.lt_or_ge (gh_plc f p n) n with q | q
  · exact Nat.le_of_lt (r1 q)
  · have := r2 q
    show gh_rgt σ n f p n (gh_plc f p n) ≤ n
    omega
theorem gp_upd {tx ty : Nat → Int32} {k j : Nat} {x y : Int32} (h : j ≠ k) : gp (upd tx k x) (upd ty k y) j = gp tx ty j := by
  unfold gp
  rw [pk_un h, pk_un h]
theorem gp_upds {tx ty : Nat → Int32} {k : Nat} {x y : Int32} : gp (upd tx k x) (upd ty k y) k = g2 x y := by
  unfold gp
  rw [pk_us, pk_us]
  rfl
end
section
/-! ===== OnlineHull: put, keep, with ===== -/
set_option maxHeartbeats 4000000 in
set_option maxRecDepth 100000 in
theorem metX1_put (l : Launch) (dC : Nat → ClassId) (dI : Nat → Nat → Nat) (dA : ClassId) (sz : Nat) (h a1 a2 a3 a4 a5 a6 : Nat) (fl fu cap seen : Int32) (k : Nat) (tx ty : Nat → Int32) (x y : Int32) (hk : k < 68) : Met l yX1_put (ws_ yX1_put cX1_put 3 none) ({ frames := 0, cells := 0, slots := 0, locals := 0 }) (gm_Pc (dC, dI) [.ref h, .int x, .int y] sz [(h, .inr (0, [.ref a1, .ref a2, .ref a3, .ref a4, .int fl, .int fu, .ref a5, .ref a6, .int (nI k), .int cap, .int seen])), (a5, .inl (dA, 68, .inl tx)), (a6, .inl (dA, 68, .inl ty))] [(dA, .int)]) (va_Qv (S := Unit) (fun _ => True) (gm_B (dC, dI) [(dA, .int)] (va_A [(h, .inr (0, [.ref a1, .ref a2, .ref a3, .ref a4, .int fl, .int fu, .ref a5, .ref a6, .int (nI k), .int cap, .int seen])), (a5, .inl (dA, 68, .inl tx)), (a6, .inl (dA, 68, .inl ty))] sz) (fun _ => [(h, .inr (0, [.ref a1, .ref a2, .ref a3, .ref a4, .int fl, .int fu, .ref a5, .ref a6, .int (nI (k + 1)), .int cap, .int seen])), (a5, .inl (dA, 68, .inl (upd tx k x))), (a6, .inl (dA, 68, .inl (upd ty k y)))])) (va_A [(h, .inr (0, [.ref a1, .ref a2, .ref a3, .ref a4, .int fl, .int fu, .ref a5, .ref a6, .int (nI k), .int cap, .int seen])), (a5, .inl (dA, 68, .inl tx)), (a6, .inl (dA, 68, .inl ty))] sz)) 0 0 (va_A [(h, .inr (0, [.ref a1, .ref a2, .ref a3, .ref a4, .int fl, .int fu, .ref a5, .ref a6, .int (nI k), .int cap, .int seen])), (a5, .inl (dA, 68, .inl tx)), (a6, .inl (dA, 68, .inl ty))] sz) := by
  refine Met.ofW (cc := cX1_put) (maxL := 3) (ret := none) (by decide) rfl ?_
  intro p e s m args below meth c s₁ B hml hv
  obtain ⟨rfl, hsz, hP, hK, hD0⟩ := hv
  have hx := B.exec
  have hb := B.bytes
  have hr := B.returns
  have hts := atoms_spec (ws := (ws_ yX1_put cX1_put 3 none)) B.pre
  have hts : ∀ w ∈ lw_all, w.before _ s = true := fun w h => hts w (List.mem_cons_of_mem _ h)
  have hown : s.vm.findClass RX1 = some m.cls := findClass_of_methodNamed B.named
  have hlocks := B.notSynchronized
  subst hsz
  have hD := hD0.self (sz := s.heap.size)
  generalize hAe : va_A [(h, .inr (0, [.ref a1, .ref a2, .ref a3, .ref a4, .int fl, .int fu, .ref a5, .ref a6, .int (nI k), .int cap, .int seen])), (a5, .inl (dA, 68, .inl tx)), (a6, .inl (dA, 68, .inl ty))] s.heap.size = A at hD ⊢
  have hA : ∀ q : Nat, s.heap.size ≤ q → A q := fun q h => by rw [← hAe]; exact Or.inr h
  have hS : va_S A s.heap s.heap [] := va_S.rf
  have hl := lv_entry ([.ref h, .int x, .int y]) (n := 3) (Nat.le_of_ble_eq_true rfl)
  rw [lg_entry_eq]
  generalize (lg_sl ([.ref h, .int x, .int y]) ++ List.replicate (3 - (lg_sl ([.ref h, .int x, .int y])).length) Slot.unset).toArray = ls at hl ⊢
  have hl : lv_has ls 3 [(0, .ref h), (1, .int x), (2, .int y)] := hl
  refine lv_aload_n hx hb dX1_put_0 rfl (lv_at hl 0 rfl) ?_
  refine va_get (D := (dC, dI)) (ci := 0) (v := .ref a5) (C := RX1) (T := TX1) (N := 11) hx hb hts in_X1 hown hK hP 0 rfl rfl 6 (by decide) (hts _ q27) (fun _ h9 => h9) rfl dX1_put_1 ?_
  refine lv_aload_n hx hb dX1_put_4 rfl (lv_at hl 0 rfl) ?_
  refine va_get (D := (dC, dI)) (ci := 0) (v := .int (nI k)) (C := RX1) (T := TX1) (N := 11) hx hb hts in_X1 hown hK hP 0 rfl rfl 8 (by decide) (hts _ q29) (fun _ h9 => h9) rfl dX1_put_5 ?_
  refine lv_iload_n hx hb dX1_put_8 rfl (lv_at hl 1 rfl) ?_
  refine gr_iast (k := k) hx hb hK hP hD hS 1 0 rfl rfl (by omega) (by decide) dX1_put_9 (fun H locs hP hD hS => ?_)
  have hP : va_P (dC, dI) vwCl [(h, .inr (0, [.ref a1, .ref a2, .ref a3, .ref a4, .int fl, .int fu, .ref a5, .ref a6, .int (nI k), .int cap, .int seen])), (a5, .inl (dA, 68, .inl (upd tx k x))), (a6, .inl (dA, 68, .inl ty))] H := hP
  have hD : va_D A [(h, .inr (0, [.ref a1, .ref a2, .ref a3, .ref a4, .int fl, .int fu, .ref a5, .ref a6, .int (nI k), .int cap, .int seen])), (a5, .inl (dA, 68, .inl (upd tx k x))), (a6, .inl (dA, 68, .inl ty))] := hD
  refine lv_aload_n hx hb dX1_put_10 rfl (lv_at hl 0 rfl) ?_
  refine va_get (D := (dC, dI)) (ci := 0) (v := .ref a6) (C := RX1) (T := TX1) (N := 11) hx hb hts in_X1 hown hK hP 0 rfl rfl 7 (by decide) (hts _ q28) (fun _ h9 => h9) rfl dX1_put_11 ?_
  refine lv_aload_n hx hb dX1_put_14 rfl (lv_at hl 0 rfl) ?_
  refine va_get (D := (dC, dI)) (ci := 0) (v := .int (nI k)) (C := RX1) (T := TX1) (N := 11) hx hb hts in_X1 hown hK hP 0 rfl rfl 8 (by decide) (hts _ q29) (fun _ h9 => h9) rfl dX1_put_15 ?_
  refine lv_iload_n hx hb dX1_put_18 rfl (lv_at hl 2 rfl) ?_
  refine gr_iast (k := k) hx hb hK hP hD hS 2 0 rfl rfl (by omega) (by decide) dX1_put_19 (fun H locs hP hD hS => ?_)
  have hP : va_P (dC, dI) vwCl [(h, .inr (0, [.ref a1, .ref a2, .ref a3, .ref a4, .int fl, .int fu, .ref a5, .ref a6, .int (nI k), .int cap, .int seen])), (a5, .inl (dA, 68, .inl (upd tx k x))), (a6, .inl (dA, 68, .inl (upd ty k y)))] H := hP
  have hD : va_D A [(h, .inr (0, [.ref a1, .ref a2, .ref a3, .ref a4, .int fl, .int fu, .ref a5, .ref a6, .int (nI k), .int cap, .int seen])), (a5, .inl (dA, 68, .inl (upd tx k x))), (a6, .inl (dA, 68, .inl (upd ty k y)))] := hD
  refine lv_aload_n hx hb dX1_put_20 rfl (lv_at hl 0 rfl) ?_
  refine lv_dup hx hb dX1_put_21 rfl ?_
  refine va_get (D := (dC, dI)) (ci := 0) (v := .int (nI k)) (C := RX1) (T := TX1) (N := 11) hx hb hts in_X1 hown hK hP 0 rfl rfl 8 (by decide) (hts _ q29) (fun _ h9 => h9) rfl dX1_put_22 ?_
  refine lv_iconst (v := 1) hx hb dX1_put_25 (by decide) ?_
  refine lv_iadd hx hb dX1_put_26 ?_
  refine gr_topi (y := nI (k + 1)) (nI_1 k) ?_
  refine va_put (D := (dC, dI)) (ci := 0) (v := .int (nI (k + 1))) (ty := .int) (C := RX1) (T := TX1) (N := 11) hx hb hts in_X1 tyX1 tyX1_ok nmX1 hown hK hP hD hS 0 rfl rfl 8 (by decide) (hts _ q29) (fun _ h9 => h9) rfl (by decide +kernel) rfl rfl (Nat.le_of_ble_eq_true rfl) dX1_put_27 (fun H locs hP hD hS => ?_)
  have hP : va_P (dC, dI) vwCl [(h, .inr (0, [.ref a1, .ref a2, .ref a3, .ref a4, .int fl, .int fu, .ref a5, .ref a6, .int (nI (k + 1)), .int cap, .int seen])), (a5, .inl (dA, 68, .inl (upd tx k x))), (a6, .inl (dA, 68, .inl (upd ty k y)))] H := hP
  have hD : va_D A [(h, .inr (0, [.ref a1, .ref a2, .ref a3, .ref a4, .int fl, .int fu, .ref a5, .ref a6, .int (nI (k + 1)), .int cap, .int seen])), (a5, .inl (dA, 68, .inl (upd tx k x))), (a6, .inl (dA, 68, .inl (upd ty k y)))] := hD
  exact W.vret hx hb hr (fun t ht hW => ⟨⟨(), rfl, trivial, by rw [ht]; exact hP, va_K.moved hW.alike hK, hD⟩, hS.F ht⟩) hS.2.2 dX1_put_30
set_option maxHeartbeats 4000000 in
set_option maxRecDepth 100000 in
theorem metX1_keep (l : Launch) (dC : Nat → ClassId) (dI : Nat → Nat → Nat) (dA : ClassId) (sz : Nat) (h a1 a2 a3 a4 a5 a6 : Nat) (fl fu cap seen : Int32) (b1 b2 k : Nat) (xs ys tx ty : Nat → Int32) (hk : k ≤ 68) : Met l yX1_keep (ws_ yX1_keep cX1_keep 4 none) ({ frames := 0, cells := 0, slots := 0, locals := 0 }) (gm_Pc (dC, dI) [.ref h, .ref b1, .ref b2] sz [(h, .inr (0, [.ref a1, .ref a2, .ref a3, .ref a4, .int fl, .int fu, .ref a5, .ref a6, .int (nI k), .int cap, .int seen])), (b1, .inl (dA, 68, .inl xs)), (b2, .inl (dA, 68, .inl ys)), (a5, .inl (dA, 68, .inl tx)), (a6, .inl (dA, 68, .inl ty))] [(dA, .int)]) (va_Qv (S := ((Nat → Int32) × (Nat → Int32))) (fun u => ∀ i, i < k → u.1 i = tx i ∧ u.2 i = ty i) (gm_B (dC, dI) [(dA, .int)] (va_A [(h, .inr (0, [.ref a1, .ref a2, .ref a3, .ref a4, .int fl, .int fu, .ref a5, .ref a6, .int (nI k), .int cap, .int seen])), (b1, .inl (dA, 68, .inl xs)), (b2, .inl (dA, 68, .inl ys)), (a5, .inl (dA, 68, .inl tx)), (a6, .inl (dA, 68, .inl ty))] sz) (fun u => [(h, .inr (0, [.ref a1, .ref a2, .ref a3, .ref a4, .int fl, .int fu, .ref a5, .ref a6, .int (nI k), .int cap, .int seen])), (b1, .inl (dA, 68, .inl u.1)), (b2, .inl (dA, 68, .inl u.2)), (a5, .inl (dA, 68, .inl tx)), (a6, .inl (dA, 68, .inl ty))])) (va_A [(h, .inr (0, [.ref a1, .ref a2, .ref a3, .ref a4, .int fl, .int fu, .ref a5, .ref a6, .int (nI k), .int cap, .int seen])), (b1, .inl (dA, 68, .inl xs)), (b2, .inl (dA, 68, .inl ys)), (a5, .inl (dA, 68, .inl tx)), (a6, .inl (dA, 68, .inl ty))] sz)) 0 0 (va_A [(h, .inr (0, [.ref a1, .ref a2, .ref a3, .ref a4, .int fl, .int fu, .ref a5, .ref a6, .int (nI k), .int cap, .int seen])), (b1, .inl (dA, 68, .inl xs)), (b2, .inl (dA, 68, .inl ys)), (a5, .inl (dA, 68, .inl tx)), (a6, .inl (dA, 68, .inl ty))] sz) := by
  refine Met.ofW (cc := cX1_keep) (maxL := 4) (ret := none) (by decide) rfl ?_
  intro p e s m args below meth c s₁ B hml hv
  obtain ⟨rfl, hsz, hP, hK, hD0⟩ := hv
  have hx := B.exec
  have hb := B.bytes
  have hr := B.returns
  have hts := atoms_spec (ws := (ws_ yX1_keep cX1_keep 4 none)) B.pre
  have hts : ∀ w ∈ lw_all, w.before _ s = true := fun w h => hts w (List.mem_cons_of_mem _ h)
  have hown : s.vm.findClass RX1 = some m.cls := findClass_of_methodNamed B.named
  have hlocks := B.notSynchronized
  subst hsz
  have hD := hD0.self (sz := s.heap.size)
  generalize hAe : va_A [(h, .inr (0, [.ref a1, .ref a2, .ref a3, .ref a4, .int fl, .int fu, .ref a5, .ref a6, .int (nI k), .int cap, .int seen])), (b1, .inl (dA, 68, .inl xs)), (b2, .inl (dA, 68, .inl ys)), (a5, .inl (dA, 68, .inl tx)), (a6, .inl (dA, 68, .inl ty))] s.heap.size = A at hD ⊢
  have hA : ∀ q : Nat, s.heap.size ≤ q → A q := fun q h => by rw [← hAe]; exact Or.inr h
  have hS : va_S A s.heap s.heap [] := va_S.rf
  have hl := lv_entry ([.ref h, .ref b1, .ref b2]) (n := 4) (Nat.le_of_ble_eq_true rfl)
  rw [lg_entry_eq]
  generalize (lg_sl ([.ref h, .ref b1, .ref b2]) ++ List.replicate (4 - (lg_sl ([.ref h, .ref b1, .ref b2])).length) Slot.unset).toArray = ls at hl ⊢
  have hl : lv_has ls 4 [(0, .ref h), (1, .ref b1), (2, .ref b2)] := hl
  have loop : ∀ (d i : Nat) (xs ys : Nat → Int32), k < i + d → i ≤ k → (∀ j, j < i → xs j = tx j ∧ ys j = ty j) → ∀ (H : Heap) (locs : List Loc), va_P (dC, dI) vwCl [(h, .inr (0, [.ref a1, .ref a2, .ref a3, .ref a4, .int fl, .int fu, .ref a5, .ref a6, .int (nI k), .int cap, .int seen])), (b1, .inl (dA, 68, .inl xs)), (b2, .inl (dA, 68, .inl ys)), (a5, .inl (dA, 68, .inl tx)), (a6, .inl (dA, 68, .inl ty))] H → va_D A [(h, .inr (0, [.ref a1, .ref a2, .ref a3, .ref a4, .int fl, .int fu, .ref a5, .ref a6, .int (nI k), .int cap, .int seen])), (b1, .inl (dA, 68, .inl xs)), (b2, .inl (dA, 68, .inl ys)), (a5, .inl (dA, 68, .inl tx)), (a6, .inl (dA, 68, .inl ty))] → va_S A s.heap H locs → ∀ (ls : Array Slot), lv_has ls 4 [(0, .ref h), (1, .ref b1), (2, .ref b2), (3, .int (nI i))] → W p l e (headSpec (ws_ yX1_keep cX1_keep 4 none) ({ frames := 0, cells := 0, slots := 0, locals := 0 })).room s m ([.ref h, .ref b1, .ref b2] : List Value).toArray below meth c H locs 0 0 (MQ below (va_Qv (S := ((Nat → Int32) × (Nat → Int32))) (fun u => ∀ i, i < k → u.1 i = tx i ∧ u.2 i = ty i) (gm_B (dC, dI) [(dA, .int)] A (fun u => [(h, .inr (0, [.ref a1, .ref a2, .ref a3, .ref a4, .int fl, .int fu, .ref a5, .ref a6, .int (nI k), .int cap, .int seen])), (b1, .inl (dA, 68, .inl u.1)), (b2, .inl (dA, 68, .inl u.2)), (a5, .inl (dA, 68, .inl tx)), (a6, .inl (dA, 68, .inl ty))])) A) ([.ref h, .ref b1, .ref b2] : List Value).toArray s 0 0 A) (F0 m 2 ls []) := by
    intro d
    induction d with
    | zero => intro i xs ys h1 h2; omega
    | succ d ih =>
      intro i xs ys hd hi hxy H locs hP hD hS ls hl
      refine lv_iload_n hx hb dX1_keep_2 rfl (lv_at hl 3 rfl) ?_
      refine lv_aload_n hx hb dX1_keep_3 rfl (lv_at hl 0 rfl) ?_
      refine va_get (D := (dC, dI)) (ci := 0) (v := .int (nI k)) (C := RX1) (T := TX1) (N := 11) hx hb hts in_X1 hown hK hP 0 rfl rfl 8 (by decide) (hts _ q29) (fun _ h9 => h9) rfl dX1_keep_4 ?_
      refine lv_icmp_ge (tgt := 34) hx hb dX1_keep_7 (by decide) (fun c_1 => ?_) (fun c_1 => ?_)
      · have c1 := (nI_leI (by omega) (by omega)).mp c_1
        exact W.vret hx hb hr (fun t ht hW => ⟨⟨(xs, ys), rfl, fun j hj => hxy j (by omega), by rw [ht]; exact hP, va_K.moved hW.alike hK, hD⟩, hS.F ht⟩) hS.2.2 dX1_keep_34
      · have c1 : i < k := Nat.not_le.mp (fun z => c_1 ((nI_leI (by omega) (by omega)).mpr z))
        refine lv_aload_n hx hb dX1_keep_10 rfl (lv_at hl 1 rfl) ?_
        refine lv_iload_n hx hb dX1_keep_11 rfl (lv_at hl 3 rfl) ?_
        refine lv_aload_n hx hb dX1_keep_12 rfl (lv_at hl 0 rfl) ?_
        refine va_get (D := (dC, dI)) (ci := 0) (v := .ref a5) (C := RX1) (T := TX1) (N := 11) hx hb hts in_X1 hown hK hP 0 rfl rfl 6 (by decide) (hts _ q27) (fun _ h9 => h9) rfl dX1_keep_13 ?_
        refine lv_iload_n hx hb dX1_keep_16 rfl (lv_at hl 3 rfl) ?_
        refine gr_iald (k := i) hx hb hK hP 3 0 rfl rfl (by omega) (by decide) dX1_keep_17 ?_
        refine gr_iast (k := i) hx hb hK hP hD hS 1 0 rfl rfl (by omega) (by decide) dX1_keep_18 (fun H locs hP hD hS => ?_)
        have hP : va_P (dC, dI) vwCl [(h, .inr (0, [.ref a1, .ref a2, .ref a3, .ref a4, .int fl, .int fu, .ref a5, .ref a6, .int (nI k), .int cap, .int seen])), (b1, .inl (dA, 68, .inl (upd xs i (tx i)))), (b2, .inl (dA, 68, .inl ys)), (a5, .inl (dA, 68, .inl tx)), (a6, .inl (dA, 68, .inl ty))] H := hP
        have hD : va_D A [(h, .inr (0, [.ref a1, .ref a2, .ref a3, .ref a4, .int fl, .int fu, .ref a5, .ref a6, .int (nI k), .int cap, .int seen])), (b1, .inl (dA, 68, .inl (upd xs i (tx i)))), (b2, .inl (dA, 68, .inl ys)), (a5, .inl (dA, 68, .inl tx)), (a6, .inl (dA, 68, .inl ty))] := hD
        refine lv_aload_n hx hb dX1_keep_19 rfl (lv_at hl 2 rfl) ?_
        refine lv_iload_n hx hb dX1_keep_20 rfl (lv_at hl 3 rfl) ?_
        refine lv_aload_n hx hb dX1_keep_21 rfl (lv_at hl 0 rfl) ?_
        refine va_get (D := (dC, dI)) (ci := 0) (v := .ref a6) (C := RX1) (T := TX1) (N := 11) hx hb hts in_X1 hown hK hP 0 rfl rfl 7 (by decide) (hts _ q28) (fun _ h9 => h9) rfl dX1_keep_22 ?_
        refine lv_iload_n hx hb dX1_keep_25 rfl (lv_at hl 3 rfl) ?_
        refine gr_iald (k := i) hx hb hK hP 4 0 rfl rfl (by omega) (by decide) dX1_keep_26 ?_
        refine gr_iast (k := i) hx hb hK hP hD hS 2 0 rfl rfl (by omega) (by decide) dX1_keep_27 (fun H locs hP hD hS => ?_)
        have hP : va_P (dC, dI) vwCl [(h, .inr (0, [.ref a1, .ref a2, .ref a3, .ref a4, .int fl, .int fu, .ref a5, .ref a6, .int (nI k), .int cap, .int seen])), (b1, .inl (dA, 68, .inl (upd xs i (tx i)))), (b2, .inl (dA, 68, .inl (upd ys i (ty i)))), (a5, .inl (dA, 68, .inl tx)), (a6, .inl (dA, 68, .inl ty))] H := hP
        have hD : va_D A [(h, .inr (0, [.ref a1, .ref a2, .ref a3, .ref a4, .int fl, .int fu, .ref a5, .ref a6, .int (nI k), .int cap, .int seen])), (b1, .inl (dA, 68, .inl (upd xs i (tx i)))), (b2, .inl (dA, 68, .inl (upd ys i (ty i)))), (a5, .inl (dA, 68, .inl tx)), (a6, .inl (dA, 68, .inl ty))] := hD
        refine lv_iinc (v := nI (i + 1)) (lv' := [(3, .int (nI (i + 1))), (0, .ref h), (1, .ref b1), (2, .ref b2)]) hx hb dX1_keep_28 hl (k := 3) rfl (nI_1 i) (by decide) rfl (fun ls hl => ?_)
        refine lv_goto (tgt := 2) hx hb dX1_keep_31 (by decide) ?_
        exact ih (i + 1) (upd xs i (tx i)) (upd ys i (ty i)) (by omega) (by omega) (fun j hj => by
          by_cases e : j = i
          · rw [e, pk_us, pk_us]; exact ⟨rfl, rfl⟩
          · rw [pk_un e, pk_un e]; exact hxy j (by omega)) H locs hP hD hS ls (lv_sub hl [1, 2, 3, 0] rfl)
  refine lv_iconst (v := 0) hx hb dX1_keep_0 (by decide) ?_
  refine lv_istore_n (lv' := [(3, .int 0), (0, .ref h), (1, .ref b1), (2, .ref b2)]) hx hb dX1_keep_1 rfl hl (by decide) rfl (fun ls hl => ?_)
  exact loop (k + 1) 0 xs ys (by omega) (by omega) (fun j hj => by omega) s.heap [] hP hD hS ls (lv_sub hl [1, 2, 3, 0] rfl)
set_option maxHeartbeats 4000000 in
set_option maxRecDepth 100000 in
theorem metX1_with (l : Launch) (dC : Nat → ClassId) (dI : Nat → Nat → Nat) (dA : ClassId) (sz : Nat) (h a1 a2 a3 a4 a5 a6 : Nat) (fl fu cap seen : Int32) (b1 b2 n : Nat) (xs ys tx ty : Nat → Int32) (nt x y sg : Int32) (hn : n ≤ 67) (hsg : sg = 1 ∨ sg = -1) (hC : gh_C sg.toInt n (gp xs ys)) (hok : ∀ i, i < n → gh_ok (gp xs ys i)) (hp : gh_ok (g2 x y)) : Met l yX1_with (ws_ yX1_with cX1_with 11 none) ({ frames := 1, cells := 0, slots := 0, locals := 27 }) (gm_Pc (dC, dI) [.ref h, .ref b1, .ref b2, .int (nI n), .int x, .int y, .int sg] sz [(h, .inr (0, [.ref a1, .ref a2, .ref a3, .ref a4, .int fl, .int fu, .ref a5, .ref a6, .int nt, .int cap, .int seen])), (b1, .inl (dA, 68, .inl xs)), (b2, .inl (dA, 68, .inl ys)), (a5, .inl (dA, 68, .inl tx)), (a6, .inl (dA, 68, .inl ty))] [(dA, .int)]) (va_Qv (S := ((Nat → Int32) × (Nat → Int32))) (fun u => ∀ i, i < gh_wn sg.toInt n (gp xs ys) (g2 x y) → gp u.1 u.2 i = gh_wf sg.toInt n (gp xs ys) (g2 x y) i) (gm_B (dC, dI) [(dA, .int)] (va_A [(h, .inr (0, [.ref a1, .ref a2, .ref a3, .ref a4, .int fl, .int fu, .ref a5, .ref a6, .int nt, .int cap, .int seen])), (b1, .inl (dA, 68, .inl xs)), (b2, .inl (dA, 68, .inl ys)), (a5, .inl (dA, 68, .inl tx)), (a6, .inl (dA, 68, .inl ty))] sz) (fun u => [(h, .inr (0, [.ref a1, .ref a2, .ref a3, .ref a4, .int fl, .int fu, .ref a5, .ref a6, .int (nI (gh_wn sg.toInt n (gp xs ys) (g2 x y))), .int cap, .int seen])), (b1, .inl (dA, 68, .inl xs)), (b2, .inl (dA, 68, .inl ys)), (a5, .inl (dA, 68, .inl u.1)), (a6, .inl (dA, 68, .inl u.2))])) (va_A [(h, .inr (0, [.ref a1, .ref a2, .ref a3, .ref a4, .int fl, .int fu, .ref a5, .ref a6, .int nt, .int cap, .int seen])), (b1, .inl (dA, 68, .inl xs)), (b2, .inl (dA, 68, .inl ys)), (a5, .inl (dA, 68, .inl tx)), (a6, .inl (dA, 68, .inl ty))] sz)) 0 0 (va_A [(h, .inr (0, [.ref a1, .ref a2, .ref a3, .ref a4, .int fl, .int fu, .ref a5, .ref a6, .int nt, .int cap, .int seen])), (b1, .inl (dA, 68, .inl xs)), (b2, .inl (dA, 68, .inl ys)), (a5, .inl (dA, 68, .inl tx)), (a6, .inl (dA, 68, .inl ty))] sz) := by
  refine Met.ofW (cc := cX1_with) (maxL := 11) (ret := none) (by decide) rfl ?_
  intro p e s m args below meth c s₁ B hml hv
  obtain ⟨rfl, hsz, hP, hK, hD0⟩ := hv
  have hx := B.exec
  have hb := B.bytes
  have hr := B.returns
  have hts := atoms_spec (ws := (ws_ yX1_with cX1_with 11 none)) B.pre
  have hts : ∀ w ∈ lw_all, w.before _ s = true := fun w h => hts w (List.mem_cons_of_mem _ h)
  have hown : s.vm.findClass RX1 = some m.cls := findClass_of_methodNamed B.named
  have hlocks := B.notSynchronized
  subst hsz
  have hD := hD0.self (sz := s.heap.size)
  generalize hAe : va_A [(h, .inr (0, [.ref a1, .ref a2, .ref a3, .ref a4, .int fl, .int fu, .ref a5, .ref a6, .int nt, .int cap, .int seen])), (b1, .inl (dA, 68, .inl xs)), (b2, .inl (dA, 68, .inl ys)), (a5, .inl (dA, 68, .inl tx)), (a6, .inl (dA, 68, .inl ty))] s.heap.size = A at hD ⊢
  have hA : ∀ q : Nat, s.heap.size ≤ q → A q := fun q h => by rw [← hAe]; exact Or.inr h
  have hS : va_S A s.heap s.heap [] := va_S.rf
  have hl := lv_entry ([.ref h, .ref b1, .ref b2, .int (nI n), .int x, .int y, .int sg]) (n := 11) (Nat.le_of_ble_eq_true rfl)
  rw [lg_entry_eq]
  generalize (lg_sl ([.ref h, .ref b1, .ref b2, .int (nI n), .int x, .int y, .int sg]) ++ List.replicate (11 - (lg_sl ([.ref h, .ref b1, .ref b2, .int (nI n), .int x, .int y, .int sg])).length) Slot.unset).toArray = ls at hl ⊢
  have hl : lv_has ls 11 [(0, .ref h), (1, .ref b1), (2, .ref b2), (3, .int (nI n)), (4, .int x), (5, .int y), (6, .int sg)] := hl
  obtain ⟨k, hk⟩ : ∃ k, k = gh_plc (gp xs ys) (g2 x y) n := ⟨_, rfl⟩
  obtain ⟨wl, hwl⟩ : ∃ wl, wl = gh_wl sg.toInt n (gp xs ys) (g2 x y) := ⟨_, rfl⟩
  obtain ⟨wr, hwr⟩ : ∃ wr, wr = gh_wr sg.toInt n (gp xs ys) (g2 x y) := ⟨_, rfl⟩
  obtain ⟨wle1, wle2, wle3, wle4⟩ := gh_w_le sg.toInt n (gp xs ys) (g2 x y)
  rw [← hk, ← hwl] at wle1
  rw [← hk, ← hwr] at wle2
  rw [← hwr] at wle3
  rw [← hk] at wle4
  have hWN : gh_wn sg.toInt n (gp xs ys) (g2 x y) = wl + 1 + (n - wr) := by rw [hwl, hwr]; rfl
  have hWF : ∀ i, gh_wf sg.toInt n (gp xs ys) (g2 x y) i = gh_g (gp xs ys) (g2 x y) wl wr i := by rw [hwl, hwr]; exact fun _ => rfl
  have loop3 : ∀ (d i : Nat) (tx ty : Nat → Int32), n < i + d → wr ≤ i → i ≤ n → (∀ j, j < wl + 1 + (i - wr) → gp tx ty j = gh_g (gp xs ys) (g2 x y) wl wr j) → ∀ (H : Heap) (locs : List Loc), va_P (dC, dI) vwCl [(h, .inr (0, [.ref a1, .ref a2, .ref a3, .ref a4, .int fl, .int fu, .ref a5, .ref a6, .int (nI (wl + 1 + (i - wr))), .int cap, .int seen])), (b1, .inl (dA, 68, .inl xs)), (b2, .inl (dA, 68, .inl ys)), (a5, .inl (dA, 68, .inl tx)), (a6, .inl (dA, 68, .inl ty))] H → va_D A [(h, .inr (0, [.ref a1, .ref a2, .ref a3, .ref a4, .int fl, .int fu, .ref a5, .ref a6, .int (nI (wl + 1 + (i - wr))), .int cap, .int seen])), (b1, .inl (dA, 68, .inl xs)), (b2, .inl (dA, 68, .inl ys)), (a5, .inl (dA, 68, .inl tx)), (a6, .inl (dA, 68, .inl ty))] → va_S A s.heap H locs → ∀ (ls : Array Slot), lv_has ls 11 [(0, .ref h), (1, .ref b1), (2, .ref b2), (3, .int (nI n)), (4, .int x), (5, .int y), (6, .int sg), (8, .int (nI wl)), (9, .int (nI wr)), (10, .int (nI i))] → W p l e (headSpec (ws_ yX1_with cX1_with 11 none) ({ frames := 1, cells := 0, slots := 0, locals := 27 })).room s m ([.ref h, .ref b1, .ref b2, .int (nI n), .int x, .int y, .int sg] : List Value).toArray below meth c H locs 0 0 (MQ below (va_Qv (S := ((Nat → Int32) × (Nat → Int32))) (fun u => ∀ i, i < gh_wn sg.toInt n (gp xs ys) (g2 x y) → gp u.1 u.2 i = gh_wf sg.toInt n (gp xs ys) (g2 x y) i) (gm_B (dC, dI) [(dA, .int)] A (fun u => [(h, .inr (0, [.ref a1, .ref a2, .ref a3, .ref a4, .int fl, .int fu, .ref a5, .ref a6, .int (nI (gh_wn sg.toInt n (gp xs ys) (g2 x y))), .int cap, .int seen])), (b1, .inl (dA, 68, .inl xs)), (b2, .inl (dA, 68, .inl ys)), (a5, .inl (dA, 68, .inl u.1)), (a6, .inl (dA, 68, .inl u.2))])) A) ([.ref h, .ref b1, .ref b2, .int (nI n), .int x, .int y, .int sg] : List Value).toArray s 0 0 A) (F0 m 167 ls []) := by
    intro d
    induction d with
    | zero => intro i tx ty h1 h2; omega
    | succ d ih =>
      intro i tx ty hd hi1 hi2 hxy H locs hP hD hS ls hl
      refine lv_iload hx hb dX1_with_167 (lv_at hl 9 rfl) ?_
      refine lv_iload_n hx hb dX1_with_169 rfl (lv_at hl 3 rfl) ?_
      refine lv_icmp_ge (tgt := 191) hx hb dX1_with_170 (by decide) (fun c_1 => ?_) (fun c_1 => ?_)
      · have c1 := (nI_leI (by omega) (by omega)).mp c_1
        have e9 : i = n := by omega
        rw [e9, ← hWN] at hP hD
        rw [e9, ← hWN] at hxy
        exact W.vret hx hb hr (fun t ht hW => ⟨⟨(tx, ty), rfl, fun j hj => by rw [hWF]; exact hxy j hj, by rw [ht]; exact hP, va_K.moved hW.alike hK, hD⟩, hS.F ht⟩) hS.2.2 dX1_with_191
      · have c1 : i < n := Nat.not_le.mp (fun z => c_1 ((nI_leI (by omega) (by omega)).mpr z))
        refine lv_aload_n hx hb dX1_with_173 rfl (lv_at hl 0 rfl) ?_
        refine lv_aload_n hx hb dX1_with_174 rfl (lv_at hl 1 rfl) ?_
        refine lv_iload hx hb dX1_with_175 (lv_at hl 9 rfl) ?_
        refine gr_iald (k := i) hx hb hK hP 1 0 rfl rfl (by omega) (by decide) dX1_with_177 ?_
        refine lv_aload_n hx hb dX1_with_178 rfl (lv_at hl 2 rfl) ?_
        refine lv_iload hx hb dX1_with_179 (lv_at hl 9 rfl) ?_
        refine gr_iald (k := i) hx hb hK hP 2 0 rfl rfl (by omega) (by decide) dX1_with_181 ?_
        have hPc := hP.sub (ws' := [(h, .inr (0, [.ref a1, .ref a2, .ref a3, .ref a4, .int fl, .int fu, .ref a5, .ref a6, .int (nI (wl + 1 + (i - wr))), .int cap, .int seen])), (a5, .inl (dA, 68, .inl tx)), (a6, .inl (dA, 68, .inl ty))]) [0, 3, 4] rfl
        have hDc := hD.sub (ws' := [(h, .inr (0, [.ref a1, .ref a2, .ref a3, .ref a4, .int fl, .int fu, .ref a5, .ref a6, .int (nI (wl + 1 + (i - wr))), .int cap, .int seen])), (a5, .inl (dA, 68, .inl tx)), (a6, .inl (dA, 68, .inl ty))]) [0, 3, 4] (by decide) rfl
        have hKc := hK.sub (tys' := [(dA, .int)]) [0] rfl
        have hFc := va_free (wc := [(h, .inr (0, [.ref a1, .ref a2, .ref a3, .ref a4, .int fl, .int fu, .ref a5, .ref a6, .int (nI (wl + 1 + (i - wr))), .int cap, .int seen])), (a5, .inl (dA, 68, .inl tx)), (a6, .inl (dA, 68, .inl ty))]) hD hS hA [0, 3, 4] rfl
        refine va_callv (va_runV (As := [.int (xs i), .int (ys i)]) (rest := []) ⟨hx, hb, hml, hown, hts⟩ (metX1_put l dC dI dA H.size h a1 a2 a3 a4 a5 a6 fl fu cap seen (wl + 1 + (i - wr)) tx ty (xs i) (ys i) (by omega)) (cwV 2 hts (lw_V q89 q91 qs2 q11 q92) rfl rfl rfl (by decide +kernel) ⟨Nat.le_of_ble_eq_true rfl, Nat.le_of_ble_eq_true rfl⟩) (gm_preV hK hP (ci := 0) (q0 := 0) rfl rfl hPc hKc hDc) rfl rfl hl.1 rfl (lv_room (Nat.le_of_ble_eq_true rfl)) dX1_with_182 ⟨Nat.zero_le _, Nat.zero_le _⟩) hS (fun q _ h => hFc q h) hFc (fun u t H1 locs ht hvm hwu hB hz1 hk1 hS => ?_)
        obtain ⟨hP1, hK1, hD1⟩ := hB
        rw [ht] at hP1
        obtain ⟨hP, hD⟩ := va_join (wr := [(b1, .inl (dA, 68, .inl xs)), (b2, .inl (dA, 68, .inl ys))]) (w1 := [(h, .inr (0, [.ref a1, .ref a2, .ref a3, .ref a4, .int fl, .int fu, .ref a5, .ref a6, .int (nI (wl + 1 + (i - wr) + 1)), .int cap, .int seen])), (a5, .inl (dA, 68, .inl (upd tx (wl + 1 + (i - wr)) (xs i)))), (a6, .inl (dA, 68, .inl (upd ty (wl + 1 + (i - wr)) (ys i))))]) hP hD [0, 3, 4] [1, 2] rfl rfl (by decide) (by decide) hk1 hFc hP1 hD1
        generalize H1 = H at hP hS ⊢
        have hP := hP.sub (ws' := [(h, .inr (0, [.ref a1, .ref a2, .ref a3, .ref a4, .int fl, .int fu, .ref a5, .ref a6, .int (nI (wl + 1 + (i - wr) + 1)), .int cap, .int seen])), (b1, .inl (dA, 68, .inl xs)), (b2, .inl (dA, 68, .inl ys)), (a5, .inl (dA, 68, .inl (upd tx (wl + 1 + (i - wr)) (xs i)))), (a6, .inl (dA, 68, .inl (upd ty (wl + 1 + (i - wr)) (ys i))))]) [2, 0, 1, 3, 4] rfl
        have hD := hD.sub (ws' := [(h, .inr (0, [.ref a1, .ref a2, .ref a3, .ref a4, .int fl, .int fu, .ref a5, .ref a6, .int (nI (wl + 1 + (i - wr) + 1)), .int cap, .int seen])), (b1, .inl (dA, 68, .inl xs)), (b2, .inl (dA, 68, .inl ys)), (a5, .inl (dA, 68, .inl (upd tx (wl + 1 + (i - wr)) (xs i)))), (a6, .inl (dA, 68, .inl (upd ty (wl + 1 + (i - wr)) (ys i))))]) [2, 0, 1, 3, 4] (by decide) rfl
        refine lv_iinc (v := nI (i + 1)) (lv' := [(10, .int (nI (i + 1))), (0, .ref h), (1, .ref b1), (2, .ref b2), (3, .int (nI n)), (4, .int x), (5, .int y), (6, .int sg), (8, .int (nI wl)), (9, .int (nI wr))]) hx hb dX1_with_185 hl (k := 9) rfl (nI_1 i) (by decide) rfl (fun ls hl => ?_)
        refine lv_goto (tgt := 167) hx hb dX1_with_188 (by decide) ?_
        have e9 : wl + 1 + (i - wr) + 1 = wl + 1 + (i + 1 - wr) := by omega
        rw [e9] at hP hD
        exact ih (i + 1) (upd tx (wl + 1 + (i - wr)) (xs i)) (upd ty (wl + 1 + (i - wr)) (ys i)) (by omega) (by omega) (by omega) (fun j hj => by
          by_cases e : j = wl + 1 + (i - wr)
          · rw [e, gp_upds, gh_g_hi, show wr + (i - wr) = i by omega]; rfl
          · rw [gp_upd e]; exact hxy j (by omega)) H locs hP hD hS ls (lv_sub hl [1, 2, 3, 4, 5, 6, 7, 8, 9, 0] rfl)
  have loop2 : ∀ (d i : Nat) (tx ty : Nat → Int32), wl < i + d → i ≤ wl → (∀ j, j < i → gp tx ty j = gh_g (gp xs ys) (g2 x y) wl wr j) → ∀ (H : Heap) (locs : List Loc), va_P (dC, dI) vwCl [(h, .inr (0, [.ref a1, .ref a2, .ref a3, .ref a4, .int fl, .int fu, .ref a5, .ref a6, .int (nI i), .int cap, .int seen])), (b1, .inl (dA, 68, .inl xs)), (b2, .inl (dA, 68, .inl ys)), (a5, .inl (dA, 68, .inl tx)), (a6, .inl (dA, 68, .inl ty))] H → va_D A [(h, .inr (0, [.ref a1, .ref a2, .ref a3, .ref a4, .int fl, .int fu, .ref a5, .ref a6, .int (nI i), .int cap, .int seen])), (b1, .inl (dA, 68, .inl xs)), (b2, .inl (dA, 68, .inl ys)), (a5, .inl (dA, 68, .inl tx)), (a6, .inl (dA, 68, .inl ty))] → va_S A s.heap H locs → ∀ (ls : Array Slot), lv_has ls 11 [(0, .ref h), (1, .ref b1), (2, .ref b2), (3, .int (nI n)), (4, .int x), (5, .int y), (6, .int sg), (8, .int (nI wl)), (9, .int (nI wr)), (10, .int (nI i))] → W p l e (headSpec (ws_ yX1_with cX1_with 11 none) ({ frames := 1, cells := 0, slots := 0, locals := 27 })).room s m ([.ref h, .ref b1, .ref b2, .int (nI n), .int x, .int y, .int sg] : List Value).toArray below meth c H locs 0 0 (MQ below (va_Qv (S := ((Nat → Int32) × (Nat → Int32))) (fun u => ∀ i, i < gh_wn sg.toInt n (gp xs ys) (g2 x y) → gp u.1 u.2 i = gh_wf sg.toInt n (gp xs ys) (g2 x y) i) (gm_B (dC, dI) [(dA, .int)] A (fun u => [(h, .inr (0, [.ref a1, .ref a2, .ref a3, .ref a4, .int fl, .int fu, .ref a5, .ref a6, .int (nI (gh_wn sg.toInt n (gp xs ys) (g2 x y))), .int cap, .int seen])), (b1, .inl (dA, 68, .inl xs)), (b2, .inl (dA, 68, .inl ys)), (a5, .inl (dA, 68, .inl u.1)), (a6, .inl (dA, 68, .inl u.2))])) A) ([.ref h, .ref b1, .ref b2, .int (nI n), .int x, .int y, .int sg] : List Value).toArray s 0 0 A) (F0 m 130 ls []) := by
    intro d
    induction d with
    | zero => intro i tx ty h1 h2; omega
    | succ d ih =>
      intro i tx ty hd hi hxy H locs hP hD hS ls hl
      refine lv_iload hx hb dX1_with_130 (lv_at hl 9 rfl) ?_
      refine lv_iload hx hb dX1_with_132 (lv_at hl 7 rfl) ?_
      refine lv_icmp_ge (tgt := 155) hx hb dX1_with_134 (by decide) (fun c_2 => ?_) (fun c_2 => ?_)
      · have c1 := (nI_leI (by omega) (by omega)).mp c_2
        have e9 : i = wl := by omega
        rw [e9] at hP hD
        rw [e9] at hxy
        refine lv_aload_n hx hb dX1_with_155 rfl (lv_at hl 0 rfl) ?_
        refine lv_iload hx hb dX1_with_156 (lv_at hl 4 rfl) ?_
        refine lv_iload hx hb dX1_with_158 (lv_at hl 5 rfl) ?_
        have hPc := hP.sub (ws' := [(h, .inr (0, [.ref a1, .ref a2, .ref a3, .ref a4, .int fl, .int fu, .ref a5, .ref a6, .int (nI wl), .int cap, .int seen])), (a5, .inl (dA, 68, .inl tx)), (a6, .inl (dA, 68, .inl ty))]) [0, 3, 4] rfl
        have hDc := hD.sub (ws' := [(h, .inr (0, [.ref a1, .ref a2, .ref a3, .ref a4, .int fl, .int fu, .ref a5, .ref a6, .int (nI wl), .int cap, .int seen])), (a5, .inl (dA, 68, .inl tx)), (a6, .inl (dA, 68, .inl ty))]) [0, 3, 4] (by decide) rfl
        have hKc := hK.sub (tys' := [(dA, .int)]) [0] rfl
        have hFc := va_free (wc := [(h, .inr (0, [.ref a1, .ref a2, .ref a3, .ref a4, .int fl, .int fu, .ref a5, .ref a6, .int (nI wl), .int cap, .int seen])), (a5, .inl (dA, 68, .inl tx)), (a6, .inl (dA, 68, .inl ty))]) hD hS hA [0, 3, 4] rfl
        refine va_callv (va_runV (As := [.int x, .int y]) (rest := []) ⟨hx, hb, hml, hown, hts⟩ (metX1_put l dC dI dA H.size h a1 a2 a3 a4 a5 a6 fl fu cap seen wl tx ty x y (by omega)) (cwV 2 hts (lw_V q89 q91 qs2 q11 q92) rfl rfl rfl (by decide +kernel) ⟨Nat.le_of_ble_eq_true rfl, Nat.le_of_ble_eq_true rfl⟩) (gm_preV hK hP (ci := 0) (q0 := 0) rfl rfl hPc hKc hDc) rfl rfl hl.1 rfl (lv_room (Nat.le_of_ble_eq_true rfl)) dX1_with_160 ⟨Nat.zero_le _, Nat.zero_le _⟩) hS (fun q _ h => hFc q h) hFc (fun u t H1 locs ht hvm hwu hB hz1 hk1 hS => ?_)
        obtain ⟨hP1, hK1, hD1⟩ := hB
        rw [ht] at hP1
        obtain ⟨hP, hD⟩ := va_join (wr := [(b1, .inl (dA, 68, .inl xs)), (b2, .inl (dA, 68, .inl ys))]) (w1 := [(h, .inr (0, [.ref a1, .ref a2, .ref a3, .ref a4, .int fl, .int fu, .ref a5, .ref a6, .int (nI (wl + 1)), .int cap, .int seen])), (a5, .inl (dA, 68, .inl (upd tx wl x))), (a6, .inl (dA, 68, .inl (upd ty wl y)))]) hP hD [0, 3, 4] [1, 2] rfl rfl (by decide) (by decide) hk1 hFc hP1 hD1
        generalize H1 = H at hP hS ⊢
        have hP := hP.sub (ws' := [(h, .inr (0, [.ref a1, .ref a2, .ref a3, .ref a4, .int fl, .int fu, .ref a5, .ref a6, .int (nI (wl + 1)), .int cap, .int seen])), (b1, .inl (dA, 68, .inl xs)), (b2, .inl (dA, 68, .inl ys)), (a5, .inl (dA, 68, .inl (upd tx wl x))), (a6, .inl (dA, 68, .inl (upd ty wl y)))]) [2, 0, 1, 3, 4] rfl
        have hD := hD.sub (ws' := [(h, .inr (0, [.ref a1, .ref a2, .ref a3, .ref a4, .int fl, .int fu, .ref a5, .ref a6, .int (nI (wl + 1)), .int cap, .int seen])), (b1, .inl (dA, 68, .inl xs)), (b2, .inl (dA, 68, .inl ys)), (a5, .inl (dA, 68, .inl (upd tx wl x))), (a6, .inl (dA, 68, .inl (upd ty wl y)))]) [2, 0, 1, 3, 4] (by decide) rfl
        refine lv_iload hx hb dX1_with_163 (lv_at hl 8 rfl) ?_
        refine lv_istore (lv' := [(10, .int (nI wr)), (0, .ref h), (1, .ref b1), (2, .ref b2), (3, .int (nI n)), (4, .int x), (5, .int y), (6, .int sg), (8, .int (nI wl)), (9, .int (nI wr))]) hx hb dX1_with_165 hl (by decide) rfl (fun ls hl => ?_)
        have e8 : wl + 1 = wl + 1 + (wr - wr) := by omega
        rw [e8] at hP hD
        exact loop3 (n + 1 - wr) wr (upd tx wl x) (upd ty wl y) (by omega) (by omega) (by omega) (fun j hj => by
          by_cases e : j = wl
          · rw [e, gp_upds, gh_g_mid]
          · rw [gp_upd e]; exact hxy j (by omega)) H locs hP hD hS ls (lv_sub hl [1, 2, 3, 4, 5, 6, 7, 8, 9, 0] rfl)
      · have c1 : i < wl := Nat.not_le.mp (fun z => c_2 ((nI_leI (by omega) (by omega)).mpr z))
        refine lv_aload_n hx hb dX1_with_137 rfl (lv_at hl 0 rfl) ?_
        refine lv_aload_n hx hb dX1_with_138 rfl (lv_at hl 1 rfl) ?_
        refine lv_iload hx hb dX1_with_139 (lv_at hl 9 rfl) ?_
        refine gr_iald (k := i) hx hb hK hP 1 0 rfl rfl (by omega) (by decide) dX1_with_141 ?_
        refine lv_aload_n hx hb dX1_with_142 rfl (lv_at hl 2 rfl) ?_
        refine lv_iload hx hb dX1_with_143 (lv_at hl 9 rfl) ?_
        refine gr_iald (k := i) hx hb hK hP 2 0 rfl rfl (by omega) (by decide) dX1_with_145 ?_
        have hPc := hP.sub (ws' := [(h, .inr (0, [.ref a1, .ref a2, .ref a3, .ref a4, .int fl, .int fu, .ref a5, .ref a6, .int (nI i), .int cap, .int seen])), (a5, .inl (dA, 68, .inl tx)), (a6, .inl (dA, 68, .inl ty))]) [0, 3, 4] rfl
        have hDc := hD.sub (ws' := [(h, .inr (0, [.ref a1, .ref a2, .ref a3, .ref a4, .int fl, .int fu, .ref a5, .ref a6, .int (nI i), .int cap, .int seen])), (a5, .inl (dA, 68, .inl tx)), (a6, .inl (dA, 68, .inl ty))]) [0, 3, 4] (by decide) rfl
        have hKc := hK.sub (tys' := [(dA, .int)]) [0] rfl
        have hFc := va_free (wc := [(h, .inr (0, [.ref a1, .ref a2, .ref a3, .ref a4, .int fl, .int fu, .ref a5, .ref a6, .int (nI i), .int cap, .int seen])), (a5, .inl (dA, 68, .inl tx)), (a6, .inl (dA, 68, .inl ty))]) hD hS hA [0, 3, 4] rfl
        refine va_callv (va_runV (As := [.int (xs i), .int (ys i)]) (rest := []) ⟨hx, hb, hml, hown, hts⟩ (metX1_put l dC dI dA H.size h a1 a2 a3 a4 a5 a6 fl fu cap seen i tx ty (xs i) (ys i) (by omega)) (cwV 2 hts (lw_V q89 q91 qs2 q11 q92) rfl rfl rfl (by decide +kernel) ⟨Nat.le_of_ble_eq_true rfl, Nat.le_of_ble_eq_true rfl⟩) (gm_preV hK hP (ci := 0) (q0 := 0) rfl rfl hPc hKc hDc) rfl rfl hl.1 rfl (lv_room (Nat.le_of_ble_eq_true rfl)) dX1_with_146 ⟨Nat.zero_le _, Nat.zero_le _⟩) hS (fun q _ h => hFc q h) hFc (fun u t H1 locs ht hvm hwu hB hz1 hk1 hS => ?_)
        obtain ⟨hP1, hK1, hD1⟩ := hB
        rw [ht] at hP1
        obtain ⟨hP, hD⟩ := va_join (wr := [(b1, .inl (dA, 68, .inl xs)), (b2, .inl (dA, 68, .inl ys))]) (w1 := [(h, .inr (0, [.ref a1, .ref a2, .ref a3, .ref a4, .int fl, .int fu, .ref a5, .ref a6, .int (nI (i + 1)), .int cap, .int seen])), (a5, .inl (dA, 68, .inl (upd tx i (xs i)))), (a6, .inl (dA, 68, .inl (upd ty i (ys i))))]) hP hD [0, 3, 4] [1, 2] rfl rfl (by decide) (by decide) hk1 hFc hP1 hD1
        generalize H1 = H at hP hS ⊢
        have hP := hP.sub (ws' := [(h, .inr (0, [.ref a1, .ref a2, .ref a3, .ref a4, .int fl, .int fu, .ref a5, .ref a6, .int (nI (i + 1)), .int cap, .int seen])), (b1, .inl (dA, 68, .inl xs)), (b2, .inl (dA, 68, .inl ys)), (a5, .inl (dA, 68, .inl (upd tx i (xs i)))), (a6, .inl (dA, 68, .inl (upd ty i (ys i))))]) [2, 0, 1, 3, 4] rfl
        have hD := hD.sub (ws' := [(h, .inr (0, [.ref a1, .ref a2, .ref a3, .ref a4, .int fl, .int fu, .ref a5, .ref a6, .int (nI (i + 1)), .int cap, .int seen])), (b1, .inl (dA, 68, .inl xs)), (b2, .inl (dA, 68, .inl ys)), (a5, .inl (dA, 68, .inl (upd tx i (xs i)))), (a6, .inl (dA, 68, .inl (upd ty i (ys i))))]) [2, 0, 1, 3, 4] (by decide) rfl
        refine lv_iinc (v := nI (i + 1)) (lv' := [(10, .int (nI (i + 1))), (0, .ref h), (1, .ref b1), (2, .ref b2), (3, .int (nI n)), (4, .int x), (5, .int y), (6, .int sg), (8, .int (nI wl)), (9, .int (nI wr))]) hx hb dX1_with_149 hl (k := 9) rfl (nI_1 i) (by decide) rfl (fun ls hl => ?_)
        refine lv_goto (tgt := 130) hx hb dX1_with_152 (by decide) ?_
        exact ih (i + 1) (upd tx i (xs i)) (upd ty i (ys i)) (by omega) (by omega) (fun j hj => by
          by_cases e : j = i
          · rw [e, gp_upds, gh_g_lo c1]; rfl
          · rw [gp_upd e]; exact hxy j (by omega)) H locs hP hD hS ls (lv_sub hl [1, 2, 3, 4, 5, 6, 7, 8, 9, 0] rfl)
  have at122 : ∀ (ls : Array Slot), lv_has ls 11 [(0, .ref h), (1, .ref b1), (2, .ref b2), (3, .int (nI n)), (4, .int x), (5, .int y), (6, .int sg), (8, .int (nI wl)), (9, .int (nI wr))] → W p l e (headSpec (ws_ yX1_with cX1_with 11 none) ({ frames := 1, cells := 0, slots := 0, locals := 27 })).room s m ([.ref h, .ref b1, .ref b2, .int (nI n), .int x, .int y, .int sg] : List Value).toArray below meth c s.heap [] 0 0 (MQ below (va_Qv (S := ((Nat → Int32) × (Nat → Int32))) (fun u => ∀ i, i < gh_wn sg.toInt n (gp xs ys) (g2 x y) → gp u.1 u.2 i = gh_wf sg.toInt n (gp xs ys) (g2 x y) i) (gm_B (dC, dI) [(dA, .int)] A (fun u => [(h, .inr (0, [.ref a1, .ref a2, .ref a3, .ref a4, .int fl, .int fu, .ref a5, .ref a6, .int (nI (gh_wn sg.toInt n (gp xs ys) (g2 x y))), .int cap, .int seen])), (b1, .inl (dA, 68, .inl xs)), (b2, .inl (dA, 68, .inl ys)), (a5, .inl (dA, 68, .inl u.1)), (a6, .inl (dA, 68, .inl u.2))])) A) ([.ref h, .ref b1, .ref b2, .int (nI n), .int x, .int y, .int sg] : List Value).toArray s 0 0 A) (F0 m 122 ls []) := by
    intro ls hl
    refine lv_aload_n hx hb dX1_with_122 rfl (lv_at hl 0 rfl) ?_
    refine lv_iconst (v := 0) hx hb dX1_with_123 (by decide) ?_
    refine gr_topi (y := nI 0) (nI_0.symm) ?_
    refine va_put (D := (dC, dI)) (ci := 0) (v := .int (nI 0)) (ty := .int) (C := RX1) (T := TX1) (N := 11) hx hb hts in_X1 tyX1 tyX1_ok nmX1 hown hK hP hD hS 0 rfl rfl 8 (by decide) (hts _ q29) (fun _ h9 => h9) rfl (by decide +kernel) rfl rfl (Nat.le_of_ble_eq_true rfl) dX1_with_124 (fun H locs hP hD hS => ?_)
    have hP : va_P (dC, dI) vwCl [(h, .inr (0, [.ref a1, .ref a2, .ref a3, .ref a4, .int fl, .int fu, .ref a5, .ref a6, .int (nI 0), .int cap, .int seen])), (b1, .inl (dA, 68, .inl xs)), (b2, .inl (dA, 68, .inl ys)), (a5, .inl (dA, 68, .inl tx)), (a6, .inl (dA, 68, .inl ty))] H := hP
    have hD : va_D A [(h, .inr (0, [.ref a1, .ref a2, .ref a3, .ref a4, .int fl, .int fu, .ref a5, .ref a6, .int (nI 0), .int cap, .int seen])), (b1, .inl (dA, 68, .inl xs)), (b2, .inl (dA, 68, .inl ys)), (a5, .inl (dA, 68, .inl tx)), (a6, .inl (dA, 68, .inl ty))] := hD
    refine lv_iconst (v := 0) hx hb dX1_with_127 (by decide) ?_
    refine lv_istore (lv' := [(10, .int 0), (0, .ref h), (1, .ref b1), (2, .ref b2), (3, .int (nI n)), (4, .int x), (5, .int y), (6, .int sg), (8, .int (nI wl)), (9, .int (nI wr))]) hx hb dX1_with_128 hl (by decide) rfl (fun ls hl => ?_)
    exact loop2 (wl + 1) 0 tx ty (by omega) (by omega) (fun j hj => by omega) H locs hP hD hS ls (lv_sub hl [1, 2, 3, 4, 5, 6, 7, 8, 9, 0] rfl)
  have loopR : ∀ (d rt g : Nat), n < rt + d → rt ≤ n → n ≤ rt + g → gh_rgt sg.toInt n (gp xs ys) (g2 x y) g rt = wr → ∀ (ls : Array Slot), lv_has ls 11 [(0, .ref h), (1, .ref b1), (2, .ref b2), (3, .int (nI n)), (4, .int x), (5, .int y), (6, .int sg), (8, .int (nI wl)), (9, .int (nI rt))] → W p l e (headSpec (ws_ yX1_with cX1_with 11 none) ({ frames := 1, cells := 0, slots := 0, locals := 27 })).room s m ([.ref h, .ref b1, .ref b2, .int (nI n), .int x, .int y, .int sg] : List Value).toArray below meth c s.heap [] 0 0 (MQ below (va_Qv (S := ((Nat → Int32) × (Nat → Int32))) (fun u => ∀ i, i < gh_wn sg.toInt n (gp xs ys) (g2 x y) → gp u.1 u.2 i = gh_wf sg.toInt n (gp xs ys) (g2 x y) i) (gm_B (dC, dI) [(dA, .int)] A (fun u => [(h, .inr (0, [.ref a1, .ref a2, .ref a3, .ref a4, .int fl, .int fu, .ref a5, .ref a6, .int (nI (gh_wn sg.toInt n (gp xs ys) (g2 x y))), .int cap, .int seen])), (b1, .inl (dA, 68, .inl xs)), (b2, .inl (dA, 68, .inl ys)), (a5, .inl (dA, 68, .inl u.1)), (a6, .inl (dA, 68, .inl u.2))])) A) ([.ref h, .ref b1, .ref b2, .int (nI n), .int x, .int y, .int sg] : List Value).toArray s 0 0 A) (F0 m 72 ls []) := by
    intro d
    induction d with
    | zero => intro rt g h1 h2; omega
    | succ d ih =>
      intro rt g hd hrt hg hrg ls hl
      refine lv_iload hx hb dX1_with_72 (lv_at hl 8 rfl) ?_
      refine lv_iconst (v := 1) hx hb dX1_with_74 (by decide) ?_
      refine lv_iadd hx hb dX1_with_75 ?_
      refine gr_topi (y := nI (rt + 1)) (nI_1 rt) ?_
      refine lv_iload_n hx hb dX1_with_76 rfl (lv_at hl 3 rfl) ?_
      refine lv_icmp_ge (tgt := 122) hx hb dX1_with_77 (by decide) (fun c_3 => ?_) (fun c_3 => ?_)
      · have c1 := (nI_leI (by omega) (by omega)).mp c_3
        rw [gh_rgt_stop (fun z => by omega)] at hrg
        rw [hrg] at hl
        exact at122 ls (lv_sub hl [0, 1, 2, 3, 4, 5, 6, 7, 8] rfl)
      · have c1 : rt + 1 < n := Nat.not_le.mp (fun z => c_3 ((nI_leI (by omega) (by omega)).mpr z))
        refine lv_iload hx hb dX1_with_80 (lv_at hl 6 rfl) ?_
        refine lv_i2l hx hb dX1_with_82 rfl ?_
        refine lv_iload hx hb dX1_with_83 (lv_at hl 4 rfl) ?_
        refine lv_iload hx hb dX1_with_85 (lv_at hl 5 rfl) ?_
        refine lv_aload_n hx hb dX1_with_87 rfl (lv_at hl 1 rfl) ?_
        refine lv_iload hx hb dX1_with_88 (lv_at hl 8 rfl) ?_
        refine gr_iald (k := rt) hx hb hK hP 1 0 rfl rfl (by omega) (by decide) dX1_with_90 ?_
        refine lv_aload_n hx hb dX1_with_91 rfl (lv_at hl 2 rfl) ?_
        refine lv_iload hx hb dX1_with_92 (lv_at hl 8 rfl) ?_
        refine gr_iald (k := rt) hx hb hK hP 2 0 rfl rfl (by omega) (by decide) dX1_with_94 ?_
        refine lv_aload_n hx hb dX1_with_95 rfl (lv_at hl 1 rfl) ?_
        refine lv_iload hx hb dX1_with_96 (lv_at hl 8 rfl) ?_
        refine lv_iconst (v := 1) hx hb dX1_with_98 (by decide) ?_
        refine lv_iadd hx hb dX1_with_99 ?_
        refine gr_topi (y := nI (rt + 1)) (nI_1 rt) ?_
        refine gr_iald (k := rt + 1) hx hb hK hP 1 0 rfl rfl (by omega) (by decide) dX1_with_100 ?_
        refine lv_aload_n hx hb dX1_with_101 rfl (lv_at hl 2 rfl) ?_
        refine lv_iload hx hb dX1_with_102 (lv_at hl 8 rfl) ?_
        refine lv_iconst (v := 1) hx hb dX1_with_104 (by decide) ?_
        refine lv_iadd hx hb dX1_with_105 ?_
        refine gr_topi (y := nI (rt + 1)) (nI_1 rt) ?_
        refine gr_iald (k := rt + 1) hx hb hK hP 2 0 rfl rfl (by omega) (by decide) dX1_with_106 ?_
        refine vp_callSl (va_Run.run (va_runS (As := [.int x, .int y, .int (xs rt), .int (ys rt), .int (xs (rt + 1)), .int (ys (rt + 1))]) (rest := [.long sg.toInt64]) ⟨hx, hb, hml, hown, hts⟩ (metX1_turn l dC dI dA x y (xs rt) (ys rt) (xs (rt + 1)) (ys (rt + 1))) (va_cwS 6 hts (lw_S q69 q70 q11 q71) rfl rfl rfl (by decide +kernel) ⟨Nat.le_of_ble_eq_true rfl, Nat.le_of_ble_eq_true rfl⟩) (gr_preS (hP.sub (ws' := []) [] rfl) (hK.sub (tys' := []) [] rfl)) rfl rfl hl.1 rfl (lv_room (Nat.le_of_ble_eq_true rfl)) dX1_with_107 ⟨Nat.zero_le _, Nat.zero_le _⟩)) (fun tt htt => ?_)
        have htt : tt = gt_turn x y (xs rt) (ys rt) (xs (rt + 1)) (ys (rt + 1)) := htt
        have hto : tt.toInt = gh_T (g2 x y) (gp xs ys rt) (gp xs ys (rt + 1)) ∧ -2147221512 ≤ gh_T (g2 x y) (gp xs ys rt) (gp xs ys (rt + 1)) ∧ gh_T (g2 x y) (gp xs ys rt) (gp xs ys (rt + 1)) ≤ 2147221512 := by rw [htt]; exact gt_turn_ok hp (hok rt (by omega)) (hok (rt + 1) (by omega))
        have hsx := gt_sig (t := tt) hsg (by omega) (by omega)
        refine lv_lmul hx hb dX1_with_110 ?_
        refine lv_topl (fun t2 et2 => ?_)
        have ht2 : t2.toInt = gh_S sg.toInt (g2 x y) (gp xs ys rt) (gp xs ys (rt + 1)) := by rw [et2, hsx, hto.1]; rfl
        refine lv_lconst (v := 0) hx hb dX1_with_111 (by decide) ?_
        refine W.lcmp hx hb dX1_with_112 ?_
        refine lv_if_gt (tgt := 122) hx hb dX1_with_113 (by decide) (fun c_5 => ?_) (fun c_5 => ?_)
        · rw [lg_cmp_gt, Int64.lt_iff_toInt_lt, ht2] at c_5
          rw [gh_rgt_stop (fun z => absurd z.2 (Int.not_le.mpr c_5))] at hrg
          rw [hrg] at hl
          exact at122 ls (lv_sub hl [0, 1, 2, 3, 4, 5, 6, 7, 8] rfl)
        · rw [lg_cmp_gt, Int64.lt_iff_toInt_lt, ht2] at c_5
          obtain ⟨g2_, rfl⟩ : ∃ g2_, g = g2_ + 1 := ⟨g - 1, by omega⟩
          rw [gh_rgt_go c1 (Int.not_lt.mp c_5)] at hrg
          refine lv_iinc (v := nI (rt + 1)) (lv' := [(9, .int (nI (rt + 1))), (0, .ref h), (1, .ref b1), (2, .ref b2), (3, .int (nI n)), (4, .int x), (5, .int y), (6, .int sg), (8, .int (nI wl))]) hx hb dX1_with_116 hl (k := 8) rfl (nI_1 rt) (by decide) rfl (fun ls hl => ?_)
          refine lv_goto (tgt := 72) hx hb dX1_with_119 (by decide) ?_
          exact ih (rt + 1) g2_ (by omega) (by omega) (by omega) hrg ls (lv_sub hl [1, 2, 3, 4, 5, 6, 7, 8, 0] rfl)
  have at68 : ∀ (ls : Array Slot), lv_has ls 11 [(0, .ref h), (1, .ref b1), (2, .ref b2), (3, .int (nI n)), (4, .int x), (5, .int y), (6, .int sg), (7, .int (nI k)), (8, .int (nI wl))] → W p l e (headSpec (ws_ yX1_with cX1_with 11 none) ({ frames := 1, cells := 0, slots := 0, locals := 27 })).room s m ([.ref h, .ref b1, .ref b2, .int (nI n), .int x, .int y, .int sg] : List Value).toArray below meth c s.heap [] 0 0 (MQ below (va_Qv (S := ((Nat → Int32) × (Nat → Int32))) (fun u => ∀ i, i < gh_wn sg.toInt n (gp xs ys) (g2 x y) → gp u.1 u.2 i = gh_wf sg.toInt n (gp xs ys) (g2 x y) i) (gm_B (dC, dI) [(dA, .int)] A (fun u => [(h, .inr (0, [.ref a1, .ref a2, .ref a3, .ref a4, .int fl, .int fu, .ref a5, .ref a6, .int (nI (gh_wn sg.toInt n (gp xs ys) (g2 x y))), .int cap, .int seen])), (b1, .inl (dA, 68, .inl xs)), (b2, .inl (dA, 68, .inl ys)), (a5, .inl (dA, 68, .inl u.1)), (a6, .inl (dA, 68, .inl u.2))])) A) ([.ref h, .ref b1, .ref b2, .int (nI n), .int x, .int y, .int sg] : List Value).toArray s 0 0 A) (F0 m 68 ls []) := by
    intro ls hl
    refine lv_iload hx hb dX1_with_68 (lv_at hl 7 rfl) ?_
    refine lv_istore (lv' := [(9, .int (nI k)), (0, .ref h), (1, .ref b1), (2, .ref b2), (3, .int (nI n)), (4, .int x), (5, .int y), (6, .int sg), (7, .int (nI k)), (8, .int (nI wl))]) hx hb dX1_with_70 hl (by decide) rfl (fun ls hl => ?_)
    exact loopR (n + 1 - k) k n (by omega) (by omega) (by omega) (by rw [hwr, hk]; rfl) ls (lv_sub hl [1, 2, 3, 4, 5, 6, 7, 9, 0] rfl)
  have loopL : ∀ (lf : Nat), lf ≤ k → gh_lft sg.toInt (gp xs ys) (g2 x y) lf = wl → ∀ (ls : Array Slot), lv_has ls 11 [(0, .ref h), (1, .ref b1), (2, .ref b2), (3, .int (nI n)), (4, .int x), (5, .int y), (6, .int sg), (7, .int (nI k)), (8, .int (nI lf))] → W p l e (headSpec (ws_ yX1_with cX1_with 11 none) ({ frames := 1, cells := 0, slots := 0, locals := 27 })).room s m ([.ref h, .ref b1, .ref b2, .int (nI n), .int x, .int y, .int sg] : List Value).toArray below meth c s.heap [] 0 0 (MQ below (va_Qv (S := ((Nat → Int32) × (Nat → Int32))) (fun u => ∀ i, i < gh_wn sg.toInt n (gp xs ys) (g2 x y) → gp u.1 u.2 i = gh_wf sg.toInt n (gp xs ys) (g2 x y) i) (gm_B (dC, dI) [(dA, .int)] A (fun u => [(h, .inr (0, [.ref a1, .ref a2, .ref a3, .ref a4, .int fl, .int fu, .ref a5, .ref a6, .int (nI (gh_wn sg.toInt n (gp xs ys) (g2 x y))), .int cap, .int seen])), (b1, .inl (dA, 68, .inl xs)), (b2, .inl (dA, 68, .inl ys)), (a5, .inl (dA, 68, .inl u.1)), (a6, .inl (dA, 68, .inl u.2))])) A) ([.ref h, .ref b1, .ref b2, .int (nI n), .int x, .int y, .int sg] : List Value).toArray s 0 0 A) (F0 m 16 ls []) := by
    intro lf
    induction lf using Nat.strongRecOn with
    | _ lf ih =>
      intro hlf hlw ls hl
      refine lv_iload hx hb dX1_with_16 (lv_at hl 8 rfl) ?_
      refine lv_iconst (v := 1) hx hb dX1_with_18 (by decide) ?_
      refine lv_icmp_le (tgt := 68) hx hb dX1_with_19 (by decide) (fun c_6 => ?_) (fun c_6 => ?_)
      · have c1 := (nI_leI (b := 1) (by omega) (by omega)).mp c_6
        rw [gh_lft_stop (Or.inl c1)] at hlw
        rw [hlw] at hl
        exact at68 ls (lv_sub hl [0, 1, 2, 3, 4, 5, 6, 7, 8] rfl)
      · have c1 : 1 < lf := Nat.not_le.mp (fun z => c_6 ((nI_leI (b := 1) (by omega) (by omega)).mpr z))
        obtain ⟨j, rfl⟩ : ∃ j, lf = j + 2 := ⟨lf - 2, by omega⟩
        refine lv_iload hx hb dX1_with_22 (lv_at hl 6 rfl) ?_
        refine lv_i2l hx hb dX1_with_24 rfl ?_
        refine lv_aload_n hx hb dX1_with_25 rfl (lv_at hl 1 rfl) ?_
        refine lv_iload hx hb dX1_with_26 (lv_at hl 8 rfl) ?_
        refine lv_iconst (v := 2) hx hb dX1_with_28 (by decide) ?_
        refine lv_isub hx hb dX1_with_29 ?_
        refine gr_topi (y := nI j) (gi_m2 (by omega)) ?_
        refine gr_iald (k := j) hx hb hK hP 1 0 rfl rfl (by omega) (by decide) dX1_with_30 ?_
        refine lv_aload_n hx hb dX1_with_31 rfl (lv_at hl 2 rfl) ?_
        refine lv_iload hx hb dX1_with_32 (lv_at hl 8 rfl) ?_
        refine lv_iconst (v := 2) hx hb dX1_with_34 (by decide) ?_
        refine lv_isub hx hb dX1_with_35 ?_
        refine gr_topi (y := nI j) (gi_m2 (by omega)) ?_
        refine gr_iald (k := j) hx hb hK hP 2 0 rfl rfl (by omega) (by decide) dX1_with_36 ?_
        refine lv_aload_n hx hb dX1_with_37 rfl (lv_at hl 1 rfl) ?_
        refine lv_iload hx hb dX1_with_38 (lv_at hl 8 rfl) ?_
        refine lv_iconst (v := 1) hx hb dX1_with_40 (by decide) ?_
        refine lv_isub hx hb dX1_with_41 ?_
        refine gr_topi (y := nI (j + 1)) (gi_m1 (by omega)) ?_
        refine gr_iald (k := j + 1) hx hb hK hP 1 0 rfl rfl (by omega) (by decide) dX1_with_42 ?_
        refine lv_aload_n hx hb dX1_with_43 rfl (lv_at hl 2 rfl) ?_
        refine lv_iload hx hb dX1_with_44 (lv_at hl 8 rfl) ?_
        refine lv_iconst (v := 1) hx hb dX1_with_46 (by decide) ?_
        refine lv_isub hx hb dX1_with_47 ?_
        refine gr_topi (y := nI (j + 1)) (gi_m1 (by omega)) ?_
        refine gr_iald (k := j + 1) hx hb hK hP 2 0 rfl rfl (by omega) (by decide) dX1_with_48 ?_
        refine lv_iload hx hb dX1_with_49 (lv_at hl 4 rfl) ?_
        refine lv_iload hx hb dX1_with_51 (lv_at hl 5 rfl) ?_
        refine vp_callSl (va_Run.run (va_runS (As := [.int (xs j), .int (ys j), .int (xs (j + 1)), .int (ys (j + 1)), .int x, .int y]) (rest := [.long sg.toInt64]) ⟨hx, hb, hml, hown, hts⟩ (metX1_turn l dC dI dA (xs j) (ys j) (xs (j + 1)) (ys (j + 1)) x y) (va_cwS 6 hts (lw_S q69 q70 q11 q71) rfl rfl rfl (by decide +kernel) ⟨Nat.le_of_ble_eq_true rfl, Nat.le_of_ble_eq_true rfl⟩) (gr_preS (hP.sub (ws' := []) [] rfl) (hK.sub (tys' := []) [] rfl)) rfl rfl hl.1 rfl (lv_room (Nat.le_of_ble_eq_true rfl)) dX1_with_53 ⟨Nat.zero_le _, Nat.zero_le _⟩)) (fun tt htt => ?_)
        have htt : tt = gt_turn (xs j) (ys j) (xs (j + 1)) (ys (j + 1)) x y := htt
        have hto : tt.toInt = gh_T (gp xs ys j) (gp xs ys (j + 1)) (g2 x y) ∧ -2147221512 ≤ gh_T (gp xs ys j) (gp xs ys (j + 1)) (g2 x y) ∧ gh_T (gp xs ys j) (gp xs ys (j + 1)) (g2 x y) ≤ 2147221512 := by rw [htt]; exact gt_turn_ok (hok j (by omega)) (hok (j + 1) (by omega)) hp
        have hsx := gt_sig (t := tt) hsg (by omega) (by omega)
        refine lv_lmul hx hb dX1_with_56 ?_
        refine lv_topl (fun t2 et2 => ?_)
        have ht2 : t2.toInt = gh_S sg.toInt (gp xs ys j) (gp xs ys (j + 1)) (g2 x y) := by rw [et2, hsx, hto.1]; rfl
        refine lv_lconst (v := 0) hx hb dX1_with_57 (by decide) ?_
        refine W.lcmp hx hb dX1_with_58 ?_
        refine lv_if_gt (tgt := 68) hx hb dX1_with_59 (by decide) (fun c_8 => ?_) (fun c_8 => ?_)
        · rw [lg_cmp_gt, Int64.lt_iff_toInt_lt, ht2] at c_8
          rw [gh_lft_stop (Or.inr ⟨j, rfl, c_8⟩)] at hlw
          rw [hlw] at hl
          exact at68 ls (lv_sub hl [0, 1, 2, 3, 4, 5, 6, 7, 8] rfl)
        · rw [lg_cmp_gt, Int64.lt_iff_toInt_lt, ht2] at c_8
          rw [gh_lft_go (Int.not_lt.mp c_8)] at hlw
          refine lv_iinc (v := nI (j + 1)) (lv' := [(8, .int (nI (j + 1))), (0, .ref h), (1, .ref b1), (2, .ref b2), (3, .int (nI n)), (4, .int x), (5, .int y), (6, .int sg), (7, .int (nI k))]) hx hb dX1_with_62 hl (k := 8) rfl (pk_m1 (j + 1)) (by decide) rfl (fun ls hl => ?_)
          refine lv_goto (tgt := 16) hx hb dX1_with_65 (by decide) ?_
          exact ih (j + 1) (by omega) (by omega) hlw ls (lv_sub hl [1, 2, 3, 4, 5, 6, 7, 8, 0] rfl)
  refine lv_aload_n hx hb dX1_with_0 rfl (lv_at hl 1 rfl) ?_
  refine lv_aload_n hx hb dX1_with_1 rfl (lv_at hl 2 rfl) ?_
  refine lv_iload_n hx hb dX1_with_2 rfl (lv_at hl 3 rfl) ?_
  refine lv_iload hx hb dX1_with_3 (lv_at hl 4 rfl) ?_
  refine lv_iload hx hb dX1_with_5 (lv_at hl 5 rfl) ?_
  refine vp_callSi (va_Run.run (va_runS (As := [.ref b1, .ref b2, .int (nI n), .int x, .int y]) (rest := []) ⟨hx, hb, hml, hown, hts⟩ (metX1_place l dC dI dA b1 b2 n xs ys x y (by omega) sg.toInt hC hok hp) (va_cwS 5 hts (lw_S q66 q67 q11 q68) rfl rfl rfl (by decide +kernel) ⟨Nat.le_of_ble_eq_true rfl, Nat.le_of_ble_eq_true rfl⟩) (gr_preS (hP.sub (ws' := [(b1, .inl (dA, 68, .inl xs)), (b2, .inl (dA, 68, .inl ys))]) [1, 2] rfl) (hK.sub (tys' := [(dA, .int)]) [0] rfl)) rfl rfl hl.1 rfl (lv_room (Nat.le_of_ble_eq_true rfl)) dX1_with_7 ⟨Nat.zero_le _, Nat.zero_le _⟩)) (fun z hz => ?_)
  have hz : z = nI (gh_plc (gp xs ys) (g2 x y) n) := hz
  rw [← hk] at hz
  subst hz
  refine lv_istore (lv' := [(7, .int (nI k)), (0, .ref h), (1, .ref b1), (2, .ref b2), (3, .int (nI n)), (4, .int x), (5, .int y), (6, .int sg)]) hx hb dX1_with_10 hl (by decide) rfl (fun ls hl => ?_)
  refine lv_iload hx hb dX1_with_12 (lv_at hl 0 rfl) ?_
  refine lv_istore (lv' := [(8, .int (nI k)), (7, .int (nI k)), (0, .ref h), (1, .ref b1), (2, .ref b2), (3, .int (nI n)), (4, .int x), (5, .int y), (6, .int sg)]) hx hb dX1_with_14 hl (by decide) rfl (fun ls hl => ?_)
  exact loopL k (Nat.le_refl _) (by rw [hwl, hk]; rfl) ls (lv_sub hl [2, 3, 4, 5, 6, 7, 8, 1, 0] rfl)
end
section
/-! ===== OnlineHull: its making, and add ===== -/
theorem gc_rem (x y : Int32) : (x - (x / y) * y).toInt = x.toInt.tmod y.toInt := by
  have a := (x % y).toInt_lt
  have b := (x % y).le_toInt
  rw [Int32.toInt_mod] at a b
  rw [Int32.toInt_sub, Int32.toInt_mul, Int32.toInt_div, Int.bmod_mul_bmod, Int.sub_bmod_bmod, Int.mul_comm, ← Int.tmod_def]
  exact Kit.bmod32 b a
def gc_cap (n : Int32) : Int32 := 3 + (if 0 ≤ n - n / 62 * 62 then n - n / 62 * 62 else n - n / 62 * 62 + 62)
theorem gc_cap_ok (n : Int32) : ∃ c : Nat, 3 ≤ c ∧ c ≤ 64 ∧ gc_cap n = nI c := by
  have e : (n - n / 62 * 62).toInt = n.toInt.tmod 62 := gc_rem n 62
  have b1 : (n.toInt.tmod 62) < 62 := Int.tmod_lt_of_pos _ (by decide)
  have b2 : -62 < (n.toInt.tmod 62) := Int.lt_tmod_of_pos _ (by decide)
  unfold gc_cap
  generalize n - n / 62 * 62 = w at e ⊢
  obtain ⟨v, hv⟩ : ∃ v : Int, v = w.toInt := ⟨_, rfl⟩
  rw [← e, ← hv] at b1 b2
  have t3 : ((3 : Int32)).toInt = 3 := by decide
  have t62 : ((62 : Int32)).toInt = 62 := by decide
  by_cases h : 0 ≤ w
  · rw [if_pos h]
    have h := Int32.le_iff_toInt_le.mp h
    rw [← hv, Int32.toInt_zero] at h
    refine ⟨3 + v.toNat, by omega, by omega, Int32.toInt_inj.mp ?_⟩
    rw [nI_toInt (by omega), Kit.i32_add (by rw [t3, ← hv]; omega) (by rw [t3, ← hv]; omega), t3, ← hv]
    omega
  · rw [if_neg h]
    rw [Int32.le_iff_toInt_le, ← hv, Int32.toInt_zero] at h
    have e2 : (w + 62).toInt = v + 62 := by
      rw [Kit.i32_add (by rw [t62, ← hv]; omega) (by rw [t62, ← hv]; omega), t62, ← hv]
    refine ⟨3 + (v + 62).toNat, by omega, by omega, Int32.toInt_inj.mp ?_⟩
    rw [nI_toInt (by omega), Kit.i32_add (by rw [t3, e2]; omega) (by rw [t3, e2]; omega), t3, e2]
    omega
abbrev gA_S : Type := (Nat × Nat) × ((Nat → Int32) × (Nat → Int32) × (Nat → Int32) × (Nat → Int32) × (Nat → Int32) × (Nat → Int32)) × Int32 × Int32
/-- what add answers, and what the chains are then -/
def gA_post (nl : Nat) (lx ly : Nat → Int32) (nu : Nat) (ux uy : Nat → Int32) (p : Int × Int) (capN n1 : Nat) (L1 : Nat → Int × Int) (n2 : Nat) (U1 : Nat → Int × Int) (seen r : Int32) (u : gA_S) : Prop :=
  (¬ gh_ok p ∧ r = -1 ∧ (u.1.1 = nl ∧ u.1.2 = nu ∧ u.2.1.1 = lx ∧ u.2.1.2.1 = ly ∧ u.2.1.2.2.1 = ux ∧ u.2.1.2.2.2.1 = uy) ∧ u.2.2.2 = seen) ∨
  (gh_ok p ∧ (gh_A 1 nl (gp lx ly) p ∧ gh_A (-1) nu (gp ux uy) p) ∧ r = 0 ∧ (u.1.1 = nl ∧ u.1.2 = nu ∧ u.2.1.1 = lx ∧ u.2.1.2.1 = ly ∧ u.2.1.2.2.1 = ux ∧ u.2.1.2.2.2.1 = uy) ∧ u.2.2.2 = seen + 1) ∨
  (gh_ok p ∧ ¬ (gh_A 1 nl (gp lx ly) p ∧ gh_A (-1) nu (gp ux uy) p) ∧ capN < gh_N n1 n2 ∧ r = -2 ∧ (u.1.1 = nl ∧ u.1.2 = nu ∧ u.2.1.1 = lx ∧ u.2.1.2.1 = ly ∧ u.2.1.2.2.1 = ux ∧ u.2.1.2.2.2.1 = uy) ∧ u.2.2.2 = seen) ∨
  (gh_ok p ∧ ¬ (gh_A 1 nl (gp lx ly) p ∧ gh_A (-1) nu (gp ux uy) p) ∧ gh_N n1 n2 ≤ capN ∧ r = 2 + nI (gh_N nl nu) - nI (gh_N n1 n2) ∧ (u.1.1 = n1 ∧ u.1.2 = n2 ∧ (∀ i, i < n1 → gp u.2.1.1 u.2.1.2.1 i = L1 i) ∧ (∀ i, i < n2 → gp u.2.1.2.2.1 u.2.1.2.2.2.1 i = U1 i)) ∧ u.2.2.2 = seen + 1)
theorem gh_wn_le (σ : Int) (n : Nat) (f : Nat → Int × Int) (p : Int × Int) : gh_wn σ n f p ≤ n + 1 := by
  obtain ⟨a, b, c, d⟩ := gh_w_le σ n f p
  unfold gh_wn
  omega
theorem gh_Up_le {σ : Int} {n : Nat} {f : Nat → Int × Int} {p : Int × Int} {n' : Nat} {f' : Nat → Int × Int} (h : gh_Up σ n f p n' f') : n' ≤ n + 1 := by
  rcases h with ⟨_, e, _⟩ | ⟨_, e, _⟩
  · rw [e]
    exact gh_wn_le σ n f p
  · omega
set_option maxHeartbeats 4000000 in
set_option maxRecDepth 100000 in
theorem metX1_init (l : Launch) (dC : Nat → ClassId) (dI : Nat → Nat → Nat) (dA : ClassId) (sz : Nat) (h : Nat) (n : Int32) : Met l yX1_init (ws_ yX1_init cX1_init 3 none) ({ frames := 1, cells := 6, slots := 408, locals := 12 }) (gm_Pc (dC, dI) [.ref h, .int n] sz [(h, .inr (0, [.null, .null, .null, .null, .int 0, .int 0, .null, .null, .int 0, .int 0, .int 0]))] [(dA, .int)]) (va_Qv (S := (Nat × Nat × Nat × Nat × Nat × Nat)) (fun _ => True) (gm_B (dC, dI) [(dA, .int)] (va_A [(h, .inr (0, [.null, .null, .null, .null, .int 0, .int 0, .null, .null, .int 0, .int 0, .int 0]))] sz) (fun u => [(h, .inr (0, [.ref u.1, .ref u.2.1, .ref u.2.2.1, .ref u.2.2.2.1, .int 0, .int 0, .ref u.2.2.2.2.1, .ref u.2.2.2.2.2, .int 0, .int (gc_cap n), .int 0])), (u.1, .inl (dA, 68, .inl (fun _ => 0))), (u.2.1, .inl (dA, 68, .inl (fun _ => 0))), (u.2.2.1, .inl (dA, 68, .inl (fun _ => 0))), (u.2.2.2.1, .inl (dA, 68, .inl (fun _ => 0))), (u.2.2.2.2.1, .inl (dA, 68, .inl (fun _ => 0))), (u.2.2.2.2.2, .inl (dA, 68, .inl (fun _ => 0)))])) (va_A [(h, .inr (0, [.null, .null, .null, .null, .int 0, .int 0, .null, .null, .int 0, .int 0, .int 0]))] sz)) 6 408 (va_A [(h, .inr (0, [.null, .null, .null, .null, .int 0, .int 0, .null, .null, .int 0, .int 0, .int 0]))] sz) := by
  refine Met.ofW (cc := cX1_init) (maxL := 3) (ret := none) (by decide) rfl ?_
  intro p e s m args below meth c s₁ B hml hv
  obtain ⟨rfl, hsz, hP, hK, hD0⟩ := hv
  have hx := B.exec
  have hb := B.bytes
  have hr := B.returns
  have hts := atoms_spec (ws := (ws_ yX1_init cX1_init 3 none)) B.pre
  have hts : ∀ w ∈ lw_all, w.before _ s = true := fun w h => hts w (List.mem_cons_of_mem _ h)
  have hown : s.vm.findClass RX1 = some m.cls := findClass_of_methodNamed B.named
  have hlocks := B.notSynchronized
  have hin : meth.name = "<init>" := (name_of_methodNamed B.named B.method).1
  subst hsz
  have hD := hD0.self (sz := s.heap.size)
  generalize hAe : va_A [(h, .inr (0, [.null, .null, .null, .null, .int 0, .int 0, .null, .null, .int 0, .int 0, .int 0]))] s.heap.size = A at hD ⊢
  have hA : ∀ q : Nat, s.heap.size ≤ q → A q := fun q h => by rw [← hAe]; exact Or.inr h
  have hS : va_S A s.heap s.heap [] := va_S.rf
  have hl := lv_entry ([.ref h, .int n]) (n := 3) (Nat.le_of_ble_eq_true rfl)
  rw [lg_entry_eq]
  generalize (lg_sl ([.ref h, .int n]) ++ List.replicate (3 - (lg_sl ([.ref h, .int n])).length) Slot.unset).toArray = ls at hl ⊢
  have hl : lv_has ls 3 [(0, .ref h), (1, .int n)] := hl
  refine lv_aload_n hx hb dX1_init_0 rfl (lv_at hl 0 rfl) ?_
  refine W.objInit hx hb hown (hts _ q18) (hts _ q19) (hts _ q20) rfl (by rw [hml]; exact hl.1) rfl dX1_init_1 (Nat.le_of_ble_eq_true rfl) (Nat.le_of_ble_eq_true rfl) ?_
  refine W.eq (g2 := F0 m 4 ls []) rfl ?_
  refine lv_aload_n hx hb dX1_init_4 rfl (lv_at hl 0 rfl) ?_
  refine lv_bipush (v := 68) hx hb dX1_init_5 (by decide) ?_
  refine va_newa (atype := .int) (n := 68) (N' := 68) (a0 := (68, .inl (fun _ => 0))) hx hb (hts _ q55) rfl hK hP hD hS hA (fun _ => rfl) (by decide) (by decide) (by decide) (Nat.le_of_ble_eq_true rfl) (Nat.le_of_ble_eq_true rfl) dX1_init_7 (fun a1 cA H hK1 hP hD hS => ?_)
  rw [gm_one hK1] at hP hD
  refine W.widen (k := 1) (n := 68) (Nat.le_of_ble_eq_true rfl) (Nat.le_of_ble_eq_true rfl) ?_
  have hP : va_P (dC, dI) vwCl [(h, .inr (0, [.null, .null, .null, .null, .int 0, .int 0, .null, .null, .int 0, .int 0, .int 0])), (a1, .inl (dA, 68, .inl (fun _ => 0)))] H := hP
  have hD : va_D A [(h, .inr (0, [.null, .null, .null, .null, .int 0, .int 0, .null, .null, .int 0, .int 0, .int 0])), (a1, .inl (dA, 68, .inl (fun _ => 0)))] := hD
  refine va_putF (D := (dC, dI)) (ci := 0) (v := .ref a1) (ty := .array .int) (C := RX1) (T := TX1) (N := 11) hx hb hts in_X1 tyX1 tyX1_ok nmX1 hown hK hP hD hS 0 rfl rfl 0 (by decide) (hts _ q21) (fun _ h9 => h9) rfl hin rfl (by decide +kernel) rfl rfl (Nat.le_of_ble_eq_true rfl) dX1_init_9 (fun H locs hP hD hS => ?_)
  have hP : va_P (dC, dI) vwCl [(h, .inr (0, [.ref a1, .null, .null, .null, .int 0, .int 0, .null, .null, .int 0, .int 0, .int 0])), (a1, .inl (dA, 68, .inl (fun _ => 0)))] H := hP
  have hD : va_D A [(h, .inr (0, [.ref a1, .null, .null, .null, .int 0, .int 0, .null, .null, .int 0, .int 0, .int 0])), (a1, .inl (dA, 68, .inl (fun _ => 0)))] := hD
  refine lv_aload_n hx hb dX1_init_12 rfl (lv_at hl 0 rfl) ?_
  refine lv_bipush (v := 68) hx hb dX1_init_13 (by decide) ?_
  refine va_newa (atype := .int) (n := 68) (N' := 68) (a0 := (68, .inl (fun _ => 0))) hx hb (hts _ q55) rfl hK hP hD hS hA (fun _ => rfl) (by decide) (by decide) (by decide) (Nat.le_of_ble_eq_true rfl) (Nat.le_of_ble_eq_true rfl) dX1_init_15 (fun a2 cA H hK1 hP hD hS => ?_)
  rw [gm_one hK1] at hP hD
  refine W.widen (k := 2) (n := 136) (Nat.le_of_ble_eq_true rfl) (Nat.le_of_ble_eq_true rfl) ?_
  have hP : va_P (dC, dI) vwCl [(h, .inr (0, [.ref a1, .null, .null, .null, .int 0, .int 0, .null, .null, .int 0, .int 0, .int 0])), (a1, .inl (dA, 68, .inl (fun _ => 0))), (a2, .inl (dA, 68, .inl (fun _ => 0)))] H := hP
  have hD : va_D A [(h, .inr (0, [.ref a1, .null, .null, .null, .int 0, .int 0, .null, .null, .int 0, .int 0, .int 0])), (a1, .inl (dA, 68, .inl (fun _ => 0))), (a2, .inl (dA, 68, .inl (fun _ => 0)))] := hD
  refine va_putF (D := (dC, dI)) (ci := 0) (v := .ref a2) (ty := .array .int) (C := RX1) (T := TX1) (N := 11) hx hb hts in_X1 tyX1 tyX1_ok nmX1 hown hK hP hD hS 0 rfl rfl 1 (by decide) (hts _ q22) (fun _ h9 => h9) rfl hin rfl (by decide +kernel) rfl rfl (Nat.le_of_ble_eq_true rfl) dX1_init_17 (fun H locs hP hD hS => ?_)
  have hP : va_P (dC, dI) vwCl [(h, .inr (0, [.ref a1, .ref a2, .null, .null, .int 0, .int 0, .null, .null, .int 0, .int 0, .int 0])), (a1, .inl (dA, 68, .inl (fun _ => 0))), (a2, .inl (dA, 68, .inl (fun _ => 0)))] H := hP
  have hD : va_D A [(h, .inr (0, [.ref a1, .ref a2, .null, .null, .int 0, .int 0, .null, .null, .int 0, .int 0, .int 0])), (a1, .inl (dA, 68, .inl (fun _ => 0))), (a2, .inl (dA, 68, .inl (fun _ => 0)))] := hD
  refine lv_aload_n hx hb dX1_init_20 rfl (lv_at hl 0 rfl) ?_
  refine lv_bipush (v := 68) hx hb dX1_init_21 (by decide) ?_
  refine va_newa (atype := .int) (n := 68) (N' := 68) (a0 := (68, .inl (fun _ => 0))) hx hb (hts _ q55) rfl hK hP hD hS hA (fun _ => rfl) (by decide) (by decide) (by decide) (Nat.le_of_ble_eq_true rfl) (Nat.le_of_ble_eq_true rfl) dX1_init_23 (fun a3 cA H hK1 hP hD hS => ?_)
  rw [gm_one hK1] at hP hD
  refine W.widen (k := 3) (n := 204) (Nat.le_of_ble_eq_true rfl) (Nat.le_of_ble_eq_true rfl) ?_
  have hP : va_P (dC, dI) vwCl [(h, .inr (0, [.ref a1, .ref a2, .null, .null, .int 0, .int 0, .null, .null, .int 0, .int 0, .int 0])), (a1, .inl (dA, 68, .inl (fun _ => 0))), (a2, .inl (dA, 68, .inl (fun _ => 0))), (a3, .inl (dA, 68, .inl (fun _ => 0)))] H := hP
  have hD : va_D A [(h, .inr (0, [.ref a1, .ref a2, .null, .null, .int 0, .int 0, .null, .null, .int 0, .int 0, .int 0])), (a1, .inl (dA, 68, .inl (fun _ => 0))), (a2, .inl (dA, 68, .inl (fun _ => 0))), (a3, .inl (dA, 68, .inl (fun _ => 0)))] := hD
  refine va_putF (D := (dC, dI)) (ci := 0) (v := .ref a3) (ty := .array .int) (C := RX1) (T := TX1) (N := 11) hx hb hts in_X1 tyX1 tyX1_ok nmX1 hown hK hP hD hS 0 rfl rfl 2 (by decide) (hts _ q23) (fun _ h9 => h9) rfl hin rfl (by decide +kernel) rfl rfl (Nat.le_of_ble_eq_true rfl) dX1_init_25 (fun H locs hP hD hS => ?_)
  have hP : va_P (dC, dI) vwCl [(h, .inr (0, [.ref a1, .ref a2, .ref a3, .null, .int 0, .int 0, .null, .null, .int 0, .int 0, .int 0])), (a1, .inl (dA, 68, .inl (fun _ => 0))), (a2, .inl (dA, 68, .inl (fun _ => 0))), (a3, .inl (dA, 68, .inl (fun _ => 0)))] H := hP
  have hD : va_D A [(h, .inr (0, [.ref a1, .ref a2, .ref a3, .null, .int 0, .int 0, .null, .null, .int 0, .int 0, .int 0])), (a1, .inl (dA, 68, .inl (fun _ => 0))), (a2, .inl (dA, 68, .inl (fun _ => 0))), (a3, .inl (dA, 68, .inl (fun _ => 0)))] := hD
  refine lv_aload_n hx hb dX1_init_28 rfl (lv_at hl 0 rfl) ?_
  refine lv_bipush (v := 68) hx hb dX1_init_29 (by decide) ?_
  refine va_newa (atype := .int) (n := 68) (N' := 68) (a0 := (68, .inl (fun _ => 0))) hx hb (hts _ q55) rfl hK hP hD hS hA (fun _ => rfl) (by decide) (by decide) (by decide) (Nat.le_of_ble_eq_true rfl) (Nat.le_of_ble_eq_true rfl) dX1_init_31 (fun a4 cA H hK1 hP hD hS => ?_)
  rw [gm_one hK1] at hP hD
  refine W.widen (k := 4) (n := 272) (Nat.le_of_ble_eq_true rfl) (Nat.le_of_ble_eq_true rfl) ?_
  have hP : va_P (dC, dI) vwCl [(h, .inr (0, [.ref a1, .ref a2, .ref a3, .null, .int 0, .int 0, .null, .null, .int 0, .int 0, .int 0])), (a1, .inl (dA, 68, .inl (fun _ => 0))), (a2, .inl (dA, 68, .inl (fun _ => 0))), (a3, .inl (dA, 68, .inl (fun _ => 0))), (a4, .inl (dA, 68, .inl (fun _ => 0)))] H := hP
  have hD : va_D A [(h, .inr (0, [.ref a1, .ref a2, .ref a3, .null, .int 0, .int 0, .null, .null, .int 0, .int 0, .int 0])), (a1, .inl (dA, 68, .inl (fun _ => 0))), (a2, .inl (dA, 68, .inl (fun _ => 0))), (a3, .inl (dA, 68, .inl (fun _ => 0))), (a4, .inl (dA, 68, .inl (fun _ => 0)))] := hD
  refine va_putF (D := (dC, dI)) (ci := 0) (v := .ref a4) (ty := .array .int) (C := RX1) (T := TX1) (N := 11) hx hb hts in_X1 tyX1 tyX1_ok nmX1 hown hK hP hD hS 0 rfl rfl 3 (by decide) (hts _ q24) (fun _ h9 => h9) rfl hin rfl (by decide +kernel) rfl rfl (Nat.le_of_ble_eq_true rfl) dX1_init_33 (fun H locs hP hD hS => ?_)
  have hP : va_P (dC, dI) vwCl [(h, .inr (0, [.ref a1, .ref a2, .ref a3, .ref a4, .int 0, .int 0, .null, .null, .int 0, .int 0, .int 0])), (a1, .inl (dA, 68, .inl (fun _ => 0))), (a2, .inl (dA, 68, .inl (fun _ => 0))), (a3, .inl (dA, 68, .inl (fun _ => 0))), (a4, .inl (dA, 68, .inl (fun _ => 0)))] H := hP
  have hD : va_D A [(h, .inr (0, [.ref a1, .ref a2, .ref a3, .ref a4, .int 0, .int 0, .null, .null, .int 0, .int 0, .int 0])), (a1, .inl (dA, 68, .inl (fun _ => 0))), (a2, .inl (dA, 68, .inl (fun _ => 0))), (a3, .inl (dA, 68, .inl (fun _ => 0))), (a4, .inl (dA, 68, .inl (fun _ => 0)))] := hD
  refine lv_aload_n hx hb dX1_init_36 rfl (lv_at hl 0 rfl) ?_
  refine lv_bipush (v := 68) hx hb dX1_init_37 (by decide) ?_
  refine va_newa (atype := .int) (n := 68) (N' := 68) (a0 := (68, .inl (fun _ => 0))) hx hb (hts _ q55) rfl hK hP hD hS hA (fun _ => rfl) (by decide) (by decide) (by decide) (Nat.le_of_ble_eq_true rfl) (Nat.le_of_ble_eq_true rfl) dX1_init_39 (fun a5 cA H hK1 hP hD hS => ?_)
  rw [gm_one hK1] at hP hD
  refine W.widen (k := 5) (n := 340) (Nat.le_of_ble_eq_true rfl) (Nat.le_of_ble_eq_true rfl) ?_
  have hP : va_P (dC, dI) vwCl [(h, .inr (0, [.ref a1, .ref a2, .ref a3, .ref a4, .int 0, .int 0, .null, .null, .int 0, .int 0, .int 0])), (a1, .inl (dA, 68, .inl (fun _ => 0))), (a2, .inl (dA, 68, .inl (fun _ => 0))), (a3, .inl (dA, 68, .inl (fun _ => 0))), (a4, .inl (dA, 68, .inl (fun _ => 0))), (a5, .inl (dA, 68, .inl (fun _ => 0)))] H := hP
  have hD : va_D A [(h, .inr (0, [.ref a1, .ref a2, .ref a3, .ref a4, .int 0, .int 0, .null, .null, .int 0, .int 0, .int 0])), (a1, .inl (dA, 68, .inl (fun _ => 0))), (a2, .inl (dA, 68, .inl (fun _ => 0))), (a3, .inl (dA, 68, .inl (fun _ => 0))), (a4, .inl (dA, 68, .inl (fun _ => 0))), (a5, .inl (dA, 68, .inl (fun _ => 0)))] := hD
  refine va_putF (D := (dC, dI)) (ci := 0) (v := .ref a5) (ty := .array .int) (C := RX1) (T := TX1) (N := 11) hx hb hts in_X1 tyX1 tyX1_ok nmX1 hown hK hP hD hS 0 rfl rfl 6 (by decide) (hts _ q27) (fun _ h9 => h9) rfl hin rfl (by decide +kernel) rfl rfl (Nat.le_of_ble_eq_true rfl) dX1_init_41 (fun H locs hP hD hS => ?_)
  have hP : va_P (dC, dI) vwCl [(h, .inr (0, [.ref a1, .ref a2, .ref a3, .ref a4, .int 0, .int 0, .ref a5, .null, .int 0, .int 0, .int 0])), (a1, .inl (dA, 68, .inl (fun _ => 0))), (a2, .inl (dA, 68, .inl (fun _ => 0))), (a3, .inl (dA, 68, .inl (fun _ => 0))), (a4, .inl (dA, 68, .inl (fun _ => 0))), (a5, .inl (dA, 68, .inl (fun _ => 0)))] H := hP
  have hD : va_D A [(h, .inr (0, [.ref a1, .ref a2, .ref a3, .ref a4, .int 0, .int 0, .ref a5, .null, .int 0, .int 0, .int 0])), (a1, .inl (dA, 68, .inl (fun _ => 0))), (a2, .inl (dA, 68, .inl (fun _ => 0))), (a3, .inl (dA, 68, .inl (fun _ => 0))), (a4, .inl (dA, 68, .inl (fun _ => 0))), (a5, .inl (dA, 68, .inl (fun _ => 0)))] := hD
  refine lv_aload_n hx hb dX1_init_44 rfl (lv_at hl 0 rfl) ?_
  refine lv_bipush (v := 68) hx hb dX1_init_45 (by decide) ?_
  refine va_newa (atype := .int) (n := 68) (N' := 68) (a0 := (68, .inl (fun _ => 0))) hx hb (hts _ q55) rfl hK hP hD hS hA (fun _ => rfl) (by decide) (by decide) (by decide) (Nat.le_of_ble_eq_true rfl) (Nat.le_of_ble_eq_true rfl) dX1_init_47 (fun a6 cA H hK1 hP hD hS => ?_)
  rw [gm_one hK1] at hP hD
  refine W.widen (k := 6) (n := 408) (Nat.le_of_ble_eq_true rfl) (Nat.le_of_ble_eq_true rfl) ?_
  have hP : va_P (dC, dI) vwCl [(h, .inr (0, [.ref a1, .ref a2, .ref a3, .ref a4, .int 0, .int 0, .ref a5, .null, .int 0, .int 0, .int 0])), (a1, .inl (dA, 68, .inl (fun _ => 0))), (a2, .inl (dA, 68, .inl (fun _ => 0))), (a3, .inl (dA, 68, .inl (fun _ => 0))), (a4, .inl (dA, 68, .inl (fun _ => 0))), (a5, .inl (dA, 68, .inl (fun _ => 0))), (a6, .inl (dA, 68, .inl (fun _ => 0)))] H := hP
  have hD : va_D A [(h, .inr (0, [.ref a1, .ref a2, .ref a3, .ref a4, .int 0, .int 0, .ref a5, .null, .int 0, .int 0, .int 0])), (a1, .inl (dA, 68, .inl (fun _ => 0))), (a2, .inl (dA, 68, .inl (fun _ => 0))), (a3, .inl (dA, 68, .inl (fun _ => 0))), (a4, .inl (dA, 68, .inl (fun _ => 0))), (a5, .inl (dA, 68, .inl (fun _ => 0))), (a6, .inl (dA, 68, .inl (fun _ => 0)))] := hD
  refine va_putF (D := (dC, dI)) (ci := 0) (v := .ref a6) (ty := .array .int) (C := RX1) (T := TX1) (N := 11) hx hb hts in_X1 tyX1 tyX1_ok nmX1 hown hK hP hD hS 0 rfl rfl 7 (by decide) (hts _ q28) (fun _ h9 => h9) rfl hin rfl (by decide +kernel) rfl rfl (Nat.le_of_ble_eq_true rfl) dX1_init_49 (fun H locs hP hD hS => ?_)
  have hP : va_P (dC, dI) vwCl [(h, .inr (0, [.ref a1, .ref a2, .ref a3, .ref a4, .int 0, .int 0, .ref a5, .ref a6, .int 0, .int 0, .int 0])), (a1, .inl (dA, 68, .inl (fun _ => 0))), (a2, .inl (dA, 68, .inl (fun _ => 0))), (a3, .inl (dA, 68, .inl (fun _ => 0))), (a4, .inl (dA, 68, .inl (fun _ => 0))), (a5, .inl (dA, 68, .inl (fun _ => 0))), (a6, .inl (dA, 68, .inl (fun _ => 0)))] H := hP
  have hD : va_D A [(h, .inr (0, [.ref a1, .ref a2, .ref a3, .ref a4, .int 0, .int 0, .ref a5, .ref a6, .int 0, .int 0, .int 0])), (a1, .inl (dA, 68, .inl (fun _ => 0))), (a2, .inl (dA, 68, .inl (fun _ => 0))), (a3, .inl (dA, 68, .inl (fun _ => 0))), (a4, .inl (dA, 68, .inl (fun _ => 0))), (a5, .inl (dA, 68, .inl (fun _ => 0))), (a6, .inl (dA, 68, .inl (fun _ => 0)))] := hD
  refine lv_iload_n hx hb dX1_init_52 rfl (lv_at hl 1 rfl) ?_
  refine lv_bipush (v := 62) hx hb dX1_init_53 (by decide) ?_
  refine lv_irem hx hb dX1_init_55 (by decide) ?_
  refine lv_istore_n (lv' := [(2, .int (n - n / 62 * 62)), (0, .ref h), (1, .int n)]) hx hb dX1_init_56 rfl hl (by decide) rfl (fun ls hl => ?_)
  refine lv_aload_n hx hb dX1_init_57 rfl (lv_at hl 1 rfl) ?_
  refine lv_iconst (v := 3) hx hb dX1_init_58 (by decide) ?_
  refine lv_iload_n hx hb dX1_init_59 rfl (lv_at hl 0 rfl) ?_
  refine lv_if_ge (tgt := 70) hx hb dX1_init_60 (by decide) (fun c_1 => ?_) (fun c_1 => ?_)
  · refine lv_iload_n hx hb dX1_init_70 rfl (lv_at hl 0 rfl) ?_
    refine lv_iadd hx hb dX1_init_71 ?_
    refine gr_topi (y := gc_cap n) (by unfold gc_cap; rw [if_pos c_1]) ?_
    refine va_putF (D := (dC, dI)) (ci := 0) (v := .int (gc_cap n)) (ty := .int) (C := RX1) (T := TX1) (N := 11) hx hb hts in_X1 tyX1 tyX1_ok nmX1 hown hK hP hD hS 0 rfl rfl 9 (by decide) (hts _ q30) (fun _ h9 => h9) rfl hin rfl (by decide +kernel) rfl rfl (Nat.le_of_ble_eq_true rfl) dX1_init_72 (fun H locs hP hD hS => ?_)
    have hP : va_P (dC, dI) vwCl [(h, .inr (0, [.ref a1, .ref a2, .ref a3, .ref a4, .int 0, .int 0, .ref a5, .ref a6, .int 0, .int (gc_cap n), .int 0])), (a1, .inl (dA, 68, .inl (fun _ => 0))), (a2, .inl (dA, 68, .inl (fun _ => 0))), (a3, .inl (dA, 68, .inl (fun _ => 0))), (a4, .inl (dA, 68, .inl (fun _ => 0))), (a5, .inl (dA, 68, .inl (fun _ => 0))), (a6, .inl (dA, 68, .inl (fun _ => 0)))] H := hP
    have hD : va_D A [(h, .inr (0, [.ref a1, .ref a2, .ref a3, .ref a4, .int 0, .int 0, .ref a5, .ref a6, .int 0, .int (gc_cap n), .int 0])), (a1, .inl (dA, 68, .inl (fun _ => 0))), (a2, .inl (dA, 68, .inl (fun _ => 0))), (a3, .inl (dA, 68, .inl (fun _ => 0))), (a4, .inl (dA, 68, .inl (fun _ => 0))), (a5, .inl (dA, 68, .inl (fun _ => 0))), (a6, .inl (dA, 68, .inl (fun _ => 0)))] := hD
    exact W.vret hx hb hr (fun t ht hW => ⟨⟨(a1, a2, a3, a4, a5, a6), rfl, trivial, by rw [ht]; exact hP, va_K.moved hW.alike hK, hD⟩, hS.F ht⟩) hS.2.2 dX1_init_75
  · refine lv_iload_n hx hb dX1_init_63 rfl (lv_at hl 0 rfl) ?_
    refine lv_bipush (v := 62) hx hb dX1_init_64 (by decide) ?_
    refine lv_iadd hx hb dX1_init_66 ?_
    refine lv_goto (tgt := 71) hx hb dX1_init_67 (by decide) ?_
    refine lv_iadd hx hb dX1_init_71 ?_
    refine gr_topi (y := gc_cap n) (by unfold gc_cap; rw [if_neg c_1]) ?_
    refine va_putF (D := (dC, dI)) (ci := 0) (v := .int (gc_cap n)) (ty := .int) (C := RX1) (T := TX1) (N := 11) hx hb hts in_X1 tyX1 tyX1_ok nmX1 hown hK hP hD hS 0 rfl rfl 9 (by decide) (hts _ q30) (fun _ h9 => h9) rfl hin rfl (by decide +kernel) rfl rfl (Nat.le_of_ble_eq_true rfl) dX1_init_72 (fun H locs hP hD hS => ?_)
    have hP : va_P (dC, dI) vwCl [(h, .inr (0, [.ref a1, .ref a2, .ref a3, .ref a4, .int 0, .int 0, .ref a5, .ref a6, .int 0, .int (gc_cap n), .int 0])), (a1, .inl (dA, 68, .inl (fun _ => 0))), (a2, .inl (dA, 68, .inl (fun _ => 0))), (a3, .inl (dA, 68, .inl (fun _ => 0))), (a4, .inl (dA, 68, .inl (fun _ => 0))), (a5, .inl (dA, 68, .inl (fun _ => 0))), (a6, .inl (dA, 68, .inl (fun _ => 0)))] H := hP
    have hD : va_D A [(h, .inr (0, [.ref a1, .ref a2, .ref a3, .ref a4, .int 0, .int 0, .ref a5, .ref a6, .int 0, .int (gc_cap n), .int 0])), (a1, .inl (dA, 68, .inl (fun _ => 0))), (a2, .inl (dA, 68, .inl (fun _ => 0))), (a3, .inl (dA, 68, .inl (fun _ => 0))), (a4, .inl (dA, 68, .inl (fun _ => 0))), (a5, .inl (dA, 68, .inl (fun _ => 0))), (a6, .inl (dA, 68, .inl (fun _ => 0)))] := hD
    exact W.vret hx hb hr (fun t ht hW => ⟨⟨(a1, a2, a3, a4, a5, a6), rfl, trivial, by rw [ht]; exact hP, va_K.moved hW.alike hK, hD⟩, hS.F ht⟩) hS.2.2 dX1_init_75
end
section
/-! ===== OnlineHull: add ===== -/
set_option maxHeartbeats 4000000 in
set_option maxRecDepth 100000 in
theorem metX1_add (l : Launch) (dC : Nat → ClassId) (dI : Nat → Nat → Nat) (dA : ClassId) (sz : Nat) (h a1 a2 a3 a4 a5 a6 nl nu : Nat) (lx ly ux uy tx ty : Nat → Int32) (nt : Int32) (capN : Nat) (seen x y : Int32) (hnl : nl ≤ 66) (hnu : nu ≤ 66) (hcap : capN ≤ 64) (hH : gh_H nl (gp lx ly) nu (gp ux uy)) (n1 n2 : Nat) (L1 U1 : Nat → Int × Int) (hu1 : gh_Up 1 nl (gp lx ly) (g2 x y) n1 L1) (hu2 : gh_Up (-1) nu (gp ux uy) (g2 x y) n2 U1) : Met l yX1_add (ws_ yX1_add cX1_add 9 (some .int)) ({ frames := 3, cells := 0, slots := 0, locals := 81 }) (gm_Pc (dC, dI) [.ref h, .int x, .int y] sz [(h, .inr (0, [.ref a1, .ref a2, .ref a3, .ref a4, .int (nI nl), .int (nI nu), .ref a5, .ref a6, .int nt, .int (nI capN), .int seen])), (a1, .inl (dA, 68, .inl lx)), (a2, .inl (dA, 68, .inl ly)), (a3, .inl (dA, 68, .inl ux)), (a4, .inl (dA, 68, .inl uy)), (a5, .inl (dA, 68, .inl tx)), (a6, .inl (dA, 68, .inl ty))] [(dA, .int)]) (va_Qi (S := gA_S) (fun r u => gA_post nl lx ly nu ux uy (g2 x y) capN n1 L1 n2 U1 seen r u) (gm_B (dC, dI) [(dA, .int)] (va_A [(h, .inr (0, [.ref a1, .ref a2, .ref a3, .ref a4, .int (nI nl), .int (nI nu), .ref a5, .ref a6, .int nt, .int (nI capN), .int seen])), (a1, .inl (dA, 68, .inl lx)), (a2, .inl (dA, 68, .inl ly)), (a3, .inl (dA, 68, .inl ux)), (a4, .inl (dA, 68, .inl uy)), (a5, .inl (dA, 68, .inl tx)), (a6, .inl (dA, 68, .inl ty))] sz) (fun u => [(h, .inr (0, [.ref a1, .ref a2, .ref a3, .ref a4, .int (nI u.1.1), .int (nI u.1.2), .ref a5, .ref a6, .int u.2.2.1, .int (nI capN), .int u.2.2.2])), (a1, .inl (dA, 68, .inl u.2.1.1)), (a2, .inl (dA, 68, .inl u.2.1.2.1)), (a3, .inl (dA, 68, .inl u.2.1.2.2.1)), (a4, .inl (dA, 68, .inl u.2.1.2.2.2.1)), (a5, .inl (dA, 68, .inl u.2.1.2.2.2.2.1)), (a6, .inl (dA, 68, .inl u.2.1.2.2.2.2.2))])) (va_A [(h, .inr (0, [.ref a1, .ref a2, .ref a3, .ref a4, .int (nI nl), .int (nI nu), .ref a5, .ref a6, .int nt, .int (nI capN), .int seen])), (a1, .inl (dA, 68, .inl lx)), (a2, .inl (dA, 68, .inl ly)), (a3, .inl (dA, 68, .inl ux)), (a4, .inl (dA, 68, .inl uy)), (a5, .inl (dA, 68, .inl tx)), (a6, .inl (dA, 68, .inl ty))] sz)) 0 0 (va_A [(h, .inr (0, [.ref a1, .ref a2, .ref a3, .ref a4, .int (nI nl), .int (nI nu), .ref a5, .ref a6, .int nt, .int (nI capN), .int seen])), (a1, .inl (dA, 68, .inl lx)), (a2, .inl (dA, 68, .inl ly)), (a3, .inl (dA, 68, .inl ux)), (a4, .inl (dA, 68, .inl uy)), (a5, .inl (dA, 68, .inl tx)), (a6, .inl (dA, 68, .inl ty))] sz) := by
  refine Met.ofW (cc := cX1_add) (maxL := 9) (ret := (some .int)) (by decide) rfl ?_
  intro p e s m args below meth c s₁ B hml hv
  obtain ⟨rfl, hsz, hP, hK, hD0⟩ := hv
  have hx := B.exec
  have hb := B.bytes
  have hr := B.returns
  have hts := atoms_spec (ws := (ws_ yX1_add cX1_add 9 (some .int))) B.pre
  have hts : ∀ w ∈ lw_all, w.before _ s = true := fun w h => hts w (List.mem_cons_of_mem _ h)
  have hown : s.vm.findClass RX1 = some m.cls := findClass_of_methodNamed B.named
  have hlocks := B.notSynchronized
  subst hsz
  have hD := hD0.self (sz := s.heap.size)
  generalize hAe : va_A [(h, .inr (0, [.ref a1, .ref a2, .ref a3, .ref a4, .int (nI nl), .int (nI nu), .ref a5, .ref a6, .int nt, .int (nI capN), .int seen])), (a1, .inl (dA, 68, .inl lx)), (a2, .inl (dA, 68, .inl ly)), (a3, .inl (dA, 68, .inl ux)), (a4, .inl (dA, 68, .inl uy)), (a5, .inl (dA, 68, .inl tx)), (a6, .inl (dA, 68, .inl ty))] s.heap.size = A at hD ⊢
  have hA : ∀ q : Nat, s.heap.size ≤ q → A q := fun q h => by rw [← hAe]; exact Or.inr h
  have hS : va_S A s.heap s.heap [] := va_S.rf
  have hl := lv_entry ([.ref h, .int x, .int y]) (n := 9) (Nat.le_of_ble_eq_true rfl)
  rw [lg_entry_eq]
  generalize (lg_sl ([.ref h, .int x, .int y]) ++ List.replicate (9 - (lg_sl ([.ref h, .int x, .int y])).length) Slot.unset).toArray = ls at hl ⊢
  have hl : lv_has ls 9 [(0, .ref h), (1, .int x), (2, .int y)] := hl
  have b1 := gh_Up_le hu1
  have b2 := gh_Up_le hu2
  have hN : gh_N nl nu ≤ 140 := by unfold gh_N; split <;> omega
  have hN1 : gh_N n1 n2 ≤ 140 := by unfold gh_N; split <;> omega
  refine lv_iload_n hx hb dX1_add_0 rfl (lv_at hl 1 rfl) ?_
  refine lv_iload_n hx hb dX1_add_1 rfl (lv_at hl 2 rfl) ?_
  refine vp_callSi (va_Run.run (va_runS (As := [.int x, .int y]) (rest := []) ⟨hx, hb, hml, hown, hts⟩ (metX1_isPoint l dC dI dA x y) (va_cwS 2 hts (lw_S q60 q61 q11 q62) rfl rfl rfl (by decide +kernel) ⟨Nat.le_of_ble_eq_true rfl, Nat.le_of_ble_eq_true rfl⟩) (gr_preS (hP.sub (ws' := []) [] rfl) (hK.sub (tys' := []) [] rfl)) rfl rfl hl.1 rfl (lv_room (Nat.le_of_ble_eq_true rfl)) dX1_add_2 ⟨Nat.zero_le _, Nat.zero_le _⟩)) (fun zp hzp => ?_)
  refine lv_if_ne (tgt := 10) hx hb dX1_add_5 (by decide) (fun c_2 => ?_) (fun c_2 => ?_)
  · have hok : gh_ok (g2 x y) := gk_b.pos hzp c_2
    have at38 : ¬ (gh_A 1 nl (gp lx ly) (g2 x y) ∧ gh_A (-1) nu (gp ux uy) (g2 x y)) → ∀ (ls : Array Slot), lv_has ls 9 [(0, .ref h), (1, .int x), (2, .int y)] → W p l e (headSpec (ws_ yX1_add cX1_add 9 (some .int)) ({ frames := 3, cells := 0, slots := 0, locals := 81 })).room s m ([.ref h, .int x, .int y] : List Value).toArray below meth c s.heap [] 0 0 (MQ below (va_Qi (S := gA_S) (fun r u => gA_post nl lx ly nu ux uy (g2 x y) capN n1 L1 n2 U1 seen r u) (gm_B (dC, dI) [(dA, .int)] A (fun u => [(h, .inr (0, [.ref a1, .ref a2, .ref a3, .ref a4, .int (nI u.1.1), .int (nI u.1.2), .ref a5, .ref a6, .int u.2.2.1, .int (nI capN), .int u.2.2.2])), (a1, .inl (dA, 68, .inl u.2.1.1)), (a2, .inl (dA, 68, .inl u.2.1.2.1)), (a3, .inl (dA, 68, .inl u.2.1.2.2.1)), (a4, .inl (dA, 68, .inl u.2.1.2.2.2.1)), (a5, .inl (dA, 68, .inl u.2.1.2.2.2.2.1)), (a6, .inl (dA, 68, .inl u.2.1.2.2.2.2.2))])) A) ([.ref h, .int x, .int y] : List Value).toArray s 0 0 A) (F0 m 38 ls []) := by
      intro hna ls hl
      refine lv_aload_n hx hb dX1_add_38 rfl (lv_at hl 0 rfl) ?_
      refine lv_aload_n hx hb dX1_add_39 rfl (lv_at hl 0 rfl) ?_
      refine va_get (D := (dC, dI)) (ci := 0) (v := .ref a1) (C := RX1) (T := TX1) (N := 11) hx hb hts in_X1 hown hK hP 0 rfl rfl 0 (by decide) (hts _ q21) (fun _ h9 => h9) rfl dX1_add_40 ?_
      refine lv_aload_n hx hb dX1_add_43 rfl (lv_at hl 0 rfl) ?_
      refine va_get (D := (dC, dI)) (ci := 0) (v := .ref a2) (C := RX1) (T := TX1) (N := 11) hx hb hts in_X1 hown hK hP 0 rfl rfl 1 (by decide) (hts _ q22) (fun _ h9 => h9) rfl dX1_add_44 ?_
      refine lv_aload_n hx hb dX1_add_47 rfl (lv_at hl 0 rfl) ?_
      refine va_get (D := (dC, dI)) (ci := 0) (v := .int (nI nl)) (C := RX1) (T := TX1) (N := 11) hx hb hts in_X1 hown hK hP 0 rfl rfl 4 (by decide) (hts _ q25) (fun _ h9 => h9) rfl dX1_add_48 ?_
      refine lv_iload_n hx hb dX1_add_51 rfl (lv_at hl 1 rfl) ?_
      refine lv_iload_n hx hb dX1_add_52 rfl (lv_at hl 2 rfl) ?_
      refine lv_iconst (v := 1) hx hb dX1_add_53 (by decide) ?_
      refine vp_callSi (va_Run.run (va_runV (As := [.ref a1, .ref a2, .int (nI nl), .int x, .int y, .int 1]) (rest := []) ⟨hx, hb, hml, hown, hts⟩ (metX1_isBeyond l dC dI dA h a1 a2 nl lx ly x y 1 (by omega) (Or.inl rfl) (by rw [gk_s1]; exact hH.1) hH.2.2.1 hok) (cwV 6 hts (lw_V q77 q79 qs0 q11 q80) rfl rfl rfl (by decide +kernel) ⟨Nat.le_of_ble_eq_true rfl, Nat.le_of_ble_eq_true rfl⟩) (gr_preV hK hP (ci := 0) (q0 := 0) rfl rfl (hP.sub (ws' := [(a1, .inl (dA, 68, .inl lx)), (a2, .inl (dA, 68, .inl ly))]) [1, 2] rfl) (hK.sub (tys' := [(dA, .int)]) [0] rfl)) rfl rfl hl.1 rfl (lv_room (Nat.le_of_ble_eq_true rfl)) dX1_add_54 ⟨Nat.zero_le _, Nat.zero_le _⟩)) (fun z3 hz3 => ?_)
      have hz3 : gk_b z3 (¬ gh_A ((1 : Int32)).toInt nl (gp lx ly) (g2 x y)) := hz3
      rw [gk_s1] at hz3
      refine lv_istore_n (lv' := [(3, .int z3), (0, .ref h), (1, .int x), (2, .int y)]) hx hb dX1_add_57 rfl hl (by decide) rfl (fun ls hl => ?_)
      refine lv_aload_n hx hb dX1_add_58 rfl (lv_at hl 1 rfl) ?_
      refine lv_aload_n hx hb dX1_add_59 rfl (lv_at hl 1 rfl) ?_
      refine va_get (D := (dC, dI)) (ci := 0) (v := .ref a3) (C := RX1) (T := TX1) (N := 11) hx hb hts in_X1 hown hK hP 0 rfl rfl 2 (by decide) (hts _ q23) (fun _ h9 => h9) rfl dX1_add_60 ?_
      refine lv_aload_n hx hb dX1_add_63 rfl (lv_at hl 1 rfl) ?_
      refine va_get (D := (dC, dI)) (ci := 0) (v := .ref a4) (C := RX1) (T := TX1) (N := 11) hx hb hts in_X1 hown hK hP 0 rfl rfl 3 (by decide) (hts _ q24) (fun _ h9 => h9) rfl dX1_add_64 ?_
      refine lv_aload_n hx hb dX1_add_67 rfl (lv_at hl 1 rfl) ?_
      refine va_get (D := (dC, dI)) (ci := 0) (v := .int (nI nu)) (C := RX1) (T := TX1) (N := 11) hx hb hts in_X1 hown hK hP 0 rfl rfl 5 (by decide) (hts _ q26) (fun _ h9 => h9) rfl dX1_add_68 ?_
      refine lv_iload_n hx hb dX1_add_71 rfl (lv_at hl 2 rfl) ?_
      refine lv_iload_n hx hb dX1_add_72 rfl (lv_at hl 3 rfl) ?_
      refine lv_iconst (v := (-1)) hx hb dX1_add_73 (by decide) ?_
      refine vp_callSi (va_Run.run (va_runV (As := [.ref a3, .ref a4, .int (nI nu), .int x, .int y, .int (-1)]) (rest := []) ⟨hx, hb, hml, hown, hts⟩ (metX1_isBeyond l dC dI dA h a3 a4 nu ux uy x y (-1) (by omega) (Or.inr rfl) (by rw [gk_sm]; exact hH.2.1) hH.2.2.2.1 hok) (cwV 6 hts (lw_V q77 q79 qs0 q11 q80) rfl rfl rfl (by decide +kernel) ⟨Nat.le_of_ble_eq_true rfl, Nat.le_of_ble_eq_true rfl⟩) (gr_preV hK hP (ci := 0) (q0 := 0) rfl rfl (hP.sub (ws' := [(a3, .inl (dA, 68, .inl ux)), (a4, .inl (dA, 68, .inl uy))]) [3, 4] rfl) (hK.sub (tys' := [(dA, .int)]) [0] rfl)) rfl rfl hl.1 rfl (lv_room (Nat.le_of_ble_eq_true rfl)) dX1_add_74 ⟨Nat.zero_le _, Nat.zero_le _⟩)) (fun z4 hz4 => ?_)
      have hz4 : gk_b z4 (¬ gh_A ((-1 : Int32)).toInt nu (gp ux uy) (g2 x y)) := hz4
      rw [gk_sm] at hz4
      refine lv_istore (lv' := [(4, .int z4), (3, .int z3), (0, .ref h), (1, .int x), (2, .int y)]) hx hb dX1_add_77 hl (by decide) rfl (fun ls hl => ?_)
      refine lv_aload_n hx hb dX1_add_79 rfl (lv_at hl 2 rfl) ?_
      refine vp_callSi (va_Run.run (va_runV (As := []) (rest := []) ⟨hx, hb, hml, hown, hts⟩ (metX1_size l dC dI dA h a1 a2 a3 a4 a5 a6 nl nu lx ly ux uy tx ty nt (nI capN) seen (by omega) (by omega) hH) (cwV 0 hts (lw_V q81 q82 q83 q11 q84) rfl rfl rfl (by decide +kernel) ⟨Nat.le_of_ble_eq_true rfl, Nat.le_of_ble_eq_true rfl⟩) (gr_preV hK hP (ci := 0) (q0 := 0) rfl rfl (hP.sub (ws' := [(h, .inr (0, [.ref a1, .ref a2, .ref a3, .ref a4, .int (nI nl), .int (nI nu), .ref a5, .ref a6, .int nt, .int (nI capN), .int seen])), (a1, .inl (dA, 68, .inl lx)), (a2, .inl (dA, 68, .inl ly)), (a3, .inl (dA, 68, .inl ux)), (a4, .inl (dA, 68, .inl uy)), (a5, .inl (dA, 68, .inl tx)), (a6, .inl (dA, 68, .inl ty))]) [0, 1, 2, 3, 4, 5, 6] rfl) (hK.sub (tys' := [(dA, .int)]) [0] rfl)) rfl rfl hl.1 rfl (lv_room (Nat.le_of_ble_eq_true rfl)) dX1_add_80 ⟨Nat.zero_le _, Nat.zero_le _⟩)) (fun z5 hz5 => ?_)
      have hz5 : z5 = nI (gh_N nl nu) := hz5
      subst hz5
      have at246 : gh_N n1 n2 ≤ capN → ∀ (lx1 ly1 ux1 uy1 tx1 ty1 : Nat → Int32) (nt1 : Int32), (∀ i, i < n1 → gp lx1 ly1 i = L1 i) → (∀ i, i < n2 → gp ux1 uy1 i = U1 i) → ∀ (H : Heap) (locs : List Loc), va_P (dC, dI) vwCl [(h, .inr (0, [.ref a1, .ref a2, .ref a3, .ref a4, .int (nI nl), .int (nI n2), .ref a5, .ref a6, .int nt1, .int (nI capN), .int seen])), (a1, .inl (dA, 68, .inl lx1)), (a2, .inl (dA, 68, .inl ly1)), (a3, .inl (dA, 68, .inl ux1)), (a4, .inl (dA, 68, .inl uy1)), (a5, .inl (dA, 68, .inl tx1)), (a6, .inl (dA, 68, .inl ty1))] H → va_D A [(h, .inr (0, [.ref a1, .ref a2, .ref a3, .ref a4, .int (nI nl), .int (nI n2), .ref a5, .ref a6, .int nt1, .int (nI capN), .int seen])), (a1, .inl (dA, 68, .inl lx1)), (a2, .inl (dA, 68, .inl ly1)), (a3, .inl (dA, 68, .inl ux1)), (a4, .inl (dA, 68, .inl uy1)), (a5, .inl (dA, 68, .inl tx1)), (a6, .inl (dA, 68, .inl ty1))] → va_S A s.heap H locs → ∀ (ls : Array Slot), lv_has ls 9 [(0, .ref h), (1, .int x), (2, .int y), (3, .int z3), (4, .int z4), (5, .int (nI (gh_N nl nu))), (6, .int (nI n1)), (7, .int (nI n2)), (8, .int (nI (gh_N n1 n2)))] → W p l e (headSpec (ws_ yX1_add cX1_add 9 (some .int)) ({ frames := 3, cells := 0, slots := 0, locals := 81 })).room s m ([.ref h, .int x, .int y] : List Value).toArray below meth c H locs 0 0 (MQ below (va_Qi (S := gA_S) (fun r u => gA_post nl lx ly nu ux uy (g2 x y) capN n1 L1 n2 U1 seen r u) (gm_B (dC, dI) [(dA, .int)] A (fun u => [(h, .inr (0, [.ref a1, .ref a2, .ref a3, .ref a4, .int (nI u.1.1), .int (nI u.1.2), .ref a5, .ref a6, .int u.2.2.1, .int (nI capN), .int u.2.2.2])), (a1, .inl (dA, 68, .inl u.2.1.1)), (a2, .inl (dA, 68, .inl u.2.1.2.1)), (a3, .inl (dA, 68, .inl u.2.1.2.2.1)), (a4, .inl (dA, 68, .inl u.2.1.2.2.2.1)), (a5, .inl (dA, 68, .inl u.2.1.2.2.2.2.1)), (a6, .inl (dA, 68, .inl u.2.1.2.2.2.2.2))])) A) ([.ref h, .int x, .int y] : List Value).toArray s 0 0 A) (F0 m 246 ls []) := by
        intro hle lx1 ly1 ux1 uy1 tx1 ty1 nt1 hL1 hU1 H locs hP hD hS ls hl
        refine lv_aload_n hx hb dX1_add_246 rfl (lv_at hl 0 rfl) ?_
        refine lv_iload hx hb dX1_add_247 (lv_at hl 6 rfl) ?_
        refine va_put (D := (dC, dI)) (ci := 0) (v := .int (nI n1)) (ty := .int) (C := RX1) (T := TX1) (N := 11) hx hb hts in_X1 tyX1 tyX1_ok nmX1 hown hK hP hD hS 0 rfl rfl 4 (by decide) (hts _ q25) (fun _ h9 => h9) rfl (by decide +kernel) rfl rfl (Nat.le_of_ble_eq_true rfl) dX1_add_249 (fun H locs hP hD hS => ?_)
        have hP : va_P (dC, dI) vwCl [(h, .inr (0, [.ref a1, .ref a2, .ref a3, .ref a4, .int (nI n1), .int (nI n2), .ref a5, .ref a6, .int nt1, .int (nI capN), .int seen])), (a1, .inl (dA, 68, .inl lx1)), (a2, .inl (dA, 68, .inl ly1)), (a3, .inl (dA, 68, .inl ux1)), (a4, .inl (dA, 68, .inl uy1)), (a5, .inl (dA, 68, .inl tx1)), (a6, .inl (dA, 68, .inl ty1))] H := hP
        have hD : va_D A [(h, .inr (0, [.ref a1, .ref a2, .ref a3, .ref a4, .int (nI n1), .int (nI n2), .ref a5, .ref a6, .int nt1, .int (nI capN), .int seen])), (a1, .inl (dA, 68, .inl lx1)), (a2, .inl (dA, 68, .inl ly1)), (a3, .inl (dA, 68, .inl ux1)), (a4, .inl (dA, 68, .inl uy1)), (a5, .inl (dA, 68, .inl tx1)), (a6, .inl (dA, 68, .inl ty1))] := hD
        refine lv_aload_n hx hb dX1_add_252 rfl (lv_at hl 0 rfl) ?_
        refine lv_dup hx hb dX1_add_253 rfl ?_
        refine va_get (D := (dC, dI)) (ci := 0) (v := .int seen) (C := RX1) (T := TX1) (N := 11) hx hb hts in_X1 hown hK hP 0 rfl rfl 10 (by decide) (hts _ q31) (fun _ h9 => h9) rfl dX1_add_254 ?_
        refine lv_iconst (v := 1) hx hb dX1_add_257 (by decide) ?_
        refine lv_iadd hx hb dX1_add_258 ?_
        refine va_put (D := (dC, dI)) (ci := 0) (v := .int (seen + 1)) (ty := .int) (C := RX1) (T := TX1) (N := 11) hx hb hts in_X1 tyX1 tyX1_ok nmX1 hown hK hP hD hS 0 rfl rfl 10 (by decide) (hts _ q31) (fun _ h9 => h9) rfl (by decide +kernel) rfl rfl (Nat.le_of_ble_eq_true rfl) dX1_add_259 (fun H locs hP hD hS => ?_)
        have hP : va_P (dC, dI) vwCl [(h, .inr (0, [.ref a1, .ref a2, .ref a3, .ref a4, .int (nI n1), .int (nI n2), .ref a5, .ref a6, .int nt1, .int (nI capN), .int (seen + 1)])), (a1, .inl (dA, 68, .inl lx1)), (a2, .inl (dA, 68, .inl ly1)), (a3, .inl (dA, 68, .inl ux1)), (a4, .inl (dA, 68, .inl uy1)), (a5, .inl (dA, 68, .inl tx1)), (a6, .inl (dA, 68, .inl ty1))] H := hP
        have hD : va_D A [(h, .inr (0, [.ref a1, .ref a2, .ref a3, .ref a4, .int (nI n1), .int (nI n2), .ref a5, .ref a6, .int nt1, .int (nI capN), .int (seen + 1)])), (a1, .inl (dA, 68, .inl lx1)), (a2, .inl (dA, 68, .inl ly1)), (a3, .inl (dA, 68, .inl ux1)), (a4, .inl (dA, 68, .inl uy1)), (a5, .inl (dA, 68, .inl tx1)), (a6, .inl (dA, 68, .inl ty1))] := hD
        refine lv_iconst (v := 2) hx hb dX1_add_262 (by decide) ?_
        refine lv_iload hx hb dX1_add_263 (lv_at hl 5 rfl) ?_
        refine lv_iadd hx hb dX1_add_265 ?_
        refine lv_iload hx hb dX1_add_266 (lv_at hl 8 rfl) ?_
        refine lv_isub hx hb dX1_add_268 ?_
        exact W.iret (v := ((2 + (nI (gh_N nl nu))) - (nI (gh_N n1 n2)))) hx hb hr (fun t ht hW => ⟨⟨((2 + (nI (gh_N nl nu))) - (nI (gh_N n1 n2))), ((n1, n2), (lx1, ly1, ux1, uy1, tx1, ty1), nt1, seen + 1), rfl, Or.inr (Or.inr (Or.inr ⟨hok, hna, hle, rfl, ⟨rfl, rfl, hL1, hU1⟩, rfl⟩)), by rw [ht]; exact hP, va_K.moved hW.alike hK, hD⟩, hS.F ht⟩) hS.2.2 dX1_add_269
      have at205 : gh_N n1 n2 ≤ capN → ∀ (ux1 uy1 tx1 ty1 : Nat → Int32) (nt1 : Int32), (∀ i, i < n2 → gp ux1 uy1 i = U1 i) → ∀ (H : Heap) (locs : List Loc), va_P (dC, dI) vwCl [(h, .inr (0, [.ref a1, .ref a2, .ref a3, .ref a4, .int (nI nl), .int (nI nu), .ref a5, .ref a6, .int nt1, .int (nI capN), .int seen])), (a1, .inl (dA, 68, .inl lx)), (a2, .inl (dA, 68, .inl ly)), (a3, .inl (dA, 68, .inl ux1)), (a4, .inl (dA, 68, .inl uy1)), (a5, .inl (dA, 68, .inl tx1)), (a6, .inl (dA, 68, .inl ty1))] H → va_D A [(h, .inr (0, [.ref a1, .ref a2, .ref a3, .ref a4, .int (nI nl), .int (nI nu), .ref a5, .ref a6, .int nt1, .int (nI capN), .int seen])), (a1, .inl (dA, 68, .inl lx)), (a2, .inl (dA, 68, .inl ly)), (a3, .inl (dA, 68, .inl ux1)), (a4, .inl (dA, 68, .inl uy1)), (a5, .inl (dA, 68, .inl tx1)), (a6, .inl (dA, 68, .inl ty1))] → va_S A s.heap H locs → ∀ (ls : Array Slot), lv_has ls 9 [(0, .ref h), (1, .int x), (2, .int y), (3, .int z3), (4, .int z4), (5, .int (nI (gh_N nl nu))), (6, .int (nI n1)), (7, .int (nI n2)), (8, .int (nI (gh_N n1 n2)))] → W p l e (headSpec (ws_ yX1_add cX1_add 9 (some .int)) ({ frames := 3, cells := 0, slots := 0, locals := 81 })).room s m ([.ref h, .int x, .int y] : List Value).toArray below meth c H locs 0 0 (MQ below (va_Qi (S := gA_S) (fun r u => gA_post nl lx ly nu ux uy (g2 x y) capN n1 L1 n2 U1 seen r u) (gm_B (dC, dI) [(dA, .int)] A (fun u => [(h, .inr (0, [.ref a1, .ref a2, .ref a3, .ref a4, .int (nI u.1.1), .int (nI u.1.2), .ref a5, .ref a6, .int u.2.2.1, .int (nI capN), .int u.2.2.2])), (a1, .inl (dA, 68, .inl u.2.1.1)), (a2, .inl (dA, 68, .inl u.2.1.2.1)), (a3, .inl (dA, 68, .inl u.2.1.2.2.1)), (a4, .inl (dA, 68, .inl u.2.1.2.2.2.1)), (a5, .inl (dA, 68, .inl u.2.1.2.2.2.2.1)), (a6, .inl (dA, 68, .inl u.2.1.2.2.2.2.2))])) A) ([.ref h, .int x, .int y] : List Value).toArray s 0 0 A) (F0 m 205 ls []) := by
        intro hle ux1 uy1 tx1 ty1 nt1 hU1 H locs hP hD hS ls hl
        refine lv_aload_n hx hb dX1_add_205 rfl (lv_at hl 0 rfl) ?_
        refine lv_iload hx hb dX1_add_206 (lv_at hl 7 rfl) ?_
        refine va_put (D := (dC, dI)) (ci := 0) (v := .int (nI n2)) (ty := .int) (C := RX1) (T := TX1) (N := 11) hx hb hts in_X1 tyX1 tyX1_ok nmX1 hown hK hP hD hS 0 rfl rfl 5 (by decide) (hts _ q26) (fun _ h9 => h9) rfl (by decide +kernel) rfl rfl (Nat.le_of_ble_eq_true rfl) dX1_add_208 (fun H locs hP hD hS => ?_)
        have hP : va_P (dC, dI) vwCl [(h, .inr (0, [.ref a1, .ref a2, .ref a3, .ref a4, .int (nI nl), .int (nI n2), .ref a5, .ref a6, .int nt1, .int (nI capN), .int seen])), (a1, .inl (dA, 68, .inl lx)), (a2, .inl (dA, 68, .inl ly)), (a3, .inl (dA, 68, .inl ux1)), (a4, .inl (dA, 68, .inl uy1)), (a5, .inl (dA, 68, .inl tx1)), (a6, .inl (dA, 68, .inl ty1))] H := hP
        have hD : va_D A [(h, .inr (0, [.ref a1, .ref a2, .ref a3, .ref a4, .int (nI nl), .int (nI n2), .ref a5, .ref a6, .int nt1, .int (nI capN), .int seen])), (a1, .inl (dA, 68, .inl lx)), (a2, .inl (dA, 68, .inl ly)), (a3, .inl (dA, 68, .inl ux1)), (a4, .inl (dA, 68, .inl uy1)), (a5, .inl (dA, 68, .inl tx1)), (a6, .inl (dA, 68, .inl ty1))] := hD
        refine lv_iload_n hx hb dX1_add_211 rfl (lv_at hl 3 rfl) ?_
        refine lv_if_eq (tgt := 246) hx hb dX1_add_212 (by decide) (fun c_6 => ?_) (fun c_6 => ?_)
        · have hlo : gh_A 1 nl (gp lx ly) (g2 x y) := Classical.not_not.mp (gk_b.neg hz3 c_6)
          obtain ⟨e1, e2⟩ : n1 = nl ∧ ∀ i, i < n1 → gp lx ly i = L1 i := by
            rcases hu1 with ⟨z, _, _⟩ | ⟨_, z1, z2⟩
            · exact absurd hlo z
            · exact ⟨z1, fun i hi => (z2 i hi).symm⟩
          exact at246 hle lx ly ux1 uy1 tx1 ty1 nt1 e2 hU1 H locs hP hD hS ls (lv_sub hl [0, 1, 2, 3, 4, 5, 6, 7, 8] rfl)
        · have hlo : ¬ gh_A 1 nl (gp lx ly) (g2 x y) := gk_b.pos hz3 c_6
          obtain ⟨e1, e2⟩ : n1 = gh_wn 1 nl (gp lx ly) (g2 x y) ∧ ∀ i, i < n1 → L1 i = gh_wf 1 nl (gp lx ly) (g2 x y) i := by
            rcases hu1 with ⟨_, z1, z2⟩ | ⟨z, _, _⟩
            · exact ⟨z1, z2⟩
            · exact absurd z hlo
          refine lv_aload_n hx hb dX1_add_215 rfl (lv_at hl 0 rfl) ?_
          refine lv_aload_n hx hb dX1_add_216 rfl (lv_at hl 0 rfl) ?_
          refine va_get (D := (dC, dI)) (ci := 0) (v := .ref a1) (C := RX1) (T := TX1) (N := 11) hx hb hts in_X1 hown hK hP 0 rfl rfl 0 (by decide) (hts _ q21) (fun _ h9 => h9) rfl dX1_add_217 ?_
          refine lv_aload_n hx hb dX1_add_220 rfl (lv_at hl 0 rfl) ?_
          refine va_get (D := (dC, dI)) (ci := 0) (v := .ref a2) (C := RX1) (T := TX1) (N := 11) hx hb hts in_X1 hown hK hP 0 rfl rfl 1 (by decide) (hts _ q22) (fun _ h9 => h9) rfl dX1_add_221 ?_
          refine lv_aload_n hx hb dX1_add_224 rfl (lv_at hl 0 rfl) ?_
          refine va_get (D := (dC, dI)) (ci := 0) (v := .int (nI nl)) (C := RX1) (T := TX1) (N := 11) hx hb hts in_X1 hown hK hP 0 rfl rfl 4 (by decide) (hts _ q25) (fun _ h9 => h9) rfl dX1_add_225 ?_
          refine lv_iload_n hx hb dX1_add_228 rfl (lv_at hl 1 rfl) ?_
          refine lv_iload_n hx hb dX1_add_229 rfl (lv_at hl 2 rfl) ?_
          refine lv_iconst (v := 1) hx hb dX1_add_230 (by decide) ?_
          have hPc := hP.sub (ws' := [(h, .inr (0, [.ref a1, .ref a2, .ref a3, .ref a4, .int (nI nl), .int (nI n2), .ref a5, .ref a6, .int nt1, .int (nI capN), .int seen])), (a1, .inl (dA, 68, .inl lx)), (a2, .inl (dA, 68, .inl ly)), (a5, .inl (dA, 68, .inl tx1)), (a6, .inl (dA, 68, .inl ty1))]) [0, 1, 2, 5, 6] rfl
          have hDc := hD.sub (ws' := [(h, .inr (0, [.ref a1, .ref a2, .ref a3, .ref a4, .int (nI nl), .int (nI n2), .ref a5, .ref a6, .int nt1, .int (nI capN), .int seen])), (a1, .inl (dA, 68, .inl lx)), (a2, .inl (dA, 68, .inl ly)), (a5, .inl (dA, 68, .inl tx1)), (a6, .inl (dA, 68, .inl ty1))]) [0, 1, 2, 5, 6] (by decide) rfl
          have hKc := hK.sub (tys' := [(dA, .int)]) [0] rfl
          have hFc := va_free (wc := [(h, .inr (0, [.ref a1, .ref a2, .ref a3, .ref a4, .int (nI nl), .int (nI n2), .ref a5, .ref a6, .int nt1, .int (nI capN), .int seen])), (a1, .inl (dA, 68, .inl lx)), (a2, .inl (dA, 68, .inl ly)), (a5, .inl (dA, 68, .inl tx1)), (a6, .inl (dA, 68, .inl ty1))]) hD hS hA [0, 1, 2, 5, 6] rfl
          refine va_callv (va_runV (As := [.ref a1, .ref a2, .int (nI nl), .int x, .int y, .int 1]) (rest := []) ⟨hx, hb, hml, hown, hts⟩ (metX1_with l dC dI dA H.size h a1 a2 a3 a4 a5 a6 (nI nl) (nI n2) (nI capN) seen a1 a2 nl lx ly tx1 ty1 nt1 x y 1 (by omega) (Or.inl rfl) (by rw [gk_s1]; exact hH.1) hH.2.2.1 hok) (cwV 6 hts (lw_V q85 q87 qs1 q11 q88) rfl rfl rfl (by decide +kernel) ⟨Nat.le_of_ble_eq_true rfl, Nat.le_of_ble_eq_true rfl⟩) (gm_preV hK hP (ci := 0) (q0 := 0) rfl rfl hPc hKc hDc) rfl rfl hl.1 rfl (lv_room (Nat.le_of_ble_eq_true rfl)) dX1_add_231 ⟨Nat.zero_le _, Nat.zero_le _⟩) hS (fun q _ h => hFc q h) hFc (fun u1 t H1 locs ht hvm hwu1 hB hz1 hk1 hS => ?_)
          obtain ⟨hP1, hK1, hD1⟩ := hB
          rw [ht] at hP1
          obtain ⟨hP, hD⟩ := va_join (wr := [(a3, .inl (dA, 68, .inl ux1)), (a4, .inl (dA, 68, .inl uy1))]) (w1 := [(h, .inr (0, [.ref a1, .ref a2, .ref a3, .ref a4, .int (nI nl), .int (nI n2), .ref a5, .ref a6, .int (nI (gh_wn ((1 : Int32)).toInt nl (gp lx ly) (g2 x y))), .int (nI capN), .int seen])), (a1, .inl (dA, 68, .inl lx)), (a2, .inl (dA, 68, .inl ly)), (a5, .inl (dA, 68, .inl u1.1)), (a6, .inl (dA, 68, .inl u1.2))]) hP hD [0, 1, 2, 5, 6] [3, 4] rfl rfl (by decide) (by decide) hk1 hFc hP1 hD1
          generalize H1 = H at hP hS ⊢
          have hP := hP.sub (ws' := [(h, .inr (0, [.ref a1, .ref a2, .ref a3, .ref a4, .int (nI nl), .int (nI n2), .ref a5, .ref a6, .int (nI (gh_wn ((1 : Int32)).toInt nl (gp lx ly) (g2 x y))), .int (nI capN), .int seen])), (a1, .inl (dA, 68, .inl lx)), (a2, .inl (dA, 68, .inl ly)), (a3, .inl (dA, 68, .inl ux1)), (a4, .inl (dA, 68, .inl uy1)), (a5, .inl (dA, 68, .inl u1.1)), (a6, .inl (dA, 68, .inl u1.2))]) [2, 3, 4, 0, 1, 5, 6] rfl
          have hD := hD.sub (ws' := [(h, .inr (0, [.ref a1, .ref a2, .ref a3, .ref a4, .int (nI nl), .int (nI n2), .ref a5, .ref a6, .int (nI (gh_wn ((1 : Int32)).toInt nl (gp lx ly) (g2 x y))), .int (nI capN), .int seen])), (a1, .inl (dA, 68, .inl lx)), (a2, .inl (dA, 68, .inl ly)), (a3, .inl (dA, 68, .inl ux1)), (a4, .inl (dA, 68, .inl uy1)), (a5, .inl (dA, 68, .inl u1.1)), (a6, .inl (dA, 68, .inl u1.2))]) [2, 3, 4, 0, 1, 5, 6] (by decide) rfl
          have hwu1 : ∀ i, i < gh_wn ((1 : Int32)).toInt nl (gp lx ly) (g2 x y) → gp u1.1 u1.2 i = gh_wf ((1 : Int32)).toInt nl (gp lx ly) (g2 x y) i := hwu1
          rw [gk_s1, ← e1] at hwu1
          rw [gk_s1, ← e1] at hP hD
          refine lv_aload_n hx hb dX1_add_234 rfl (lv_at hl 0 rfl) ?_
          refine lv_aload_n hx hb dX1_add_235 rfl (lv_at hl 0 rfl) ?_
          refine va_get (D := (dC, dI)) (ci := 0) (v := .ref a1) (C := RX1) (T := TX1) (N := 11) hx hb hts in_X1 hown hK hP 0 rfl rfl 0 (by decide) (hts _ q21) (fun _ h9 => h9) rfl dX1_add_236 ?_
          refine lv_aload_n hx hb dX1_add_239 rfl (lv_at hl 0 rfl) ?_
          refine va_get (D := (dC, dI)) (ci := 0) (v := .ref a2) (C := RX1) (T := TX1) (N := 11) hx hb hts in_X1 hown hK hP 0 rfl rfl 1 (by decide) (hts _ q22) (fun _ h9 => h9) rfl dX1_add_240 ?_
          have hPc := hP.sub (ws' := [(h, .inr (0, [.ref a1, .ref a2, .ref a3, .ref a4, .int (nI nl), .int (nI n2), .ref a5, .ref a6, .int (nI n1), .int (nI capN), .int seen])), (a1, .inl (dA, 68, .inl lx)), (a2, .inl (dA, 68, .inl ly)), (a5, .inl (dA, 68, .inl u1.1)), (a6, .inl (dA, 68, .inl u1.2))]) [0, 1, 2, 5, 6] rfl
          have hDc := hD.sub (ws' := [(h, .inr (0, [.ref a1, .ref a2, .ref a3, .ref a4, .int (nI nl), .int (nI n2), .ref a5, .ref a6, .int (nI n1), .int (nI capN), .int seen])), (a1, .inl (dA, 68, .inl lx)), (a2, .inl (dA, 68, .inl ly)), (a5, .inl (dA, 68, .inl u1.1)), (a6, .inl (dA, 68, .inl u1.2))]) [0, 1, 2, 5, 6] (by decide) rfl
          have hKc := hK.sub (tys' := [(dA, .int)]) [0] rfl
          have hFc := va_free (wc := [(h, .inr (0, [.ref a1, .ref a2, .ref a3, .ref a4, .int (nI nl), .int (nI n2), .ref a5, .ref a6, .int (nI n1), .int (nI capN), .int seen])), (a1, .inl (dA, 68, .inl lx)), (a2, .inl (dA, 68, .inl ly)), (a5, .inl (dA, 68, .inl u1.1)), (a6, .inl (dA, 68, .inl u1.2))]) hD hS hA [0, 1, 2, 5, 6] rfl
          refine va_callv (va_runV (As := [.ref a1, .ref a2]) (rest := []) ⟨hx, hb, hml, hown, hts⟩ (metX1_keep l dC dI dA H.size h a1 a2 a3 a4 a5 a6 (nI nl) (nI n2) (nI capN) seen a1 a2 n1 lx ly u1.1 u1.2 (by omega)) (cwV 2 hts (lw_V q93 q95 qs3 q11 q96) rfl rfl rfl (by decide +kernel) ⟨Nat.le_of_ble_eq_true rfl, Nat.le_of_ble_eq_true rfl⟩) (gm_preV hK hP (ci := 0) (q0 := 0) rfl rfl hPc hKc hDc) rfl rfl hl.1 rfl (lv_room (Nat.le_of_ble_eq_true rfl)) dX1_add_243 ⟨Nat.zero_le _, Nat.zero_le _⟩) hS (fun q _ h => hFc q h) hFc (fun u2 t H1 locs ht hvm hwu2 hB hz1 hk1 hS => ?_)
          obtain ⟨hP1, hK1, hD1⟩ := hB
          rw [ht] at hP1
          obtain ⟨hP, hD⟩ := va_join (wr := [(a3, .inl (dA, 68, .inl ux1)), (a4, .inl (dA, 68, .inl uy1))]) (w1 := [(h, .inr (0, [.ref a1, .ref a2, .ref a3, .ref a4, .int (nI nl), .int (nI n2), .ref a5, .ref a6, .int (nI n1), .int (nI capN), .int seen])), (a1, .inl (dA, 68, .inl u2.1)), (a2, .inl (dA, 68, .inl u2.2)), (a5, .inl (dA, 68, .inl u1.1)), (a6, .inl (dA, 68, .inl u1.2))]) hP hD [0, 1, 2, 5, 6] [3, 4] rfl rfl (by decide) (by decide) hk1 hFc hP1 hD1
          generalize H1 = H at hP hS ⊢
          have hP := hP.sub (ws' := [(h, .inr (0, [.ref a1, .ref a2, .ref a3, .ref a4, .int (nI nl), .int (nI n2), .ref a5, .ref a6, .int (nI n1), .int (nI capN), .int seen])), (a1, .inl (dA, 68, .inl u2.1)), (a2, .inl (dA, 68, .inl u2.2)), (a3, .inl (dA, 68, .inl ux1)), (a4, .inl (dA, 68, .inl uy1)), (a5, .inl (dA, 68, .inl u1.1)), (a6, .inl (dA, 68, .inl u1.2))]) [2, 3, 4, 0, 1, 5, 6] rfl
          have hD := hD.sub (ws' := [(h, .inr (0, [.ref a1, .ref a2, .ref a3, .ref a4, .int (nI nl), .int (nI n2), .ref a5, .ref a6, .int (nI n1), .int (nI capN), .int seen])), (a1, .inl (dA, 68, .inl u2.1)), (a2, .inl (dA, 68, .inl u2.2)), (a3, .inl (dA, 68, .inl ux1)), (a4, .inl (dA, 68, .inl uy1)), (a5, .inl (dA, 68, .inl u1.1)), (a6, .inl (dA, 68, .inl u1.2))]) [2, 3, 4, 0, 1, 5, 6] (by decide) rfl
          have hwu2 : ∀ i, i < n1 → u2.1 i = u1.1 i ∧ u2.2 i = u1.2 i := hwu2
          exact at246 hle u2.1 u2.2 ux1 uy1 u1.1 u1.2 (nI n1) (fun i hi => by rw [e2 i hi, ← hwu1 i hi]; unfold gp; rw [(hwu2 i hi).1, (hwu2 i hi).2]) hU1 H locs hP hD hS ls (lv_sub hl [0, 1, 2, 3, 4, 5, 6, 7, 8] rfl)
      have at174 : ∀ (tx1 ty1 : Nat → Int32) (nt1 : Int32), (¬ z4 = 0 → nt1 = nI n2 ∧ ∀ i, i < n2 → gp tx1 ty1 i = U1 i) → ∀ (H : Heap) (locs : List Loc), va_P (dC, dI) vwCl [(h, .inr (0, [.ref a1, .ref a2, .ref a3, .ref a4, .int (nI nl), .int (nI nu), .ref a5, .ref a6, .int nt1, .int (nI capN), .int seen])), (a1, .inl (dA, 68, .inl lx)), (a2, .inl (dA, 68, .inl ly)), (a3, .inl (dA, 68, .inl ux)), (a4, .inl (dA, 68, .inl uy)), (a5, .inl (dA, 68, .inl tx1)), (a6, .inl (dA, 68, .inl ty1))] H → va_D A [(h, .inr (0, [.ref a1, .ref a2, .ref a3, .ref a4, .int (nI nl), .int (nI nu), .ref a5, .ref a6, .int nt1, .int (nI capN), .int seen])), (a1, .inl (dA, 68, .inl lx)), (a2, .inl (dA, 68, .inl ly)), (a3, .inl (dA, 68, .inl ux)), (a4, .inl (dA, 68, .inl uy)), (a5, .inl (dA, 68, .inl tx1)), (a6, .inl (dA, 68, .inl ty1))] → va_S A s.heap H locs → ∀ (ls : Array Slot), lv_has ls 9 [(0, .ref h), (1, .int x), (2, .int y), (3, .int z3), (4, .int z4), (5, .int (nI (gh_N nl nu))), (6, .int (nI n1)), (7, .int (nI n2))] → W p l e (headSpec (ws_ yX1_add cX1_add 9 (some .int)) ({ frames := 3, cells := 0, slots := 0, locals := 81 })).room s m ([.ref h, .int x, .int y] : List Value).toArray below meth c H locs 0 0 (MQ below (va_Qi (S := gA_S) (fun r u => gA_post nl lx ly nu ux uy (g2 x y) capN n1 L1 n2 U1 seen r u) (gm_B (dC, dI) [(dA, .int)] A (fun u => [(h, .inr (0, [.ref a1, .ref a2, .ref a3, .ref a4, .int (nI u.1.1), .int (nI u.1.2), .ref a5, .ref a6, .int u.2.2.1, .int (nI capN), .int u.2.2.2])), (a1, .inl (dA, 68, .inl u.2.1.1)), (a2, .inl (dA, 68, .inl u.2.1.2.1)), (a3, .inl (dA, 68, .inl u.2.1.2.2.1)), (a4, .inl (dA, 68, .inl u.2.1.2.2.2.1)), (a5, .inl (dA, 68, .inl u.2.1.2.2.2.2.1)), (a6, .inl (dA, 68, .inl u.2.1.2.2.2.2.2))])) A) ([.ref h, .int x, .int y] : List Value).toArray s 0 0 A) (F0 m 174 ls [.int (nI (gh_N n1 n2))]) := by
        intro tx1 ty1 nt1 hup H locs hP hD hS ls hl
        refine lv_istore (lv' := [(8, .int (nI (gh_N n1 n2))), (0, .ref h), (1, .int x), (2, .int y), (3, .int z3), (4, .int z4), (5, .int (nI (gh_N nl nu))), (6, .int (nI n1)), (7, .int (nI n2))]) hx hb dX1_add_174 hl (by decide) rfl (fun ls hl => ?_)
        refine lv_iload hx hb dX1_add_176 (lv_at hl 0 rfl) ?_
        refine lv_aload_n hx hb dX1_add_178 rfl (lv_at hl 1 rfl) ?_
        refine va_get (D := (dC, dI)) (ci := 0) (v := .int (nI capN)) (C := RX1) (T := TX1) (N := 11) hx hb hts in_X1 hown hK hP 0 rfl rfl 9 (by decide) (hts _ q30) (fun _ h9 => h9) rfl dX1_add_179 ?_
        refine lv_icmp_le (tgt := 188) hx hb dX1_add_182 (by decide) (fun c_7 => ?_) (fun c_7 => ?_)
        · have hle : gh_N n1 n2 ≤ capN := (nI_leI (by omega) (by omega)).mp c_7
          refine lv_iload hx hb dX1_add_188 (lv_at hl 5 rfl) ?_
          refine lv_if_eq (tgt := 205) hx hb dX1_add_190 (by decide) (fun c_8 => ?_) (fun c_8 => ?_)
          · have huo : gh_A (-1) nu (gp ux uy) (g2 x y) := Classical.not_not.mp (gk_b.neg hz4 c_8)
            have e2 : ∀ i, i < n2 → gp ux uy i = U1 i := by
              rcases hu2 with ⟨z, _, _⟩ | ⟨_, z1, z2⟩
              · exact absurd huo z
              · exact fun i hi => (z2 i hi).symm
            exact at205 hle ux uy tx1 ty1 nt1 e2 H locs hP hD hS ls (lv_sub hl [1, 2, 3, 4, 5, 6, 7, 8, 0] rfl)
          · obtain ⟨e1, e2⟩ := hup c_8
            subst e1
            refine lv_aload_n hx hb dX1_add_193 rfl (lv_at hl 1 rfl) ?_
            refine lv_aload_n hx hb dX1_add_194 rfl (lv_at hl 1 rfl) ?_
            refine va_get (D := (dC, dI)) (ci := 0) (v := .ref a3) (C := RX1) (T := TX1) (N := 11) hx hb hts in_X1 hown hK hP 0 rfl rfl 2 (by decide) (hts _ q23) (fun _ h9 => h9) rfl dX1_add_195 ?_
            refine lv_aload_n hx hb dX1_add_198 rfl (lv_at hl 1 rfl) ?_
            refine va_get (D := (dC, dI)) (ci := 0) (v := .ref a4) (C := RX1) (T := TX1) (N := 11) hx hb hts in_X1 hown hK hP 0 rfl rfl 3 (by decide) (hts _ q24) (fun _ h9 => h9) rfl dX1_add_199 ?_
            have hPc := hP.sub (ws' := [(h, .inr (0, [.ref a1, .ref a2, .ref a3, .ref a4, .int (nI nl), .int (nI nu), .ref a5, .ref a6, .int (nI n2), .int (nI capN), .int seen])), (a3, .inl (dA, 68, .inl ux)), (a4, .inl (dA, 68, .inl uy)), (a5, .inl (dA, 68, .inl tx1)), (a6, .inl (dA, 68, .inl ty1))]) [0, 3, 4, 5, 6] rfl
            have hDc := hD.sub (ws' := [(h, .inr (0, [.ref a1, .ref a2, .ref a3, .ref a4, .int (nI nl), .int (nI nu), .ref a5, .ref a6, .int (nI n2), .int (nI capN), .int seen])), (a3, .inl (dA, 68, .inl ux)), (a4, .inl (dA, 68, .inl uy)), (a5, .inl (dA, 68, .inl tx1)), (a6, .inl (dA, 68, .inl ty1))]) [0, 3, 4, 5, 6] (by decide) rfl
            have hKc := hK.sub (tys' := [(dA, .int)]) [0] rfl
            have hFc := va_free (wc := [(h, .inr (0, [.ref a1, .ref a2, .ref a3, .ref a4, .int (nI nl), .int (nI nu), .ref a5, .ref a6, .int (nI n2), .int (nI capN), .int seen])), (a3, .inl (dA, 68, .inl ux)), (a4, .inl (dA, 68, .inl uy)), (a5, .inl (dA, 68, .inl tx1)), (a6, .inl (dA, 68, .inl ty1))]) hD hS hA [0, 3, 4, 5, 6] rfl
            refine va_callv (va_runV (As := [.ref a3, .ref a4]) (rest := []) ⟨hx, hb, hml, hown, hts⟩ (metX1_keep l dC dI dA H.size h a1 a2 a3 a4 a5 a6 (nI nl) (nI nu) (nI capN) seen a3 a4 n2 ux uy tx1 ty1 (by omega)) (cwV 2 hts (lw_V q93 q95 qs3 q11 q96) rfl rfl rfl (by decide +kernel) ⟨Nat.le_of_ble_eq_true rfl, Nat.le_of_ble_eq_true rfl⟩) (gm_preV hK hP (ci := 0) (q0 := 0) rfl rfl hPc hKc hDc) rfl rfl hl.1 rfl (lv_room (Nat.le_of_ble_eq_true rfl)) dX1_add_202 ⟨Nat.zero_le _, Nat.zero_le _⟩) hS (fun q _ h => hFc q h) hFc (fun u2 t H1 locs ht hvm hwu2 hB hz1 hk1 hS => ?_)
            obtain ⟨hP1, hK1, hD1⟩ := hB
            rw [ht] at hP1
            obtain ⟨hP, hD⟩ := va_join (wr := [(a1, .inl (dA, 68, .inl lx)), (a2, .inl (dA, 68, .inl ly))]) (w1 := [(h, .inr (0, [.ref a1, .ref a2, .ref a3, .ref a4, .int (nI nl), .int (nI nu), .ref a5, .ref a6, .int (nI n2), .int (nI capN), .int seen])), (a3, .inl (dA, 68, .inl u2.1)), (a4, .inl (dA, 68, .inl u2.2)), (a5, .inl (dA, 68, .inl tx1)), (a6, .inl (dA, 68, .inl ty1))]) hP hD [0, 3, 4, 5, 6] [1, 2] rfl rfl (by decide) (by decide) hk1 hFc hP1 hD1
            generalize H1 = H at hP hS ⊢
            have hP := hP.sub (ws' := [(h, .inr (0, [.ref a1, .ref a2, .ref a3, .ref a4, .int (nI nl), .int (nI nu), .ref a5, .ref a6, .int (nI n2), .int (nI capN), .int seen])), (a1, .inl (dA, 68, .inl lx)), (a2, .inl (dA, 68, .inl ly)), (a3, .inl (dA, 68, .inl u2.1)), (a4, .inl (dA, 68, .inl u2.2)), (a5, .inl (dA, 68, .inl tx1)), (a6, .inl (dA, 68, .inl ty1))]) [2, 0, 1, 3, 4, 5, 6] rfl
            have hD := hD.sub (ws' := [(h, .inr (0, [.ref a1, .ref a2, .ref a3, .ref a4, .int (nI nl), .int (nI nu), .ref a5, .ref a6, .int (nI n2), .int (nI capN), .int seen])), (a1, .inl (dA, 68, .inl lx)), (a2, .inl (dA, 68, .inl ly)), (a3, .inl (dA, 68, .inl u2.1)), (a4, .inl (dA, 68, .inl u2.2)), (a5, .inl (dA, 68, .inl tx1)), (a6, .inl (dA, 68, .inl ty1))]) [2, 0, 1, 3, 4, 5, 6] (by decide) rfl
            have hwu2 : ∀ i, i < n2 → u2.1 i = tx1 i ∧ u2.2 i = ty1 i := hwu2
            exact at205 hle u2.1 u2.2 tx1 ty1 (nI n2) (fun i hi => by rw [← e2 i hi]; unfold gp; rw [(hwu2 i hi).1, (hwu2 i hi).2]) H locs hP hD hS ls (lv_sub hl [1, 2, 3, 4, 5, 6, 7, 8, 0] rfl)
        · have hgt : capN < gh_N n1 n2 := Nat.not_le.mp (fun z => c_7 ((nI_leI (by omega) (by omega)).mpr z))
          refine lv_bipush (v := (-2)) hx hb dX1_add_185 (by decide) ?_
          exact W.iret (v := (-2)) hx hb hr (fun t ht hW => ⟨⟨(-2), ((nl, nu), (lx, ly, ux, uy, tx1, ty1), nt1, seen), rfl, Or.inr (Or.inr (Or.inl ⟨hok, hna, hgt, rfl, ⟨rfl, rfl, rfl, rfl, rfl, rfl⟩, rfl⟩)), by rw [ht]; exact hP, va_K.moved hW.alike hK, hD⟩, hS.F ht⟩) hS.2.2 dX1_add_187
      have at156 : ∀ (tx1 ty1 : Nat → Int32) (nt1 : Int32), (¬ z4 = 0 → nt1 = nI n2 ∧ ∀ i, i < n2 → gp tx1 ty1 i = U1 i) → ∀ (H : Heap) (locs : List Loc), va_P (dC, dI) vwCl [(h, .inr (0, [.ref a1, .ref a2, .ref a3, .ref a4, .int (nI nl), .int (nI nu), .ref a5, .ref a6, .int nt1, .int (nI capN), .int seen])), (a1, .inl (dA, 68, .inl lx)), (a2, .inl (dA, 68, .inl ly)), (a3, .inl (dA, 68, .inl ux)), (a4, .inl (dA, 68, .inl uy)), (a5, .inl (dA, 68, .inl tx1)), (a6, .inl (dA, 68, .inl ty1))] H → va_D A [(h, .inr (0, [.ref a1, .ref a2, .ref a3, .ref a4, .int (nI nl), .int (nI nu), .ref a5, .ref a6, .int nt1, .int (nI capN), .int seen])), (a1, .inl (dA, 68, .inl lx)), (a2, .inl (dA, 68, .inl ly)), (a3, .inl (dA, 68, .inl ux)), (a4, .inl (dA, 68, .inl uy)), (a5, .inl (dA, 68, .inl tx1)), (a6, .inl (dA, 68, .inl ty1))] → va_S A s.heap H locs → ∀ (ls : Array Slot), lv_has ls 9 [(0, .ref h), (1, .int x), (2, .int y), (3, .int z3), (4, .int z4), (5, .int (nI (gh_N nl nu))), (6, .int (nI n1)), (7, .int (nI n2))] → W p l e (headSpec (ws_ yX1_add cX1_add 9 (some .int)) ({ frames := 3, cells := 0, slots := 0, locals := 81 })).room s m ([.ref h, .int x, .int y] : List Value).toArray below meth c H locs 0 0 (MQ below (va_Qi (S := gA_S) (fun r u => gA_post nl lx ly nu ux uy (g2 x y) capN n1 L1 n2 U1 seen r u) (gm_B (dC, dI) [(dA, .int)] A (fun u => [(h, .inr (0, [.ref a1, .ref a2, .ref a3, .ref a4, .int (nI u.1.1), .int (nI u.1.2), .ref a5, .ref a6, .int u.2.2.1, .int (nI capN), .int u.2.2.2])), (a1, .inl (dA, 68, .inl u.2.1.1)), (a2, .inl (dA, 68, .inl u.2.1.2.1)), (a3, .inl (dA, 68, .inl u.2.1.2.2.1)), (a4, .inl (dA, 68, .inl u.2.1.2.2.2.1)), (a5, .inl (dA, 68, .inl u.2.1.2.2.2.2.1)), (a6, .inl (dA, 68, .inl u.2.1.2.2.2.2.2))])) A) ([.ref h, .int x, .int y] : List Value).toArray s 0 0 A) (F0 m 156 ls []) := by
        intro tx1 ty1 nt1 hup H locs hP hD hS ls hl
        refine lv_iload hx hb dX1_add_156 (lv_at hl 6 rfl) ?_
        refine lv_iconst (v := 2) hx hb dX1_add_158 (by decide) ?_
        refine lv_icmp_ge (tgt := 167) hx hb dX1_add_159 (by decide) (fun c_9 => ?_) (fun c_9 => ?_)
        · have h2 : 2 ≤ n1 := (nI_leI (a := 2) (by omega) (by omega)).mp c_9
          have h3 : 2 ≤ n2 := (hH.step hok hu1 hu2).1.two.mp h2
          refine lv_iload hx hb dX1_add_167 (lv_at hl 6 rfl) ?_
          refine lv_iload hx hb dX1_add_169 (lv_at hl 7 rfl) ?_
          refine lv_iadd hx hb dX1_add_171 ?_
          refine gr_topi (y := nI (n1 + n2)) (nI_add _ _) ?_
          refine lv_iconst (v := 2) hx hb dX1_add_172 (by decide) ?_
          refine lv_isub hx hb dX1_add_173 ?_
          refine gr_topi (y := nI (gh_N n1 n2)) (by rw [gh_N_two h2]; exact gi_m2 (by omega)) ?_
          exact at174 tx1 ty1 nt1 hup H locs hP hD hS ls (lv_sub hl [0, 1, 2, 3, 4, 5, 6, 7] rfl)
        · have h2 : ¬ 2 ≤ n1 := fun z => c_9 ((nI_leI (a := 2) (by omega) (by omega)).mpr z)
          refine lv_iload hx hb dX1_add_162 (lv_at hl 6 rfl) ?_
          refine lv_goto (tgt := 174) hx hb dX1_add_164 (by decide) ?_
          refine gr_topi (y := nI (gh_N n1 n2)) (by unfold gh_N; rw [if_pos (by omega)]) ?_
          exact at174 tx1 ty1 nt1 hup H locs hP hD hS ls (lv_sub hl [0, 1, 2, 3, 4, 5, 6, 7] rfl)
      have at126 : ∀ (tx1 ty1 : Nat → Int32) (nt1 : Int32), ∀ (H : Heap) (locs : List Loc), va_P (dC, dI) vwCl [(h, .inr (0, [.ref a1, .ref a2, .ref a3, .ref a4, .int (nI nl), .int (nI nu), .ref a5, .ref a6, .int nt1, .int (nI capN), .int seen])), (a1, .inl (dA, 68, .inl lx)), (a2, .inl (dA, 68, .inl ly)), (a3, .inl (dA, 68, .inl ux)), (a4, .inl (dA, 68, .inl uy)), (a5, .inl (dA, 68, .inl tx1)), (a6, .inl (dA, 68, .inl ty1))] H → va_D A [(h, .inr (0, [.ref a1, .ref a2, .ref a3, .ref a4, .int (nI nl), .int (nI nu), .ref a5, .ref a6, .int nt1, .int (nI capN), .int seen])), (a1, .inl (dA, 68, .inl lx)), (a2, .inl (dA, 68, .inl ly)), (a3, .inl (dA, 68, .inl ux)), (a4, .inl (dA, 68, .inl uy)), (a5, .inl (dA, 68, .inl tx1)), (a6, .inl (dA, 68, .inl ty1))] → va_S A s.heap H locs → ∀ (ls : Array Slot), lv_has ls 9 [(0, .ref h), (1, .int x), (2, .int y), (3, .int z3), (4, .int z4), (5, .int (nI (gh_N nl nu))), (6, .int (nI n1)), (7, .int (nI nu))] → W p l e (headSpec (ws_ yX1_add cX1_add 9 (some .int)) ({ frames := 3, cells := 0, slots := 0, locals := 81 })).room s m ([.ref h, .int x, .int y] : List Value).toArray below meth c H locs 0 0 (MQ below (va_Qi (S := gA_S) (fun r u => gA_post nl lx ly nu ux uy (g2 x y) capN n1 L1 n2 U1 seen r u) (gm_B (dC, dI) [(dA, .int)] A (fun u => [(h, .inr (0, [.ref a1, .ref a2, .ref a3, .ref a4, .int (nI u.1.1), .int (nI u.1.2), .ref a5, .ref a6, .int u.2.2.1, .int (nI capN), .int u.2.2.2])), (a1, .inl (dA, 68, .inl u.2.1.1)), (a2, .inl (dA, 68, .inl u.2.1.2.1)), (a3, .inl (dA, 68, .inl u.2.1.2.2.1)), (a4, .inl (dA, 68, .inl u.2.1.2.2.2.1)), (a5, .inl (dA, 68, .inl u.2.1.2.2.2.2.1)), (a6, .inl (dA, 68, .inl u.2.1.2.2.2.2.2))])) A) ([.ref h, .int x, .int y] : List Value).toArray s 0 0 A) (F0 m 126 ls []) := by
        intro tx1 ty1 nt1 H locs hP hD hS ls hl
        refine lv_iload hx hb dX1_add_126 (lv_at hl 4 rfl) ?_
        refine lv_if_eq (tgt := 156) hx hb dX1_add_128 (by decide) (fun c_10 => ?_) (fun c_10 => ?_)
        · have huo : gh_A (-1) nu (gp ux uy) (g2 x y) := Classical.not_not.mp (gk_b.neg hz4 c_10)
          have e1 : nu = n2 := by
            rcases hu2 with ⟨z, _, _⟩ | ⟨_, z1, z2⟩
            · exact absurd huo z
            · exact z1.symm
          rw [show nI nu = nI n2 by rw [e1]] at hl
          exact at156 tx1 ty1 nt1 (fun z => absurd c_10 z) H locs hP hD hS ls (lv_sub hl [0, 1, 2, 3, 4, 5, 6, 7] rfl)
        · have huo : ¬ gh_A (-1) nu (gp ux uy) (g2 x y) := gk_b.pos hz4 c_10
          obtain ⟨e1, e2⟩ : n2 = gh_wn (-1) nu (gp ux uy) (g2 x y) ∧ ∀ i, i < n2 → U1 i = gh_wf (-1) nu (gp ux uy) (g2 x y) i := by
            rcases hu2 with ⟨_, z1, z2⟩ | ⟨z, _, _⟩
            · exact ⟨z1, z2⟩
            · exact absurd z huo
          refine lv_aload_n hx hb dX1_add_131 rfl (lv_at hl 0 rfl) ?_
          refine lv_aload_n hx hb dX1_add_132 rfl (lv_at hl 0 rfl) ?_
          refine va_get (D := (dC, dI)) (ci := 0) (v := .ref a3) (C := RX1) (T := TX1) (N := 11) hx hb hts in_X1 hown hK hP 0 rfl rfl 2 (by decide) (hts _ q23) (fun _ h9 => h9) rfl dX1_add_133 ?_
          refine lv_aload_n hx hb dX1_add_136 rfl (lv_at hl 0 rfl) ?_
          refine va_get (D := (dC, dI)) (ci := 0) (v := .ref a4) (C := RX1) (T := TX1) (N := 11) hx hb hts in_X1 hown hK hP 0 rfl rfl 3 (by decide) (hts _ q24) (fun _ h9 => h9) rfl dX1_add_137 ?_
          refine lv_aload_n hx hb dX1_add_140 rfl (lv_at hl 0 rfl) ?_
          refine va_get (D := (dC, dI)) (ci := 0) (v := .int (nI nu)) (C := RX1) (T := TX1) (N := 11) hx hb hts in_X1 hown hK hP 0 rfl rfl 5 (by decide) (hts _ q26) (fun _ h9 => h9) rfl dX1_add_141 ?_
          refine lv_iload_n hx hb dX1_add_144 rfl (lv_at hl 1 rfl) ?_
          refine lv_iload_n hx hb dX1_add_145 rfl (lv_at hl 2 rfl) ?_
          refine lv_iconst (v := (-1)) hx hb dX1_add_146 (by decide) ?_
          have hPc := hP.sub (ws' := [(h, .inr (0, [.ref a1, .ref a2, .ref a3, .ref a4, .int (nI nl), .int (nI nu), .ref a5, .ref a6, .int nt1, .int (nI capN), .int seen])), (a3, .inl (dA, 68, .inl ux)), (a4, .inl (dA, 68, .inl uy)), (a5, .inl (dA, 68, .inl tx1)), (a6, .inl (dA, 68, .inl ty1))]) [0, 3, 4, 5, 6] rfl
          have hDc := hD.sub (ws' := [(h, .inr (0, [.ref a1, .ref a2, .ref a3, .ref a4, .int (nI nl), .int (nI nu), .ref a5, .ref a6, .int nt1, .int (nI capN), .int seen])), (a3, .inl (dA, 68, .inl ux)), (a4, .inl (dA, 68, .inl uy)), (a5, .inl (dA, 68, .inl tx1)), (a6, .inl (dA, 68, .inl ty1))]) [0, 3, 4, 5, 6] (by decide) rfl
          have hKc := hK.sub (tys' := [(dA, .int)]) [0] rfl
          have hFc := va_free (wc := [(h, .inr (0, [.ref a1, .ref a2, .ref a3, .ref a4, .int (nI nl), .int (nI nu), .ref a5, .ref a6, .int nt1, .int (nI capN), .int seen])), (a3, .inl (dA, 68, .inl ux)), (a4, .inl (dA, 68, .inl uy)), (a5, .inl (dA, 68, .inl tx1)), (a6, .inl (dA, 68, .inl ty1))]) hD hS hA [0, 3, 4, 5, 6] rfl
          refine va_callv (va_runV (As := [.ref a3, .ref a4, .int (nI nu), .int x, .int y, .int (-1)]) (rest := []) ⟨hx, hb, hml, hown, hts⟩ (metX1_with l dC dI dA H.size h a1 a2 a3 a4 a5 a6 (nI nl) (nI nu) (nI capN) seen a3 a4 nu ux uy tx1 ty1 nt1 x y (-1) (by omega) (Or.inr rfl) (by rw [gk_sm]; exact hH.2.1) hH.2.2.2.1 hok) (cwV 6 hts (lw_V q85 q87 qs1 q11 q88) rfl rfl rfl (by decide +kernel) ⟨Nat.le_of_ble_eq_true rfl, Nat.le_of_ble_eq_true rfl⟩) (gm_preV hK hP (ci := 0) (q0 := 0) rfl rfl hPc hKc hDc) rfl rfl hl.1 rfl (lv_room (Nat.le_of_ble_eq_true rfl)) dX1_add_147 ⟨Nat.zero_le _, Nat.zero_le _⟩) hS (fun q _ h => hFc q h) hFc (fun u1 t H1 locs ht hvm hwu1 hB hz1 hk1 hS => ?_)
          obtain ⟨hP1, hK1, hD1⟩ := hB
          rw [ht] at hP1
          obtain ⟨hP, hD⟩ := va_join (wr := [(a1, .inl (dA, 68, .inl lx)), (a2, .inl (dA, 68, .inl ly))]) (w1 := [(h, .inr (0, [.ref a1, .ref a2, .ref a3, .ref a4, .int (nI nl), .int (nI nu), .ref a5, .ref a6, .int (nI (gh_wn ((-1 : Int32)).toInt nu (gp ux uy) (g2 x y))), .int (nI capN), .int seen])), (a3, .inl (dA, 68, .inl ux)), (a4, .inl (dA, 68, .inl uy)), (a5, .inl (dA, 68, .inl u1.1)), (a6, .inl (dA, 68, .inl u1.2))]) hP hD [0, 3, 4, 5, 6] [1, 2] rfl rfl (by decide) (by decide) hk1 hFc hP1 hD1
          generalize H1 = H at hP hS ⊢
          have hP := hP.sub (ws' := [(h, .inr (0, [.ref a1, .ref a2, .ref a3, .ref a4, .int (nI nl), .int (nI nu), .ref a5, .ref a6, .int (nI (gh_wn ((-1 : Int32)).toInt nu (gp ux uy) (g2 x y))), .int (nI capN), .int seen])), (a1, .inl (dA, 68, .inl lx)), (a2, .inl (dA, 68, .inl ly)), (a3, .inl (dA, 68, .inl ux)), (a4, .inl (dA, 68, .inl uy)), (a5, .inl (dA, 68, .inl u1.1)), (a6, .inl (dA, 68, .inl u1.2))]) [2, 0, 1, 3, 4, 5, 6] rfl
          have hD := hD.sub (ws' := [(h, .inr (0, [.ref a1, .ref a2, .ref a3, .ref a4, .int (nI nl), .int (nI nu), .ref a5, .ref a6, .int (nI (gh_wn ((-1 : Int32)).toInt nu (gp ux uy) (g2 x y))), .int (nI capN), .int seen])), (a1, .inl (dA, 68, .inl lx)), (a2, .inl (dA, 68, .inl ly)), (a3, .inl (dA, 68, .inl ux)), (a4, .inl (dA, 68, .inl uy)), (a5, .inl (dA, 68, .inl u1.1)), (a6, .inl (dA, 68, .inl u1.2))]) [2, 0, 1, 3, 4, 5, 6] (by decide) rfl
          have hwu1 : ∀ i, i < gh_wn ((-1 : Int32)).toInt nu (gp ux uy) (g2 x y) → gp u1.1 u1.2 i = gh_wf ((-1 : Int32)).toInt nu (gp ux uy) (g2 x y) i := hwu1
          rw [gk_sm, ← e1] at hwu1
          rw [gk_sm, ← e1] at hP hD
          refine lv_aload_n hx hb dX1_add_150 rfl (lv_at hl 0 rfl) ?_
          refine va_get (D := (dC, dI)) (ci := 0) (v := .int (nI n2)) (C := RX1) (T := TX1) (N := 11) hx hb hts in_X1 hown hK hP 0 rfl rfl 8 (by decide) (hts _ q29) (fun _ h9 => h9) rfl dX1_add_151 ?_
          refine lv_istore (lv' := [(7, .int (nI n2)), (0, .ref h), (1, .int x), (2, .int y), (3, .int z3), (4, .int z4), (5, .int (nI (gh_N nl nu))), (6, .int (nI n1))]) hx hb dX1_add_154 hl (by decide) rfl (fun ls hl => ?_)
          exact at156 u1.1 u1.2 (nI n2) (fun _ => ⟨rfl, fun i hi => by rw [e2 i hi, hwu1 i hi]⟩) H locs hP hD hS ls (lv_sub hl [1, 2, 3, 4, 5, 6, 7, 0] rfl)
      refine lv_istore (lv' := [(5, .int (nI (gh_N nl nu))), (4, .int z4), (3, .int z3), (0, .ref h), (1, .int x), (2, .int y)]) hx hb dX1_add_83 hl (by decide) rfl (fun ls hl => ?_)
      refine lv_aload_n hx hb dX1_add_85 rfl (lv_at hl 3 rfl) ?_
      refine va_get (D := (dC, dI)) (ci := 0) (v := .int (nI nl)) (C := RX1) (T := TX1) (N := 11) hx hb hts in_X1 hown hK hP 0 rfl rfl 4 (by decide) (hts _ q25) (fun _ h9 => h9) rfl dX1_add_86 ?_
      refine lv_istore (lv' := [(6, .int (nI nl)), (5, .int (nI (gh_N nl nu))), (4, .int z4), (3, .int z3), (0, .ref h), (1, .int x), (2, .int y)]) hx hb dX1_add_89 hl (by decide) rfl (fun ls hl => ?_)
      refine lv_aload_n hx hb dX1_add_91 rfl (lv_at hl 4 rfl) ?_
      refine va_get (D := (dC, dI)) (ci := 0) (v := .int (nI nu)) (C := RX1) (T := TX1) (N := 11) hx hb hts in_X1 hown hK hP 0 rfl rfl 5 (by decide) (hts _ q26) (fun _ h9 => h9) rfl dX1_add_92 ?_
      refine lv_istore (lv' := [(7, .int (nI nu)), (6, .int (nI nl)), (5, .int (nI (gh_N nl nu))), (4, .int z4), (3, .int z3), (0, .ref h), (1, .int x), (2, .int y)]) hx hb dX1_add_95 hl (by decide) rfl (fun ls hl => ?_)
      refine lv_iload_n hx hb dX1_add_97 rfl (lv_at hl 4 rfl) ?_
      refine lv_if_eq (tgt := 126) hx hb dX1_add_98 (by decide) (fun c_11 => ?_) (fun c_11 => ?_)
      · have hlo : gh_A 1 nl (gp lx ly) (g2 x y) := Classical.not_not.mp (gk_b.neg hz3 c_11)
        have e1 : nl = n1 := by
          rcases hu1 with ⟨z, _, _⟩ | ⟨_, z1, z2⟩
          · exact absurd hlo z
          · exact z1.symm
        rw [show nI nl = nI n1 by rw [e1]] at hl
        exact at126 tx ty nt s.heap [] hP hD hS ls (lv_sub hl [5, 6, 7, 4, 3, 2, 1, 0] rfl)
      · have hlo : ¬ gh_A 1 nl (gp lx ly) (g2 x y) := gk_b.pos hz3 c_11
        have e1 : n1 = gh_wn 1 nl (gp lx ly) (g2 x y) := by
          rcases hu1 with ⟨_, z1, z2⟩ | ⟨z, _, _⟩
          · exact z1
          · exact absurd z hlo
        refine lv_aload_n hx hb dX1_add_101 rfl (lv_at hl 5 rfl) ?_
        refine lv_aload_n hx hb dX1_add_102 rfl (lv_at hl 5 rfl) ?_
        refine va_get (D := (dC, dI)) (ci := 0) (v := .ref a1) (C := RX1) (T := TX1) (N := 11) hx hb hts in_X1 hown hK hP 0 rfl rfl 0 (by decide) (hts _ q21) (fun _ h9 => h9) rfl dX1_add_103 ?_
        refine lv_aload_n hx hb dX1_add_106 rfl (lv_at hl 5 rfl) ?_
        refine va_get (D := (dC, dI)) (ci := 0) (v := .ref a2) (C := RX1) (T := TX1) (N := 11) hx hb hts in_X1 hown hK hP 0 rfl rfl 1 (by decide) (hts _ q22) (fun _ h9 => h9) rfl dX1_add_107 ?_
        refine lv_aload_n hx hb dX1_add_110 rfl (lv_at hl 5 rfl) ?_
        refine va_get (D := (dC, dI)) (ci := 0) (v := .int (nI nl)) (C := RX1) (T := TX1) (N := 11) hx hb hts in_X1 hown hK hP 0 rfl rfl 4 (by decide) (hts _ q25) (fun _ h9 => h9) rfl dX1_add_111 ?_
        refine lv_iload_n hx hb dX1_add_114 rfl (lv_at hl 6 rfl) ?_
        refine lv_iload_n hx hb dX1_add_115 rfl (lv_at hl 7 rfl) ?_
        refine lv_iconst (v := 1) hx hb dX1_add_116 (by decide) ?_
        have hPc := hP.sub (ws' := [(h, .inr (0, [.ref a1, .ref a2, .ref a3, .ref a4, .int (nI nl), .int (nI nu), .ref a5, .ref a6, .int nt, .int (nI capN), .int seen])), (a1, .inl (dA, 68, .inl lx)), (a2, .inl (dA, 68, .inl ly)), (a5, .inl (dA, 68, .inl tx)), (a6, .inl (dA, 68, .inl ty))]) [0, 1, 2, 5, 6] rfl
        have hDc := hD.sub (ws' := [(h, .inr (0, [.ref a1, .ref a2, .ref a3, .ref a4, .int (nI nl), .int (nI nu), .ref a5, .ref a6, .int nt, .int (nI capN), .int seen])), (a1, .inl (dA, 68, .inl lx)), (a2, .inl (dA, 68, .inl ly)), (a5, .inl (dA, 68, .inl tx)), (a6, .inl (dA, 68, .inl ty))]) [0, 1, 2, 5, 6] (by decide) rfl
        have hKc := hK.sub (tys' := [(dA, .int)]) [0] rfl
        have hFc := va_free (wc := [(h, .inr (0, [.ref a1, .ref a2, .ref a3, .ref a4, .int (nI nl), .int (nI nu), .ref a5, .ref a6, .int nt, .int (nI capN), .int seen])), (a1, .inl (dA, 68, .inl lx)), (a2, .inl (dA, 68, .inl ly)), (a5, .inl (dA, 68, .inl tx)), (a6, .inl (dA, 68, .inl ty))]) hD hS hA [0, 1, 2, 5, 6] rfl
        refine va_callv (va_runV (As := [.ref a1, .ref a2, .int (nI nl), .int x, .int y, .int 1]) (rest := []) ⟨hx, hb, hml, hown, hts⟩ (metX1_with l dC dI dA s.heap.size h a1 a2 a3 a4 a5 a6 (nI nl) (nI nu) (nI capN) seen a1 a2 nl lx ly tx ty nt x y 1 (by omega) (Or.inl rfl) (by rw [gk_s1]; exact hH.1) hH.2.2.1 hok) (cwV 6 hts (lw_V q85 q87 qs1 q11 q88) rfl rfl rfl (by decide +kernel) ⟨Nat.le_of_ble_eq_true rfl, Nat.le_of_ble_eq_true rfl⟩) (gm_preV hK hP (ci := 0) (q0 := 0) rfl rfl hPc hKc hDc) rfl rfl hl.1 rfl (lv_room (Nat.le_of_ble_eq_true rfl)) dX1_add_117 ⟨Nat.zero_le _, Nat.zero_le _⟩) hS (fun q _ h => hFc q h) hFc (fun u1 t H1 locs ht hvm hwu1 hB hz1 hk1 hS => ?_)
        obtain ⟨hP1, hK1, hD1⟩ := hB
        rw [ht] at hP1
        obtain ⟨hP, hD⟩ := va_join (wr := [(a3, .inl (dA, 68, .inl ux)), (a4, .inl (dA, 68, .inl uy))]) (w1 := [(h, .inr (0, [.ref a1, .ref a2, .ref a3, .ref a4, .int (nI nl), .int (nI nu), .ref a5, .ref a6, .int (nI (gh_wn ((1 : Int32)).toInt nl (gp lx ly) (g2 x y))), .int (nI capN), .int seen])), (a1, .inl (dA, 68, .inl lx)), (a2, .inl (dA, 68, .inl ly)), (a5, .inl (dA, 68, .inl u1.1)), (a6, .inl (dA, 68, .inl u1.2))]) hP hD [0, 1, 2, 5, 6] [3, 4] rfl rfl (by decide) (by decide) hk1 hFc hP1 hD1
        generalize H1 = H at hP hS ⊢
        have hP := hP.sub (ws' := [(h, .inr (0, [.ref a1, .ref a2, .ref a3, .ref a4, .int (nI nl), .int (nI nu), .ref a5, .ref a6, .int (nI (gh_wn ((1 : Int32)).toInt nl (gp lx ly) (g2 x y))), .int (nI capN), .int seen])), (a1, .inl (dA, 68, .inl lx)), (a2, .inl (dA, 68, .inl ly)), (a3, .inl (dA, 68, .inl ux)), (a4, .inl (dA, 68, .inl uy)), (a5, .inl (dA, 68, .inl u1.1)), (a6, .inl (dA, 68, .inl u1.2))]) [2, 3, 4, 0, 1, 5, 6] rfl
        have hD := hD.sub (ws' := [(h, .inr (0, [.ref a1, .ref a2, .ref a3, .ref a4, .int (nI nl), .int (nI nu), .ref a5, .ref a6, .int (nI (gh_wn ((1 : Int32)).toInt nl (gp lx ly) (g2 x y))), .int (nI capN), .int seen])), (a1, .inl (dA, 68, .inl lx)), (a2, .inl (dA, 68, .inl ly)), (a3, .inl (dA, 68, .inl ux)), (a4, .inl (dA, 68, .inl uy)), (a5, .inl (dA, 68, .inl u1.1)), (a6, .inl (dA, 68, .inl u1.2))]) [2, 3, 4, 0, 1, 5, 6] (by decide) rfl
        rw [gk_s1, ← e1] at hP hD
        refine lv_aload_n hx hb dX1_add_120 rfl (lv_at hl 5 rfl) ?_
        refine va_get (D := (dC, dI)) (ci := 0) (v := .int (nI n1)) (C := RX1) (T := TX1) (N := 11) hx hb hts in_X1 hown hK hP 0 rfl rfl 8 (by decide) (hts _ q29) (fun _ h9 => h9) rfl dX1_add_121 ?_
        refine lv_istore (lv' := [(6, .int (nI n1)), (7, .int (nI nu)), (5, .int (nI (gh_N nl nu))), (4, .int z4), (3, .int z3), (0, .ref h), (1, .int x), (2, .int y)]) hx hb dX1_add_124 hl (by decide) rfl (fun ls hl => ?_)
        exact at126 u1.1 u1.2 (nI n1) H locs hP hD hS ls (lv_sub hl [5, 6, 7, 4, 3, 2, 0, 1] rfl)
    refine lv_aload_n hx hb dX1_add_10 rfl (lv_at hl 0 rfl) ?_
    refine va_get (D := (dC, dI)) (ci := 0) (v := .int (nI nl)) (C := RX1) (T := TX1) (N := 11) hx hb hts in_X1 hown hK hP 0 rfl rfl 4 (by decide) (hts _ q25) (fun _ h9 => h9) rfl dX1_add_11 ?_
    refine lv_if_le (tgt := 38) hx hb dX1_add_14 (by decide) (fun c_12 => ?_) (fun c_12 => ?_)
    · have h0 : nl = 0 := by
        have := (nI_leI (b := 0) (by omega) (by omega)).mp c_12
        omega
      exact at38 (fun z => by have := z.1.1; omega) ls (lv_sub hl [0, 1, 2] rfl)
    · refine lv_aload_n hx hb dX1_add_17 rfl (lv_at hl 0 rfl) ?_
      refine lv_iload_n hx hb dX1_add_18 rfl (lv_at hl 1 rfl) ?_
      refine lv_iload_n hx hb dX1_add_19 rfl (lv_at hl 2 rfl) ?_
      refine vp_callSi (va_Run.run (va_runV (As := [.int x, .int y]) (rest := []) ⟨hx, hb, hml, hown, hts⟩ (metX1_inside l dC dI dA h a1 a2 a3 a4 a5 a6 nl nu lx ly ux uy tx ty nt (nI capN) seen x y (by omega) (by omega) hH) (cwV 2 hts (lw_V q76 q57 q58 q11 q59) rfl rfl rfl (by decide +kernel) ⟨Nat.le_of_ble_eq_true rfl, Nat.le_of_ble_eq_true rfl⟩) (gr_preV hK hP (ci := 0) (q0 := 0) rfl rfl (hP.sub (ws' := [(h, .inr (0, [.ref a1, .ref a2, .ref a3, .ref a4, .int (nI nl), .int (nI nu), .ref a5, .ref a6, .int nt, .int (nI capN), .int seen])), (a1, .inl (dA, 68, .inl lx)), (a2, .inl (dA, 68, .inl ly)), (a3, .inl (dA, 68, .inl ux)), (a4, .inl (dA, 68, .inl uy)), (a5, .inl (dA, 68, .inl tx)), (a6, .inl (dA, 68, .inl ty))]) [0, 1, 2, 3, 4, 5, 6] rfl) (hK.sub (tys' := [(dA, .int)]) [0] rfl)) rfl rfl hl.1 rfl (lv_room (Nat.le_of_ble_eq_true rfl)) dX1_add_20 ⟨Nat.zero_le _, Nat.zero_le _⟩)) (fun zi hzi => ?_)
      have hzi : gI_post nl (gp lx ly) nu (gp ux uy) (g2 x y) zi := hzi
      refine lv_if_le (tgt := 38) hx hb dX1_add_23 (by decide) (fun c_14 => ?_) (fun c_14 => ?_)
      · exact at38 (fun z => (gI_pos hzi).mp c_14 ⟨hok, z⟩) ls (lv_sub hl [0, 1, 2] rfl)
      · have hin := Classical.not_not.mp (fun z => c_14 ((gI_pos hzi).mpr z))
        refine lv_aload_n hx hb dX1_add_26 rfl (lv_at hl 0 rfl) ?_
        refine lv_dup hx hb dX1_add_27 rfl ?_
        refine va_get (D := (dC, dI)) (ci := 0) (v := .int seen) (C := RX1) (T := TX1) (N := 11) hx hb hts in_X1 hown hK hP 0 rfl rfl 10 (by decide) (hts _ q31) (fun _ h9 => h9) rfl dX1_add_28 ?_
        refine lv_iconst (v := 1) hx hb dX1_add_31 (by decide) ?_
        refine lv_iadd hx hb dX1_add_32 ?_
        refine va_put (D := (dC, dI)) (ci := 0) (v := .int (seen + 1)) (ty := .int) (C := RX1) (T := TX1) (N := 11) hx hb hts in_X1 tyX1 tyX1_ok nmX1 hown hK hP hD hS 0 rfl rfl 10 (by decide) (hts _ q31) (fun _ h9 => h9) rfl (by decide +kernel) rfl rfl (Nat.le_of_ble_eq_true rfl) dX1_add_33 (fun H locs hP hD hS => ?_)
        have hP : va_P (dC, dI) vwCl [(h, .inr (0, [.ref a1, .ref a2, .ref a3, .ref a4, .int (nI nl), .int (nI nu), .ref a5, .ref a6, .int nt, .int (nI capN), .int (seen + 1)])), (a1, .inl (dA, 68, .inl lx)), (a2, .inl (dA, 68, .inl ly)), (a3, .inl (dA, 68, .inl ux)), (a4, .inl (dA, 68, .inl uy)), (a5, .inl (dA, 68, .inl tx)), (a6, .inl (dA, 68, .inl ty))] H := hP
        have hD : va_D A [(h, .inr (0, [.ref a1, .ref a2, .ref a3, .ref a4, .int (nI nl), .int (nI nu), .ref a5, .ref a6, .int nt, .int (nI capN), .int (seen + 1)])), (a1, .inl (dA, 68, .inl lx)), (a2, .inl (dA, 68, .inl ly)), (a3, .inl (dA, 68, .inl ux)), (a4, .inl (dA, 68, .inl uy)), (a5, .inl (dA, 68, .inl tx)), (a6, .inl (dA, 68, .inl ty))] := hD
        refine lv_iconst (v := 0) hx hb dX1_add_36 (by decide) ?_
        exact W.iret (v := 0) hx hb hr (fun t ht hW => ⟨⟨0, ((nl, nu), (lx, ly, ux, uy, tx, ty), nt, seen + 1), rfl, Or.inr (Or.inl ⟨hok, hin.2, rfl, ⟨rfl, rfl, rfl, rfl, rfl, rfl⟩, rfl⟩), by rw [ht]; exact hP, va_K.moved hW.alike hK, hD⟩, hS.F ht⟩) hS.2.2 dX1_add_37
  · refine lv_iconst (v := (-1)) hx hb dX1_add_8 (by decide) ?_
    exact W.iret (v := (-1)) hx hb hr (fun t ht hW => ⟨⟨(-1), ((nl, nu), (lx, ly, ux, uy, tx, ty), nt, seen), rfl, Or.inl ⟨gk_b.neg hzp c_2, rfl, ⟨rfl, rfl, rfl, rfl, rfl, rfl⟩, rfl⟩, by rw [ht]; exact hP, va_K.moved hW.alike hK, hD⟩, hS.F ht⟩) hS.2.2 dX1_add_9
end
section
/-! ===== plain rows for OnlineHullModel ===== -/
/-- what OnlineHullModel.turn answers -/
def gt_turnL (ax ay bx by_ cx cy : Int64) : Int64 := (bx - ax) * (cy - ay) - (by_ - ay) * (cx - ax)
theorem gt_turnL_ok {ax ay bx by_ cx cy : Int32} (ha : gh_ok (g2 ax ay)) (hb : gh_ok (g2 bx by_)) (hc : gh_ok (g2 cx cy)) : (gt_turnL ax.toInt64 ay.toInt64 bx.toInt64 by_.toInt64 cx.toInt64 cy.toInt64).toInt = gh_T (g2 ax ay) (g2 bx by_) (g2 cx cy) := by
  simp only [gh_ok, g2] at ha hb hc
  have sub : ∀ u v : Int32, -16383 ≤ u.toInt ∧ u.toInt ≤ 16383 → -16383 ≤ v.toInt ∧ v.toInt ≤ 16383 → (u.toInt64 - v.toInt64).toInt = u.toInt - v.toInt := by
    intro u v hu hv
    rw [Kit.i64_sub (by rw [Kit.i64_of_i32, Kit.i64_of_i32]; omega) (by rw [Kit.i64_of_i32, Kit.i64_of_i32]; omega), Kit.i64_of_i32, Kit.i64_of_i32]
  have s1 := sub bx ax (by omega) (by omega)
  have s2 := sub cy ay (by omega) (by omega)
  have s3 := sub by_ ay (by omega) (by omega)
  have s4 := sub cx ax (by omega) (by omega)
  have b1 := gi_bd2 (x := bx.toInt - ax.toInt) (y := cy.toInt - ay.toInt) (by omega) (by omega) (by omega) (by omega)
  have b2 := gi_bd2 (x := by_.toInt - ay.toInt) (y := cx.toInt - ax.toInt) (by omega) (by omega) (by omega) (by omega)
  have m1 : ((bx.toInt64 - ax.toInt64) * (cy.toInt64 - ay.toInt64)).toInt = (bx.toInt - ax.toInt) * (cy.toInt - ay.toInt) := by
    rw [gi_mul (by rw [s1]; omega) (by rw [s1]; omega) (by rw [s2]; omega) (by rw [s2]; omega), s1, s2]
  have m2 : ((by_.toInt64 - ay.toInt64) * (cx.toInt64 - ax.toInt64)).toInt = (by_.toInt - ay.toInt) * (cx.toInt - ax.toInt) := by
    rw [gi_mul (by rw [s3]; omega) (by rw [s3]; omega) (by rw [s4]; omega) (by rw [s4]; omega), s3, s4]
  have e : gh_T (g2 ax ay) (g2 bx by_) (g2 cx cy) = (bx.toInt - ax.toInt) * (cy.toInt - ay.toInt) - (by_.toInt - ay.toInt) * (cx.toInt - ax.toInt) := rfl
  rw [e]
  unfold gt_turnL
  rw [Kit.i64_sub (by rw [m1, m2]; omega) (by rw [m1, m2]; omega), m1, m2]
def gb_btw (v a b : Int) : Prop := (a ≤ v ∧ v ≤ b) ∨ (b ≤ v ∧ v ≤ a)
theorem gb_tk {k t d e : Int} (hk : 0 < k) (he : k * d = t * e) (hb : (0 ≤ d ∧ d ≤ e) ∨ (e ≤ d ∧ d ≤ 0)) (hne : e ≠ 0) : 0 ≤ t ∧ t ≤ k := by
  rcases hb with ⟨h1, h2⟩ | ⟨h1, h2⟩
  · have e0 : 0 < e := by omega
    refine ⟨gh_nn e0 (r := k * d) (by rw [he, Int.mul_comm]) (Int.mul_nonneg (by omega) h1), ?_⟩
    have : 0 ≤ k - t := gh_nn e0 (r := k * (e - d)) (by grind) (Int.mul_nonneg (by omega) (by omega))
    omega
  · have e0 : 0 < -e := by omega
    refine ⟨gh_nn e0 (r := k * (-d)) (by rw [Int.mul_neg, he]; grind) (Int.mul_nonneg (by omega) (by omega)), ?_⟩
    have : 0 ≤ k - t := gh_nn e0 (r := k * (d - e)) (by grind) (Int.mul_nonneg (by omega) (by omega))
    omega
theorem gb_kt {k t d e : Int} (hk : 0 < k) (he : k * d = t * e) (h0 : 0 ≤ t) (h1 : t ≤ k) : (0 ≤ d ∧ d ≤ e) ∨ (e ≤ d ∧ d ≤ 0) := by
  rcases Int.le_total 0 e with q | q
  · left
    refine ⟨gh_nn hk he (Int.mul_nonneg h0 q), ?_⟩
    have : 0 ≤ e - d := gh_nn hk (r := (k - t) * e) (by rw [Int.mul_sub, he]; grind) (Int.mul_nonneg (by omega) q)
    omega
  · right
    have a : 0 ≤ -d := gh_nn hk (r := t * (-e)) (by rw [Int.mul_neg, he]; grind) (Int.mul_nonneg h0 (by omega))
    have b : 0 ≤ d - e := gh_nn hk (r := (k - t) * (-e)) (by rw [Int.mul_sub, he]; grind) (Int.mul_nonneg (by omega) (by omega))
    omega
/-- on the line of a and b: between them by the key, or by both coordinates -/
theorem gb_seg {a b q : Int × Int} (h0 : gh_T a b q = 0) (hk : gh_K a < gh_K b) : (gh_K a ≤ gh_K q ∧ gh_K q ≤ gh_K b) ↔ gb_btw q.1 a.1 b.1 ∧ gb_btw q.2 a.2 b.2 := by
  obtain ⟨a1, a2⟩ := a
  obtain ⟨b1, b2⟩ := b
  obtain ⟨q1, q2⟩ := q
  have e1 : (gh_K (b1, b2) - gh_K (a1, a2)) * (q1 - a1) = (gh_K (q1, q2) - gh_K (a1, a2)) * (b1 - a1) := by
    simp only [gh_T, gh_K] at h0 ⊢
    grind
  have e2 : (gh_K (b1, b2) - gh_K (a1, a2)) * (q2 - a2) = (gh_K (q1, q2) - gh_K (a1, a2)) * (b2 - a2) := by
    simp only [gh_T, gh_K] at h0 ⊢
    grind
  have k0 : 0 < gh_K (b1, b2) - gh_K (a1, a2) := by omega
  constructor
  · intro ⟨h1, h2⟩
    have x1 := gb_kt k0 e1 (by omega) (by omega)
    have x2 := gb_kt k0 e2 (by omega) (by omega)
    simp only [gb_btw]
    omega
  · intro ⟨h1, h2⟩
    simp only [gb_btw] at h1 h2
    by_cases z : b1 - a1 = 0
    · have z2 : b2 - a2 ≠ 0 := by
        intro z3
        simp only [gh_K] at hk
        omega
      have := gb_tk k0 e2 (by omega) z2
      omega
    · have := gb_tk k0 e1 (by omega) z
      omega
theorem gb_zero {nl nu : Nat} {L U : Nat → Int × Int} (h : gh_H nl L nu U) : gh_N nl nu = 0 → nl = 0 := by
  intro e
  unfold gh_N at e
  by_cases h2 : nl < 2
  · rw [if_pos h2] at e
    exact e
  · rw [if_neg h2] at e
    have := h.two.mp (by omega)
    omega
theorem gb_small {nl nu : Nat} {L U : Nat → Int × Int} (h : gh_H nl L nu U) {q : Int × Int} (hq : gh_ok q) (h1 : 0 < gh_N nl nu) (h3 : gh_N nl nu < 3) :
    ((gh_T (gh_V nl L nu U 0) (gh_V nl L nu U (gh_N nl nu - 1)) q = 0 ∧ gb_btw q.1 (gh_V nl L nu U 0).1 (gh_V nl L nu U (gh_N nl nu - 1)).1 ∧ gb_btw q.2 (gh_V nl L nu U 0).2 (gh_V nl L nu U (gh_N nl nu - 1)).2) ↔ (gh_A 1 nl L q ∧ gh_A (-1) nu U q)) ∧ ¬ (gh_SA 1 nl L q ∧ gh_SA (-1) nu U q) := by
  have h' := h
  obtain ⟨hL, hU, oL, oU, h0, he⟩ := h
  by_cases h2 : nl < 2
  · have hN : gh_N nl nu = nl := by
      unfold gh_N
      rw [if_pos h2]
    have n1 : nl = 1 := by omega
    have n2 : nu = 1 := by
      have a1 : ¬ 2 ≤ nu := fun z => by
        have := h'.two.mpr z
        omega
      have a2 : nu ≠ 0 := fun z => by
        have := h0.mpr z
        omega
      omega
    obtain ⟨e0, e1⟩ := he (by omega)
    rw [hN, n1]
    subst n1
    subst n2
    have hv : gh_V 1 L 1 U 0 = L 0 := gh_V_lo (by omega)
    have hv2 : gh_V 1 L 1 U (1 - 1) = L 0 := hv
    rw [hv2]
    try rw [hv]
    refine ⟨⟨fun ⟨_, x1, x2⟩ => ?_, fun ⟨x1, x2⟩ => ?_⟩, fun z => by have := z.1.2.1; omega⟩
    · have e : q = L 0 := by
        simp only [gb_btw] at x1 x2
        exact Prod.ext (by omega) (by omega)
      rw [e]
      refine ⟨hL.vert (by omega), ?_⟩
      rw [e0]
      exact hU.vert (by omega)
    · obtain ⟨_, y1, y2, _⟩ := x1
      have e : q = L 0 := gh_Kinj hq (oL 0 (by omega)) (by
        have : gh_K q ≤ gh_K (L 0) := y2
        omega)
      rw [e]
      refine ⟨?_, ?_, ?_⟩
      · rw [← gh_S1, gh_S_0]
      · unfold gb_btw; omega
      · unfold gb_btw; omega
  · have h4 := h'.two.mp (by omega)
    have hN := gh_N_two (nl := nl) (nu := nu) (by omega)
    have n1 : nl = 2 := by omega
    have n2 : nu = 2 := by omega
    obtain ⟨e0, e1⟩ := he (by omega)
    rw [hN]
    subst n1
    subst n2
    have hv : gh_V 2 L 2 U 0 = L 0 := gh_V_lo (by omega)
    have hv2 : gh_V 2 L 2 U (2 + 2 - 2 - 1) = L 1 := gh_V_lo (by omega)
    rw [hv2, hv]
    have k1 : gh_K (L 0) < gh_K (L 1) := hL.1 0 (by omega)
    have e1 : L 1 = U 1 := e1
    have sU : gh_S (-1) (U 0) (U 1) q = - gh_T (L 0) (L 1) q := by rw [gh_Sm, e0, e1]
    refine ⟨⟨fun ⟨x0, x1, x2⟩ => ?_, fun ⟨x1, x2⟩ => ?_⟩, fun z => ?_⟩
    · obtain ⟨y1, y2⟩ := (gb_seg x0 k1).mpr ⟨x1, x2⟩
      refine ⟨⟨by omega, y1, y2, fun i hi => ?_⟩, ⟨by omega, by rw [← e0]; exact y1, ?_, fun i hi => ?_⟩⟩
      · have : i = 0 := by omega
        subst this
        show 0 ≤ gh_S 1 (L 0) (L 1) q
        rw [gh_S1, x0]
        exact Int.le_refl 0
      · show gh_K q ≤ gh_K (U 1)
        rw [← e1]
        exact y2
      · have : i = 0 := by omega
        subst this
        show 0 ≤ gh_S (-1) (U 0) (U 1) q
        rw [sU, x0]
        exact Int.le_refl 0
    · have s1 : 0 ≤ gh_S 1 (L 0) (L 1) q := x1.2.2.2 0 (by omega)
      have s2 : 0 ≤ gh_S (-1) (U 0) (U 1) q := x2.2.2.2 0 (by omega)
      rw [gh_S1] at s1
      rw [sU] at s2
      have z : gh_T (L 0) (L 1) q = 0 := by omega
      have r2 : gh_K q ≤ gh_K (L 1) := x1.2.2.1
      exact ⟨z, (gb_seg z k1).mp ⟨x1.2.1, r2⟩⟩
    · have s1 : 0 < gh_S 1 (L 0) (L 1) q := z.1.2.2 0 (by omega)
      have s2 : 0 < gh_S (-1) (U 0) (U 1) q := z.2.2.2 0 (by omega)
      rw [gh_S1] at s1
      rw [sU] at s2
      omega
theorem gb_two {nl nu : Nat} (h3 : 3 ≤ gh_N nl nu) : 2 ≤ nl := by
  unfold gh_N at h3
  by_cases h2 : nl < 2
  · rw [if_pos h2] at h3
    omega
  · omega
/-! ===== going round ===== -/
def gw_next (Q : Nat → Int × Int) (at_ a b : Nat) : Prop := gh_T (Q at_) (Q a) (Q b) < 0 ∨ (gh_T (Q at_) (Q a) (Q b) = 0 ∧ gh_D (Q at_) (Q a) < gh_D (Q at_) (Q b))
def gw_ok (n : Nat) (Q : Nat → Int × Int) (N : Nat) (V : Nat → Int × Int) (hm : Nat → Nat) : Prop :=
  1 ≤ N ∧ N ≤ n + 1 ∧ (∀ i, i < n → gh_ok (Q i)) ∧ (∀ i j, i < n → j < n → Q i = Q j → i = j) ∧ (∀ j, j < N → hm j < n ∧ Q (hm j) = V j) ∧ (∀ i, i < n → gh_K (V 0) ≤ gh_K (Q i)) ∧ (∀ i j, i < N → j < N → V i = V j → i = j) ∧ (N = 1 → n = 1) ∧
  (2 ≤ N → ∀ j i, j < N → i < n → Q i ≠ V j → Q i ≠ V (gh_nx N j) → 0 < gh_T (V j) (V (gh_nx N j)) (Q i) ∨ (gh_T (V j) (V (gh_nx N j)) (Q i) = 0 ∧ gh_D (V j) (Q i) < gh_D (V j) (V (gh_nx N j))))
theorem gw_first {n : Nat} {Q : Nat → Int × Int} {N : Nat} {V : Nat → Int × Int} {hm : Nat → Nat} (h : gw_ok n Q N V hm) {f : Nat} (hf : f < n) (hmin : ∀ j, j < n → gh_K (Q f) ≤ gh_K (Q j)) : f = hm 0 := by
  obtain ⟨h1, h2, h3, h4, h5, h6, h7, h8, h9⟩ := h
  obtain ⟨a, b⟩ := h5 0 (by omega)
  refine h4 f (hm 0) hf a (gh_Kinj (h3 f hf) (h3 _ a) ?_)
  have x := hmin (hm 0) a
  have y := h6 f hf
  rw [b] at x ⊢
  omega
theorem gw_inj {n : Nat} {Q : Nat → Int × Int} {N : Nat} {V : Nat → Int × Int} {hm : Nat → Nat} (h : gw_ok n Q N V hm) {i j : Nat} (hi : i < N) (hj : j < N) (e : hm i = hm j) : i = j := by
  obtain ⟨h1, h2, h3, h4, h5, h6, h7, h8, h9⟩ := h
  refine h7 i j hi hj ?_
  rw [← (h5 i hi).2, ← (h5 j hj).2, e]
/-- what the search for the next corner holds on to: M is that corner, a is where it stands, t what it has, k how far it has looked -/
def gw_in (M a t k : Nat) : Prop := t = M ∨ (t ≠ a ∧ k ≤ M)
theorem gw_step {n : Nat} {Q : Nat → Int × Int} {N : Nat} {V : Nat → Int × Int} {hm : Nat → Nat} (h : gw_ok n Q N V hm) {m : Nat} (hmN : m < N) {t k : Nat} (ht : t < n) (hk : k < n) (hi : gw_in (hm (gh_nx N m)) (hm m) t k) :
    (k = hm m → gw_in (hm (gh_nx N m)) (hm m) t (k + 1)) ∧ (k ≠ hm m → gw_next Q (hm m) t k → gw_in (hm (gh_nx N m)) (hm m) k (k + 1)) ∧ (k ≠ hm m → ¬ gw_next Q (hm m) t k → gw_in (hm (gh_nx N m)) (hm m) t (k + 1)) := by
  have h' := h
  obtain ⟨h1, h2, h3, h4, h5, h6, h7, h8, h9⟩ := h
  have nlt := gh_nxlt hmN
  obtain ⟨a1, a2⟩ := h5 m hmN
  obtain ⟨M1, M2⟩ := h5 _ nlt
  by_cases N1 : N = 1
  · have n1 := h8 N1
    have e1 : gh_nx N m = m := by
      unfold gh_nx
      rw [if_pos (by omega)]
      omega
    rw [e1] at hi M1 M2 ⊢
    have k0 : k = hm m := by omega
    have t0 : t = hm m := by omega
    exact ⟨fun _ => Or.inl t0, fun z => absurd k0 z, fun z => absurd k0 z⟩
  · have hne : hm (gh_nx N m) ≠ hm m := by
      intro z
      have := gw_inj h' nlt hmN z
      unfold gh_nx at this
      split at this <;> omega
    -- whoever is not M and stands not at a loses against M
    have lose : ∀ t, t < n → t ≠ hm m → t ≠ hm (gh_nx N m) → gw_next Q (hm m) t (hm (gh_nx N m)) ∧ ¬ gw_next Q (hm m) (hm (gh_nx N m)) t := by
      intro t ht ta tM
      have b := h9 (by omega) m t hmN ht (fun z => ta (h4 t (hm m) ht a1 (by rw [z, a2]))) (fun z => tM (h4 t _ ht M1 (by rw [z, M2])))
      rw [← a2, ← M2] at b
      have sw : gh_T (Q (hm m)) (Q t) (Q (hm (gh_nx N m))) = - gh_T (Q (hm m)) (Q (hm (gh_nx N m))) (Q t) := by
        have := gh_Sneg 1 (Q (hm m)) (Q (hm (gh_nx N m))) (Q t)
        rw [gh_S1, gh_S1] at this
        exact this
      refine ⟨?_, ?_⟩
      · unfold gw_next
        rw [sw]
        rcases b with b | ⟨b, c⟩
        · left; omega
        · right; exact ⟨by omega, c⟩
      · unfold gw_next
        rcases b with b | ⟨b, c⟩
        · omega
        · omega
    refine ⟨fun e => ?_, fun e g => ?_, fun e g => ?_⟩
    · rcases hi with i1 | ⟨i1, i2⟩
      · exact Or.inl i1
      · exact Or.inr ⟨i1, by omega⟩
    · rcases hi with i1 | ⟨i1, i2⟩
      · by_cases kM : k = hm (gh_nx N m)
        · exact Or.inl kM
        · rw [i1] at g
          exact absurd g (lose k hk e kM).2
      · by_cases kM : k = hm (gh_nx N m)
        · exact Or.inl kM
        · exact Or.inr ⟨e, by omega⟩
    · rcases hi with i1 | ⟨i1, i2⟩
      · exact Or.inl i1
      · by_cases kM : k = hm (gh_nx N m)
        · by_cases tM : t = hm (gh_nx N m)
          · exact Or.inl tM
          · rw [kM] at g
            exact absurd (lose t ht i1 tM).1 g
        · exact Or.inr ⟨i1, by omega⟩
theorem gw_of {nl nu : Nat} {L U : Nat → Int × Int} (h : gh_H nl L nu U) {p : Int × Int} (hp : gh_ok p) {n1 n2 : Nat} {L1 U1 : Nat → Int × Int} (hu1 : gh_Up 1 nl L p n1 L1) (hu2 : gh_Up (-1) nu U p n2 U1) (b1 : n1 ≤ nl + 1) (b2 : n2 ≤ nu + 1) (hna : ¬ (gh_A 1 nl L p ∧ gh_A (-1) nu U p)) {Q : Nat → Int × Int} (hQ : ∀ i, i < gh_N nl nu → Q i = gh_V nl L nu U i) (hQp : Q (gh_N nl nu) = p) : ∃ hm, gw_ok (gh_N nl nu + 1) Q (gh_N n1 n2) (gh_V n1 L1 n2 U1) hm := by
  obtain ⟨hH, p0, p1, aL, aU, keep, mem⟩ := h.step hp hu1 hu2
  have ex : ∀ j, j < gh_N n1 n2 → ∃ i, i < gh_N nl nu + 1 ∧ Q i = gh_V n1 L1 n2 U1 j := by
    intro j hj
    rcases mem j hj with e | ⟨i, hi, e⟩
    · exact ⟨gh_N nl nu, by omega, by rw [hQp, e]⟩
    · exact ⟨i, by omega, by rw [hQ i hi, e]⟩
  have hpV : ∀ i, i < gh_N nl nu → gh_V nl L nu U i ≠ p := by
    intro i hi e
    have := h.vin hi
    rw [e] at this
    exact hna this
  have allA : ∀ i, i < gh_N nl nu + 1 → gh_A 1 n1 L1 (Q i) ∧ gh_A (-1) n2 U1 (Q i) := by
    intro i hi
    by_cases e : i = gh_N nl nu
    · rw [e, hQp]; exact ⟨aL, aU⟩
    · rw [hQ i (by omega)]; exact keep i (by omega)
  have allok : ∀ i, i < gh_N nl nu + 1 → gh_ok (Q i) := by
    intro i hi
    by_cases e : i = gh_N nl nu
    · rw [e, hQp]; exact hp
    · rw [hQ i (by omega)]; exact h.vok (by omega)
  have hN1 : 1 ≤ gh_N n1 n2 := by
    unfold gh_N
    by_cases q : n1 < 2
    · rw [if_pos q]; omega
    · rw [if_neg q]
      have := hH.two.mp (by omega)
      omega
  refine ⟨fun j => if c : j < gh_N n1 n2 then Classical.choose (ex j c) else 0, hN1, ?_, allok, ?_, ?_, ?_, ?_, ?_, ?_⟩
  · by_cases q : n1 < 2
    · have : gh_N n1 n2 = n1 := by
        unfold gh_N
        rw [if_pos q]
      omega
    · have e1 := gh_N_two (nl := n1) (nu := n2) (by omega)
      by_cases q2 : nl < 2
      · have e2 : gh_N nl nu = nl := by
          unfold gh_N
          rw [if_pos q2]
        have : ¬ 2 ≤ nu := fun z => by
          have := h.two.mpr z
          omega
        omega
      · have e2 := gh_N_two (nl := nl) (nu := nu) (by omega)
        have := h.two.mp (by omega)
        omega
  · intro i j hi hj e
    by_cases ei : i = gh_N nl nu
    · by_cases ej : j = gh_N nl nu
      · omega
      · rw [ei, hQp, hQ j (by omega)] at e
        exact absurd e.symm (hpV j (by omega))
    · by_cases ej : j = gh_N nl nu
      · rw [ej, hQp, hQ i (by omega)] at e
        exact absurd e (hpV i (by omega))
      · rw [hQ i (by omega), hQ j (by omega)] at e
        exact h.inj (by omega) (by omega) e
  · intro j hj
    have e : (if c : j < gh_N n1 n2 then Classical.choose (ex j c) else 0) = Classical.choose (ex j hj) := dif_pos hj
    show (if c : j < gh_N n1 n2 then Classical.choose (ex j c) else 0) < _ ∧ Q (if c : j < gh_N n1 n2 then Classical.choose (ex j c) else 0) = _
    rw [e]
    exact Classical.choose_spec (ex j hj)
  · intro i hi
    rw [gh_V_lo p0]
    exact (allA i hi).1.2.1
  · intro i j hi hj e
    exact hH.inj hi hj e
  · intro e
    have q : n1 = 1 := by
      by_cases q : n1 < 2
      · omega
      · have e1 := gh_N_two (nl := n1) (nu := n2) (by omega)
        have := hH.two.mp (by omega)
        omega
    rcases Nat.eq_zero_or_pos (gh_N nl nu) with z | z
    · omega
    · exfalso
      have k1 := (allA 0 (by omega)).1
      have k2 := (allA (gh_N nl nu) (by omega)).1
      have same : Q 0 = Q (gh_N nl nu) := by
        refine gh_Kinj (allok 0 (by omega)) (allok _ (by omega)) ?_
        obtain ⟨_, x1, x2, _⟩ := k1
        obtain ⟨_, y1, y2, _⟩ := k2
        rw [q] at x2 y2
        have x2 : gh_K (Q 0) ≤ gh_K (L1 0) := x2
        have y2 : gh_K (Q (gh_N nl nu)) ≤ gh_K (L1 0) := y2
        omega
      rw [hQp, hQ 0 z] at same
      exact hpV 0 z same
  · intro h2 j i hj hi e1 e2
    have q : 2 ≤ n1 := by
      by_cases q : n1 < 2
      · have : gh_N n1 n2 = n1 := by
          unfold gh_N
          rw [if_pos q]
        omega
      · omega
    obtain ⟨x, y⟩ := allA i hi
    exact hH.best q (allok i hi) x y hj e1 e2
theorem gh_Up_ex (σ : Int) (n : Nat) (f : Nat → Int × Int) (p : Int × Int) : ∃ n' f', gh_Up σ n f p n' f' := by
  by_cases e : gh_A σ n f p
  · exact ⟨n, f, Or.inr ⟨e, rfl, fun _ _ => rfl⟩⟩
  · exact ⟨_, _, Or.inl ⟨e, rfl, fun _ _ => rfl⟩⟩
end
section
/-! ===== OnlineHullModel: the methods that only read ===== -/
set_option maxHeartbeats 4000000 in
set_option maxRecDepth 100000 in
theorem metX2_inRange (l : Launch) (dC : Nat → ClassId) (dI : Nat → Nat → Nat) (dA : ClassId) (x y : Int32) : Met l yX2_inRange (ws_ yX2_inRange cX2_inRange 2 (some .boolean)) ({ frames := 0, cells := 0, slots := 0, locals := 0 }) (gr_Pc (dC, dI) [.int x, .int y] [] []) (vp_Si (fun r => gk_b r (gh_ok (g2 x y)))) 0 0 (fun _ => False) := by
  refine Met.ofW (cc := cX2_inRange) (maxL := 2) (ret := (some .boolean)) (by decide) rfl ?_
  intro p e s m args below meth c s₁ B hml hv
  obtain ⟨rfl, hP, hK⟩ := hv
  have hx := B.exec
  have hb := B.bytes
  have hr := B.returns
  have hts := atoms_spec (ws := (ws_ yX2_inRange cX2_inRange 2 (some .boolean))) B.pre
  have hts : ∀ w ∈ lw_all, w.before _ s = true := fun w h => hts w (List.mem_cons_of_mem _ h)
  have hown : s.vm.findClass RX2 = some m.cls := findClass_of_methodNamed B.named
  have hlocks := B.notSynchronized
  have hl := lv_entry ([.int x, .int y]) (n := 2) (Nat.le_of_ble_eq_true rfl)
  rw [lg_entry_eq]
  generalize (lg_sl ([.int x, .int y]) ++ List.replicate (2 - (lg_sl ([.int x, .int y])).length) Slot.unset).toArray = ls at hl ⊢
  have hl : lv_has ls 2 [(0, .int x), (1, .int y)] := hl
  refine lv_iload_n hx hb dX2_inRange_0 rfl (lv_at hl 0 rfl) ?_
  refine lv_sipush (v := (-16383)) hx hb dX2_inRange_1 (by decide) ?_
  refine lv_icmp_lt (tgt := 32) hx hb dX2_inRange_4 (by decide) (fun c_1 => ?_) (fun c_1 => ?_)
  · refine lv_iconst (v := 0) hx hb dX2_inRange_32 (by decide) ?_
    exact W.zret (v := 0) hx hb hr rfl (fun t ht hW => ⟨0, rfl, Or.inr ⟨rfl, gk_p1 c_1⟩, ht⟩) (fun q h => by cases h) dX2_inRange_33
  · refine lv_iload_n hx hb dX2_inRange_7 rfl (lv_at hl 0 rfl) ?_
    refine lv_sipush (v := 16383) hx hb dX2_inRange_8 (by decide) ?_
    refine lv_icmp_gt (tgt := 32) hx hb dX2_inRange_11 (by decide) (fun c_2 => ?_) (fun c_2 => ?_)
    · refine lv_iconst (v := 0) hx hb dX2_inRange_32 (by decide) ?_
      exact W.zret (v := 0) hx hb hr rfl (fun t ht hW => ⟨0, rfl, Or.inr ⟨rfl, gk_p2 c_2⟩, ht⟩) (fun q h => by cases h) dX2_inRange_33
    · refine lv_iload_n hx hb dX2_inRange_14 rfl (lv_at hl 1 rfl) ?_
      refine lv_sipush (v := (-16383)) hx hb dX2_inRange_15 (by decide) ?_
      refine lv_icmp_lt (tgt := 32) hx hb dX2_inRange_18 (by decide) (fun c_3 => ?_) (fun c_3 => ?_)
      · refine lv_iconst (v := 0) hx hb dX2_inRange_32 (by decide) ?_
        exact W.zret (v := 0) hx hb hr rfl (fun t ht hW => ⟨0, rfl, Or.inr ⟨rfl, gk_p3 c_3⟩, ht⟩) (fun q h => by cases h) dX2_inRange_33
      · refine lv_iload_n hx hb dX2_inRange_21 rfl (lv_at hl 1 rfl) ?_
        refine lv_sipush (v := 16383) hx hb dX2_inRange_22 (by decide) ?_
        refine lv_icmp_gt (tgt := 32) hx hb dX2_inRange_25 (by decide) (fun c_4 => ?_) (fun c_4 => ?_)
        · refine lv_iconst (v := 0) hx hb dX2_inRange_32 (by decide) ?_
          exact W.zret (v := 0) hx hb hr rfl (fun t ht hW => ⟨0, rfl, Or.inr ⟨rfl, gk_p4 c_4⟩, ht⟩) (fun q h => by cases h) dX2_inRange_33
        · refine lv_iconst (v := 1) hx hb dX2_inRange_28 (by decide) ?_
          refine lv_goto (tgt := 33) hx hb dX2_inRange_29 (by decide) ?_
          exact W.zret (v := 1) hx hb hr rfl (fun t ht hW => ⟨1, rfl, Or.inl ⟨rfl, gk_p5 c_1 c_2 c_3 c_4⟩, ht⟩) (fun q h => by cases h) dX2_inRange_33
set_option maxHeartbeats 4000000 in
set_option maxRecDepth 100000 in
theorem metX2_turn (l : Launch) (dC : Nat → ClassId) (dI : Nat → Nat → Nat) (dA : ClassId) (ax ay bx by_ cx cy : Int64) : Met l yX2_turn (ws_ yX2_turn cX2_turn 12 (some .long)) ({ frames := 0, cells := 0, slots := 0, locals := 0 }) (gr_Pc (dC, dI) [.long ax, .long ay, .long bx, .long by_, .long cx, .long cy] [] []) (vp_Sl (fun r => r = gt_turnL ax ay bx by_ cx cy)) 0 0 (fun _ => False) := by
  refine Met.ofW (cc := cX2_turn) (maxL := 12) (ret := (some .long)) (by decide) rfl ?_
  intro p e s m args below meth c s₁ B hml hv
  obtain ⟨rfl, hP, hK⟩ := hv
  have hx := B.exec
  have hb := B.bytes
  have hr := B.returns
  have hts := atoms_spec (ws := (ws_ yX2_turn cX2_turn 12 (some .long))) B.pre
  have hts : ∀ w ∈ lw_all, w.before _ s = true := fun w h => hts w (List.mem_cons_of_mem _ h)
  have hown : s.vm.findClass RX2 = some m.cls := findClass_of_methodNamed B.named
  have hlocks := B.notSynchronized
  have hl := lv_entry ([.long ax, .long ay, .long bx, .long by_, .long cx, .long cy]) (n := 12) (Nat.le_of_ble_eq_true rfl)
  rw [lg_entry_eq]
  generalize (lg_sl ([.long ax, .long ay, .long bx, .long by_, .long cx, .long cy]) ++ List.replicate (12 - (lg_sl ([.long ax, .long ay, .long bx, .long by_, .long cx, .long cy])).length) Slot.unset).toArray = ls at hl ⊢
  have hl : lv_has ls 12 [(0, .long ax), (2, .long ay), (4, .long bx), (6, .long by_), (8, .long cx), (10, .long cy)] := hl
  refine lv_lload hx hb dX2_turn_0 (lv_at hl 2 rfl) ?_
  refine lv_lload_n hx hb dX2_turn_2 rfl (lv_at hl 0 rfl) ?_
  refine lv_lsub hx hb dX2_turn_3 ?_
  refine lv_lload hx hb dX2_turn_4 (lv_at hl 5 rfl) ?_
  refine lv_lload_n hx hb dX2_turn_6 rfl (lv_at hl 1 rfl) ?_
  refine lv_lsub hx hb dX2_turn_7 ?_
  refine lv_lmul hx hb dX2_turn_8 ?_
  refine lv_lload hx hb dX2_turn_9 (lv_at hl 3 rfl) ?_
  refine lv_lload_n hx hb dX2_turn_11 rfl (lv_at hl 1 rfl) ?_
  refine lv_lsub hx hb dX2_turn_12 ?_
  refine lv_lload hx hb dX2_turn_13 (lv_at hl 4 rfl) ?_
  refine lv_lload_n hx hb dX2_turn_15 rfl (lv_at hl 0 rfl) ?_
  refine lv_lsub hx hb dX2_turn_16 ?_
  refine lv_lmul hx hb dX2_turn_17 ?_
  refine lv_lsub hx hb dX2_turn_18 ?_
  exact W.lret (v := (((bx - ax) * (cy - ay)) - ((by_ - ay) * (cx - ax)))) hx hb hr (fun t ht hW => ⟨(((bx - ax) * (cy - ay)) - ((by_ - ay) * (cx - ax))), rfl, rfl, ht⟩) (fun q h => by cases h) dX2_turn_19
set_option maxHeartbeats 4000000 in
set_option maxRecDepth 100000 in
theorem metX2_between (l : Launch) (dC : Nat → ClassId) (dI : Nat → Nat → Nat) (dA : ClassId) (v a b : Int32) : Met l yX2_between (ws_ yX2_between cX2_between 3 (some .boolean)) ({ frames := 0, cells := 0, slots := 0, locals := 0 }) (gr_Pc (dC, dI) [.int v, .int a, .int b] [] []) (vp_Si (fun r => gk_b r (gb_btw v.toInt a.toInt b.toInt))) 0 0 (fun _ => False) := by
  refine Met.ofW (cc := cX2_between) (maxL := 3) (ret := (some .boolean)) (by decide) rfl ?_
  intro p e s m args below meth c s₁ B hml hv
  obtain ⟨rfl, hP, hK⟩ := hv
  have hx := B.exec
  have hb := B.bytes
  have hr := B.returns
  have hts := atoms_spec (ws := (ws_ yX2_between cX2_between 3 (some .boolean))) B.pre
  have hts : ∀ w ∈ lw_all, w.before _ s = true := fun w h => hts w (List.mem_cons_of_mem _ h)
  have hown : s.vm.findClass RX2 = some m.cls := findClass_of_methodNamed B.named
  have hlocks := B.notSynchronized
  have hl := lv_entry ([.int v, .int a, .int b]) (n := 3) (Nat.le_of_ble_eq_true rfl)
  rw [lg_entry_eq]
  generalize (lg_sl ([.int v, .int a, .int b]) ++ List.replicate (3 - (lg_sl ([.int v, .int a, .int b])).length) Slot.unset).toArray = ls at hl ⊢
  have hl : lv_has ls 3 [(0, .int v), (1, .int a), (2, .int b)] := hl
  refine lv_iload_n hx hb dX2_between_0 rfl (lv_at hl 0 rfl) ?_
  refine lv_iload_n hx hb dX2_between_1 rfl (lv_at hl 1 rfl) ?_
  refine lv_icmp_lt (tgt := 10) hx hb dX2_between_2 (by decide) (fun c_1 => ?_) (fun c_1 => ?_)
  · refine lv_iload_n hx hb dX2_between_10 rfl (lv_at hl 0 rfl) ?_
    refine lv_iload_n hx hb dX2_between_11 rfl (lv_at hl 2 rfl) ?_
    refine lv_icmp_lt (tgt := 24) hx hb dX2_between_12 (by decide) (fun c_2 => ?_) (fun c_2 => ?_)
    · refine lv_iconst (v := 0) hx hb dX2_between_24 (by decide) ?_
      have hq : ¬ gb_btw v.toInt a.toInt b.toInt := by
        unfold gb_btw
        have c_1 := Int32.lt_iff_toInt_lt.mp c_1
        have c_2 := Int32.lt_iff_toInt_lt.mp c_2
        omega
      exact W.zret (v := 0) hx hb hr rfl (fun t ht hW => ⟨0, rfl, Or.inr ⟨rfl, hq⟩, ht⟩) (fun q h => by cases h) dX2_between_25
    · refine lv_iload_n hx hb dX2_between_15 rfl (lv_at hl 0 rfl) ?_
      refine lv_iload_n hx hb dX2_between_16 rfl (lv_at hl 1 rfl) ?_
      refine lv_icmp_gt (tgt := 24) hx hb dX2_between_17 (by decide) (fun c_3 => ?_) (fun c_3 => ?_)
      · refine lv_iconst (v := 0) hx hb dX2_between_24 (by decide) ?_
        have hq : ¬ gb_btw v.toInt a.toInt b.toInt := by
          unfold gb_btw
          have c_1 := Int32.lt_iff_toInt_lt.mp c_1
          have c_2 := Int32.le_iff_toInt_le.mp (Int32.not_lt.mp c_2)
          have c_3 := Int32.lt_iff_toInt_lt.mp c_3
          omega
        exact W.zret (v := 0) hx hb hr rfl (fun t ht hW => ⟨0, rfl, Or.inr ⟨rfl, hq⟩, ht⟩) (fun q h => by cases h) dX2_between_25
      · refine lv_iconst (v := 1) hx hb dX2_between_20 (by decide) ?_
        refine lv_goto (tgt := 25) hx hb dX2_between_21 (by decide) ?_
        have hq : gb_btw v.toInt a.toInt b.toInt := by
          unfold gb_btw
          have c_1 := Int32.lt_iff_toInt_lt.mp c_1
          have c_2 := Int32.le_iff_toInt_le.mp (Int32.not_lt.mp c_2)
          have c_3 := Int32.le_iff_toInt_le.mp (Int32.not_lt.mp c_3)
          omega
        exact W.zret (v := 1) hx hb hr rfl (fun t ht hW => ⟨1, rfl, Or.inl ⟨rfl, hq⟩, ht⟩) (fun q h => by cases h) dX2_between_25
  · refine lv_iload_n hx hb dX2_between_5 rfl (lv_at hl 0 rfl) ?_
    refine lv_iload_n hx hb dX2_between_6 rfl (lv_at hl 2 rfl) ?_
    refine lv_icmp_le (tgt := 20) hx hb dX2_between_7 (by decide) (fun c_4 => ?_) (fun c_4 => ?_)
    · refine lv_iconst (v := 1) hx hb dX2_between_20 (by decide) ?_
      refine lv_goto (tgt := 25) hx hb dX2_between_21 (by decide) ?_
      have hq : gb_btw v.toInt a.toInt b.toInt := by
        unfold gb_btw
        have c_1 := Int32.le_iff_toInt_le.mp (Int32.not_lt.mp c_1)
        have c_4 := Int32.le_iff_toInt_le.mp c_4
        omega
      exact W.zret (v := 1) hx hb hr rfl (fun t ht hW => ⟨1, rfl, Or.inl ⟨rfl, hq⟩, ht⟩) (fun q h => by cases h) dX2_between_25
    · refine lv_iload_n hx hb dX2_between_10 rfl (lv_at hl 0 rfl) ?_
      refine lv_iload_n hx hb dX2_between_11 rfl (lv_at hl 2 rfl) ?_
      refine lv_icmp_lt (tgt := 24) hx hb dX2_between_12 (by decide) (fun c_5 => ?_) (fun c_5 => ?_)
      · refine lv_iconst (v := 0) hx hb dX2_between_24 (by decide) ?_
        have hq : ¬ gb_btw v.toInt a.toInt b.toInt := by
          unfold gb_btw
          have c_1 := Int32.le_iff_toInt_le.mp (Int32.not_lt.mp c_1)
          have c_4 := Int32.lt_iff_toInt_lt.mp (Int32.not_le.mp c_4)
          have c_5 := Int32.lt_iff_toInt_lt.mp c_5
          omega
        exact W.zret (v := 0) hx hb hr rfl (fun t ht hW => ⟨0, rfl, Or.inr ⟨rfl, hq⟩, ht⟩) (fun q h => by cases h) dX2_between_25
      · refine lv_iload_n hx hb dX2_between_15 rfl (lv_at hl 0 rfl) ?_
        refine lv_iload_n hx hb dX2_between_16 rfl (lv_at hl 1 rfl) ?_
        refine lv_icmp_gt (tgt := 24) hx hb dX2_between_17 (by decide) (fun c_6 => ?_) (fun c_6 => ?_)
        · refine lv_iconst (v := 0) hx hb dX2_between_24 (by decide) ?_
          have hq : ¬ gb_btw v.toInt a.toInt b.toInt := by
            unfold gb_btw
            have c_1 := Int32.le_iff_toInt_le.mp (Int32.not_lt.mp c_1)
            have c_4 := Int32.lt_iff_toInt_lt.mp (Int32.not_le.mp c_4)
            have c_5 := Int32.le_iff_toInt_le.mp (Int32.not_lt.mp c_5)
            have c_6 := Int32.lt_iff_toInt_lt.mp c_6
            omega
          exact W.zret (v := 0) hx hb hr rfl (fun t ht hW => ⟨0, rfl, Or.inr ⟨rfl, hq⟩, ht⟩) (fun q h => by cases h) dX2_between_25
        · refine lv_iconst (v := 1) hx hb dX2_between_20 (by decide) ?_
          refine lv_goto (tgt := 25) hx hb dX2_between_21 (by decide) ?_
          have hq : gb_btw v.toInt a.toInt b.toInt := by
            unfold gb_btw
            have c_1 := Int32.le_iff_toInt_le.mp (Int32.not_lt.mp c_1)
            have c_4 := Int32.lt_iff_toInt_lt.mp (Int32.not_le.mp c_4)
            have c_5 := Int32.le_iff_toInt_le.mp (Int32.not_lt.mp c_5)
            have c_6 := Int32.le_iff_toInt_le.mp (Int32.not_lt.mp c_6)
            omega
          exact W.zret (v := 1) hx hb hr rfl (fun t ht hW => ⟨1, rfl, Or.inl ⟨rfl, hq⟩, ht⟩) (fun q h => by cases h) dX2_between_25
set_option maxHeartbeats 4000000 in
set_option maxRecDepth 100000 in
theorem metX2_side (l : Launch) (dC : Nat → ClassId) (dI : Nat → Nat → Nat) (dA : ClassId) (o o1 o2 o3 o4 o5 N : Nat) (xs ys px py rd : Nat → Int32) (cap pts : Int32) (V : Nat → Int × Int) (hN : N ≤ 66) (hV : ∀ i, i < N → gp xs ys i = V i) (hok : ∀ i, i < N → gh_ok (V i)) (i : Nat) (x y : Int32) (hi : i < N) (hp : gh_ok (g2 x y)) : Met l yX2_side (ws_ yX2_side cX2_side 5 (some .long)) ({ frames := 1, cells := 0, slots := 0, locals := 31 }) (gr_Pc (dC, dI) [.ref o, .int (nI i), .int x, .int y] [(o, .inr (1, [.int cap, .int (nI N), .int pts, .ref o1, .ref o2, .ref o3, .ref o4, .ref o5])), (o1, .inl (dA, 66, .inl xs)), (o2, .inl (dA, 66, .inl ys)), (o3, .inl (dA, 66, .inl px)), (o4, .inl (dA, 66, .inl py)), (o5, .inl (dA, 67, .inl rd))] [(dA, .int)]) (vp_Sl (fun r => r.toInt = gh_T (V i) (V (gh_nx N i)) (g2 x y))) 0 0 (fun _ => False) := by
  refine Met.ofW (cc := cX2_side) (maxL := 5) (ret := (some .long)) (by decide) rfl ?_
  intro p e s m args below meth c s₁ B hml hv
  obtain ⟨rfl, hP, hK⟩ := hv
  have hx := B.exec
  have hb := B.bytes
  have hr := B.returns
  have hts := atoms_spec (ws := (ws_ yX2_side cX2_side 5 (some .long))) B.pre
  have hts : ∀ w ∈ lw_all, w.before _ s = true := fun w h => hts w (List.mem_cons_of_mem _ h)
  have hown : s.vm.findClass RX2 = some m.cls := findClass_of_methodNamed B.named
  have hlocks := B.notSynchronized
  have hl := lv_entry ([.ref o, .int (nI i), .int x, .int y]) (n := 5) (Nat.le_of_ble_eq_true rfl)
  rw [lg_entry_eq]
  generalize (lg_sl ([.ref o, .int (nI i), .int x, .int y]) ++ List.replicate (5 - (lg_sl ([.ref o, .int (nI i), .int x, .int y])).length) Slot.unset).toArray = ls at hl ⊢
  have hl : lv_has ls 5 [(0, .ref o), (1, .int (nI i)), (2, .int x), (3, .int y)] := hl
  obtain ⟨j, hj⟩ : ∃ j, j = gh_nx N i := ⟨_, rfl⟩
  have hjN : j < N := by rw [hj]; exact gh_nxlt hi
  rw [← hj]
  have tail : ∀ (ls : Array Slot), lv_has ls 5 [(0, .ref o), (1, .int (nI i)), (2, .int x), (3, .int y)] → W p l e (headSpec (ws_ yX2_side cX2_side 5 (some .long)) ({ frames := 1, cells := 0, slots := 0, locals := 31 })).room s m ([.ref o, .int (nI i), .int x, .int y] : List Value).toArray below meth c s.heap [] 0 0 (MQ below (vp_Sl (fun r => r.toInt = gh_T (V i) (V j) (g2 x y))) ([.ref o, .int (nI i), .int x, .int y] : List Value).toArray s 0 0 (fun _ => False)) (F0 m 17 ls [.int (nI j)]) := by
    intro  ls hl
    refine lv_istore (lv' := [(4, .int (nI j)), (0, .ref o), (1, .int (nI i)), (2, .int x), (3, .int y)]) hx hb dX2_side_17 hl (by decide) rfl (fun ls hl => ?_)
    refine lv_aload_n hx hb dX2_side_19 rfl (lv_at hl 1 rfl) ?_
    refine va_get (D := (dC, dI)) (ci := 1) (v := .ref o1) (C := RX2) (T := TX2) (N := 8) hx hb hts in_X2 hown hK hP 0 rfl rfl 3 (by decide) (hts _ q150) (fun _ h9 => h9) rfl dX2_side_20 ?_
    refine lv_iload_n hx hb dX2_side_23 rfl (lv_at hl 2 rfl) ?_
    refine gr_iald (k := i) hx hb hK hP 1 0 rfl rfl (by omega) (by decide) dX2_side_24 ?_
    refine lv_i2l hx hb dX2_side_25 rfl ?_
    refine lv_aload_n hx hb dX2_side_26 rfl (lv_at hl 1 rfl) ?_
    refine va_get (D := (dC, dI)) (ci := 1) (v := .ref o2) (C := RX2) (T := TX2) (N := 8) hx hb hts in_X2 hown hK hP 0 rfl rfl 4 (by decide) (hts _ q151) (fun _ h9 => h9) rfl dX2_side_27 ?_
    refine lv_iload_n hx hb dX2_side_30 rfl (lv_at hl 2 rfl) ?_
    refine gr_iald (k := i) hx hb hK hP 2 0 rfl rfl (by omega) (by decide) dX2_side_31 ?_
    refine lv_i2l hx hb dX2_side_32 rfl ?_
    refine lv_aload_n hx hb dX2_side_33 rfl (lv_at hl 1 rfl) ?_
    refine va_get (D := (dC, dI)) (ci := 1) (v := .ref o1) (C := RX2) (T := TX2) (N := 8) hx hb hts in_X2 hown hK hP 0 rfl rfl 3 (by decide) (hts _ q150) (fun _ h9 => h9) rfl dX2_side_34 ?_
    refine lv_iload hx hb dX2_side_37 (lv_at hl 0 rfl) ?_
    refine gr_iald (k := j) hx hb hK hP 1 0 rfl rfl (by omega) (by decide) dX2_side_39 ?_
    refine lv_i2l hx hb dX2_side_40 rfl ?_
    refine lv_aload_n hx hb dX2_side_41 rfl (lv_at hl 1 rfl) ?_
    refine va_get (D := (dC, dI)) (ci := 1) (v := .ref o2) (C := RX2) (T := TX2) (N := 8) hx hb hts in_X2 hown hK hP 0 rfl rfl 4 (by decide) (hts _ q151) (fun _ h9 => h9) rfl dX2_side_42 ?_
    refine lv_iload hx hb dX2_side_45 (lv_at hl 0 rfl) ?_
    refine gr_iald (k := j) hx hb hK hP 2 0 rfl rfl (by omega) (by decide) dX2_side_47 ?_
    refine lv_i2l hx hb dX2_side_48 rfl ?_
    refine lv_iload_n hx hb dX2_side_49 rfl (lv_at hl 3 rfl) ?_
    refine lv_i2l hx hb dX2_side_50 rfl ?_
    refine lv_iload_n hx hb dX2_side_51 rfl (lv_at hl 4 rfl) ?_
    refine lv_i2l hx hb dX2_side_52 rfl ?_
    refine vp_callSl (va_Run.run (va_runS (As := [.long (xs i).toInt64, .long (ys i).toInt64, .long (xs j).toInt64, .long (ys j).toInt64, .long x.toInt64, .long y.toInt64]) (rest := []) ⟨hx, hb, hml, hown, hts⟩ (metX2_turn l dC dI dA (xs i).toInt64 (ys i).toInt64 (xs j).toInt64 (ys j).toInt64 x.toInt64 y.toInt64) (va_cwS 6 hts (lw_S q179 q180 q12 q181) rfl rfl rfl (by decide +kernel) ⟨Nat.le_of_ble_eq_true rfl, Nat.le_of_ble_eq_true rfl⟩) (gr_preS (hP.sub (ws' := []) [] rfl) (hK.sub (tys' := []) [] rfl)) rfl rfl hl.1 rfl (lv_room (Nat.le_of_ble_eq_true rfl)) dX2_side_53 ⟨Nat.zero_le _, Nat.zero_le _⟩)) (fun tt htt => ?_)
    have htt : tt = gt_turnL (xs i).toInt64 (ys i).toInt64 (xs j).toInt64 (ys j).toInt64 x.toInt64 y.toInt64 := htt
    exact W.lret (v := tt) hx hb hr (fun t ht hW => ⟨tt, rfl, by
        rw [htt, ← hV i hi, ← hV j hjN]
        exact gt_turnL_ok (by rw [← gp_eq, hV i hi]; exact hok i hi) (by rw [← gp_eq, hV j hjN]; exact hok j hjN) hp, ht⟩) (fun q h => by cases h) dX2_side_56
  refine lv_iload_n hx hb dX2_side_0 rfl (lv_at hl 1 rfl) ?_
  refine lv_iconst (v := 1) hx hb dX2_side_1 (by decide) ?_
  refine lv_iadd hx hb dX2_side_2 ?_
  refine gr_topi (y := nI (i + 1)) (nI_1 i) ?_
  refine lv_aload_n hx hb dX2_side_3 rfl (lv_at hl 0 rfl) ?_
  refine va_get (D := (dC, dI)) (ci := 1) (v := .int (nI N)) (C := RX2) (T := TX2) (N := 8) hx hb hts in_X2 hown hK hP 0 rfl rfl 1 (by decide) (hts _ q148) (fun _ h9 => h9) rfl dX2_side_4 ?_
  refine lv_icmp_ne (tgt := 14) hx hb dX2_side_7 (by decide) (fun c_2 => ?_) (fun c_2 => ?_)
  · have c1 : i + 1 ≠ N := fun z => c_2 (by rw [z])
    refine lv_iload_n hx hb dX2_side_14 rfl (lv_at hl 1 rfl) ?_
    refine lv_iconst (v := 1) hx hb dX2_side_15 (by decide) ?_
    refine lv_iadd hx hb dX2_side_16 ?_
    refine gr_topi (y := nI j) (by rw [hj]; unfold gh_nx; rw [if_neg c1]; exact nI_1 i) ?_
    exact tail ls (lv_sub hl [0, 1, 2, 3] rfl)
  · have c1 : i + 1 = N := (nI_eq (by omega) (by omega)).mp c_2
    refine lv_iconst (v := 0) hx hb dX2_side_10 (by decide) ?_
    refine lv_goto (tgt := 17) hx hb dX2_side_11 (by decide) ?_
    refine gr_topi (y := nI j) (by rw [hj]; unfold gh_nx; rw [if_pos c1]; exact nI_0.symm) ?_
    exact tail ls (lv_sub hl [0, 1, 2, 3] rfl)
set_option maxHeartbeats 4000000 in
set_option maxRecDepth 100000 in
theorem metX2_inside (l : Launch) (dC : Nat → ClassId) (dI : Nat → Nat → Nat) (dA : ClassId) (o o1 o2 o3 o4 o5 N : Nat) (xs ys px py rd : Nat → Int32) (cap pts : Int32) (nl nu : Nat) (L U : Nat → Int × Int) (hH : gh_H nl L nu U) (hNN : N = gh_N nl nu) (hN : N ≤ 66) (hV : ∀ i, i < N → gp xs ys i = gh_V nl L nu U i) (x y : Int32) : Met l yX2_inside (ws_ yX2_inside cX2_inside 7 (some .int)) ({ frames := 2, cells := 0, slots := 0, locals := 55 }) (gr_Pc (dC, dI) [.ref o, .int x, .int y] [(o, .inr (1, [.int cap, .int (nI N), .int pts, .ref o1, .ref o2, .ref o3, .ref o4, .ref o5])), (o1, .inl (dA, 66, .inl xs)), (o2, .inl (dA, 66, .inl ys)), (o3, .inl (dA, 66, .inl px)), (o4, .inl (dA, 66, .inl py)), (o5, .inl (dA, 67, .inl rd))] [(dA, .int)]) (vp_Si (fun r => gI_post nl L nu U (g2 x y) r)) 0 0 (fun _ => False) := by
  refine Met.ofW (cc := cX2_inside) (maxL := 7) (ret := (some .int)) (by decide) rfl ?_
  intro p e s m args below meth c s₁ B hml hv
  obtain ⟨rfl, hP, hK⟩ := hv
  have hx := B.exec
  have hb := B.bytes
  have hr := B.returns
  have hts := atoms_spec (ws := (ws_ yX2_inside cX2_inside 7 (some .int))) B.pre
  have hts : ∀ w ∈ lw_all, w.before _ s = true := fun w h => hts w (List.mem_cons_of_mem _ h)
  have hown : s.vm.findClass RX2 = some m.cls := findClass_of_methodNamed B.named
  have hlocks := B.notSynchronized
  have hl := lv_entry ([.ref o, .int x, .int y]) (n := 7) (Nat.le_of_ble_eq_true rfl)
  rw [lg_entry_eq]
  generalize (lg_sl ([.ref o, .int x, .int y]) ++ List.replicate (7 - (lg_sl ([.ref o, .int x, .int y])).length) Slot.unset).toArray = ls at hl ⊢
  have hl : lv_has ls 7 [(0, .ref o), (1, .int x), (2, .int y)] := hl
  have hok : ∀ i, i < N → gh_ok (gh_V nl L nu U i) := fun i hi => hH.vok (by omega)
  refine lv_aload_n hx hb dX2_inside_0 rfl (lv_at hl 0 rfl) ?_
  refine va_get (D := (dC, dI)) (ci := 1) (v := .int (nI N)) (C := RX2) (T := TX2) (N := 8) hx hb hts in_X2 hown hK hP 0 rfl rfl 1 (by decide) (hts _ q148) (fun _ h9 => h9) rfl dX2_inside_1 ?_
  refine lv_if_eq (tgt := 15) hx hb dX2_inside_4 (by decide) (fun c_1 => ?_) (fun c_1 => ?_)
  · have c1 : N = 0 := (nI_eq (by omega) (by omega)).mp c_1
    have c2 := gb_zero hH (by omega)
    refine lv_iconst (v := 0) hx hb dX2_inside_15 (by decide) ?_
    exact W.iret (v := 0) hx hb hr (fun t ht hW => ⟨0, rfl, Or.inr (Or.inr ⟨rfl, fun z => by have := z.2.1.1; omega⟩), ht⟩) (fun q h => by cases h) dX2_inside_16
  · have c1 : N ≠ 0 := fun z => c_1 (by rw [z]; rfl)
    refine lv_iload_n hx hb dX2_inside_7 rfl (lv_at hl 1 rfl) ?_
    refine lv_iload_n hx hb dX2_inside_8 rfl (lv_at hl 2 rfl) ?_
    refine vp_callSi (va_Run.run (va_runS (As := [.int x, .int y]) (rest := []) ⟨hx, hb, hml, hown, hts⟩ (metX2_inRange l dC dI dA x y) (va_cwS 2 hts (lw_S q176 q177 q12 q178) rfl rfl rfl (by decide +kernel) ⟨Nat.le_of_ble_eq_true rfl, Nat.le_of_ble_eq_true rfl⟩) (gr_preS (hP.sub (ws' := []) [] rfl) (hK.sub (tys' := []) [] rfl)) rfl rfl hl.1 rfl (lv_room (Nat.le_of_ble_eq_true rfl)) dX2_inside_9 ⟨Nat.zero_le _, Nat.zero_le _⟩)) (fun zp hzp => ?_)
    refine lv_if_ne (tgt := 17) hx hb dX2_inside_12 (by decide) (fun c_3 => ?_) (fun c_3 => ?_)
    · have hp : gh_ok (g2 x y) := gk_b.pos hzp c_3
      refine lv_aload_n hx hb dX2_inside_17 rfl (lv_at hl 0 rfl) ?_
      refine va_get (D := (dC, dI)) (ci := 1) (v := .int (nI N)) (C := RX2) (T := TX2) (N := 8) hx hb hts in_X2 hown hK hP 0 rfl rfl 1 (by decide) (hts _ q148) (fun _ h9 => h9) rfl dX2_inside_18 ?_
      refine lv_iconst (v := 3) hx hb dX2_inside_21 (by decide) ?_
      refine lv_icmp_ge (tgt := 128) hx hb dX2_inside_22 (by decide) (fun c_4 => ?_) (fun c_4 => ?_)
      · have c3 : 3 ≤ N := (nI_leI (a := 3) (by omega) (by omega)).mp c_4
        have hn2 := gb_two (nl := nl) (nu := nu) (by omega)
        have hIW := hH.insW (q := g2 x y) hn2 (by omega)
        have hSS := hH.insS (q := g2 x y) hn2 (by omega)
        rw [← hNN] at hIW hSS
        have loop : ∀ (d i : Nat) (bd : Int32), N < i + d → i ≤ N → (∀ j, j < i → 0 ≤ gh_T (gh_V nl L nu U j) (gh_V nl L nu U (gh_nx N j)) (g2 x y)) → gk_b bd (∃ j, j < i ∧ gh_T (gh_V nl L nu U j) (gh_V nl L nu U (gh_nx N j)) (g2 x y) = 0) → ∀ (ls : Array Slot), lv_has ls 7 [(0, .ref o), (1, .int x), (2, .int y), (3, .int bd), (4, .int (nI i))] → W p l e (headSpec (ws_ yX2_inside cX2_inside 7 (some .int)) ({ frames := 2, cells := 0, slots := 0, locals := 55 })).room s m ([.ref o, .int x, .int y] : List Value).toArray below meth c s.heap [] 0 0 (MQ below (vp_Si (fun r => gI_post nl L nu U (g2 x y) r)) ([.ref o, .int x, .int y] : List Value).toArray s 0 0 (fun _ => False)) (F0 m 133 ls []) := by
          intro d
          induction d with
          | zero => intro i bd h1 h2; omega
          | succ d ih =>
            intro i bd hd hi hge hbd ls hl
            refine lv_iload hx hb dX2_inside_133 (lv_at hl 4 rfl) ?_
            refine lv_aload_n hx hb dX2_inside_135 rfl (lv_at hl 0 rfl) ?_
            refine va_get (D := (dC, dI)) (ci := 1) (v := .int (nI N)) (C := RX2) (T := TX2) (N := 8) hx hb hts in_X2 hown hK hP 0 rfl rfl 1 (by decide) (hts _ q148) (fun _ h9 => h9) rfl dX2_inside_136 ?_
            refine lv_icmp_ge (tgt := 184) hx hb dX2_inside_139 (by decide) (fun c_5 => ?_) (fun c_5 => ?_)
            · have c4 := (nI_leI (by omega) (by omega)).mp c_5
              have hall : gh_A 1 nl L (g2 x y) ∧ gh_A (-1) nu U (g2 x y) := hIW.mp (fun j hj => hge j (by omega))
              refine lv_iload_n hx hb dX2_inside_184 rfl (lv_at hl 3 rfl) ?_
              refine lv_if_eq (tgt := 192) hx hb dX2_inside_185 (by decide) (fun c_6 => ?_) (fun c_6 => ?_)
              · have hst := hSS.mp (fun j hj => by
                  have h1 := hge j (by omega)
                  have h2 : gh_T (gh_V nl L nu U j) (gh_V nl L nu U (gh_nx N j)) (g2 x y) ≠ 0 := fun z => gk_b.neg hbd c_6 ⟨j, by omega, z⟩
                  omega)
                refine lv_iconst (v := 2) hx hb dX2_inside_192 (by decide) ?_
                exact W.iret (v := 2) hx hb hr (fun t ht hW => ⟨2, rfl, Or.inl ⟨rfl, hp, hst⟩, ht⟩) (fun q h => by cases h) dX2_inside_193
              · have hst : ¬ (gh_SA 1 nl L (g2 x y) ∧ gh_SA (-1) nu U (g2 x y)) := fun z => by
                  obtain ⟨j, j1, j2⟩ := gk_b.pos hbd c_6
                  have := hSS.mpr z j (by omega)
                  omega
                refine lv_iconst (v := 1) hx hb dX2_inside_188 (by decide) ?_
                refine lv_goto (tgt := 193) hx hb dX2_inside_189 (by decide) ?_
                exact W.iret (v := 1) hx hb hr (fun t ht hW => ⟨1, rfl, Or.inr (Or.inl ⟨rfl, ⟨hp, hall⟩, hst⟩), ht⟩) (fun q h => by cases h) dX2_inside_193
            · have c4 : i < N := Nat.not_le.mp (fun z => c_5 ((nI_leI (by omega) (by omega)).mpr z))
              refine lv_aload_n hx hb dX2_inside_142 rfl (lv_at hl 0 rfl) ?_
              refine lv_iload hx hb dX2_inside_143 (lv_at hl 4 rfl) ?_
              refine lv_iload_n hx hb dX2_inside_145 rfl (lv_at hl 1 rfl) ?_
              refine lv_iload_n hx hb dX2_inside_146 rfl (lv_at hl 2 rfl) ?_
              refine vp_callSl (va_Run.run (va_runV (As := [.int (nI i), .int x, .int y]) (rest := []) ⟨hx, hb, hml, hown, hts⟩ (metX2_side l dC dI dA o o1 o2 o3 o4 o5 N xs ys px py rd cap pts (gh_V nl L nu U) hN hV hok i x y c4 hp) (cwV 3 hts (lw_V q185 q187 qs7 q12 q188) rfl rfl rfl (by decide +kernel) ⟨Nat.le_of_ble_eq_true rfl, Nat.le_of_ble_eq_true rfl⟩) (gr_preV hK hP (ci := 1) (q0 := 0) rfl rfl (hP.sub (ws' := [(o, .inr (1, [.int cap, .int (nI N), .int pts, .ref o1, .ref o2, .ref o3, .ref o4, .ref o5])), (o1, .inl (dA, 66, .inl xs)), (o2, .inl (dA, 66, .inl ys)), (o3, .inl (dA, 66, .inl px)), (o4, .inl (dA, 66, .inl py)), (o5, .inl (dA, 67, .inl rd))]) [0, 1, 2, 3, 4, 5] rfl) (hK.sub (tys' := [(dA, .int)]) [0] rfl)) rfl rfl hl.1 rfl (lv_room (Nat.le_of_ble_eq_true rfl)) dX2_inside_147 ⟨Nat.zero_le _, Nat.zero_le _⟩)) (fun ss hss => ?_)
              have hss : ss.toInt = gh_T (gh_V nl L nu U i) (gh_V nl L nu U (gh_nx N i)) (g2 x y) := hss
              refine lv_lstore (lv' := [(5, .long ss), (0, .ref o), (1, .int x), (2, .int y), (3, .int bd), (4, .int (nI i))]) hx hb dX2_inside_150 hl (by decide) rfl (fun ls hl => ?_)
              refine lv_lload hx hb dX2_inside_152 (lv_at hl 0 rfl) ?_
              refine lv_lconst (v := 0) hx hb dX2_inside_154 (by decide) ?_
              refine W.lcmp hx hb dX2_inside_155 ?_
              refine lv_if_ge (tgt := 161) hx hb dX2_inside_156 (by decide) (fun c_8 => ?_) (fun c_8 => ?_)
              · rw [lg_cmp_ge, Int64.le_iff_toInt_le, hss] at c_8
                have hge2 : ∀ j, j < i + 1 → 0 ≤ gh_T (gh_V nl L nu U j) (gh_V nl L nu U (gh_nx N j)) (g2 x y) := fun j hj => by
                  by_cases e : j = i
                  · rw [e]; exact c_8
                  · exact hge j (by omega)
                have tail : ∀ (b2 : Int32), gk_b b2 (∃ j, j < i + 1 ∧ gh_T (gh_V nl L nu U j) (gh_V nl L nu U (gh_nx N j)) (g2 x y) = 0) → ∀ (ls : Array Slot), lv_has ls 7 [(0, .ref o), (1, .int x), (2, .int y), (3, .int bd), (4, .int (nI i))] → W p l e (headSpec (ws_ yX2_inside cX2_inside 7 (some .int)) ({ frames := 2, cells := 0, slots := 0, locals := 55 })).room s m ([.ref o, .int x, .int y] : List Value).toArray below meth c s.heap [] 0 0 (MQ below (vp_Si (fun r => gI_post nl L nu U (g2 x y) r)) ([.ref o, .int x, .int y] : List Value).toArray s 0 0 (fun _ => False)) (F0 m 177 ls [.int b2]) := by
                  intro b2 hb2 ls hl
                  refine lv_istore_n (lv' := [(3, .int b2), (0, .ref o), (1, .int x), (2, .int y), (4, .int (nI i))]) hx hb dX2_inside_177 rfl hl (by decide) rfl (fun ls hl => ?_)
                  refine lv_iinc (v := nI (i + 1)) (lv' := [(4, .int (nI (i + 1))), (3, .int b2), (0, .ref o), (1, .int x), (2, .int y)]) hx hb dX2_inside_178 hl (k := 4) rfl (nI_1 i) (by decide) rfl (fun ls hl => ?_)
                  refine lv_goto (tgt := 133) hx hb dX2_inside_181 (by decide) ?_
                  exact ih (i + 1) b2 (by omega) (by omega) hge2 hb2 ls (lv_sub hl [2, 3, 4, 1, 0] rfl)
                refine lv_iload_n hx hb dX2_inside_161 rfl (lv_at hl 4 rfl) ?_
                refine lv_if_ne (tgt := 172) hx hb dX2_inside_162 (by decide) (fun c_9 => ?_) (fun c_9 => ?_)
                · refine lv_iconst (v := 1) hx hb dX2_inside_172 (by decide) ?_
                  refine lv_goto (tgt := 177) hx hb dX2_inside_173 (by decide) ?_
                  exact tail 1 (Or.inl ⟨rfl, by
                    obtain ⟨j, j1, j2⟩ := gk_b.pos hbd c_9
                    exact ⟨j, by omega, j2⟩⟩) ls (lv_sub hl [1, 2, 3, 4, 5] rfl)
                · refine lv_lload hx hb dX2_inside_165 (lv_at hl 0 rfl) ?_
                  refine lv_lconst (v := 0) hx hb dX2_inside_167 (by decide) ?_
                  refine W.lcmp hx hb dX2_inside_168 ?_
                  refine lv_if_ne (tgt := 176) hx hb dX2_inside_169 (by decide) (fun c_10 => ?_) (fun c_10 => ?_)
                  · rw [lg_cmp_eq, ← Int64.toInt_inj, hss] at c_10
                    refine lv_iconst (v := 0) hx hb dX2_inside_176 (by decide) ?_
                    exact tail 0 (Or.inr ⟨rfl, fun z => by
                      obtain ⟨j, j1, j2⟩ := z
                      by_cases e : j = i
                      · rw [e] at j2; exact c_10 j2
                      · exact gk_b.neg hbd c_9 ⟨j, by omega, j2⟩⟩) ls (lv_sub hl [1, 2, 3, 4, 5] rfl)
                  · rw [lg_cmp_eq, ← Int64.toInt_inj, hss] at c_10
                    refine lv_iconst (v := 1) hx hb dX2_inside_172 (by decide) ?_
                    refine lv_goto (tgt := 177) hx hb dX2_inside_173 (by decide) ?_
                    exact tail 1 (Or.inl ⟨rfl, i, by omega, c_10⟩) ls (lv_sub hl [1, 2, 3, 4, 5] rfl)
              · rw [lg_cmp_ge, Int64.le_iff_toInt_le, hss] at c_8
                refine lv_iconst (v := 0) hx hb dX2_inside_159 (by decide) ?_
                exact W.iret (v := 0) hx hb hr (fun t ht hW => ⟨0, rfl, Or.inr (Or.inr ⟨rfl, fun z => c_8 (hIW.mpr z.2 i c4)⟩), ht⟩) (fun q h => by cases h) dX2_inside_160
        refine lv_iconst (v := 0) hx hb dX2_inside_128 (by decide) ?_
        refine lv_istore_n (lv' := [(3, .int 0), (0, .ref o), (1, .int x), (2, .int y)]) hx hb dX2_inside_129 rfl hl (by decide) rfl (fun ls hl => ?_)
        refine lv_iconst (v := 0) hx hb dX2_inside_130 (by decide) ?_
        refine lv_istore (lv' := [(4, .int 0), (3, .int 0), (0, .ref o), (1, .int x), (2, .int y)]) hx hb dX2_inside_131 hl (by decide) rfl (fun ls hl => ?_)
        exact loop (N + 1) 0 0 (by omega) (by omega) (fun j hj => by omega) (Or.inr ⟨rfl, fun z => by obtain ⟨j, j1, _⟩ := z; omega⟩) ls (lv_sub hl [2, 3, 4, 1, 0] rfl)
      · have c3 : N < 3 := Nat.not_le.mp (fun z => c_4 ((nI_leI (a := 3) (by omega) (by omega)).mpr z))
        obtain ⟨hs1, hs2⟩ := gb_small hH hp (by omega) (by omega)
        rw [← hNN] at hs1
        have e0 := hV 0 (by omega)
        have e1 := hV (N - 1) (by omega)
        rw [← e0, ← e1] at hs1
        refine lv_aload_n hx hb dX2_inside_25 rfl (lv_at hl 0 rfl) ?_
        refine va_get (D := (dC, dI)) (ci := 1) (v := .int (nI N)) (C := RX2) (T := TX2) (N := 8) hx hb hts in_X2 hown hK hP 0 rfl rfl 1 (by decide) (hts _ q148) (fun _ h9 => h9) rfl dX2_inside_26 ?_
        refine lv_iconst (v := 1) hx hb dX2_inside_29 (by decide) ?_
        refine lv_isub hx hb dX2_inside_30 ?_
        refine gr_topi (y := nI (N - 1)) (gi_m1 (by omega)) ?_
        refine lv_istore_n (lv' := [(3, .int (nI (N - 1))), (0, .ref o), (1, .int x), (2, .int y)]) hx hb dX2_inside_31 rfl hl (by decide) rfl (fun ls hl => ?_)
        refine lv_aload_n hx hb dX2_inside_32 rfl (lv_at hl 1 rfl) ?_
        refine va_get (D := (dC, dI)) (ci := 1) (v := .ref o1) (C := RX2) (T := TX2) (N := 8) hx hb hts in_X2 hown hK hP 0 rfl rfl 3 (by decide) (hts _ q150) (fun _ h9 => h9) rfl dX2_inside_33 ?_
        refine lv_iconst (v := 0) hx hb dX2_inside_36 (by decide) ?_
        refine gr_topi (y := nI 0) (nI_0.symm) ?_
        refine gr_iald (k := 0) hx hb hK hP 1 0 rfl rfl (by omega) (by decide) dX2_inside_37 ?_
        refine lv_i2l hx hb dX2_inside_38 rfl ?_
        refine lv_aload_n hx hb dX2_inside_39 rfl (lv_at hl 1 rfl) ?_
        refine va_get (D := (dC, dI)) (ci := 1) (v := .ref o2) (C := RX2) (T := TX2) (N := 8) hx hb hts in_X2 hown hK hP 0 rfl rfl 4 (by decide) (hts _ q151) (fun _ h9 => h9) rfl dX2_inside_40 ?_
        refine lv_iconst (v := 0) hx hb dX2_inside_43 (by decide) ?_
        refine gr_topi (y := nI 0) (nI_0.symm) ?_
        refine gr_iald (k := 0) hx hb hK hP 2 0 rfl rfl (by omega) (by decide) dX2_inside_44 ?_
        refine lv_i2l hx hb dX2_inside_45 rfl ?_
        refine lv_aload_n hx hb dX2_inside_46 rfl (lv_at hl 1 rfl) ?_
        refine va_get (D := (dC, dI)) (ci := 1) (v := .ref o1) (C := RX2) (T := TX2) (N := 8) hx hb hts in_X2 hown hK hP 0 rfl rfl 3 (by decide) (hts _ q150) (fun _ h9 => h9) rfl dX2_inside_47 ?_
        refine lv_iload_n hx hb dX2_inside_50 rfl (lv_at hl 0 rfl) ?_
        refine gr_iald (k := N - 1) hx hb hK hP 1 0 rfl rfl (by omega) (by decide) dX2_inside_51 ?_
        refine lv_i2l hx hb dX2_inside_52 rfl ?_
        refine lv_aload_n hx hb dX2_inside_53 rfl (lv_at hl 1 rfl) ?_
        refine va_get (D := (dC, dI)) (ci := 1) (v := .ref o2) (C := RX2) (T := TX2) (N := 8) hx hb hts in_X2 hown hK hP 0 rfl rfl 4 (by decide) (hts _ q151) (fun _ h9 => h9) rfl dX2_inside_54 ?_
        refine lv_iload_n hx hb dX2_inside_57 rfl (lv_at hl 0 rfl) ?_
        refine gr_iald (k := N - 1) hx hb hK hP 2 0 rfl rfl (by omega) (by decide) dX2_inside_58 ?_
        refine lv_i2l hx hb dX2_inside_59 rfl ?_
        refine lv_iload_n hx hb dX2_inside_60 rfl (lv_at hl 2 rfl) ?_
        refine lv_i2l hx hb dX2_inside_61 rfl ?_
        refine lv_iload_n hx hb dX2_inside_62 rfl (lv_at hl 3 rfl) ?_
        refine lv_i2l hx hb dX2_inside_63 rfl ?_
        refine vp_callSl (va_Run.run (va_runS (As := [.long (xs 0).toInt64, .long (ys 0).toInt64, .long (xs (N - 1)).toInt64, .long (ys (N - 1)).toInt64, .long x.toInt64, .long y.toInt64]) (rest := []) ⟨hx, hb, hml, hown, hts⟩ (metX2_turn l dC dI dA (xs 0).toInt64 (ys 0).toInt64 (xs (N - 1)).toInt64 (ys (N - 1)).toInt64 x.toInt64 y.toInt64) (va_cwS 6 hts (lw_S q179 q180 q12 q181) rfl rfl rfl (by decide +kernel) ⟨Nat.le_of_ble_eq_true rfl, Nat.le_of_ble_eq_true rfl⟩) (gr_preS (hP.sub (ws' := []) [] rfl) (hK.sub (tys' := []) [] rfl)) rfl rfl hl.1 rfl (lv_room (Nat.le_of_ble_eq_true rfl)) dX2_inside_64 ⟨Nat.zero_le _, Nat.zero_le _⟩)) (fun tt htt => ?_)
        have htt : tt = gt_turnL (xs 0).toInt64 (ys 0).toInt64 (xs (N - 1)).toInt64 (ys (N - 1)).toInt64 x.toInt64 y.toInt64 := htt
        have hto : tt.toInt = gh_T (gp xs ys 0) (gp xs ys (N - 1)) (g2 x y) := by
          rw [htt]
          exact gt_turnL_ok (by rw [← gp_eq, e0]; exact hok 0 (by omega)) (by rw [← gp_eq, e1]; exact hok (N - 1) (by omega)) hp
        refine lv_lconst (v := 0) hx hb dX2_inside_67 (by decide) ?_
        refine W.lcmp hx hb dX2_inside_68 ?_
        refine lv_if_ne (tgt := 114) hx hb dX2_inside_69 (by decide) (fun c_12 => ?_) (fun c_12 => ?_)
        · rw [lg_cmp_eq, ← Int64.toInt_inj, hto] at c_12
          have hna : ¬ (gh_A 1 nl L (g2 x y) ∧ gh_A (-1) nu U (g2 x y)) := fun z => c_12 (hs1.mpr z).1
          refine lv_iconst (v := 0) hx hb dX2_inside_114 (by decide) ?_
          refine lv_istore (lv' := [(4, .int 0), (3, .int (nI (N - 1))), (0, .ref o), (1, .int x), (2, .int y)]) hx hb dX2_inside_115 hl (by decide) rfl (fun ls hl => ?_)
          refine lv_iload hx hb dX2_inside_117 (lv_at hl 0 rfl) ?_
          refine lv_if_eq (tgt := 126) hx hb dX2_inside_119 (by decide) (fun c_13 => ?_) (fun c_13 => ?_)
          · refine lv_iconst (v := 0) hx hb dX2_inside_126 (by decide) ?_
            exact W.iret (v := 0) hx hb hr (fun t ht hW => ⟨0, rfl, Or.inr (Or.inr ⟨rfl, fun z => hna z.2⟩), ht⟩) (fun q h => by cases h) dX2_inside_127
          · exact absurd rfl c_13
        · rw [lg_cmp_eq, ← Int64.toInt_inj, hto] at c_12
          refine lv_iload_n hx hb dX2_inside_72 rfl (lv_at hl 2 rfl) ?_
          refine lv_aload_n hx hb dX2_inside_73 rfl (lv_at hl 1 rfl) ?_
          refine va_get (D := (dC, dI)) (ci := 1) (v := .ref o1) (C := RX2) (T := TX2) (N := 8) hx hb hts in_X2 hown hK hP 0 rfl rfl 3 (by decide) (hts _ q150) (fun _ h9 => h9) rfl dX2_inside_74 ?_
          refine lv_iconst (v := 0) hx hb dX2_inside_77 (by decide) ?_
          refine gr_topi (y := nI 0) (nI_0.symm) ?_
          refine gr_iald (k := 0) hx hb hK hP 1 0 rfl rfl (by omega) (by decide) dX2_inside_78 ?_
          refine lv_aload_n hx hb dX2_inside_79 rfl (lv_at hl 1 rfl) ?_
          refine va_get (D := (dC, dI)) (ci := 1) (v := .ref o1) (C := RX2) (T := TX2) (N := 8) hx hb hts in_X2 hown hK hP 0 rfl rfl 3 (by decide) (hts _ q150) (fun _ h9 => h9) rfl dX2_inside_80 ?_
          refine lv_iload_n hx hb dX2_inside_83 rfl (lv_at hl 0 rfl) ?_
          refine gr_iald (k := N - 1) hx hb hK hP 1 0 rfl rfl (by omega) (by decide) dX2_inside_84 ?_
          refine vp_callSi (va_Run.run (va_runS (As := [.int x, .int (xs 0), .int (xs (N - 1))]) (rest := []) ⟨hx, hb, hml, hown, hts⟩ (metX2_between l dC dI dA x (xs 0) (xs (N - 1))) (va_cwS 3 hts (lw_S q182 q183 q12 q184) rfl rfl rfl (by decide +kernel) ⟨Nat.le_of_ble_eq_true rfl, Nat.le_of_ble_eq_true rfl⟩) (gr_preS (hP.sub (ws' := []) [] rfl) (hK.sub (tys' := []) [] rfl)) rfl rfl hl.1 rfl (lv_room (Nat.le_of_ble_eq_true rfl)) dX2_inside_85 ⟨Nat.zero_le _, Nat.zero_le _⟩)) (fun zb hzb => ?_)
          refine lv_if_eq (tgt := 114) hx hb dX2_inside_88 (by decide) (fun c_15 => ?_) (fun c_15 => ?_)
          · have hna : ¬ (gh_A 1 nl L (g2 x y) ∧ gh_A (-1) nu U (g2 x y)) := fun z => gk_b.neg hzb c_15 (hs1.mpr z).2.1
            refine lv_iconst (v := 0) hx hb dX2_inside_114 (by decide) ?_
            refine lv_istore (lv' := [(4, .int 0), (3, .int (nI (N - 1))), (0, .ref o), (1, .int x), (2, .int y)]) hx hb dX2_inside_115 hl (by decide) rfl (fun ls hl => ?_)
            refine lv_iload hx hb dX2_inside_117 (lv_at hl 0 rfl) ?_
            refine lv_if_eq (tgt := 126) hx hb dX2_inside_119 (by decide) (fun c_16 => ?_) (fun c_16 => ?_)
            · refine lv_iconst (v := 0) hx hb dX2_inside_126 (by decide) ?_
              exact W.iret (v := 0) hx hb hr (fun t ht hW => ⟨0, rfl, Or.inr (Or.inr ⟨rfl, fun z => hna z.2⟩), ht⟩) (fun q h => by cases h) dX2_inside_127
            · exact absurd rfl c_16
          · refine lv_iload_n hx hb dX2_inside_91 rfl (lv_at hl 3 rfl) ?_
            refine lv_aload_n hx hb dX2_inside_92 rfl (lv_at hl 1 rfl) ?_
            refine va_get (D := (dC, dI)) (ci := 1) (v := .ref o2) (C := RX2) (T := TX2) (N := 8) hx hb hts in_X2 hown hK hP 0 rfl rfl 4 (by decide) (hts _ q151) (fun _ h9 => h9) rfl dX2_inside_93 ?_
            refine lv_iconst (v := 0) hx hb dX2_inside_96 (by decide) ?_
            refine gr_topi (y := nI 0) (nI_0.symm) ?_
            refine gr_iald (k := 0) hx hb hK hP 2 0 rfl rfl (by omega) (by decide) dX2_inside_97 ?_
            refine lv_aload_n hx hb dX2_inside_98 rfl (lv_at hl 1 rfl) ?_
            refine va_get (D := (dC, dI)) (ci := 1) (v := .ref o2) (C := RX2) (T := TX2) (N := 8) hx hb hts in_X2 hown hK hP 0 rfl rfl 4 (by decide) (hts _ q151) (fun _ h9 => h9) rfl dX2_inside_99 ?_
            refine lv_iload_n hx hb dX2_inside_102 rfl (lv_at hl 0 rfl) ?_
            refine gr_iald (k := N - 1) hx hb hK hP 2 0 rfl rfl (by omega) (by decide) dX2_inside_103 ?_
            refine vp_callSi (va_Run.run (va_runS (As := [.int y, .int (ys 0), .int (ys (N - 1))]) (rest := []) ⟨hx, hb, hml, hown, hts⟩ (metX2_between l dC dI dA y (ys 0) (ys (N - 1))) (va_cwS 3 hts (lw_S q182 q183 q12 q184) rfl rfl rfl (by decide +kernel) ⟨Nat.le_of_ble_eq_true rfl, Nat.le_of_ble_eq_true rfl⟩) (gr_preS (hP.sub (ws' := []) [] rfl) (hK.sub (tys' := []) [] rfl)) rfl rfl hl.1 rfl (lv_room (Nat.le_of_ble_eq_true rfl)) dX2_inside_104 ⟨Nat.zero_le _, Nat.zero_le _⟩)) (fun zc hzc => ?_)
            refine lv_if_eq (tgt := 114) hx hb dX2_inside_107 (by decide) (fun c_18 => ?_) (fun c_18 => ?_)
            · have hna : ¬ (gh_A 1 nl L (g2 x y) ∧ gh_A (-1) nu U (g2 x y)) := fun z => gk_b.neg hzc c_18 (hs1.mpr z).2.2
              refine lv_iconst (v := 0) hx hb dX2_inside_114 (by decide) ?_
              refine lv_istore (lv' := [(4, .int 0), (3, .int (nI (N - 1))), (0, .ref o), (1, .int x), (2, .int y)]) hx hb dX2_inside_115 hl (by decide) rfl (fun ls hl => ?_)
              refine lv_iload hx hb dX2_inside_117 (lv_at hl 0 rfl) ?_
              refine lv_if_eq (tgt := 126) hx hb dX2_inside_119 (by decide) (fun c_19 => ?_) (fun c_19 => ?_)
              · refine lv_iconst (v := 0) hx hb dX2_inside_126 (by decide) ?_
                exact W.iret (v := 0) hx hb hr (fun t ht hW => ⟨0, rfl, Or.inr (Or.inr ⟨rfl, fun z => hna z.2⟩), ht⟩) (fun q h => by cases h) dX2_inside_127
              · exact absurd rfl c_19
            · have hall := hs1.mp ⟨c_12, gk_b.pos hzb c_15, gk_b.pos hzc c_18⟩
              refine lv_iconst (v := 1) hx hb dX2_inside_110 (by decide) ?_
              refine lv_goto (tgt := 115) hx hb dX2_inside_111 (by decide) ?_
              refine lv_istore (lv' := [(4, .int 1), (3, .int (nI (N - 1))), (0, .ref o), (1, .int x), (2, .int y)]) hx hb dX2_inside_115 hl (by decide) rfl (fun ls hl => ?_)
              refine lv_iload hx hb dX2_inside_117 (lv_at hl 0 rfl) ?_
              refine lv_if_eq (tgt := 126) hx hb dX2_inside_119 (by decide) (fun c_20 => ?_) (fun c_20 => ?_)
              · exact absurd c_20 (by decide)
              · refine lv_iconst (v := 1) hx hb dX2_inside_122 (by decide) ?_
                refine lv_goto (tgt := 127) hx hb dX2_inside_123 (by decide) ?_
                exact W.iret (v := 1) hx hb hr (fun t ht hW => ⟨1, rfl, Or.inr (Or.inl ⟨rfl, ⟨hp, hall⟩, hs2⟩), ht⟩) (fun q h => by cases h) dX2_inside_127
    · refine lv_iconst (v := 0) hx hb dX2_inside_15 (by decide) ?_
      exact W.iret (v := 0) hx hb hr (fun t ht hW => ⟨0, rfl, Or.inr (Or.inr ⟨rfl, fun z => gk_b.neg hzp c_3 z.1⟩), ht⟩) (fun q h => by cases h) dX2_inside_16
set_option maxHeartbeats 4000000 in
set_option maxRecDepth 100000 in
theorem metX2_isNext (l : Launch) (dC : Nat → ClassId) (dI : Nat → Nat → Nat) (dA : ClassId) (o o1 o2 o3 o4 o5 N : Nat) (xs ys px py rd : Nat → Int32) (cap pts : Int32) (n t a b : Nat) (hn : n ≤ 66) (hq : ∀ i, i < n → gh_ok (gp px py i)) (ht : t < n) (ha : a < n) (hb_ : b < n) : Met l yX2_isNext (ws_ yX2_isNext cX2_isNext 14 (some .boolean)) ({ frames := 1, cells := 0, slots := 0, locals := 31 }) (gr_Pc (dC, dI) [.ref o, .int (nI t), .int (nI a), .int (nI b)] [(o, .inr (1, [.int cap, .int (nI N), .int pts, .ref o1, .ref o2, .ref o3, .ref o4, .ref o5])), (o1, .inl (dA, 66, .inl xs)), (o2, .inl (dA, 66, .inl ys)), (o3, .inl (dA, 66, .inl px)), (o4, .inl (dA, 66, .inl py)), (o5, .inl (dA, 67, .inl rd))] [(dA, .int)]) (vp_Si (fun r => gk_b r (gw_next (gp px py) t a b))) 0 0 (fun _ => False) := by
  refine Met.ofW (cc := cX2_isNext) (maxL := 14) (ret := (some .boolean)) (by decide) rfl ?_
  intro p e s m args below meth c s₁ B hml hv
  obtain ⟨rfl, hP, hK⟩ := hv
  have hx := B.exec
  have hb := B.bytes
  have hr := B.returns
  have hts := atoms_spec (ws := (ws_ yX2_isNext cX2_isNext 14 (some .boolean))) B.pre
  have hts : ∀ w ∈ lw_all, w.before _ s = true := fun w h => hts w (List.mem_cons_of_mem _ h)
  have hown : s.vm.findClass RX2 = some m.cls := findClass_of_methodNamed B.named
  have hlocks := B.notSynchronized
  have hl := lv_entry ([.ref o, .int (nI t), .int (nI a), .int (nI b)]) (n := 14) (Nat.le_of_ble_eq_true rfl)
  rw [lg_entry_eq]
  generalize (lg_sl ([.ref o, .int (nI t), .int (nI a), .int (nI b)]) ++ List.replicate (14 - (lg_sl ([.ref o, .int (nI t), .int (nI a), .int (nI b)])).length) Slot.unset).toArray = ls at hl ⊢
  have hl : lv_has ls 14 [(0, .ref o), (1, .int (nI t)), (2, .int (nI a)), (3, .int (nI b))] := hl
  refine lv_aload_n hx hb dX2_isNext_0 rfl (lv_at hl 0 rfl) ?_
  refine va_get (D := (dC, dI)) (ci := 1) (v := .ref o3) (C := RX2) (T := TX2) (N := 8) hx hb hts in_X2 hown hK hP 0 rfl rfl 5 (by decide) (hts _ q152) (fun _ h9 => h9) rfl dX2_isNext_1 ?_
  refine lv_iload_n hx hb dX2_isNext_4 rfl (lv_at hl 1 rfl) ?_
  refine gr_iald (k := t) hx hb hK hP 3 0 rfl rfl (by omega) (by decide) dX2_isNext_5 ?_
  refine lv_i2l hx hb dX2_isNext_6 rfl ?_
  refine lv_aload_n hx hb dX2_isNext_7 rfl (lv_at hl 0 rfl) ?_
  refine va_get (D := (dC, dI)) (ci := 1) (v := .ref o4) (C := RX2) (T := TX2) (N := 8) hx hb hts in_X2 hown hK hP 0 rfl rfl 6 (by decide) (hts _ q153) (fun _ h9 => h9) rfl dX2_isNext_8 ?_
  refine lv_iload_n hx hb dX2_isNext_11 rfl (lv_at hl 1 rfl) ?_
  refine gr_iald (k := t) hx hb hK hP 4 0 rfl rfl (by omega) (by decide) dX2_isNext_12 ?_
  refine lv_i2l hx hb dX2_isNext_13 rfl ?_
  refine lv_aload_n hx hb dX2_isNext_14 rfl (lv_at hl 0 rfl) ?_
  refine va_get (D := (dC, dI)) (ci := 1) (v := .ref o3) (C := RX2) (T := TX2) (N := 8) hx hb hts in_X2 hown hK hP 0 rfl rfl 5 (by decide) (hts _ q152) (fun _ h9 => h9) rfl dX2_isNext_15 ?_
  refine lv_iload_n hx hb dX2_isNext_18 rfl (lv_at hl 2 rfl) ?_
  refine gr_iald (k := a) hx hb hK hP 3 0 rfl rfl (by omega) (by decide) dX2_isNext_19 ?_
  refine lv_i2l hx hb dX2_isNext_20 rfl ?_
  refine lv_aload_n hx hb dX2_isNext_21 rfl (lv_at hl 0 rfl) ?_
  refine va_get (D := (dC, dI)) (ci := 1) (v := .ref o4) (C := RX2) (T := TX2) (N := 8) hx hb hts in_X2 hown hK hP 0 rfl rfl 6 (by decide) (hts _ q153) (fun _ h9 => h9) rfl dX2_isNext_22 ?_
  refine lv_iload_n hx hb dX2_isNext_25 rfl (lv_at hl 2 rfl) ?_
  refine gr_iald (k := a) hx hb hK hP 4 0 rfl rfl (by omega) (by decide) dX2_isNext_26 ?_
  refine lv_i2l hx hb dX2_isNext_27 rfl ?_
  refine lv_aload_n hx hb dX2_isNext_28 rfl (lv_at hl 0 rfl) ?_
  refine va_get (D := (dC, dI)) (ci := 1) (v := .ref o3) (C := RX2) (T := TX2) (N := 8) hx hb hts in_X2 hown hK hP 0 rfl rfl 5 (by decide) (hts _ q152) (fun _ h9 => h9) rfl dX2_isNext_29 ?_
  refine lv_iload_n hx hb dX2_isNext_32 rfl (lv_at hl 3 rfl) ?_
  refine gr_iald (k := b) hx hb hK hP 3 0 rfl rfl (by omega) (by decide) dX2_isNext_33 ?_
  refine lv_i2l hx hb dX2_isNext_34 rfl ?_
  refine lv_aload_n hx hb dX2_isNext_35 rfl (lv_at hl 0 rfl) ?_
  refine va_get (D := (dC, dI)) (ci := 1) (v := .ref o4) (C := RX2) (T := TX2) (N := 8) hx hb hts in_X2 hown hK hP 0 rfl rfl 6 (by decide) (hts _ q153) (fun _ h9 => h9) rfl dX2_isNext_36 ?_
  refine lv_iload_n hx hb dX2_isNext_39 rfl (lv_at hl 3 rfl) ?_
  refine gr_iald (k := b) hx hb hK hP 4 0 rfl rfl (by omega) (by decide) dX2_isNext_40 ?_
  refine lv_i2l hx hb dX2_isNext_41 rfl ?_
  refine vp_callSl (va_Run.run (va_runS (As := [.long (px t).toInt64, .long (py t).toInt64, .long (px a).toInt64, .long (py a).toInt64, .long (px b).toInt64, .long (py b).toInt64]) (rest := []) ⟨hx, hb, hml, hown, hts⟩ (metX2_turn l dC dI dA (px t).toInt64 (py t).toInt64 (px a).toInt64 (py a).toInt64 (px b).toInt64 (py b).toInt64) (va_cwS 6 hts (lw_S q179 q180 q12 q181) rfl rfl rfl (by decide +kernel) ⟨Nat.le_of_ble_eq_true rfl, Nat.le_of_ble_eq_true rfl⟩) (gr_preS (hP.sub (ws' := []) [] rfl) (hK.sub (tys' := []) [] rfl)) rfl rfl hl.1 rfl (lv_room (Nat.le_of_ble_eq_true rfl)) dX2_isNext_42 ⟨Nat.zero_le _, Nat.zero_le _⟩)) (fun tt htt => ?_)
  have htt : tt = gt_turnL (px t).toInt64 (py t).toInt64 (px a).toInt64 (py a).toInt64 (px b).toInt64 (py b).toInt64 := htt
  have hto : tt.toInt = gh_T (gp px py t) (gp px py a) (gp px py b) := by rw [htt]; exact gt_turnL_ok (hq t ht) (hq a ha) (hq b hb_)
  have hda := (gt_dist_ok (hq t ht) (hq a ha)).1
  have hdb := (gt_dist_ok (hq t ht) (hq b hb_)).1
  refine lv_lstore (lv' := [(4, .long tt), (0, .ref o), (1, .int (nI t)), (2, .int (nI a)), (3, .int (nI b))]) hx hb dX2_isNext_45 hl (by decide) rfl (fun ls hl => ?_)
  refine lv_aload_n hx hb dX2_isNext_47 rfl (lv_at hl 1 rfl) ?_
  refine va_get (D := (dC, dI)) (ci := 1) (v := .ref o3) (C := RX2) (T := TX2) (N := 8) hx hb hts in_X2 hown hK hP 0 rfl rfl 5 (by decide) (hts _ q152) (fun _ h9 => h9) rfl dX2_isNext_48 ?_
  refine lv_iload_n hx hb dX2_isNext_51 rfl (lv_at hl 3 rfl) ?_
  refine gr_iald (k := a) hx hb hK hP 3 0 rfl rfl (by omega) (by decide) dX2_isNext_52 ?_
  refine lv_aload_n hx hb dX2_isNext_53 rfl (lv_at hl 1 rfl) ?_
  refine va_get (D := (dC, dI)) (ci := 1) (v := .ref o3) (C := RX2) (T := TX2) (N := 8) hx hb hts in_X2 hown hK hP 0 rfl rfl 5 (by decide) (hts _ q152) (fun _ h9 => h9) rfl dX2_isNext_54 ?_
  refine lv_iload_n hx hb dX2_isNext_57 rfl (lv_at hl 2 rfl) ?_
  refine gr_iald (k := t) hx hb hK hP 3 0 rfl rfl (by omega) (by decide) dX2_isNext_58 ?_
  refine lv_isub hx hb dX2_isNext_59 ?_
  refine lv_i2l hx hb dX2_isNext_60 rfl ?_
  refine lv_lstore (lv' := [(6, .long ((px a) - (px t)).toInt64), (4, .long tt), (0, .ref o), (1, .int (nI t)), (2, .int (nI a)), (3, .int (nI b))]) hx hb dX2_isNext_61 hl (by decide) rfl (fun ls hl => ?_)
  refine lv_aload_n hx hb dX2_isNext_63 rfl (lv_at hl 2 rfl) ?_
  refine va_get (D := (dC, dI)) (ci := 1) (v := .ref o4) (C := RX2) (T := TX2) (N := 8) hx hb hts in_X2 hown hK hP 0 rfl rfl 6 (by decide) (hts _ q153) (fun _ h9 => h9) rfl dX2_isNext_64 ?_
  refine lv_iload_n hx hb dX2_isNext_67 rfl (lv_at hl 4 rfl) ?_
  refine gr_iald (k := a) hx hb hK hP 4 0 rfl rfl (by omega) (by decide) dX2_isNext_68 ?_
  refine lv_aload_n hx hb dX2_isNext_69 rfl (lv_at hl 2 rfl) ?_
  refine va_get (D := (dC, dI)) (ci := 1) (v := .ref o4) (C := RX2) (T := TX2) (N := 8) hx hb hts in_X2 hown hK hP 0 rfl rfl 6 (by decide) (hts _ q153) (fun _ h9 => h9) rfl dX2_isNext_70 ?_
  refine lv_iload_n hx hb dX2_isNext_73 rfl (lv_at hl 3 rfl) ?_
  refine gr_iald (k := t) hx hb hK hP 4 0 rfl rfl (by omega) (by decide) dX2_isNext_74 ?_
  refine lv_isub hx hb dX2_isNext_75 ?_
  refine lv_i2l hx hb dX2_isNext_76 rfl ?_
  refine lv_lstore (lv' := [(8, .long ((py a) - (py t)).toInt64), (6, .long ((px a) - (px t)).toInt64), (4, .long tt), (0, .ref o), (1, .int (nI t)), (2, .int (nI a)), (3, .int (nI b))]) hx hb dX2_isNext_77 hl (by decide) rfl (fun ls hl => ?_)
  refine lv_aload_n hx hb dX2_isNext_79 rfl (lv_at hl 3 rfl) ?_
  refine va_get (D := (dC, dI)) (ci := 1) (v := .ref o3) (C := RX2) (T := TX2) (N := 8) hx hb hts in_X2 hown hK hP 0 rfl rfl 5 (by decide) (hts _ q152) (fun _ h9 => h9) rfl dX2_isNext_80 ?_
  refine lv_iload_n hx hb dX2_isNext_83 rfl (lv_at hl 6 rfl) ?_
  refine gr_iald (k := b) hx hb hK hP 3 0 rfl rfl (by omega) (by decide) dX2_isNext_84 ?_
  refine lv_aload_n hx hb dX2_isNext_85 rfl (lv_at hl 3 rfl) ?_
  refine va_get (D := (dC, dI)) (ci := 1) (v := .ref o3) (C := RX2) (T := TX2) (N := 8) hx hb hts in_X2 hown hK hP 0 rfl rfl 5 (by decide) (hts _ q152) (fun _ h9 => h9) rfl dX2_isNext_86 ?_
  refine lv_iload_n hx hb dX2_isNext_89 rfl (lv_at hl 4 rfl) ?_
  refine gr_iald (k := t) hx hb hK hP 3 0 rfl rfl (by omega) (by decide) dX2_isNext_90 ?_
  refine lv_isub hx hb dX2_isNext_91 ?_
  refine lv_i2l hx hb dX2_isNext_92 rfl ?_
  refine lv_lstore (lv' := [(10, .long ((px b) - (px t)).toInt64), (8, .long ((py a) - (py t)).toInt64), (6, .long ((px a) - (px t)).toInt64), (4, .long tt), (0, .ref o), (1, .int (nI t)), (2, .int (nI a)), (3, .int (nI b))]) hx hb dX2_isNext_93 hl (by decide) rfl (fun ls hl => ?_)
  refine lv_aload_n hx hb dX2_isNext_95 rfl (lv_at hl 4 rfl) ?_
  refine va_get (D := (dC, dI)) (ci := 1) (v := .ref o4) (C := RX2) (T := TX2) (N := 8) hx hb hts in_X2 hown hK hP 0 rfl rfl 6 (by decide) (hts _ q153) (fun _ h9 => h9) rfl dX2_isNext_96 ?_
  refine lv_iload_n hx hb dX2_isNext_99 rfl (lv_at hl 7 rfl) ?_
  refine gr_iald (k := b) hx hb hK hP 4 0 rfl rfl (by omega) (by decide) dX2_isNext_100 ?_
  refine lv_aload_n hx hb dX2_isNext_101 rfl (lv_at hl 4 rfl) ?_
  refine va_get (D := (dC, dI)) (ci := 1) (v := .ref o4) (C := RX2) (T := TX2) (N := 8) hx hb hts in_X2 hown hK hP 0 rfl rfl 6 (by decide) (hts _ q153) (fun _ h9 => h9) rfl dX2_isNext_102 ?_
  refine lv_iload_n hx hb dX2_isNext_105 rfl (lv_at hl 5 rfl) ?_
  refine gr_iald (k := t) hx hb hK hP 4 0 rfl rfl (by omega) (by decide) dX2_isNext_106 ?_
  refine lv_isub hx hb dX2_isNext_107 ?_
  refine lv_i2l hx hb dX2_isNext_108 rfl ?_
  refine lv_lstore (lv' := [(12, .long ((py b) - (py t)).toInt64), (10, .long ((px b) - (px t)).toInt64), (8, .long ((py a) - (py t)).toInt64), (6, .long ((px a) - (px t)).toInt64), (4, .long tt), (0, .ref o), (1, .int (nI t)), (2, .int (nI a)), (3, .int (nI b))]) hx hb dX2_isNext_109 hl (by decide) rfl (fun ls hl => ?_)
  refine lv_lload hx hb dX2_isNext_111 (lv_at hl 4 rfl) ?_
  refine lv_lconst (v := 0) hx hb dX2_isNext_113 (by decide) ?_
  refine W.lcmp hx hb dX2_isNext_114 ?_
  refine lv_if_lt (tgt := 151) hx hb dX2_isNext_115 (by decide) (fun c_2 => ?_) (fun c_2 => ?_)
  · rw [lg_cmp_lt, Int64.lt_iff_toInt_lt, hto] at c_2
    refine lv_iconst (v := 1) hx hb dX2_isNext_151 (by decide) ?_
    refine lv_goto (tgt := 156) hx hb dX2_isNext_152 (by decide) ?_
    exact W.zret (v := 1) hx hb hr rfl (fun t ht hW => ⟨1, rfl, Or.inl ⟨rfl, Or.inl c_2⟩, ht⟩) (fun q h => by cases h) dX2_isNext_156
  · rw [lg_cmp_lt, Int64.lt_iff_toInt_lt, hto] at c_2
    refine lv_lload hx hb dX2_isNext_118 (lv_at hl 4 rfl) ?_
    refine lv_lconst (v := 0) hx hb dX2_isNext_120 (by decide) ?_
    refine W.lcmp hx hb dX2_isNext_121 ?_
    refine lv_if_ne (tgt := 155) hx hb dX2_isNext_122 (by decide) (fun c_3 => ?_) (fun c_3 => ?_)
    · rw [lg_cmp_eq, ← Int64.toInt_inj, hto] at c_3
      refine lv_iconst (v := 0) hx hb dX2_isNext_155 (by decide) ?_
      exact W.zret (v := 0) hx hb hr rfl (fun t ht hW => ⟨0, rfl, Or.inr ⟨rfl, fun z => by
          rcases z with z | z
          · exact c_2 z
          · exact c_3 z.1⟩, ht⟩) (fun q h => by cases h) dX2_isNext_156
    · rw [lg_cmp_eq, ← Int64.toInt_inj, hto] at c_3
      refine lv_lload hx hb dX2_isNext_125 (lv_at hl 1 rfl) ?_
      refine lv_lload hx hb dX2_isNext_127 (lv_at hl 1 rfl) ?_
      refine lv_lmul hx hb dX2_isNext_129 ?_
      refine lv_lload hx hb dX2_isNext_130 (lv_at hl 0 rfl) ?_
      refine lv_lload hx hb dX2_isNext_132 (lv_at hl 0 rfl) ?_
      refine lv_lmul hx hb dX2_isNext_134 ?_
      refine lv_ladd hx hb dX2_isNext_135 ?_
      refine gr_topl (y := gt_dist (px t) (py t) (px b) (py b)) (rfl) ?_
      refine lv_lload hx hb dX2_isNext_136 (lv_at hl 3 rfl) ?_
      refine lv_lload hx hb dX2_isNext_138 (lv_at hl 3 rfl) ?_
      refine lv_lmul hx hb dX2_isNext_140 ?_
      refine lv_lload hx hb dX2_isNext_141 (lv_at hl 2 rfl) ?_
      refine lv_lload hx hb dX2_isNext_143 (lv_at hl 2 rfl) ?_
      refine lv_lmul hx hb dX2_isNext_145 ?_
      refine lv_ladd hx hb dX2_isNext_146 ?_
      refine gr_topl (y := gt_dist (px t) (py t) (px a) (py a)) (rfl) ?_
      refine W.lcmp hx hb dX2_isNext_147 ?_
      refine lv_if_le (tgt := 155) hx hb dX2_isNext_148 (by decide) (fun c_4 => ?_) (fun c_4 => ?_)
      · rw [lg_cmp_le, Int64.le_iff_toInt_le, hda, hdb] at c_4
        refine lv_iconst (v := 0) hx hb dX2_isNext_155 (by decide) ?_
        exact W.zret (v := 0) hx hb hr rfl (fun t ht hW => ⟨0, rfl, Or.inr ⟨rfl, fun z => by
            rcases z with z | z
            · exact c_2 z
            · exact absurd z.2 (Int.not_lt.mpr c_4)⟩, ht⟩) (fun q h => by cases h) dX2_isNext_156
      · rw [lg_cmp_le, Int64.le_iff_toInt_le, hda, hdb] at c_4
        refine lv_iconst (v := 1) hx hb dX2_isNext_151 (by decide) ?_
        refine lv_goto (tgt := 156) hx hb dX2_isNext_152 (by decide) ?_
        exact W.zret (v := 1) hx hb hr rfl (fun t ht hW => ⟨1, rfl, Or.inl ⟨rfl, Or.inr ⟨c_3, Int.not_le.mp c_4⟩⟩, ht⟩) (fun q h => by cases h) dX2_isNext_156
set_option maxHeartbeats 4000000 in
set_option maxRecDepth 100000 in
theorem metX2_size (l : Launch) (dC : Nat → ClassId) (dI : Nat → Nat → Nat) (dA : ClassId) (o o1 o2 o3 o4 o5 N : Nat) (xs ys px py rd : Nat → Int32) (cap pts : Int32) : Met l yX2_size (ws_ yX2_size cX2_size 1 (some .int)) ({ frames := 0, cells := 0, slots := 0, locals := 0 }) (gr_Pc (dC, dI) [.ref o] [(o, .inr (1, [.int cap, .int (nI N), .int pts, .ref o1, .ref o2, .ref o3, .ref o4, .ref o5])), (o1, .inl (dA, 66, .inl xs)), (o2, .inl (dA, 66, .inl ys)), (o3, .inl (dA, 66, .inl px)), (o4, .inl (dA, 66, .inl py)), (o5, .inl (dA, 67, .inl rd))] [(dA, .int)]) (vp_Si (fun r => r = nI N)) 0 0 (fun _ => False) := by
  refine Met.ofW (cc := cX2_size) (maxL := 1) (ret := (some .int)) (by decide) rfl ?_
  intro p e s m args below meth c s₁ B hml hv
  obtain ⟨rfl, hP, hK⟩ := hv
  have hx := B.exec
  have hb := B.bytes
  have hr := B.returns
  have hts := atoms_spec (ws := (ws_ yX2_size cX2_size 1 (some .int))) B.pre
  have hts : ∀ w ∈ lw_all, w.before _ s = true := fun w h => hts w (List.mem_cons_of_mem _ h)
  have hown : s.vm.findClass RX2 = some m.cls := findClass_of_methodNamed B.named
  have hlocks := B.notSynchronized
  have hl := lv_entry ([.ref o]) (n := 1) (Nat.le_of_ble_eq_true rfl)
  rw [lg_entry_eq]
  generalize (lg_sl ([.ref o]) ++ List.replicate (1 - (lg_sl ([.ref o])).length) Slot.unset).toArray = ls at hl ⊢
  have hl : lv_has ls 1 [(0, .ref o)] := hl
  refine lv_aload_n hx hb dX2_size_0 rfl (lv_at hl 0 rfl) ?_
  refine va_get (D := (dC, dI)) (ci := 1) (v := .int (nI N)) (C := RX2) (T := TX2) (N := 8) hx hb hts in_X2 hown hK hP 0 rfl rfl 1 (by decide) (hts _ q148) (fun _ h9 => h9) rfl dX2_size_1 ?_
  exact W.iret (v := (nI N)) hx hb hr (fun t ht hW => ⟨(nI N), rfl, rfl, ht⟩) (fun q h => by cases h) dX2_size_4
set_option maxHeartbeats 4000000 in
set_option maxRecDepth 100000 in
theorem metX2_points (l : Launch) (dC : Nat → ClassId) (dI : Nat → Nat → Nat) (dA : ClassId) (o o1 o2 o3 o4 o5 N : Nat) (xs ys px py rd : Nat → Int32) (cap pts : Int32) : Met l yX2_points (ws_ yX2_points cX2_points 1 (some .int)) ({ frames := 0, cells := 0, slots := 0, locals := 0 }) (gr_Pc (dC, dI) [.ref o] [(o, .inr (1, [.int cap, .int (nI N), .int pts, .ref o1, .ref o2, .ref o3, .ref o4, .ref o5])), (o1, .inl (dA, 66, .inl xs)), (o2, .inl (dA, 66, .inl ys)), (o3, .inl (dA, 66, .inl px)), (o4, .inl (dA, 66, .inl py)), (o5, .inl (dA, 67, .inl rd))] [(dA, .int)]) (vp_Si (fun r => r = pts)) 0 0 (fun _ => False) := by
  refine Met.ofW (cc := cX2_points) (maxL := 1) (ret := (some .int)) (by decide) rfl ?_
  intro p e s m args below meth c s₁ B hml hv
  obtain ⟨rfl, hP, hK⟩ := hv
  have hx := B.exec
  have hb := B.bytes
  have hr := B.returns
  have hts := atoms_spec (ws := (ws_ yX2_points cX2_points 1 (some .int))) B.pre
  have hts : ∀ w ∈ lw_all, w.before _ s = true := fun w h => hts w (List.mem_cons_of_mem _ h)
  have hown : s.vm.findClass RX2 = some m.cls := findClass_of_methodNamed B.named
  have hlocks := B.notSynchronized
  have hl := lv_entry ([.ref o]) (n := 1) (Nat.le_of_ble_eq_true rfl)
  rw [lg_entry_eq]
  generalize (lg_sl ([.ref o]) ++ List.replicate (1 - (lg_sl ([.ref o])).length) Slot.unset).toArray = ls at hl ⊢
  have hl : lv_has ls 1 [(0, .ref o)] := hl
  refine lv_aload_n hx hb dX2_points_0 rfl (lv_at hl 0 rfl) ?_
  refine va_get (D := (dC, dI)) (ci := 1) (v := .int pts) (C := RX2) (T := TX2) (N := 8) hx hb hts in_X2 hown hK hP 0 rfl rfl 2 (by decide) (hts _ q149) (fun _ h9 => h9) rfl dX2_points_1 ?_
  exact W.iret (v := pts) hx hb hr (fun t ht hW => ⟨pts, rfl, rfl, ht⟩) (fun q h => by cases h) dX2_points_4
set_option maxHeartbeats 4000000 in
set_option maxRecDepth 100000 in
theorem metX2_xOf (l : Launch) (dC : Nat → ClassId) (dI : Nat → Nat → Nat) (dA : ClassId) (o o1 o2 o3 o4 o5 N : Nat) (xs ys px py rd : Nat → Int32) (cap pts : Int32) (i : Int32) (hN : N ≤ 66) : Met l yX2_xOf (ws_ yX2_xOf cX2_xOf 2 (some .int)) ({ frames := 0, cells := 0, slots := 0, locals := 0 }) (gr_Pc (dC, dI) [.ref o, .int i] [(o, .inr (1, [.int cap, .int (nI N), .int pts, .ref o1, .ref o2, .ref o3, .ref o4, .ref o5])), (o1, .inl (dA, 66, .inl xs)), (o2, .inl (dA, 66, .inl ys)), (o3, .inl (dA, 66, .inl px)), (o4, .inl (dA, 66, .inl py)), (o5, .inl (dA, 67, .inl rd))] [(dA, .int)]) (vp_Si (fun r => gq_of N xs i r)) 0 0 (fun _ => False) := by
  refine Met.ofW (cc := cX2_xOf) (maxL := 2) (ret := (some .int)) (by decide) rfl ?_
  intro p e s m args below meth c s₁ B hml hv
  obtain ⟨rfl, hP, hK⟩ := hv
  have hx := B.exec
  have hb := B.bytes
  have hr := B.returns
  have hts := atoms_spec (ws := (ws_ yX2_xOf cX2_xOf 2 (some .int))) B.pre
  have hts : ∀ w ∈ lw_all, w.before _ s = true := fun w h => hts w (List.mem_cons_of_mem _ h)
  have hown : s.vm.findClass RX2 = some m.cls := findClass_of_methodNamed B.named
  have hlocks := B.notSynchronized
  have hl := lv_entry ([.ref o, .int i]) (n := 2) (Nat.le_of_ble_eq_true rfl)
  rw [lg_entry_eq]
  generalize (lg_sl ([.ref o, .int i]) ++ List.replicate (2 - (lg_sl ([.ref o, .int i])).length) Slot.unset).toArray = ls at hl ⊢
  have hl : lv_has ls 2 [(0, .ref o), (1, .int i)] := hl
  refine lv_iload_n hx hb dX2_xOf_0 rfl (lv_at hl 1 rfl) ?_
  refine lv_if_lt (tgt := 21) hx hb dX2_xOf_1 (by decide) (fun c_1 => ?_) (fun c_1 => ?_)
  · refine lv_iconst (v := 0) hx hb dX2_xOf_21 (by decide) ?_
    exact W.iret (v := 0) hx hb hr (fun t ht hW => ⟨0, rfl, ⟨fun _ => rfl, fun j hj e => absurd c_1 (by rw [e]; exact nI_pos (by omega))⟩, ht⟩) (fun q h => by cases h) dX2_xOf_22
  · refine lv_iload_n hx hb dX2_xOf_4 rfl (lv_at hl 1 rfl) ?_
    refine lv_aload_n hx hb dX2_xOf_5 rfl (lv_at hl 0 rfl) ?_
    refine va_get (D := (dC, dI)) (ci := 1) (v := .int (nI N)) (C := RX2) (T := TX2) (N := 8) hx hb hts in_X2 hown hK hP 0 rfl rfl 1 (by decide) (hts _ q148) (fun _ h9 => h9) rfl dX2_xOf_6 ?_
    refine lv_icmp_ge (tgt := 21) hx hb dX2_xOf_9 (by decide) (fun c_2 => ?_) (fun c_2 => ?_)
    · refine lv_iconst (v := 0) hx hb dX2_xOf_21 (by decide) ?_
      exact W.iret (v := 0) hx hb hr (fun t ht hW => ⟨0, rfl, ⟨fun _ => rfl, fun j hj e => absurd c_2 (by rw [e]; exact nI_ge hj (by omega))⟩, ht⟩) (fun q h => by cases h) dX2_xOf_22
    · obtain ⟨j, hj, e⟩ : ∃ j : Nat, j < N ∧ i = nI j := by
        rcases pk_ix i (n := N) (by omega) with q | q | q
        · exact absurd q c_1
        · exact absurd q c_2
        · exact q
      subst e
      refine lv_aload_n hx hb dX2_xOf_12 rfl (lv_at hl 0 rfl) ?_
      refine va_get (D := (dC, dI)) (ci := 1) (v := .ref o1) (C := RX2) (T := TX2) (N := 8) hx hb hts in_X2 hown hK hP 0 rfl rfl 3 (by decide) (hts _ q150) (fun _ h9 => h9) rfl dX2_xOf_13 ?_
      refine lv_iload_n hx hb dX2_xOf_16 rfl (lv_at hl 1 rfl) ?_
      refine gr_iald (k := j) hx hb hK hP 1 0 rfl rfl (by omega) (by decide) dX2_xOf_17 ?_
      refine lv_goto (tgt := 22) hx hb dX2_xOf_18 (by decide) ?_
      exact W.iret (v := (xs j)) hx hb hr (fun t ht hW => ⟨(xs j), rfl, ⟨fun q => by
          rcases q with q | q
          · exact absurd q c_1
          · exact absurd q c_2, fun j2 hj2 e => by
          have e3 : j = j2 := (nI_eq (by omega) (by omega)).mp e
          rw [← e3]⟩, ht⟩) (fun q h => by cases h) dX2_xOf_22
set_option maxHeartbeats 4000000 in
set_option maxRecDepth 100000 in
theorem metX2_yOf (l : Launch) (dC : Nat → ClassId) (dI : Nat → Nat → Nat) (dA : ClassId) (o o1 o2 o3 o4 o5 N : Nat) (xs ys px py rd : Nat → Int32) (cap pts : Int32) (i : Int32) (hN : N ≤ 66) : Met l yX2_yOf (ws_ yX2_yOf cX2_yOf 2 (some .int)) ({ frames := 0, cells := 0, slots := 0, locals := 0 }) (gr_Pc (dC, dI) [.ref o, .int i] [(o, .inr (1, [.int cap, .int (nI N), .int pts, .ref o1, .ref o2, .ref o3, .ref o4, .ref o5])), (o1, .inl (dA, 66, .inl xs)), (o2, .inl (dA, 66, .inl ys)), (o3, .inl (dA, 66, .inl px)), (o4, .inl (dA, 66, .inl py)), (o5, .inl (dA, 67, .inl rd))] [(dA, .int)]) (vp_Si (fun r => gq_of N ys i r)) 0 0 (fun _ => False) := by
  refine Met.ofW (cc := cX2_yOf) (maxL := 2) (ret := (some .int)) (by decide) rfl ?_
  intro p e s m args below meth c s₁ B hml hv
  obtain ⟨rfl, hP, hK⟩ := hv
  have hx := B.exec
  have hb := B.bytes
  have hr := B.returns
  have hts := atoms_spec (ws := (ws_ yX2_yOf cX2_yOf 2 (some .int))) B.pre
  have hts : ∀ w ∈ lw_all, w.before _ s = true := fun w h => hts w (List.mem_cons_of_mem _ h)
  have hown : s.vm.findClass RX2 = some m.cls := findClass_of_methodNamed B.named
  have hlocks := B.notSynchronized
  have hl := lv_entry ([.ref o, .int i]) (n := 2) (Nat.le_of_ble_eq_true rfl)
  rw [lg_entry_eq]
  generalize (lg_sl ([.ref o, .int i]) ++ List.replicate (2 - (lg_sl ([.ref o, .int i])).length) Slot.unset).toArray = ls at hl ⊢
  have hl : lv_has ls 2 [(0, .ref o), (1, .int i)] := hl
  refine lv_iload_n hx hb dX2_yOf_0 rfl (lv_at hl 1 rfl) ?_
  refine lv_if_lt (tgt := 21) hx hb dX2_yOf_1 (by decide) (fun c_1 => ?_) (fun c_1 => ?_)
  · refine lv_iconst (v := 0) hx hb dX2_yOf_21 (by decide) ?_
    exact W.iret (v := 0) hx hb hr (fun t ht hW => ⟨0, rfl, ⟨fun _ => rfl, fun j hj e => absurd c_1 (by rw [e]; exact nI_pos (by omega))⟩, ht⟩) (fun q h => by cases h) dX2_yOf_22
  · refine lv_iload_n hx hb dX2_yOf_4 rfl (lv_at hl 1 rfl) ?_
    refine lv_aload_n hx hb dX2_yOf_5 rfl (lv_at hl 0 rfl) ?_
    refine va_get (D := (dC, dI)) (ci := 1) (v := .int (nI N)) (C := RX2) (T := TX2) (N := 8) hx hb hts in_X2 hown hK hP 0 rfl rfl 1 (by decide) (hts _ q148) (fun _ h9 => h9) rfl dX2_yOf_6 ?_
    refine lv_icmp_ge (tgt := 21) hx hb dX2_yOf_9 (by decide) (fun c_2 => ?_) (fun c_2 => ?_)
    · refine lv_iconst (v := 0) hx hb dX2_yOf_21 (by decide) ?_
      exact W.iret (v := 0) hx hb hr (fun t ht hW => ⟨0, rfl, ⟨fun _ => rfl, fun j hj e => absurd c_2 (by rw [e]; exact nI_ge hj (by omega))⟩, ht⟩) (fun q h => by cases h) dX2_yOf_22
    · obtain ⟨j, hj, e⟩ : ∃ j : Nat, j < N ∧ i = nI j := by
        rcases pk_ix i (n := N) (by omega) with q | q | q
        · exact absurd q c_1
        · exact absurd q c_2
        · exact q
      subst e
      refine lv_aload_n hx hb dX2_yOf_12 rfl (lv_at hl 0 rfl) ?_
      refine va_get (D := (dC, dI)) (ci := 1) (v := .ref o2) (C := RX2) (T := TX2) (N := 8) hx hb hts in_X2 hown hK hP 0 rfl rfl 4 (by decide) (hts _ q151) (fun _ h9 => h9) rfl dX2_yOf_13 ?_
      refine lv_iload_n hx hb dX2_yOf_16 rfl (lv_at hl 1 rfl) ?_
      refine gr_iald (k := j) hx hb hK hP 2 0 rfl rfl (by omega) (by decide) dX2_yOf_17 ?_
      refine lv_goto (tgt := 22) hx hb dX2_yOf_18 (by decide) ?_
      exact W.iret (v := (ys j)) hx hb hr (fun t ht hW => ⟨(ys j), rfl, ⟨fun q => by
          rcases q with q | q
          · exact absurd q c_1
          · exact absurd q c_2, fun j2 hj2 e => by
          have e3 : j = j2 := (nI_eq (by omega) (by omega)).mp e
          rw [← e3]⟩, ht⟩) (fun q h => by cases h) dX2_yOf_22
end
section
/-! ===== OnlineHullModel: the questions over all corners ===== -/
set_option maxHeartbeats 4000000 in
set_option maxRecDepth 100000 in
theorem metX2_twiceArea (l : Launch) (dC : Nat → ClassId) (dI : Nat → Nat → Nat) (dA : ClassId) (o o1 o2 o3 o4 o5 N : Nat) (xs ys px py rd : Nat → Int32) (cap pts : Int32) (V : Nat → Int × Int) (hN : N ≤ 66) (hV : ∀ i, i < N → gp xs ys i = V i) (hok : ∀ i, i < N → gh_ok (V i)) : Met l yX2_twiceArea (ws_ yX2_twiceArea cX2_twiceArea 4 (some .int)) ({ frames := 1, cells := 0, slots := 0, locals := 31 }) (gr_Pc (dC, dI) [.ref o] [(o, .inr (1, [.int cap, .int (nI N), .int pts, .ref o1, .ref o2, .ref o3, .ref o4, .ref o5])), (o1, .inl (dA, 66, .inl xs)), (o2, .inl (dA, 66, .inl ys)), (o3, .inl (dA, 66, .inl px)), (o4, .inl (dA, 66, .inl py)), (o5, .inl (dA, 67, .inl rd))] [(dA, .int)]) (vp_Si (fun r => r = (Int64.ofInt (gq_area V (N - 2))).toInt32)) 0 0 (fun _ => False) := by
  refine Met.ofW (cc := cX2_twiceArea) (maxL := 4) (ret := (some .int)) (by decide) rfl ?_
  intro p e s m args below meth c s₁ B hml hv
  obtain ⟨rfl, hP, hK⟩ := hv
  have hx := B.exec
  have hb := B.bytes
  have hr := B.returns
  have hts := atoms_spec (ws := (ws_ yX2_twiceArea cX2_twiceArea 4 (some .int))) B.pre
  have hts : ∀ w ∈ lw_all, w.before _ s = true := fun w h => hts w (List.mem_cons_of_mem _ h)
  have hown : s.vm.findClass RX2 = some m.cls := findClass_of_methodNamed B.named
  have hlocks := B.notSynchronized
  have hl := lv_entry ([.ref o]) (n := 4) (Nat.le_of_ble_eq_true rfl)
  rw [lg_entry_eq]
  generalize (lg_sl ([.ref o]) ++ List.replicate (4 - (lg_sl ([.ref o])).length) Slot.unset).toArray = ls at hl ⊢
  have hl : lv_has ls 4 [(0, .ref o)] := hl
  have loop : ∀ (d k : Nat), N < k + d → (k = 0 ∨ k + 2 ≤ N) → ∀ (ls : Array Slot), lv_has ls 4 [(0, .ref o), (1, .long (Int64.ofInt (gq_area V k))), (3, .int (nI (k + 1)))] → W p l e (headSpec (ws_ yX2_twiceArea cX2_twiceArea 4 (some .int)) ({ frames := 1, cells := 0, slots := 0, locals := 31 })).room s m ([.ref o] : List Value).toArray below meth c s.heap [] 0 0 (MQ below (vp_Si (fun r => r = (Int64.ofInt (gq_area V (N - 2))).toInt32)) ([.ref o] : List Value).toArray s 0 0 (fun _ => False)) (F0 m 4 ls []) := by
    intro d
    induction d with
    | zero => intro k h1 h2; omega
    | succ d ih =>
      intro k hd hk ls hl
      refine lv_iload_n hx hb dX2_twiceArea_4 rfl (lv_at hl 2 rfl) ?_
      refine lv_iconst (v := 1) hx hb dX2_twiceArea_5 (by decide) ?_
      refine lv_iadd hx hb dX2_twiceArea_6 ?_
      refine gr_topi (y := nI (k + 2)) (nI_1 (k + 1)) ?_
      refine lv_aload_n hx hb dX2_twiceArea_7 rfl (lv_at hl 0 rfl) ?_
      refine va_get (D := (dC, dI)) (ci := 1) (v := .int (nI N)) (C := RX2) (T := TX2) (N := 8) hx hb hts in_X2 hown hK hP 0 rfl rfl 1 (by decide) (hts _ q148) (fun _ h9 => h9) rfl dX2_twiceArea_8 ?_
      refine lv_icmp_ge (tgt := 72) hx hb dX2_twiceArea_11 (by decide) (fun c_1 => ?_) (fun c_1 => ?_)
      · have c1 := (nI_leI (by omega) (by omega)).mp c_1
        refine lv_lload_n hx hb dX2_twiceArea_72 rfl (lv_at hl 1 rfl) ?_
        refine lv_l2i hx hb dX2_twiceArea_73 rfl ?_
        exact W.iret (v := (Int64.ofInt (gq_area V k)).toInt32) hx hb hr (fun t ht hW => ⟨(Int64.ofInt (gq_area V k)).toInt32, rfl, by rw [show N - 2 = k by omega], ht⟩) (fun q h => by cases h) dX2_twiceArea_74
      · have c1 : k + 2 < N := Nat.not_le.mp (fun z => c_1 ((nI_leI (by omega) (by omega)).mpr z))
        refine lv_lload_n hx hb dX2_twiceArea_14 rfl (lv_at hl 1 rfl) ?_
        refine lv_aload_n hx hb dX2_twiceArea_15 rfl (lv_at hl 0 rfl) ?_
        refine va_get (D := (dC, dI)) (ci := 1) (v := .ref o1) (C := RX2) (T := TX2) (N := 8) hx hb hts in_X2 hown hK hP 0 rfl rfl 3 (by decide) (hts _ q150) (fun _ h9 => h9) rfl dX2_twiceArea_16 ?_
        refine lv_iconst (v := 0) hx hb dX2_twiceArea_19 (by decide) ?_
        refine gr_topi (y := nI 0) (nI_0.symm) ?_
        refine gr_iald (k := 0) hx hb hK hP 1 0 rfl rfl (by omega) (by decide) dX2_twiceArea_20 ?_
        refine lv_i2l hx hb dX2_twiceArea_21 rfl ?_
        refine lv_aload_n hx hb dX2_twiceArea_22 rfl (lv_at hl 0 rfl) ?_
        refine va_get (D := (dC, dI)) (ci := 1) (v := .ref o2) (C := RX2) (T := TX2) (N := 8) hx hb hts in_X2 hown hK hP 0 rfl rfl 4 (by decide) (hts _ q151) (fun _ h9 => h9) rfl dX2_twiceArea_23 ?_
        refine lv_iconst (v := 0) hx hb dX2_twiceArea_26 (by decide) ?_
        refine gr_topi (y := nI 0) (nI_0.symm) ?_
        refine gr_iald (k := 0) hx hb hK hP 2 0 rfl rfl (by omega) (by decide) dX2_twiceArea_27 ?_
        refine lv_i2l hx hb dX2_twiceArea_28 rfl ?_
        refine lv_aload_n hx hb dX2_twiceArea_29 rfl (lv_at hl 0 rfl) ?_
        refine va_get (D := (dC, dI)) (ci := 1) (v := .ref o1) (C := RX2) (T := TX2) (N := 8) hx hb hts in_X2 hown hK hP 0 rfl rfl 3 (by decide) (hts _ q150) (fun _ h9 => h9) rfl dX2_twiceArea_30 ?_
        refine lv_iload_n hx hb dX2_twiceArea_33 rfl (lv_at hl 2 rfl) ?_
        refine gr_iald (k := k + 1) hx hb hK hP 1 0 rfl rfl (by omega) (by decide) dX2_twiceArea_34 ?_
        refine lv_i2l hx hb dX2_twiceArea_35 rfl ?_
        refine lv_aload_n hx hb dX2_twiceArea_36 rfl (lv_at hl 0 rfl) ?_
        refine va_get (D := (dC, dI)) (ci := 1) (v := .ref o2) (C := RX2) (T := TX2) (N := 8) hx hb hts in_X2 hown hK hP 0 rfl rfl 4 (by decide) (hts _ q151) (fun _ h9 => h9) rfl dX2_twiceArea_37 ?_
        refine lv_iload_n hx hb dX2_twiceArea_40 rfl (lv_at hl 2 rfl) ?_
        refine gr_iald (k := k + 1) hx hb hK hP 2 0 rfl rfl (by omega) (by decide) dX2_twiceArea_41 ?_
        refine lv_i2l hx hb dX2_twiceArea_42 rfl ?_
        refine lv_aload_n hx hb dX2_twiceArea_43 rfl (lv_at hl 0 rfl) ?_
        refine va_get (D := (dC, dI)) (ci := 1) (v := .ref o1) (C := RX2) (T := TX2) (N := 8) hx hb hts in_X2 hown hK hP 0 rfl rfl 3 (by decide) (hts _ q150) (fun _ h9 => h9) rfl dX2_twiceArea_44 ?_
        refine lv_iload_n hx hb dX2_twiceArea_47 rfl (lv_at hl 2 rfl) ?_
        refine lv_iconst (v := 1) hx hb dX2_twiceArea_48 (by decide) ?_
        refine lv_iadd hx hb dX2_twiceArea_49 ?_
        refine gr_topi (y := nI (k + 2)) (nI_1 (k + 1)) ?_
        refine gr_iald (k := k + 2) hx hb hK hP 1 0 rfl rfl (by omega) (by decide) dX2_twiceArea_50 ?_
        refine lv_i2l hx hb dX2_twiceArea_51 rfl ?_
        refine lv_aload_n hx hb dX2_twiceArea_52 rfl (lv_at hl 0 rfl) ?_
        refine va_get (D := (dC, dI)) (ci := 1) (v := .ref o2) (C := RX2) (T := TX2) (N := 8) hx hb hts in_X2 hown hK hP 0 rfl rfl 4 (by decide) (hts _ q151) (fun _ h9 => h9) rfl dX2_twiceArea_53 ?_
        refine lv_iload_n hx hb dX2_twiceArea_56 rfl (lv_at hl 2 rfl) ?_
        refine lv_iconst (v := 1) hx hb dX2_twiceArea_57 (by decide) ?_
        refine lv_iadd hx hb dX2_twiceArea_58 ?_
        refine gr_topi (y := nI (k + 2)) (nI_1 (k + 1)) ?_
        refine gr_iald (k := k + 2) hx hb hK hP 2 0 rfl rfl (by omega) (by decide) dX2_twiceArea_59 ?_
        refine lv_i2l hx hb dX2_twiceArea_60 rfl ?_
        refine vp_callSl (va_Run.run (va_runS (As := [.long (xs 0).toInt64, .long (ys 0).toInt64, .long (xs (k + 1)).toInt64, .long (ys (k + 1)).toInt64, .long (xs (k + 2)).toInt64, .long (ys (k + 2)).toInt64]) (rest := [.long (Int64.ofInt (gq_area V k))]) ⟨hx, hb, hml, hown, hts⟩ (metX2_turn l dC dI dA (xs 0).toInt64 (ys 0).toInt64 (xs (k + 1)).toInt64 (ys (k + 1)).toInt64 (xs (k + 2)).toInt64 (ys (k + 2)).toInt64) (va_cwS 6 hts (lw_S q179 q180 q12 q181) rfl rfl rfl (by decide +kernel) ⟨Nat.le_of_ble_eq_true rfl, Nat.le_of_ble_eq_true rfl⟩) (gr_preS (hP.sub (ws' := []) [] rfl) (hK.sub (tys' := []) [] rfl)) rfl rfl hl.1 rfl (lv_room (Nat.le_of_ble_eq_true rfl)) dX2_twiceArea_61 ⟨Nat.zero_le _, Nat.zero_le _⟩)) (fun tt htt => ?_)
        have htt : tt = gt_turnL (xs 0).toInt64 (ys 0).toInt64 (xs (k + 1)).toInt64 (ys (k + 1)).toInt64 (xs (k + 2)).toInt64 (ys (k + 2)).toInt64 := htt
        have hto : tt.toInt = gh_T (V 0) (V (k + 1)) (V (k + 2)) := by
          rw [htt, ← hV 0 (by omega), ← hV (k + 1) (by omega), ← hV (k + 2) c1]
          exact gt_turnL_ok (by rw [← gp_eq, hV 0 (by omega)]; exact hok 0 (by omega)) (by rw [← gp_eq, hV (k + 1) (by omega)]; exact hok (k + 1) (by omega)) (by rw [← gp_eq, hV (k + 2) c1]; exact hok (k + 2) c1)
        refine lv_ladd hx hb dX2_twiceArea_64 ?_
        refine gr_topl (y := Int64.ofInt (gq_area V (k + 1))) (by rw [gi_of tt hto, ← Int64.ofInt_add]; rfl) ?_
        refine lv_lstore_n (lv' := [(1, .long (Int64.ofInt (gq_area V (k + 1)))), (0, .ref o), (3, .int (nI (k + 1)))]) hx hb dX2_twiceArea_65 rfl hl (by decide) rfl (fun ls hl => ?_)
        refine lv_iinc (v := nI (k + 1 + 1)) (lv' := [(3, .int (nI (k + 1 + 1))), (1, .long (Int64.ofInt (gq_area V (k + 1)))), (0, .ref o)]) hx hb dX2_twiceArea_66 hl (k := 2) rfl (nI_1 (k + 1)) (by decide) rfl (fun ls hl => ?_)
        refine lv_goto (tgt := 4) hx hb dX2_twiceArea_69 (by decide) ?_
        exact ih (k + 1) (by omega) (by omega) ls (lv_sub hl [2, 1, 0] rfl)
  refine lv_lconst (v := 0) hx hb dX2_twiceArea_0 (by decide) ?_
  refine lv_lstore_n (lv' := [(1, .long 0), (0, .ref o)]) hx hb dX2_twiceArea_1 rfl hl (by decide) rfl (fun ls hl => ?_)
  refine lv_iconst (v := 1) hx hb dX2_twiceArea_2 (by decide) ?_
  refine lv_istore_n (lv' := [(3, .int 1), (1, .long 0), (0, .ref o)]) hx hb dX2_twiceArea_3 rfl hl (by decide) rfl (fun ls hl => ?_)
  exact loop (N + 1) 0 (by omega) (Or.inl rfl) ls (lv_sub hl [2, 1, 0] rfl)
set_option maxHeartbeats 4000000 in
set_option maxRecDepth 100000 in
theorem metX2_farthest (l : Launch) (dC : Nat → ClassId) (dI : Nat → Nat → Nat) (dA : ClassId) (o o1 o2 o3 o4 o5 N : Nat) (xs ys px py rd : Nat → Int32) (cap pts : Int32) (V : Nat → Int × Int) (hN : N ≤ 66) (hV : ∀ i, i < N → gp xs ys i = V i) (hok : ∀ i, i < N → gh_ok (V i)) (x y : Int32) : Met l yX2_farthest (ws_ yX2_farthest cX2_farthest 5 (some .int)) ({ frames := 1, cells := 0, slots := 0, locals := 21 }) (gr_Pc (dC, dI) [.ref o, .int x, .int y] [(o, .inr (1, [.int cap, .int (nI N), .int pts, .ref o1, .ref o2, .ref o3, .ref o4, .ref o5])), (o1, .inl (dA, 66, .inl xs)), (o2, .inl (dA, 66, .inl ys)), (o3, .inl (dA, 66, .inl px)), (o4, .inl (dA, 66, .inl py)), (o5, .inl (dA, 67, .inl rd))] [(dA, .int)]) (vp_Si (fun r => gq_far N V (g2 x y) r)) 0 0 (fun _ => False) := by
  refine Met.ofW (cc := cX2_farthest) (maxL := 5) (ret := (some .int)) (by decide) rfl ?_
  intro p e s m args below meth c s₁ B hml hv
  obtain ⟨rfl, hP, hK⟩ := hv
  have hx := B.exec
  have hb := B.bytes
  have hr := B.returns
  have hts := atoms_spec (ws := (ws_ yX2_farthest cX2_farthest 5 (some .int))) B.pre
  have hts : ∀ w ∈ lw_all, w.before _ s = true := fun w h => hts w (List.mem_cons_of_mem _ h)
  have hown : s.vm.findClass RX2 = some m.cls := findClass_of_methodNamed B.named
  have hlocks := B.notSynchronized
  have hl := lv_entry ([.ref o, .int x, .int y]) (n := 5) (Nat.le_of_ble_eq_true rfl)
  rw [lg_entry_eq]
  generalize (lg_sl ([.ref o, .int x, .int y]) ++ List.replicate (5 - (lg_sl ([.ref o, .int x, .int y])).length) Slot.unset).toArray = ls at hl ⊢
  have hl : lv_has ls 5 [(0, .ref o), (1, .int x), (2, .int y)] := hl
  refine lv_aload_n hx hb dX2_farthest_0 rfl (lv_at hl 0 rfl) ?_
  refine va_get (D := (dC, dI)) (ci := 1) (v := .int (nI N)) (C := RX2) (T := TX2) (N := 8) hx hb hts in_X2 hown hK hP 0 rfl rfl 1 (by decide) (hts _ q148) (fun _ h9 => h9) rfl dX2_farthest_1 ?_
  refine lv_if_eq (tgt := 15) hx hb dX2_farthest_4 (by decide) (fun c_1 => ?_) (fun c_1 => ?_)
  · have c1 : N = 0 := (nI_eq (by omega) (by omega)).mp c_1
    refine lv_iconst (v := (-1)) hx hb dX2_farthest_15 (by decide) ?_
    exact W.iret (v := (-1)) hx hb hr (fun t ht hW => ⟨(-1), rfl, ⟨fun _ => rfl, fun z1 z2 => False.elim (by omega)⟩, ht⟩) (fun q h => by cases h) dX2_farthest_16
  · have c1 : N ≠ 0 := fun z => c_1 (by rw [z]; rfl)
    refine lv_iload_n hx hb dX2_farthest_7 rfl (lv_at hl 1 rfl) ?_
    refine lv_iload_n hx hb dX2_farthest_8 rfl (lv_at hl 2 rfl) ?_
    refine vp_callSi (va_Run.run (va_runS (As := [.int x, .int y]) (rest := []) ⟨hx, hb, hml, hown, hts⟩ (metX2_inRange l dC dI dA x y) (va_cwS 2 hts (lw_S q176 q177 q12 q178) rfl rfl rfl (by decide +kernel) ⟨Nat.le_of_ble_eq_true rfl, Nat.le_of_ble_eq_true rfl⟩) (gr_preS (hP.sub (ws' := []) [] rfl) (hK.sub (tys' := []) [] rfl)) rfl rfl hl.1 rfl (lv_room (Nat.le_of_ble_eq_true rfl)) dX2_farthest_9 ⟨Nat.zero_le _, Nat.zero_le _⟩)) (fun zp hzp => ?_)
    refine lv_if_ne (tgt := 17) hx hb dX2_farthest_12 (by decide) (fun c_3 => ?_) (fun c_3 => ?_)
    · have hp : gh_ok (g2 x y) := gk_b.pos hzp c_3
      have hval : ∀ i, i < N → (xs i * x + ys i * y).toInt = gq_val V (g2 x y) i := fun i hi => by
        rw [gi_val32 hp (by rw [← gp_eq, hV i hi]; exact hok i hi)]
        unfold gq_val
        rw [← hV i hi]
        rfl
      have loop : ∀ (d k b : Nat), N < k + d → k ≤ N → b < k → (∀ j, j < k → gq_val V (g2 x y) j ≤ gq_val V (g2 x y) b) → (∀ j, j < b → gq_val V (g2 x y) j < gq_val V (g2 x y) b) → ∀ (ls : Array Slot), lv_has ls 5 [(0, .ref o), (1, .int x), (2, .int y), (3, .int (nI b)), (4, .int (nI k))] → W p l e (headSpec (ws_ yX2_farthest cX2_farthest 5 (some .int)) ({ frames := 1, cells := 0, slots := 0, locals := 21 })).room s m ([.ref o, .int x, .int y] : List Value).toArray below meth c s.heap [] 0 0 (MQ below (vp_Si (fun r => gq_far N V (g2 x y) r)) ([.ref o, .int x, .int y] : List Value).toArray s 0 0 (fun _ => False)) (F0 m 22 ls []) := by
        intro d
        induction d with
        | zero => intro k b h1 h2; omega
        | succ d ih =>
          intro k b hd hk hb_ hle hlt ls hl
          refine lv_iload hx hb dX2_farthest_22 (lv_at hl 4 rfl) ?_
          refine lv_aload_n hx hb dX2_farthest_24 rfl (lv_at hl 0 rfl) ?_
          refine va_get (D := (dC, dI)) (ci := 1) (v := .int (nI N)) (C := RX2) (T := TX2) (N := 8) hx hb hts in_X2 hown hK hP 0 rfl rfl 1 (by decide) (hts _ q148) (fun _ h9 => h9) rfl dX2_farthest_25 ?_
          refine lv_icmp_ge (tgt := 83) hx hb dX2_farthest_28 (by decide) (fun c_4 => ?_) (fun c_4 => ?_)
          · have c2 := (nI_leI (by omega) (by omega)).mp c_4
            have c3 : k = N := by omega
            subst c3
            refine lv_iload_n hx hb dX2_farthest_83 rfl (lv_at hl 3 rfl) ?_
            exact W.iret (v := (nI b)) hx hb hr (fun t ht hW => ⟨(nI b), rfl, ⟨fun z => absurd ⟨hp, by omega⟩ z, fun _ _ => ⟨b, hb_, rfl, hle, hlt⟩⟩, ht⟩) (fun q h => by cases h) dX2_farthest_84
          · have c2 : k < N := Nat.not_le.mp (fun z => c_4 ((nI_leI (by omega) (by omega)).mpr z))
            have v1 := hval k c2
            have v2 := hval b (by omega)
            refine lv_aload_n hx hb dX2_farthest_31 rfl (lv_at hl 0 rfl) ?_
            refine va_get (D := (dC, dI)) (ci := 1) (v := .ref o1) (C := RX2) (T := TX2) (N := 8) hx hb hts in_X2 hown hK hP 0 rfl rfl 3 (by decide) (hts _ q150) (fun _ h9 => h9) rfl dX2_farthest_32 ?_
            refine lv_iload hx hb dX2_farthest_35 (lv_at hl 4 rfl) ?_
            refine gr_iald (k := k) hx hb hK hP 1 0 rfl rfl (by omega) (by decide) dX2_farthest_37 ?_
            refine lv_iload_n hx hb dX2_farthest_38 rfl (lv_at hl 1 rfl) ?_
            refine lv_imul hx hb dX2_farthest_39 ?_
            refine lv_aload_n hx hb dX2_farthest_40 rfl (lv_at hl 0 rfl) ?_
            refine va_get (D := (dC, dI)) (ci := 1) (v := .ref o2) (C := RX2) (T := TX2) (N := 8) hx hb hts in_X2 hown hK hP 0 rfl rfl 4 (by decide) (hts _ q151) (fun _ h9 => h9) rfl dX2_farthest_41 ?_
            refine lv_iload hx hb dX2_farthest_44 (lv_at hl 4 rfl) ?_
            refine gr_iald (k := k) hx hb hK hP 2 0 rfl rfl (by omega) (by decide) dX2_farthest_46 ?_
            refine lv_iload_n hx hb dX2_farthest_47 rfl (lv_at hl 2 rfl) ?_
            refine lv_imul hx hb dX2_farthest_48 ?_
            refine lv_iadd hx hb dX2_farthest_49 ?_
            refine lv_aload_n hx hb dX2_farthest_50 rfl (lv_at hl 0 rfl) ?_
            refine va_get (D := (dC, dI)) (ci := 1) (v := .ref o1) (C := RX2) (T := TX2) (N := 8) hx hb hts in_X2 hown hK hP 0 rfl rfl 3 (by decide) (hts _ q150) (fun _ h9 => h9) rfl dX2_farthest_51 ?_
            refine lv_iload_n hx hb dX2_farthest_54 rfl (lv_at hl 3 rfl) ?_
            refine gr_iald (k := b) hx hb hK hP 1 0 rfl rfl (by omega) (by decide) dX2_farthest_55 ?_
            refine lv_iload_n hx hb dX2_farthest_56 rfl (lv_at hl 1 rfl) ?_
            refine lv_imul hx hb dX2_farthest_57 ?_
            refine lv_aload_n hx hb dX2_farthest_58 rfl (lv_at hl 0 rfl) ?_
            refine va_get (D := (dC, dI)) (ci := 1) (v := .ref o2) (C := RX2) (T := TX2) (N := 8) hx hb hts in_X2 hown hK hP 0 rfl rfl 4 (by decide) (hts _ q151) (fun _ h9 => h9) rfl dX2_farthest_59 ?_
            refine lv_iload_n hx hb dX2_farthest_62 rfl (lv_at hl 3 rfl) ?_
            refine gr_iald (k := b) hx hb hK hP 2 0 rfl rfl (by omega) (by decide) dX2_farthest_63 ?_
            refine lv_iload_n hx hb dX2_farthest_64 rfl (lv_at hl 2 rfl) ?_
            refine lv_imul hx hb dX2_farthest_65 ?_
            refine lv_iadd hx hb dX2_farthest_66 ?_
            refine lv_icmp_le (tgt := 75) hx hb dX2_farthest_67 (by decide) (fun c_5 => ?_) (fun c_5 => ?_)
            · rw [Int32.le_iff_toInt_le, v1, v2] at c_5
              refine lv_iload_n hx hb dX2_farthest_75 rfl (lv_at hl 3 rfl) ?_
              refine lv_istore_n (lv' := [(3, .int (nI b)), (0, .ref o), (1, .int x), (2, .int y), (4, .int (nI k))]) hx hb dX2_farthest_76 rfl hl (by decide) rfl (fun ls hl => ?_)
              refine lv_iinc (v := nI (k + 1)) (lv' := [(4, .int (nI (k + 1))), (3, .int (nI b)), (0, .ref o), (1, .int x), (2, .int y)]) hx hb dX2_farthest_77 hl (k := 4) rfl (nI_1 k) (by decide) rfl (fun ls hl => ?_)
              refine lv_goto (tgt := 22) hx hb dX2_farthest_80 (by decide) ?_
              exact ih (k + 1) b (by omega) (by omega) (by omega) (fun j hj => by
                by_cases e : j = k
                · rw [e]; exact c_5
                · exact hle j (by omega)) hlt ls (lv_sub hl [2, 3, 4, 1, 0] rfl)
            · rw [Int32.le_iff_toInt_le, v1, v2] at c_5
              refine lv_iload hx hb dX2_farthest_70 (lv_at hl 4 rfl) ?_
              refine lv_goto (tgt := 76) hx hb dX2_farthest_72 (by decide) ?_
              refine lv_istore_n (lv' := [(3, .int (nI k)), (0, .ref o), (1, .int x), (2, .int y), (4, .int (nI k))]) hx hb dX2_farthest_76 rfl hl (by decide) rfl (fun ls hl => ?_)
              refine lv_iinc (v := nI (k + 1)) (lv' := [(4, .int (nI (k + 1))), (3, .int (nI k)), (0, .ref o), (1, .int x), (2, .int y)]) hx hb dX2_farthest_77 hl (k := 4) rfl (nI_1 k) (by decide) rfl (fun ls hl => ?_)
              refine lv_goto (tgt := 22) hx hb dX2_farthest_80 (by decide) ?_
              exact ih (k + 1) k (by omega) (by omega) (by omega) (fun j hj => by
                by_cases e : j = k
                · rw [e]; exact Int.le_refl _
                · have := hle j (by omega)
                  omega) (fun j hj => by
                have := hle j hj
                omega) ls (lv_sub hl [2, 3, 4, 1, 0] rfl)
      refine lv_iconst (v := 0) hx hb dX2_farthest_17 (by decide) ?_
      refine gr_topi (y := nI 0) (nI_0.symm) ?_
      refine lv_istore_n (lv' := [(3, .int (nI 0)), (0, .ref o), (1, .int x), (2, .int y)]) hx hb dX2_farthest_18 rfl hl (by decide) rfl (fun ls hl => ?_)
      refine lv_iconst (v := 1) hx hb dX2_farthest_19 (by decide) ?_
      refine gr_topi (y := nI 1) (rfl) ?_
      refine lv_istore (lv' := [(4, .int (nI 1)), (3, .int (nI 0)), (0, .ref o), (1, .int x), (2, .int y)]) hx hb dX2_farthest_20 hl (by decide) rfl (fun ls hl => ?_)
      exact loop (N + 1) 1 0 (by omega) (by omega) (by omega) (fun j hj => by
        have e : j = 0 := by omega
        rw [e]; exact Int.le_refl _) (fun j hj => by omega) ls (lv_sub hl [2, 3, 4, 1, 0] rfl)
    · refine lv_iconst (v := (-1)) hx hb dX2_farthest_15 (by decide) ?_
      exact W.iret (v := (-1)) hx hb hr (fun t ht hW => ⟨(-1), rfl, ⟨fun _ => rfl, fun z1 z2 => False.elim (gk_b.neg hzp c_3 z1)⟩, ht⟩) (fun q h => by cases h) dX2_farthest_16
set_option maxHeartbeats 4000000 in
set_option maxRecDepth 100000 in
theorem metX2_tangent (l : Launch) (dC : Nat → ClassId) (dI : Nat → Nat → Nat) (dA : ClassId) (o o1 o2 o3 o4 o5 N : Nat) (xs ys px py rd : Nat → Int32) (cap pts : Int32) (nl nu : Nat) (L U : Nat → Int × Int) (hH : gh_H nl L nu U) (hNN : N = gh_N nl nu) (hN : N ≤ 66) (hV : ∀ i, i < N → gp xs ys i = gh_V nl L nu U i) (x y wh : Int32) : Met l yX2_tangent (ws_ yX2_tangent cX2_tangent 10 (some .int)) ({ frames := 3, cells := 0, slots := 0, locals := 81 }) (gr_Pc (dC, dI) [.ref o, .int x, .int y, .int wh] [(o, .inr (1, [.int cap, .int (nI N), .int pts, .ref o1, .ref o2, .ref o3, .ref o4, .ref o5])), (o1, .inl (dA, 66, .inl xs)), (o2, .inl (dA, 66, .inl ys)), (o3, .inl (dA, 66, .inl px)), (o4, .inl (dA, 66, .inl py)), (o5, .inl (dA, 67, .inl rd))] [(dA, .int)]) (vp_Si (fun r => gq_tan N (gh_V nl L nu U) (g2 x y) wh (gh_ok (g2 x y) ∧ gh_A 1 nl L (g2 x y) ∧ gh_A (-1) nu U (g2 x y)) r)) 0 0 (fun _ => False) := by
  refine Met.ofW (cc := cX2_tangent) (maxL := 10) (ret := (some .int)) (by decide) rfl ?_
  intro p e s m args below meth c s₁ B hml hv
  obtain ⟨rfl, hP, hK⟩ := hv
  have hx := B.exec
  have hb := B.bytes
  have hr := B.returns
  have hts := atoms_spec (ws := (ws_ yX2_tangent cX2_tangent 10 (some .int))) B.pre
  have hts : ∀ w ∈ lw_all, w.before _ s = true := fun w h => hts w (List.mem_cons_of_mem _ h)
  have hown : s.vm.findClass RX2 = some m.cls := findClass_of_methodNamed B.named
  have hlocks := B.notSynchronized
  have hl := lv_entry ([.ref o, .int x, .int y, .int wh]) (n := 10) (Nat.le_of_ble_eq_true rfl)
  rw [lg_entry_eq]
  generalize (lg_sl ([.ref o, .int x, .int y, .int wh]) ++ List.replicate (10 - (lg_sl ([.ref o, .int x, .int y, .int wh])).length) Slot.unset).toArray = ls at hl ⊢
  have hl : lv_has ls 10 [(0, .ref o), (1, .int x), (2, .int y), (3, .int wh)] := hl
  have hok : ∀ i, i < N → gh_ok (gh_V nl L nu U i) := fun i hi => hH.vok (by omega)
  refine lv_aload_n hx hb dX2_tangent_0 rfl (lv_at hl 0 rfl) ?_
  refine va_get (D := (dC, dI)) (ci := 1) (v := .int (nI N)) (C := RX2) (T := TX2) (N := 8) hx hb hts in_X2 hown hK hP 0 rfl rfl 1 (by decide) (hts _ q148) (fun _ h9 => h9) rfl dX2_tangent_1 ?_
  refine lv_iconst (v := 3) hx hb dX2_tangent_4 (by decide) ?_
  refine lv_icmp_lt (tgt := 34) hx hb dX2_tangent_5 (by decide) (fun c_1 => ?_) (fun c_1 => ?_)
  · have c3 : N < 3 := (nI_ltI (b := 3) (by omega) (by omega)).mp c_1
    refine lv_iconst (v := (-1)) hx hb dX2_tangent_34 (by decide) ?_
    exact W.iret (v := (-1)) hx hb hr (fun t ht hW => ⟨(-1), rfl, ⟨fun _ => rfl, fun g1 g2_ g3 g4 g5 => False.elim (by omega)⟩, ht⟩) (fun q h => by cases h) dX2_tangent_35
  · have c0 : 3 ≤ N := Nat.not_lt.mp (fun z => c_1 ((nI_ltI (b := 3) (by omega) (by omega)).mpr z))
    refine lv_iload_n hx hb dX2_tangent_8 rfl (lv_at hl 3 rfl) ?_
    refine lv_if_lt (tgt := 34) hx hb dX2_tangent_9 (by decide) (fun c_2 => ?_) (fun c_2 => ?_)
    · refine lv_iconst (v := (-1)) hx hb dX2_tangent_34 (by decide) ?_
      exact W.iret (v := (-1)) hx hb hr (fun t ht hW => ⟨(-1), rfl, ⟨fun _ => rfl, fun g1 g2_ g3 g4 g5 => False.elim (g1 c_2)⟩, ht⟩) (fun q h => by cases h) dX2_tangent_35
    · refine lv_iload_n hx hb dX2_tangent_12 rfl (lv_at hl 3 rfl) ?_
      refine lv_iconst (v := 1) hx hb dX2_tangent_13 (by decide) ?_
      refine lv_icmp_gt (tgt := 34) hx hb dX2_tangent_14 (by decide) (fun c_3 => ?_) (fun c_3 => ?_)
      · refine lv_iconst (v := (-1)) hx hb dX2_tangent_34 (by decide) ?_
        exact W.iret (v := (-1)) hx hb hr (fun t ht hW => ⟨(-1), rfl, ⟨fun _ => rfl, fun g1 g2_ g3 g4 g5 => False.elim (g2_ c_3)⟩, ht⟩) (fun q h => by cases h) dX2_tangent_35
      · refine lv_iload_n hx hb dX2_tangent_17 rfl (lv_at hl 1 rfl) ?_
        refine lv_iload_n hx hb dX2_tangent_18 rfl (lv_at hl 2 rfl) ?_
        refine vp_callSi (va_Run.run (va_runS (As := [.int x, .int y]) (rest := []) ⟨hx, hb, hml, hown, hts⟩ (metX2_inRange l dC dI dA x y) (va_cwS 2 hts (lw_S q176 q177 q12 q178) rfl rfl rfl (by decide +kernel) ⟨Nat.le_of_ble_eq_true rfl, Nat.le_of_ble_eq_true rfl⟩) (gr_preS (hP.sub (ws' := []) [] rfl) (hK.sub (tys' := []) [] rfl)) rfl rfl hl.1 rfl (lv_room (Nat.le_of_ble_eq_true rfl)) dX2_tangent_19 ⟨Nat.zero_le _, Nat.zero_le _⟩)) (fun zp hzp => ?_)
        refine lv_if_eq (tgt := 34) hx hb dX2_tangent_22 (by decide) (fun c_5 => ?_) (fun c_5 => ?_)
        · refine lv_iconst (v := (-1)) hx hb dX2_tangent_34 (by decide) ?_
          exact W.iret (v := (-1)) hx hb hr (fun t ht hW => ⟨(-1), rfl, ⟨fun _ => rfl, fun g1 g2_ g3 g4 g5 => False.elim (gk_b.neg hzp c_5 g4)⟩, ht⟩) (fun q h => by cases h) dX2_tangent_35
        · have hp : gh_ok (g2 x y) := gk_b.pos hzp c_5
          refine lv_aload_n hx hb dX2_tangent_25 rfl (lv_at hl 0 rfl) ?_
          refine lv_iload_n hx hb dX2_tangent_26 rfl (lv_at hl 1 rfl) ?_
          refine lv_iload_n hx hb dX2_tangent_27 rfl (lv_at hl 2 rfl) ?_
          refine vp_callSi (va_Run.run (va_runV (As := [.int x, .int y]) (rest := []) ⟨hx, hb, hml, hown, hts⟩ (metX2_inside l dC dI dA o o1 o2 o3 o4 o5 N xs ys px py rd cap pts nl nu L U hH hNN hN hV x y) (cwV 2 hts (lw_V q193 q173 q174 q12 q175) rfl rfl rfl (by decide +kernel) ⟨Nat.le_of_ble_eq_true rfl, Nat.le_of_ble_eq_true rfl⟩) (gr_preV hK hP (ci := 1) (q0 := 0) rfl rfl (hP.sub (ws' := [(o, .inr (1, [.int cap, .int (nI N), .int pts, .ref o1, .ref o2, .ref o3, .ref o4, .ref o5])), (o1, .inl (dA, 66, .inl xs)), (o2, .inl (dA, 66, .inl ys)), (o3, .inl (dA, 66, .inl px)), (o4, .inl (dA, 66, .inl py)), (o5, .inl (dA, 67, .inl rd))]) [0, 1, 2, 3, 4, 5] rfl) (hK.sub (tys' := [(dA, .int)]) [0] rfl)) rfl rfl hl.1 rfl (lv_room (Nat.le_of_ble_eq_true rfl)) dX2_tangent_28 ⟨Nat.zero_le _, Nat.zero_le _⟩)) (fun zi hzi => ?_)
          have hzi : gI_post nl L nu U (g2 x y) zi := hzi
          refine lv_if_le (tgt := 36) hx hb dX2_tangent_31 (by decide) (fun c_7 => ?_) (fun c_7 => ?_)
          · have hins := (gI_pos hzi).mp c_7
            have loop : ∀ (d i : Nat) (fd : Int32), N < i + d → i ≤ N → ((fd = -1 ∧ ∀ j, j < i → ¬ gq_at N (gh_V nl L nu U) (g2 x y) wh j) ∨ (∃ j, j < i ∧ fd = nI j ∧ gq_at N (gh_V nl L nu U) (g2 x y) wh j)) → ∀ (ls : Array Slot), lv_has ls 10 [(0, .ref o), (1, .int x), (2, .int y), (3, .int wh), (4, .int fd), (5, .int (nI i))] → W p l e (headSpec (ws_ yX2_tangent cX2_tangent 10 (some .int)) ({ frames := 3, cells := 0, slots := 0, locals := 81 })).room s m ([.ref o, .int x, .int y, .int wh] : List Value).toArray below meth c s.heap [] 0 0 (MQ below (vp_Si (fun r => gq_tan N (gh_V nl L nu U) (g2 x y) wh (gh_ok (g2 x y) ∧ gh_A 1 nl L (g2 x y) ∧ gh_A (-1) nu U (g2 x y)) r)) ([.ref o, .int x, .int y, .int wh] : List Value).toArray s 0 0 (fun _ => False)) (F0 m 42 ls []) := by
              intro d
              induction d with
              | zero => intro i fd h1 h2; omega
              | succ d ih =>
                intro i fd hd hi hinv ls hl
                refine lv_iload hx hb dX2_tangent_42 (lv_at hl 5 rfl) ?_
                refine lv_aload_n hx hb dX2_tangent_44 rfl (lv_at hl 0 rfl) ?_
                refine va_get (D := (dC, dI)) (ci := 1) (v := .int (nI N)) (C := RX2) (T := TX2) (N := 8) hx hb hts in_X2 hown hK hP 0 rfl rfl 1 (by decide) (hts _ q148) (fun _ h9 => h9) rfl dX2_tangent_45 ?_
                refine lv_icmp_ge (tgt := 170) hx hb dX2_tangent_48 (by decide) (fun c_8 => ?_) (fun c_8 => ?_)
                · have c5 := (nI_leI (by omega) (by omega)).mp c_8
                  have c6 : i = N := by omega
                  subst c6
                  refine lv_iload hx hb dX2_tangent_170 (lv_at hl 4 rfl) ?_
                  exact W.iret (v := fd) hx hb hr (fun t ht hW => ⟨fd, rfl, ⟨fun z => by
                      rcases z with z | z | z | z | z
                      · exact absurd z c_2
                      · exact absurd z c_3
                      · omega
                      · exact absurd hp z
                      · exact absurd z hins, fun _ _ _ _ _ => hinv.symm⟩, ht⟩) (fun q h => by cases h) dX2_tangent_172
                · have c5 : i < N := Nat.not_le.mp (fun z => c_8 ((nI_leI (by omega) (by omega)).mpr z))
                  obtain ⟨pv, hpv⟩ : ∃ pv, pv = gh_pv N i := ⟨_, rfl⟩
                  obtain ⟨pv1, pv2⟩ := gh_nxpv (N := N) (by omega) c5
                  rw [← hpv] at pv1 pv2
                  have t162 : ∀ (f2 : Int32), ((f2 = -1 ∧ ∀ j, j < (i + 1) → ¬ gq_at N (gh_V nl L nu U) (g2 x y) wh j) ∨ (∃ j, j < (i + 1) ∧ f2 = nI j ∧ gq_at N (gh_V nl L nu U) (g2 x y) wh j)) → ∀ (ls : Array Slot), lv_has ls 10 [(0, .ref o), (1, .int x), (2, .int y), (3, .int wh), (4, .int fd), (5, .int (nI i))] → W p l e (headSpec (ws_ yX2_tangent cX2_tangent 10 (some .int)) ({ frames := 3, cells := 0, slots := 0, locals := 81 })).room s m ([.ref o, .int x, .int y, .int wh] : List Value).toArray below meth c s.heap [] 0 0 (MQ below (vp_Si (fun r => gq_tan N (gh_V nl L nu U) (g2 x y) wh (gh_ok (g2 x y) ∧ gh_A 1 nl L (g2 x y) ∧ gh_A (-1) nu U (g2 x y)) r)) ([.ref o, .int x, .int y, .int wh] : List Value).toArray s 0 0 (fun _ => False)) (F0 m 162 ls [.int f2]) := by
                    intro f2 hf2 ls hl
                    refine lv_istore (lv' := [(4, .int f2), (0, .ref o), (1, .int x), (2, .int y), (3, .int wh), (5, .int (nI i))]) hx hb dX2_tangent_162 hl (by decide) rfl (fun ls hl => ?_)
                    refine lv_iinc (v := nI (i + 1)) (lv' := [(5, .int (nI (i + 1))), (4, .int f2), (0, .ref o), (1, .int x), (2, .int y), (3, .int wh)]) hx hb dX2_tangent_164 hl (k := 5) rfl (nI_1 i) (by decide) rfl (fun ls hl => ?_)
                    refine lv_goto (tgt := 42) hx hb dX2_tangent_167 (by decide) ?_
                    exact ih (i + 1) f2 (by omega) (by omega) hf2 ls (lv_sub hl [2, 3, 4, 5, 1, 0] rfl)
                  have t148 : ∀ (b : Int32), gk_b b (gq_at N (gh_V nl L nu U) (g2 x y) wh i) → ∀ (ls : Array Slot), lv_has ls 10 [(0, .ref o), (1, .int x), (2, .int y), (3, .int wh), (4, .int fd), (5, .int (nI i))] → W p l e (headSpec (ws_ yX2_tangent cX2_tangent 10 (some .int)) ({ frames := 3, cells := 0, slots := 0, locals := 81 })).room s m ([.ref o, .int x, .int y, .int wh] : List Value).toArray below meth c s.heap [] 0 0 (MQ below (vp_Si (fun r => gq_tan N (gh_V nl L nu U) (g2 x y) wh (gh_ok (g2 x y) ∧ gh_A 1 nl L (g2 x y) ∧ gh_A (-1) nu U (g2 x y)) r)) ([.ref o, .int x, .int y, .int wh] : List Value).toArray s 0 0 (fun _ => False)) (F0 m 148 ls [.int b]) := by
                    intro b hb9 ls hl
                    refine lv_istore (lv' := [(9, .int b), (0, .ref o), (1, .int x), (2, .int y), (3, .int wh), (4, .int fd), (5, .int (nI i))]) hx hb dX2_tangent_148 hl (by decide) rfl (fun ls hl => ?_)
                    refine lv_iload hx hb dX2_tangent_150 (lv_at hl 0 rfl) ?_
                    refine lv_if_eq (tgt := 160) hx hb dX2_tangent_152 (by decide) (fun c_9 => ?_) (fun c_9 => ?_)
                    · refine lv_iload hx hb dX2_tangent_160 (lv_at hl 5 rfl) ?_
                      exact t162 fd (by
                        have hn := gk_b.neg hb9 c_9
                        rcases hinv with ⟨e1, e2⟩ | ⟨j, j1, j2, j3⟩
                        · left
                          refine ⟨e1, fun j hj => ?_⟩
                          by_cases e : j = i
                          · rw [e]; exact hn
                          · exact e2 j (by omega)
                        · right; exact ⟨j, by omega, j2, j3⟩) ls (lv_sub hl [1, 2, 3, 4, 5, 6] rfl)
                    · refine lv_iload hx hb dX2_tangent_155 (lv_at hl 6 rfl) ?_
                      refine lv_goto (tgt := 162) hx hb dX2_tangent_157 (by decide) ?_
                      exact t162 (nI i) (Or.inr ⟨i, by omega, rfl, gk_b.pos hb9 c_9⟩) ls (lv_sub hl [1, 2, 3, 4, 5, 6] rfl)
                  have t109 : ∀ (z7 z8 : Int32), gk_b z7 (gh_T (gh_V nl L nu U i) (gh_V nl L nu U (gh_nx N i)) (g2 x y) < 0) → gk_b z8 (gh_T (gh_V nl L nu U pv) (gh_V nl L nu U i) (g2 x y) < 0) → ∀ (ls : Array Slot), lv_has ls 10 [(0, .ref o), (1, .int x), (2, .int y), (3, .int wh), (4, .int fd), (5, .int (nI i)), (7, .int z7)] → W p l e (headSpec (ws_ yX2_tangent cX2_tangent 10 (some .int)) ({ frames := 3, cells := 0, slots := 0, locals := 81 })).room s m ([.ref o, .int x, .int y, .int wh] : List Value).toArray below meth c s.heap [] 0 0 (MQ below (vp_Si (fun r => gq_tan N (gh_V nl L nu U) (g2 x y) wh (gh_ok (g2 x y) ∧ gh_A 1 nl L (g2 x y) ∧ gh_A (-1) nu U (g2 x y)) r)) ([.ref o, .int x, .int y, .int wh] : List Value).toArray s 0 0 (fun _ => False)) (F0 m 109 ls [.int z8]) := by
                    intro z7 z8 hz7 hz8 ls hl
                    refine lv_istore (lv' := [(8, .int z8), (0, .ref o), (1, .int x), (2, .int y), (3, .int wh), (4, .int fd), (5, .int (nI i)), (7, .int z7)]) hx hb dX2_tangent_109 hl (by decide) rfl (fun ls hl => ?_)
                    refine lv_iload_n hx hb dX2_tangent_111 rfl (lv_at hl 4 rfl) ?_
                    refine lv_if_ne (tgt := 133) hx hb dX2_tangent_112 (by decide) (fun c_10 => ?_) (fun c_10 => ?_)
                    · refine lv_iload hx hb dX2_tangent_133 (lv_at hl 0 rfl) ?_
                      refine lv_if_eq (tgt := 147) hx hb dX2_tangent_135 (by decide) (fun c_11 => ?_) (fun c_11 => ?_)
                      · refine lv_iconst (v := 0) hx hb dX2_tangent_147 (by decide) ?_
                        exact t148 0 (Or.inr ⟨rfl, fun z => by rcases z with ⟨y1, y2, y3⟩ | ⟨y1, y2, y3⟩; exact c_10 y1; exact gk_b.neg hz8 c_11 (by rw [← hpv] at y2; exact y2)⟩) ls (lv_sub hl [1, 2, 3, 4, 5, 6] rfl)
                      · refine lv_iload hx hb dX2_tangent_138 (lv_at hl 7 rfl) ?_
                        refine lv_if_ne (tgt := 147) hx hb dX2_tangent_140 (by decide) (fun c_12 => ?_) (fun c_12 => ?_)
                        · refine lv_iconst (v := 0) hx hb dX2_tangent_147 (by decide) ?_
                          exact t148 0 (Or.inr ⟨rfl, fun z => by rcases z with ⟨y1, y2, y3⟩ | ⟨y1, y2, y3⟩; exact c_10 y1; exact y3 (gk_b.pos hz7 c_12)⟩) ls (lv_sub hl [1, 2, 3, 4, 5, 6] rfl)
                        · refine lv_iconst (v := 1) hx hb dX2_tangent_143 (by decide) ?_
                          refine lv_goto (tgt := 148) hx hb dX2_tangent_144 (by decide) ?_
                          exact t148 1 (Or.inl ⟨rfl, Or.inr ⟨c_10, by rw [← hpv]; exact gk_b.pos hz8 c_11, gk_b.neg hz7 c_12⟩⟩) ls (lv_sub hl [1, 2, 3, 4, 5, 6] rfl)
                    · refine lv_iload hx hb dX2_tangent_115 (lv_at hl 7 rfl) ?_
                      refine lv_if_eq (tgt := 129) hx hb dX2_tangent_117 (by decide) (fun c_13 => ?_) (fun c_13 => ?_)
                      · refine lv_iconst (v := 0) hx hb dX2_tangent_129 (by decide) ?_
                        refine lv_goto (tgt := 148) hx hb dX2_tangent_130 (by decide) ?_
                        exact t148 0 (Or.inr ⟨rfl, fun z => by rcases z with ⟨y1, y2, y3⟩ | ⟨y1, y2, y3⟩; exact gk_b.neg hz7 c_13 y2; exact y1 c_10⟩) ls (lv_sub hl [1, 2, 3, 4, 5, 6] rfl)
                      · refine lv_iload hx hb dX2_tangent_120 (lv_at hl 0 rfl) ?_
                        refine lv_if_ne (tgt := 129) hx hb dX2_tangent_122 (by decide) (fun c_14 => ?_) (fun c_14 => ?_)
                        · refine lv_iconst (v := 0) hx hb dX2_tangent_129 (by decide) ?_
                          refine lv_goto (tgt := 148) hx hb dX2_tangent_130 (by decide) ?_
                          exact t148 0 (Or.inr ⟨rfl, fun z => by rcases z with ⟨y1, y2, y3⟩ | ⟨y1, y2, y3⟩; exact y3 (by rw [← hpv]; exact gk_b.pos hz8 c_14); exact y1 c_10⟩) ls (lv_sub hl [1, 2, 3, 4, 5, 6] rfl)
                        · refine lv_iconst (v := 1) hx hb dX2_tangent_125 (by decide) ?_
                          refine lv_goto (tgt := 148) hx hb dX2_tangent_126 (by decide) ?_
                          exact t148 1 (Or.inl ⟨rfl, Or.inl ⟨c_10, gk_b.pos hz7 c_13, by rw [← hpv]; exact gk_b.neg hz8 c_14⟩⟩) ls (lv_sub hl [1, 2, 3, 4, 5, 6] rfl)
                  have t89 : ∀ (z7 : Int32), gk_b z7 (gh_T (gh_V nl L nu U i) (gh_V nl L nu U (gh_nx N i)) (g2 x y) < 0) → ∀ (ls : Array Slot), lv_has ls 10 [(0, .ref o), (1, .int x), (2, .int y), (3, .int wh), (4, .int fd), (5, .int (nI i)), (6, .int (nI pv))] → W p l e (headSpec (ws_ yX2_tangent cX2_tangent 10 (some .int)) ({ frames := 3, cells := 0, slots := 0, locals := 81 })).room s m ([.ref o, .int x, .int y, .int wh] : List Value).toArray below meth c s.heap [] 0 0 (MQ below (vp_Si (fun r => gq_tan N (gh_V nl L nu U) (g2 x y) wh (gh_ok (g2 x y) ∧ gh_A 1 nl L (g2 x y) ∧ gh_A (-1) nu U (g2 x y)) r)) ([.ref o, .int x, .int y, .int wh] : List Value).toArray s 0 0 (fun _ => False)) (F0 m 89 ls [.int z7]) := by
                    intro z7 hz7 ls hl
                    refine lv_istore (lv' := [(7, .int z7), (0, .ref o), (1, .int x), (2, .int y), (3, .int wh), (4, .int fd), (5, .int (nI i)), (6, .int (nI pv))]) hx hb dX2_tangent_89 hl (by decide) rfl (fun ls hl => ?_)
                    refine lv_aload_n hx hb dX2_tangent_91 rfl (lv_at hl 1 rfl) ?_
                    refine lv_iload hx hb dX2_tangent_92 (lv_at hl 7 rfl) ?_
                    refine lv_iload_n hx hb dX2_tangent_94 rfl (lv_at hl 2 rfl) ?_
                    refine lv_iload_n hx hb dX2_tangent_95 rfl (lv_at hl 3 rfl) ?_
                    refine vp_callSl (va_Run.run (va_runV (As := [.int (nI pv), .int x, .int y]) (rest := []) ⟨hx, hb, hml, hown, hts⟩ (metX2_side l dC dI dA o o1 o2 o3 o4 o5 N xs ys px py rd cap pts (gh_V nl L nu U) hN hV hok pv x y pv2 hp) (cwV 3 hts (lw_V q185 q187 qs7 q12 q188) rfl rfl rfl (by decide +kernel) ⟨Nat.le_of_ble_eq_true rfl, Nat.le_of_ble_eq_true rfl⟩) (gr_preV hK hP (ci := 1) (q0 := 0) rfl rfl (hP.sub (ws' := [(o, .inr (1, [.int cap, .int (nI N), .int pts, .ref o1, .ref o2, .ref o3, .ref o4, .ref o5])), (o1, .inl (dA, 66, .inl xs)), (o2, .inl (dA, 66, .inl ys)), (o3, .inl (dA, 66, .inl px)), (o4, .inl (dA, 66, .inl py)), (o5, .inl (dA, 67, .inl rd))]) [0, 1, 2, 3, 4, 5] rfl) (hK.sub (tys' := [(dA, .int)]) [0] rfl)) rfl rfl hl.1 rfl (lv_room (Nat.le_of_ble_eq_true rfl)) dX2_tangent_96 ⟨Nat.zero_le _, Nat.zero_le _⟩)) (fun ss hss => ?_)
                    have hss : ss.toInt = gh_T (gh_V nl L nu U pv) (gh_V nl L nu U (gh_nx N pv)) (g2 x y) := hss
                    rw [pv1] at hss
                    refine lv_lconst (v := 0) hx hb dX2_tangent_99 (by decide) ?_
                    refine W.lcmp hx hb dX2_tangent_100 ?_
                    refine lv_if_ge (tgt := 108) hx hb dX2_tangent_101 (by decide) (fun c_16 => ?_) (fun c_16 => ?_)
                    · rw [lg_cmp_ge, Int64.le_iff_toInt_le, hss] at c_16
                      refine lv_iconst (v := 0) hx hb dX2_tangent_108 (by decide) ?_
                      exact t109 z7 0 hz7 (Or.inr ⟨rfl, Int.not_lt.mpr c_16⟩) ls (lv_sub hl [1, 2, 3, 4, 5, 6, 0] rfl)
                    · rw [lg_cmp_ge, Int64.le_iff_toInt_le, hss] at c_16
                      refine lv_iconst (v := 1) hx hb dX2_tangent_104 (by decide) ?_
                      refine lv_goto (tgt := 109) hx hb dX2_tangent_105 (by decide) ?_
                      exact t109 z7 1 hz7 (Or.inl ⟨rfl, Int.not_le.mp c_16⟩) ls (lv_sub hl [1, 2, 3, 4, 5, 6, 0] rfl)
                  have t69 : ∀ (ls : Array Slot), lv_has ls 10 [(0, .ref o), (1, .int x), (2, .int y), (3, .int wh), (4, .int fd), (5, .int (nI i))] → W p l e (headSpec (ws_ yX2_tangent cX2_tangent 10 (some .int)) ({ frames := 3, cells := 0, slots := 0, locals := 81 })).room s m ([.ref o, .int x, .int y, .int wh] : List Value).toArray below meth c s.heap [] 0 0 (MQ below (vp_Si (fun r => gq_tan N (gh_V nl L nu U) (g2 x y) wh (gh_ok (g2 x y) ∧ gh_A 1 nl L (g2 x y) ∧ gh_A (-1) nu U (g2 x y)) r)) ([.ref o, .int x, .int y, .int wh] : List Value).toArray s 0 0 (fun _ => False)) (F0 m 69 ls [.int (nI pv)]) := by
                    intro  ls hl
                    refine lv_istore (lv' := [(6, .int (nI pv)), (0, .ref o), (1, .int x), (2, .int y), (3, .int wh), (4, .int fd), (5, .int (nI i))]) hx hb dX2_tangent_69 hl (by decide) rfl (fun ls hl => ?_)
                    refine lv_aload_n hx hb dX2_tangent_71 rfl (lv_at hl 1 rfl) ?_
                    refine lv_iload hx hb dX2_tangent_72 (lv_at hl 6 rfl) ?_
                    refine lv_iload_n hx hb dX2_tangent_74 rfl (lv_at hl 2 rfl) ?_
                    refine lv_iload_n hx hb dX2_tangent_75 rfl (lv_at hl 3 rfl) ?_
                    refine vp_callSl (va_Run.run (va_runV (As := [.int (nI i), .int x, .int y]) (rest := []) ⟨hx, hb, hml, hown, hts⟩ (metX2_side l dC dI dA o o1 o2 o3 o4 o5 N xs ys px py rd cap pts (gh_V nl L nu U) hN hV hok i x y c5 hp) (cwV 3 hts (lw_V q185 q187 qs7 q12 q188) rfl rfl rfl (by decide +kernel) ⟨Nat.le_of_ble_eq_true rfl, Nat.le_of_ble_eq_true rfl⟩) (gr_preV hK hP (ci := 1) (q0 := 0) rfl rfl (hP.sub (ws' := [(o, .inr (1, [.int cap, .int (nI N), .int pts, .ref o1, .ref o2, .ref o3, .ref o4, .ref o5])), (o1, .inl (dA, 66, .inl xs)), (o2, .inl (dA, 66, .inl ys)), (o3, .inl (dA, 66, .inl px)), (o4, .inl (dA, 66, .inl py)), (o5, .inl (dA, 67, .inl rd))]) [0, 1, 2, 3, 4, 5] rfl) (hK.sub (tys' := [(dA, .int)]) [0] rfl)) rfl rfl hl.1 rfl (lv_room (Nat.le_of_ble_eq_true rfl)) dX2_tangent_76 ⟨Nat.zero_le _, Nat.zero_le _⟩)) (fun ss hss => ?_)
                    have hss : ss.toInt = gh_T (gh_V nl L nu U i) (gh_V nl L nu U (gh_nx N i)) (g2 x y) := hss
                    refine lv_lconst (v := 0) hx hb dX2_tangent_79 (by decide) ?_
                    refine W.lcmp hx hb dX2_tangent_80 ?_
                    refine lv_if_ge (tgt := 88) hx hb dX2_tangent_81 (by decide) (fun c_18 => ?_) (fun c_18 => ?_)
                    · rw [lg_cmp_ge, Int64.le_iff_toInt_le, hss] at c_18
                      refine lv_iconst (v := 0) hx hb dX2_tangent_88 (by decide) ?_
                      exact t89 0 (Or.inr ⟨rfl, Int.not_lt.mpr c_18⟩) ls (lv_sub hl [1, 2, 3, 4, 5, 6, 0] rfl)
                    · rw [lg_cmp_ge, Int64.le_iff_toInt_le, hss] at c_18
                      refine lv_iconst (v := 1) hx hb dX2_tangent_84 (by decide) ?_
                      refine lv_goto (tgt := 89) hx hb dX2_tangent_85 (by decide) ?_
                      exact t89 1 (Or.inl ⟨rfl, Int.not_le.mp c_18⟩) ls (lv_sub hl [1, 2, 3, 4, 5, 6, 0] rfl)
                  refine lv_iload hx hb dX2_tangent_51 (lv_at hl 5 rfl) ?_
                  refine lv_if_ne (tgt := 65) hx hb dX2_tangent_53 (by decide) (fun c_19 => ?_) (fun c_19 => ?_)
                  · have c6 : i ≠ 0 := fun z => c_19 (by rw [z]; rfl)
                    refine lv_iload hx hb dX2_tangent_65 (lv_at hl 5 rfl) ?_
                    refine lv_iconst (v := 1) hx hb dX2_tangent_67 (by decide) ?_
                    refine lv_isub hx hb dX2_tangent_68 ?_
                    refine gr_topi (y := nI pv) (by rw [hpv]; unfold gh_pv; rw [if_neg c6]; exact gi_m1 (by omega)) ?_
                    exact t69 ls (lv_sub hl [0, 1, 2, 3, 4, 5] rfl)
                  · have c6 : i = 0 := (nI_eq (by omega) (by omega)).mp c_19
                    refine lv_aload_n hx hb dX2_tangent_56 rfl (lv_at hl 0 rfl) ?_
                    refine va_get (D := (dC, dI)) (ci := 1) (v := .int (nI N)) (C := RX2) (T := TX2) (N := 8) hx hb hts in_X2 hown hK hP 0 rfl rfl 1 (by decide) (hts _ q148) (fun _ h9 => h9) rfl dX2_tangent_57 ?_
                    refine lv_iconst (v := 1) hx hb dX2_tangent_60 (by decide) ?_
                    refine lv_isub hx hb dX2_tangent_61 ?_
                    refine gr_topi (y := nI pv) (by rw [hpv]; unfold gh_pv; rw [if_pos c6]; exact gi_m1 (by omega)) ?_
                    refine lv_goto (tgt := 69) hx hb dX2_tangent_62 (by decide) ?_
                    exact t69 ls (lv_sub hl [0, 1, 2, 3, 4, 5] rfl)
            refine lv_iconst (v := (-1)) hx hb dX2_tangent_36 (by decide) ?_
            refine lv_istore (lv' := [(4, .int (-1)), (0, .ref o), (1, .int x), (2, .int y), (3, .int wh)]) hx hb dX2_tangent_37 hl (by decide) rfl (fun ls hl => ?_)
            refine lv_iconst (v := 0) hx hb dX2_tangent_39 (by decide) ?_
            refine lv_istore (lv' := [(5, .int 0), (4, .int (-1)), (0, .ref o), (1, .int x), (2, .int y), (3, .int wh)]) hx hb dX2_tangent_40 hl (by decide) rfl (fun ls hl => ?_)
            exact loop (N + 1) 0 (-1) (by omega) (by omega) (Or.inl ⟨rfl, fun j hj => by omega⟩) ls (lv_sub hl [2, 3, 4, 5, 1, 0] rfl)
          · refine lv_iconst (v := (-1)) hx hb dX2_tangent_34 (by decide) ?_
            exact W.iret (v := (-1)) hx hb hr (fun t ht hW => ⟨(-1), rfl, ⟨fun _ => rfl, fun g1 g2_ g3 g4 g5 => False.elim (g5 (Classical.not_not.mp (fun z => c_7 ((gI_pos hzi).mpr z))))⟩, ht⟩) (fun q h => by cases h) dX2_tangent_35
set_option maxHeartbeats 4000000 in
set_option maxRecDepth 100000 in
theorem metX2_diameter (l : Launch) (dC : Nat → ClassId) (dI : Nat → Nat → Nat) (dA : ClassId) (o o1 o2 o3 o4 o5 N : Nat) (xs ys px py rd : Nat → Int32) (cap pts : Int32) (V : Nat → Int × Int) (hN : N ≤ 66) (hV : ∀ i, i < N → gp xs ys i = V i) (hok : ∀ i, i < N → gh_ok (V i)) : Met l yX2_diameter (ws_ yX2_diameter cX2_diameter 9 (some .int)) ({ frames := 0, cells := 0, slots := 0, locals := 0 }) (gr_Pc (dC, dI) [.ref o] [(o, .inr (1, [.int cap, .int (nI N), .int pts, .ref o1, .ref o2, .ref o3, .ref o4, .ref o5])), (o1, .inl (dA, 66, .inl xs)), (o2, .inl (dA, 66, .inl ys)), (o3, .inl (dA, 66, .inl px)), (o4, .inl (dA, 66, .inl py)), (o5, .inl (dA, 67, .inl rd))] [(dA, .int)]) (vp_Si (fun r => ∃ M, gq_dia N V M ∧ r = (Int64.ofInt M).toInt32)) 0 0 (fun _ => False) := by
  refine Met.ofW (cc := cX2_diameter) (maxL := 9) (ret := (some .int)) (by decide) rfl ?_
  intro p e s m args below meth c s₁ B hml hv
  obtain ⟨rfl, hP, hK⟩ := hv
  have hx := B.exec
  have hb := B.bytes
  have hr := B.returns
  have hts := atoms_spec (ws := (ws_ yX2_diameter cX2_diameter 9 (some .int))) B.pre
  have hts : ∀ w ∈ lw_all, w.before _ s = true := fun w h => hts w (List.mem_cons_of_mem _ h)
  have hown : s.vm.findClass RX2 = some m.cls := findClass_of_methodNamed B.named
  have hlocks := B.notSynchronized
  have hl := lv_entry ([.ref o]) (n := 9) (Nat.le_of_ble_eq_true rfl)
  rw [lg_entry_eq]
  generalize (lg_sl ([.ref o]) ++ List.replicate (9 - (lg_sl ([.ref o])).length) Slot.unset).toArray = ls at hl ⊢
  have hl : lv_has ls 9 [(0, .ref o)] := hl
  have loop : ∀ (d a : Nat) (mst : Int64), N < a + d → a ≤ N → gq_di N V a 0 mst.toInt → ∀ (ls : Array Slot), lv_has ls 9 [(0, .ref o), (1, .long mst), (3, .int (nI a))] → W p l e (headSpec (ws_ yX2_diameter cX2_diameter 9 (some .int)) ({ frames := 0, cells := 0, slots := 0, locals := 0 })).room s m ([.ref o] : List Value).toArray below meth c s.heap [] 0 0 (MQ below (vp_Si (fun r => ∃ M, gq_dia N V M ∧ r = (Int64.ofInt M).toInt32)) ([.ref o] : List Value).toArray s 0 0 (fun _ => False)) (F0 m 4 ls []) := by
    intro d
    induction d with
    | zero => intro a mst h1 h2; omega
    | succ d ih =>
      intro a mst hd ha hdi ls hl
      refine lv_iload_n hx hb dX2_diameter_4 rfl (lv_at hl 2 rfl) ?_
      refine lv_aload_n hx hb dX2_diameter_5 rfl (lv_at hl 0 rfl) ?_
      refine va_get (D := (dC, dI)) (ci := 1) (v := .int (nI N)) (C := RX2) (T := TX2) (N := 8) hx hb hts in_X2 hown hK hP 0 rfl rfl 1 (by decide) (hts _ q148) (fun _ h9 => h9) rfl dX2_diameter_6 ?_
      refine lv_icmp_ge (tgt := 99) hx hb dX2_diameter_9 (by decide) (fun c_1 => ?_) (fun c_1 => ?_)
      · have c1 := (nI_leI (by omega) (by omega)).mp c_1
        have haN : a = N := by omega
        rw [haN] at hdi
        refine lv_lload_n hx hb dX2_diameter_99 rfl (lv_at hl 1 rfl) ?_
        refine lv_l2i hx hb dX2_diameter_100 rfl ?_
        exact W.iret (v := mst.toInt32) hx hb hr (fun t ht hW => ⟨mst.toInt32, rfl, ⟨mst.toInt, gq_di_end hdi, by rw [Int64.ofInt_toInt]⟩, ht⟩) (fun q h => by cases h) dX2_diameter_101
      · have c1 : a < N := Nat.not_le.mp (fun z => c_1 ((nI_leI (by omega) (by omega)).mpr z))
        have inner : ∀ (g b : Nat) (mst : Int64), a < b + g → b ≤ a → gq_di N V a b mst.toInt → ∀ (ls : Array Slot), lv_has ls 9 [(0, .ref o), (1, .long mst), (3, .int (nI a)), (4, .int (nI b))] → W p l e (headSpec (ws_ yX2_diameter cX2_diameter 9 (some .int)) ({ frames := 0, cells := 0, slots := 0, locals := 0 })).room s m ([.ref o] : List Value).toArray below meth c s.heap [] 0 0 (MQ below (vp_Si (fun r => ∃ M, gq_dia N V M ∧ r = (Int64.ofInt M).toInt32)) ([.ref o] : List Value).toArray s 0 0 (fun _ => False)) (F0 m 15 ls []) := by
          intro g
          induction g with
          | zero => intro b mst h1 h2; omega
          | succ g ihb =>
            intro b mst hg hb_ hdi ls hl
            refine lv_iload hx hb dX2_diameter_15 (lv_at hl 3 rfl) ?_
            refine lv_iload_n hx hb dX2_diameter_17 rfl (lv_at hl 2 rfl) ?_
            refine lv_icmp_ge (tgt := 93) hx hb dX2_diameter_18 (by decide) (fun c_2 => ?_) (fun c_2 => ?_)
            · have c2 := (nI_leI (by omega) (by omega)).mp c_2
              have hba : b = a := by omega
              rw [hba] at hdi
              refine lv_iinc (v := nI (a + 1)) (lv' := [(3, .int (nI (a + 1))), (0, .ref o), (1, .long mst), (4, .int (nI b))]) hx hb dX2_diameter_93 hl (k := 2) rfl (nI_1 a) (by decide) rfl (fun ls hl => ?_)
              refine lv_goto (tgt := 4) hx hb dX2_diameter_96 (by decide) ?_
              exact ih (a + 1) mst (by omega) (by omega) (gq_di_next hdi) ls (lv_sub hl [1, 2, 0] rfl)
            · have c2 : b < a := Nat.not_le.mp (fun z => c_2 ((nI_leI (by omega) (by omega)).mpr z))
              refine lv_aload_n hx hb dX2_diameter_21 rfl (lv_at hl 0 rfl) ?_
              refine va_get (D := (dC, dI)) (ci := 1) (v := .ref o1) (C := RX2) (T := TX2) (N := 8) hx hb hts in_X2 hown hK hP 0 rfl rfl 3 (by decide) (hts _ q150) (fun _ h9 => h9) rfl dX2_diameter_22 ?_
              refine lv_iload_n hx hb dX2_diameter_25 rfl (lv_at hl 2 rfl) ?_
              refine gr_iald (k := a) hx hb hK hP 1 0 rfl rfl (by omega) (by decide) dX2_diameter_26 ?_
              refine lv_aload_n hx hb dX2_diameter_27 rfl (lv_at hl 0 rfl) ?_
              refine va_get (D := (dC, dI)) (ci := 1) (v := .ref o1) (C := RX2) (T := TX2) (N := 8) hx hb hts in_X2 hown hK hP 0 rfl rfl 3 (by decide) (hts _ q150) (fun _ h9 => h9) rfl dX2_diameter_28 ?_
              refine lv_iload hx hb dX2_diameter_31 (lv_at hl 3 rfl) ?_
              refine gr_iald (k := b) hx hb hK hP 1 0 rfl rfl (by omega) (by decide) dX2_diameter_33 ?_
              refine lv_isub hx hb dX2_diameter_34 ?_
              refine lv_i2l hx hb dX2_diameter_35 rfl ?_
              refine lv_lstore (lv' := [(5, .long ((xs a) - (xs b)).toInt64), (0, .ref o), (1, .long mst), (3, .int (nI a)), (4, .int (nI b))]) hx hb dX2_diameter_36 hl (by decide) rfl (fun ls hl => ?_)
              refine lv_aload_n hx hb dX2_diameter_38 rfl (lv_at hl 1 rfl) ?_
              refine va_get (D := (dC, dI)) (ci := 1) (v := .ref o2) (C := RX2) (T := TX2) (N := 8) hx hb hts in_X2 hown hK hP 0 rfl rfl 4 (by decide) (hts _ q151) (fun _ h9 => h9) rfl dX2_diameter_39 ?_
              refine lv_iload_n hx hb dX2_diameter_42 rfl (lv_at hl 3 rfl) ?_
              refine gr_iald (k := a) hx hb hK hP 2 0 rfl rfl (by omega) (by decide) dX2_diameter_43 ?_
              refine lv_aload_n hx hb dX2_diameter_44 rfl (lv_at hl 1 rfl) ?_
              refine va_get (D := (dC, dI)) (ci := 1) (v := .ref o2) (C := RX2) (T := TX2) (N := 8) hx hb hts in_X2 hown hK hP 0 rfl rfl 4 (by decide) (hts _ q151) (fun _ h9 => h9) rfl dX2_diameter_45 ?_
              refine lv_iload hx hb dX2_diameter_48 (lv_at hl 4 rfl) ?_
              refine gr_iald (k := b) hx hb hK hP 2 0 rfl rfl (by omega) (by decide) dX2_diameter_50 ?_
              obtain ⟨ds, hds⟩ : ∃ ds, ds = gt_dist (xs b) (ys b) (xs a) (ys a) := ⟨_, rfl⟩
              have hdo : ds.toInt = gh_D (V b) (V a) := by
                rw [hds, ← hV b (by omega), ← hV a c1]
                exact (gt_dist_ok (by rw [← gp_eq, hV b (by omega)]; exact hok b (by omega)) (by rw [← gp_eq, hV a c1]; exact hok a c1)).1
              refine lv_isub hx hb dX2_diameter_51 ?_
              refine lv_i2l hx hb dX2_diameter_52 rfl ?_
              refine lv_lstore (lv' := [(7, .long ((ys a) - (ys b)).toInt64), (5, .long ((xs a) - (xs b)).toInt64), (0, .ref o), (1, .long mst), (3, .int (nI a)), (4, .int (nI b))]) hx hb dX2_diameter_53 hl (by decide) rfl (fun ls hl => ?_)
              refine lv_lload hx hb dX2_diameter_55 (lv_at hl 1 rfl) ?_
              refine lv_lload hx hb dX2_diameter_57 (lv_at hl 1 rfl) ?_
              refine lv_lmul hx hb dX2_diameter_59 ?_
              refine lv_lload hx hb dX2_diameter_60 (lv_at hl 0 rfl) ?_
              refine lv_lload hx hb dX2_diameter_62 (lv_at hl 0 rfl) ?_
              refine lv_lmul hx hb dX2_diameter_64 ?_
              refine lv_ladd hx hb dX2_diameter_65 ?_
              refine gr_topl (y := ds) (hds.symm) ?_
              refine lv_lload_n hx hb dX2_diameter_66 rfl (lv_at hl 3 rfl) ?_
              refine W.lcmp hx hb dX2_diameter_67 ?_
              refine lv_if_le (tgt := 85) hx hb dX2_diameter_68 (by decide) (fun c_3 => ?_) (fun c_3 => ?_)
              · rw [lg_cmp_le, Int64.le_iff_toInt_le] at c_3
                refine lv_lload_n hx hb dX2_diameter_85 rfl (lv_at hl 3 rfl) ?_
                refine lv_lstore_n (lv' := [(1, .long mst), (7, .long ((ys a) - (ys b)).toInt64), (5, .long ((xs a) - (xs b)).toInt64), (0, .ref o), (3, .int (nI a)), (4, .int (nI b))]) hx hb dX2_diameter_86 rfl hl (by decide) rfl (fun ls hl => ?_)
                refine lv_iinc (v := nI (b + 1)) (lv' := [(4, .int (nI (b + 1))), (1, .long mst), (7, .long ((ys a) - (ys b)).toInt64), (5, .long ((xs a) - (xs b)).toInt64), (0, .ref o), (3, .int (nI a))]) hx hb dX2_diameter_87 hl (k := 5) rfl (nI_1 b) (by decide) rfl (fun ls hl => ?_)
                refine lv_goto (tgt := 15) hx hb dX2_diameter_90 (by decide) ?_
                exact ihb (b + 1) mst (by omega) (by omega) (gq_di_keep hdi hdo c_3) ls (lv_sub hl [4, 1, 5, 0] rfl)
              · rw [lg_cmp_le, Int64.le_iff_toInt_le] at c_3
                refine lv_lload hx hb dX2_diameter_71 (lv_at hl 1 rfl) ?_
                refine lv_lload hx hb dX2_diameter_73 (lv_at hl 1 rfl) ?_
                refine lv_lmul hx hb dX2_diameter_75 ?_
                refine lv_lload hx hb dX2_diameter_76 (lv_at hl 0 rfl) ?_
                refine lv_lload hx hb dX2_diameter_78 (lv_at hl 0 rfl) ?_
                refine lv_lmul hx hb dX2_diameter_80 ?_
                refine lv_ladd hx hb dX2_diameter_81 ?_
                refine gr_topl (y := ds) (hds.symm) ?_
                refine lv_goto (tgt := 86) hx hb dX2_diameter_82 (by decide) ?_
                refine lv_lstore_n (lv' := [(1, .long ds), (7, .long ((ys a) - (ys b)).toInt64), (5, .long ((xs a) - (xs b)).toInt64), (0, .ref o), (3, .int (nI a)), (4, .int (nI b))]) hx hb dX2_diameter_86 rfl hl (by decide) rfl (fun ls hl => ?_)
                refine lv_iinc (v := nI (b + 1)) (lv' := [(4, .int (nI (b + 1))), (1, .long ds), (7, .long ((ys a) - (ys b)).toInt64), (5, .long ((xs a) - (xs b)).toInt64), (0, .ref o), (3, .int (nI a))]) hx hb dX2_diameter_87 hl (k := 5) rfl (nI_1 b) (by decide) rfl (fun ls hl => ?_)
                refine lv_goto (tgt := 15) hx hb dX2_diameter_90 (by decide) ?_
                exact ihb (b + 1) ds (by omega) (by omega) (gq_di_take hdi c1 c2 hdo (Int.not_le.mp c_3)) ls (lv_sub hl [4, 1, 5, 0] rfl)
        refine lv_iconst (v := 0) hx hb dX2_diameter_12 (by decide) ?_
        refine lv_istore (lv' := [(4, .int 0), (0, .ref o), (1, .long mst), (3, .int (nI a))]) hx hb dX2_diameter_13 hl (by decide) rfl (fun ls hl => ?_)
        exact inner (a + 1) 0 mst (by omega) (by omega) hdi ls (lv_sub hl [1, 2, 3, 0] rfl)
  refine lv_lconst (v := 0) hx hb dX2_diameter_0 (by decide) ?_
  refine lv_lstore_n (lv' := [(1, .long 0), (0, .ref o)]) hx hb dX2_diameter_1 rfl hl (by decide) rfl (fun ls hl => ?_)
  refine lv_iconst (v := 0) hx hb dX2_diameter_2 (by decide) ?_
  refine lv_istore_n (lv' := [(3, .int 0), (1, .long 0), (0, .ref o)]) hx hb dX2_diameter_3 rfl hl (by decide) rfl (fun ls hl => ?_)
  exact loop (N + 1) 0 0 (by omega) (by omega) gq_di_0 ls (lv_sub hl [2, 1, 0] rfl)
end
section
/-! ===== OnlineHullModel: its making, goRound, add ===== -/
abbrev gB_S : Type := Nat × (Nat → Int32) × (Nat → Int32) × (Nat → Int32) × (Nat → Int32) × (Nat → Int32) × Int32
/-- what the model's add answers, and what its corners are then -/
def gB_post (N : Nat) (xs ys : Nat → Int32) (nl : Nat) (L : Nat → Int × Int) (nu : Nat) (U : Nat → Int × Int) (p : Int × Int) (capN n1 : Nat) (L1 : Nat → Int × Int) (n2 : Nat) (U1 : Nat → Int × Int) (pts r : Int32) (u : gB_S) : Prop :=
  (¬ gh_ok p ∧ r = -1 ∧ (u.1 = N ∧ u.2.1 = xs ∧ u.2.2.1 = ys) ∧ u.2.2.2.2.2.2 = pts) ∨
  (gh_ok p ∧ (gh_A 1 nl L p ∧ gh_A (-1) nu U p) ∧ r = 0 ∧ (u.1 = N ∧ u.2.1 = xs ∧ u.2.2.1 = ys) ∧ u.2.2.2.2.2.2 = pts + 1) ∨
  (gh_ok p ∧ ¬ (gh_A 1 nl L p ∧ gh_A (-1) nu U p) ∧ capN < gh_N n1 n2 ∧ r = -2 ∧ (u.1 = N ∧ u.2.1 = xs ∧ u.2.2.1 = ys) ∧ u.2.2.2.2.2.2 = pts) ∨
  (gh_ok p ∧ ¬ (gh_A 1 nl L p ∧ gh_A (-1) nu U p) ∧ gh_N n1 n2 ≤ capN ∧ r = 1 + (nI (N + 1) - nI (gh_N n1 n2)) ∧ (u.1 = gh_N n1 n2 ∧ ∀ i, i < gh_N n1 n2 → gp u.2.1 u.2.2.1 i = gh_V n1 L1 n2 U1 i) ∧ u.2.2.2.2.2.2 = pts + 1)
set_option maxHeartbeats 4000000 in
set_option maxRecDepth 100000 in
theorem metX2_init (l : Launch) (dC : Nat → ClassId) (dI : Nat → Nat → Nat) (dA : ClassId) (sz : Nat) (o : Nat) (n : Int32) : Met l yX2_init (ws_ yX2_init cX2_init 3 none) ({ frames := 1, cells := 5, slots := 331, locals := 12 }) (gm_Pc (dC, dI) [.ref o, .int n] sz [(o, .inr (1, [.int 0, .int 0, .int 0, .null, .null, .null, .null, .null]))] [(dA, .int)]) (va_Qv (S := (Nat × Nat × Nat × Nat × Nat)) (fun _ => True) (gm_B (dC, dI) [(dA, .int)] (va_A [(o, .inr (1, [.int 0, .int 0, .int 0, .null, .null, .null, .null, .null]))] sz) (fun u => [(o, .inr (1, [.int (gc_cap n), .int 0, .int 0, .ref u.1, .ref u.2.1, .ref u.2.2.1, .ref u.2.2.2.1, .ref u.2.2.2.2])), (u.1, .inl (dA, 66, .inl (fun _ => 0))), (u.2.1, .inl (dA, 66, .inl (fun _ => 0))), (u.2.2.1, .inl (dA, 66, .inl (fun _ => 0))), (u.2.2.2.1, .inl (dA, 66, .inl (fun _ => 0))), (u.2.2.2.2, .inl (dA, 67, .inl (fun _ => 0)))])) (va_A [(o, .inr (1, [.int 0, .int 0, .int 0, .null, .null, .null, .null, .null]))] sz)) 5 331 (va_A [(o, .inr (1, [.int 0, .int 0, .int 0, .null, .null, .null, .null, .null]))] sz) := by
  refine Met.ofW (cc := cX2_init) (maxL := 3) (ret := none) (by decide) rfl ?_
  intro p e s m args below meth c s₁ B hml hv
  obtain ⟨rfl, hsz, hP, hK, hD0⟩ := hv
  have hx := B.exec
  have hb := B.bytes
  have hr := B.returns
  have hts := atoms_spec (ws := (ws_ yX2_init cX2_init 3 none)) B.pre
  have hts : ∀ w ∈ lw_all, w.before _ s = true := fun w h => hts w (List.mem_cons_of_mem _ h)
  have hown : s.vm.findClass RX2 = some m.cls := findClass_of_methodNamed B.named
  have hlocks := B.notSynchronized
  have hin : meth.name = "<init>" := (name_of_methodNamed B.named B.method).1
  subst hsz
  have hD := hD0.self (sz := s.heap.size)
  generalize hAe : va_A [(o, .inr (1, [.int 0, .int 0, .int 0, .null, .null, .null, .null, .null]))] s.heap.size = A at hD ⊢
  have hA : ∀ q : Nat, s.heap.size ≤ q → A q := fun q h => by rw [← hAe]; exact Or.inr h
  have hS : va_S A s.heap s.heap [] := va_S.rf
  have hl := lv_entry ([.ref o, .int n]) (n := 3) (Nat.le_of_ble_eq_true rfl)
  rw [lg_entry_eq]
  generalize (lg_sl ([.ref o, .int n]) ++ List.replicate (3 - (lg_sl ([.ref o, .int n])).length) Slot.unset).toArray = ls at hl ⊢
  have hl : lv_has ls 3 [(0, .ref o), (1, .int n)] := hl
  refine lv_aload_n hx hb dX2_init_0 rfl (lv_at hl 0 rfl) ?_
  refine W.objInit hx hb hown (hts _ q146) (hts _ q19) (hts _ q20) rfl (by rw [hml]; exact hl.1) rfl dX2_init_1 (Nat.le_of_ble_eq_true rfl) (Nat.le_of_ble_eq_true rfl) ?_
  refine W.eq (g2 := F0 m 4 ls []) rfl ?_
  refine lv_aload_n hx hb dX2_init_4 rfl (lv_at hl 0 rfl) ?_
  refine lv_bipush (v := 66) hx hb dX2_init_5 (by decide) ?_
  refine va_newa (atype := .int) (n := 66) (N' := 66) (a0 := (66, .inl (fun _ => 0))) hx hb (hts _ q55) rfl hK hP hD hS hA (fun _ => rfl) (by decide) (by decide) (by decide) (Nat.le_of_ble_eq_true rfl) (Nat.le_of_ble_eq_true rfl) dX2_init_7 (fun a1 cA H hK1 hP hD hS => ?_)
  rw [gm_one hK1] at hP hD
  refine W.widen (k := 1) (n := 66) (Nat.le_of_ble_eq_true rfl) (Nat.le_of_ble_eq_true rfl) ?_
  have hP : va_P (dC, dI) vwCl [(o, .inr (1, [.int 0, .int 0, .int 0, .null, .null, .null, .null, .null])), (a1, .inl (dA, 66, .inl (fun _ => 0)))] H := hP
  have hD : va_D A [(o, .inr (1, [.int 0, .int 0, .int 0, .null, .null, .null, .null, .null])), (a1, .inl (dA, 66, .inl (fun _ => 0)))] := hD
  refine va_putF (D := (dC, dI)) (ci := 1) (v := .ref a1) (ty := .array .int) (C := RX2) (T := TX2) (N := 8) hx hb hts in_X2 tyX2 tyX2_ok nmX2 hown hK hP hD hS 0 rfl rfl 3 (by decide) (hts _ q150) (fun _ h9 => h9) rfl hin rfl (by decide +kernel) rfl rfl (Nat.le_of_ble_eq_true rfl) dX2_init_9 (fun H locs hP hD hS => ?_)
  have hP : va_P (dC, dI) vwCl [(o, .inr (1, [.int 0, .int 0, .int 0, .ref a1, .null, .null, .null, .null])), (a1, .inl (dA, 66, .inl (fun _ => 0)))] H := hP
  have hD : va_D A [(o, .inr (1, [.int 0, .int 0, .int 0, .ref a1, .null, .null, .null, .null])), (a1, .inl (dA, 66, .inl (fun _ => 0)))] := hD
  refine lv_aload_n hx hb dX2_init_12 rfl (lv_at hl 0 rfl) ?_
  refine lv_bipush (v := 66) hx hb dX2_init_13 (by decide) ?_
  refine va_newa (atype := .int) (n := 66) (N' := 66) (a0 := (66, .inl (fun _ => 0))) hx hb (hts _ q55) rfl hK hP hD hS hA (fun _ => rfl) (by decide) (by decide) (by decide) (Nat.le_of_ble_eq_true rfl) (Nat.le_of_ble_eq_true rfl) dX2_init_15 (fun a2 cA H hK1 hP hD hS => ?_)
  rw [gm_one hK1] at hP hD
  refine W.widen (k := 2) (n := 132) (Nat.le_of_ble_eq_true rfl) (Nat.le_of_ble_eq_true rfl) ?_
  have hP : va_P (dC, dI) vwCl [(o, .inr (1, [.int 0, .int 0, .int 0, .ref a1, .null, .null, .null, .null])), (a1, .inl (dA, 66, .inl (fun _ => 0))), (a2, .inl (dA, 66, .inl (fun _ => 0)))] H := hP
  have hD : va_D A [(o, .inr (1, [.int 0, .int 0, .int 0, .ref a1, .null, .null, .null, .null])), (a1, .inl (dA, 66, .inl (fun _ => 0))), (a2, .inl (dA, 66, .inl (fun _ => 0)))] := hD
  refine va_putF (D := (dC, dI)) (ci := 1) (v := .ref a2) (ty := .array .int) (C := RX2) (T := TX2) (N := 8) hx hb hts in_X2 tyX2 tyX2_ok nmX2 hown hK hP hD hS 0 rfl rfl 4 (by decide) (hts _ q151) (fun _ h9 => h9) rfl hin rfl (by decide +kernel) rfl rfl (Nat.le_of_ble_eq_true rfl) dX2_init_17 (fun H locs hP hD hS => ?_)
  have hP : va_P (dC, dI) vwCl [(o, .inr (1, [.int 0, .int 0, .int 0, .ref a1, .ref a2, .null, .null, .null])), (a1, .inl (dA, 66, .inl (fun _ => 0))), (a2, .inl (dA, 66, .inl (fun _ => 0)))] H := hP
  have hD : va_D A [(o, .inr (1, [.int 0, .int 0, .int 0, .ref a1, .ref a2, .null, .null, .null])), (a1, .inl (dA, 66, .inl (fun _ => 0))), (a2, .inl (dA, 66, .inl (fun _ => 0)))] := hD
  refine lv_aload_n hx hb dX2_init_20 rfl (lv_at hl 0 rfl) ?_
  refine lv_bipush (v := 66) hx hb dX2_init_21 (by decide) ?_
  refine va_newa (atype := .int) (n := 66) (N' := 66) (a0 := (66, .inl (fun _ => 0))) hx hb (hts _ q55) rfl hK hP hD hS hA (fun _ => rfl) (by decide) (by decide) (by decide) (Nat.le_of_ble_eq_true rfl) (Nat.le_of_ble_eq_true rfl) dX2_init_23 (fun a3 cA H hK1 hP hD hS => ?_)
  rw [gm_one hK1] at hP hD
  refine W.widen (k := 3) (n := 198) (Nat.le_of_ble_eq_true rfl) (Nat.le_of_ble_eq_true rfl) ?_
  have hP : va_P (dC, dI) vwCl [(o, .inr (1, [.int 0, .int 0, .int 0, .ref a1, .ref a2, .null, .null, .null])), (a1, .inl (dA, 66, .inl (fun _ => 0))), (a2, .inl (dA, 66, .inl (fun _ => 0))), (a3, .inl (dA, 66, .inl (fun _ => 0)))] H := hP
  have hD : va_D A [(o, .inr (1, [.int 0, .int 0, .int 0, .ref a1, .ref a2, .null, .null, .null])), (a1, .inl (dA, 66, .inl (fun _ => 0))), (a2, .inl (dA, 66, .inl (fun _ => 0))), (a3, .inl (dA, 66, .inl (fun _ => 0)))] := hD
  refine va_putF (D := (dC, dI)) (ci := 1) (v := .ref a3) (ty := .array .int) (C := RX2) (T := TX2) (N := 8) hx hb hts in_X2 tyX2 tyX2_ok nmX2 hown hK hP hD hS 0 rfl rfl 5 (by decide) (hts _ q152) (fun _ h9 => h9) rfl hin rfl (by decide +kernel) rfl rfl (Nat.le_of_ble_eq_true rfl) dX2_init_25 (fun H locs hP hD hS => ?_)
  have hP : va_P (dC, dI) vwCl [(o, .inr (1, [.int 0, .int 0, .int 0, .ref a1, .ref a2, .ref a3, .null, .null])), (a1, .inl (dA, 66, .inl (fun _ => 0))), (a2, .inl (dA, 66, .inl (fun _ => 0))), (a3, .inl (dA, 66, .inl (fun _ => 0)))] H := hP
  have hD : va_D A [(o, .inr (1, [.int 0, .int 0, .int 0, .ref a1, .ref a2, .ref a3, .null, .null])), (a1, .inl (dA, 66, .inl (fun _ => 0))), (a2, .inl (dA, 66, .inl (fun _ => 0))), (a3, .inl (dA, 66, .inl (fun _ => 0)))] := hD
  refine lv_aload_n hx hb dX2_init_28 rfl (lv_at hl 0 rfl) ?_
  refine lv_bipush (v := 66) hx hb dX2_init_29 (by decide) ?_
  refine va_newa (atype := .int) (n := 66) (N' := 66) (a0 := (66, .inl (fun _ => 0))) hx hb (hts _ q55) rfl hK hP hD hS hA (fun _ => rfl) (by decide) (by decide) (by decide) (Nat.le_of_ble_eq_true rfl) (Nat.le_of_ble_eq_true rfl) dX2_init_31 (fun a4 cA H hK1 hP hD hS => ?_)
  rw [gm_one hK1] at hP hD
  refine W.widen (k := 4) (n := 264) (Nat.le_of_ble_eq_true rfl) (Nat.le_of_ble_eq_true rfl) ?_
  have hP : va_P (dC, dI) vwCl [(o, .inr (1, [.int 0, .int 0, .int 0, .ref a1, .ref a2, .ref a3, .null, .null])), (a1, .inl (dA, 66, .inl (fun _ => 0))), (a2, .inl (dA, 66, .inl (fun _ => 0))), (a3, .inl (dA, 66, .inl (fun _ => 0))), (a4, .inl (dA, 66, .inl (fun _ => 0)))] H := hP
  have hD : va_D A [(o, .inr (1, [.int 0, .int 0, .int 0, .ref a1, .ref a2, .ref a3, .null, .null])), (a1, .inl (dA, 66, .inl (fun _ => 0))), (a2, .inl (dA, 66, .inl (fun _ => 0))), (a3, .inl (dA, 66, .inl (fun _ => 0))), (a4, .inl (dA, 66, .inl (fun _ => 0)))] := hD
  refine va_putF (D := (dC, dI)) (ci := 1) (v := .ref a4) (ty := .array .int) (C := RX2) (T := TX2) (N := 8) hx hb hts in_X2 tyX2 tyX2_ok nmX2 hown hK hP hD hS 0 rfl rfl 6 (by decide) (hts _ q153) (fun _ h9 => h9) rfl hin rfl (by decide +kernel) rfl rfl (Nat.le_of_ble_eq_true rfl) dX2_init_33 (fun H locs hP hD hS => ?_)
  have hP : va_P (dC, dI) vwCl [(o, .inr (1, [.int 0, .int 0, .int 0, .ref a1, .ref a2, .ref a3, .ref a4, .null])), (a1, .inl (dA, 66, .inl (fun _ => 0))), (a2, .inl (dA, 66, .inl (fun _ => 0))), (a3, .inl (dA, 66, .inl (fun _ => 0))), (a4, .inl (dA, 66, .inl (fun _ => 0)))] H := hP
  have hD : va_D A [(o, .inr (1, [.int 0, .int 0, .int 0, .ref a1, .ref a2, .ref a3, .ref a4, .null])), (a1, .inl (dA, 66, .inl (fun _ => 0))), (a2, .inl (dA, 66, .inl (fun _ => 0))), (a3, .inl (dA, 66, .inl (fun _ => 0))), (a4, .inl (dA, 66, .inl (fun _ => 0)))] := hD
  refine lv_aload_n hx hb dX2_init_36 rfl (lv_at hl 0 rfl) ?_
  refine lv_bipush (v := 67) hx hb dX2_init_37 (by decide) ?_
  refine va_newa (atype := .int) (n := 67) (N' := 67) (a0 := (67, .inl (fun _ => 0))) hx hb (hts _ q55) rfl hK hP hD hS hA (fun _ => rfl) (by decide) (by decide) (by decide) (Nat.le_of_ble_eq_true rfl) (Nat.le_of_ble_eq_true rfl) dX2_init_39 (fun a5 cA H hK1 hP hD hS => ?_)
  rw [gm_one hK1] at hP hD
  refine W.widen (k := 5) (n := 331) (Nat.le_of_ble_eq_true rfl) (Nat.le_of_ble_eq_true rfl) ?_
  have hP : va_P (dC, dI) vwCl [(o, .inr (1, [.int 0, .int 0, .int 0, .ref a1, .ref a2, .ref a3, .ref a4, .null])), (a1, .inl (dA, 66, .inl (fun _ => 0))), (a2, .inl (dA, 66, .inl (fun _ => 0))), (a3, .inl (dA, 66, .inl (fun _ => 0))), (a4, .inl (dA, 66, .inl (fun _ => 0))), (a5, .inl (dA, 67, .inl (fun _ => 0)))] H := hP
  have hD : va_D A [(o, .inr (1, [.int 0, .int 0, .int 0, .ref a1, .ref a2, .ref a3, .ref a4, .null])), (a1, .inl (dA, 66, .inl (fun _ => 0))), (a2, .inl (dA, 66, .inl (fun _ => 0))), (a3, .inl (dA, 66, .inl (fun _ => 0))), (a4, .inl (dA, 66, .inl (fun _ => 0))), (a5, .inl (dA, 67, .inl (fun _ => 0)))] := hD
  refine va_putF (D := (dC, dI)) (ci := 1) (v := .ref a5) (ty := .array .int) (C := RX2) (T := TX2) (N := 8) hx hb hts in_X2 tyX2 tyX2_ok nmX2 hown hK hP hD hS 0 rfl rfl 7 (by decide) (hts _ q154) (fun _ h9 => h9) rfl hin rfl (by decide +kernel) rfl rfl (Nat.le_of_ble_eq_true rfl) dX2_init_41 (fun H locs hP hD hS => ?_)
  have hP : va_P (dC, dI) vwCl [(o, .inr (1, [.int 0, .int 0, .int 0, .ref a1, .ref a2, .ref a3, .ref a4, .ref a5])), (a1, .inl (dA, 66, .inl (fun _ => 0))), (a2, .inl (dA, 66, .inl (fun _ => 0))), (a3, .inl (dA, 66, .inl (fun _ => 0))), (a4, .inl (dA, 66, .inl (fun _ => 0))), (a5, .inl (dA, 67, .inl (fun _ => 0)))] H := hP
  have hD : va_D A [(o, .inr (1, [.int 0, .int 0, .int 0, .ref a1, .ref a2, .ref a3, .ref a4, .ref a5])), (a1, .inl (dA, 66, .inl (fun _ => 0))), (a2, .inl (dA, 66, .inl (fun _ => 0))), (a3, .inl (dA, 66, .inl (fun _ => 0))), (a4, .inl (dA, 66, .inl (fun _ => 0))), (a5, .inl (dA, 67, .inl (fun _ => 0)))] := hD
  refine lv_iload_n hx hb dX2_init_44 rfl (lv_at hl 1 rfl) ?_
  refine lv_bipush (v := 62) hx hb dX2_init_45 (by decide) ?_
  refine lv_irem hx hb dX2_init_47 (by decide) ?_
  refine lv_istore_n (lv' := [(2, .int (n - n / 62 * 62)), (0, .ref o), (1, .int n)]) hx hb dX2_init_48 rfl hl (by decide) rfl (fun ls hl => ?_)
  refine lv_aload_n hx hb dX2_init_49 rfl (lv_at hl 1 rfl) ?_
  refine lv_iconst (v := 3) hx hb dX2_init_50 (by decide) ?_
  refine lv_iload_n hx hb dX2_init_51 rfl (lv_at hl 0 rfl) ?_
  refine lv_if_ge (tgt := 62) hx hb dX2_init_52 (by decide) (fun c_1 => ?_) (fun c_1 => ?_)
  · refine lv_iload_n hx hb dX2_init_62 rfl (lv_at hl 0 rfl) ?_
    refine lv_iadd hx hb dX2_init_63 ?_
    refine gr_topi (y := gc_cap n) (by unfold gc_cap; rw [if_pos c_1]) ?_
    refine va_putF (D := (dC, dI)) (ci := 1) (v := .int (gc_cap n)) (ty := .int) (C := RX2) (T := TX2) (N := 8) hx hb hts in_X2 tyX2 tyX2_ok nmX2 hown hK hP hD hS 0 rfl rfl 0 (by decide) (hts _ q147) (fun _ h9 => h9) rfl hin rfl (by decide +kernel) rfl rfl (Nat.le_of_ble_eq_true rfl) dX2_init_64 (fun H locs hP hD hS => ?_)
    have hP : va_P (dC, dI) vwCl [(o, .inr (1, [.int (gc_cap n), .int 0, .int 0, .ref a1, .ref a2, .ref a3, .ref a4, .ref a5])), (a1, .inl (dA, 66, .inl (fun _ => 0))), (a2, .inl (dA, 66, .inl (fun _ => 0))), (a3, .inl (dA, 66, .inl (fun _ => 0))), (a4, .inl (dA, 66, .inl (fun _ => 0))), (a5, .inl (dA, 67, .inl (fun _ => 0)))] H := hP
    have hD : va_D A [(o, .inr (1, [.int (gc_cap n), .int 0, .int 0, .ref a1, .ref a2, .ref a3, .ref a4, .ref a5])), (a1, .inl (dA, 66, .inl (fun _ => 0))), (a2, .inl (dA, 66, .inl (fun _ => 0))), (a3, .inl (dA, 66, .inl (fun _ => 0))), (a4, .inl (dA, 66, .inl (fun _ => 0))), (a5, .inl (dA, 67, .inl (fun _ => 0)))] := hD
    exact W.vret hx hb hr (fun t ht hW => ⟨⟨(a1, a2, a3, a4, a5), rfl, trivial, by rw [ht]; exact hP, va_K.moved hW.alike hK, hD⟩, hS.F ht⟩) hS.2.2 dX2_init_67
  · refine lv_iload_n hx hb dX2_init_55 rfl (lv_at hl 0 rfl) ?_
    refine lv_bipush (v := 62) hx hb dX2_init_56 (by decide) ?_
    refine lv_iadd hx hb dX2_init_58 ?_
    refine lv_goto (tgt := 63) hx hb dX2_init_59 (by decide) ?_
    refine lv_iadd hx hb dX2_init_63 ?_
    refine gr_topi (y := gc_cap n) (by unfold gc_cap; rw [if_neg c_1]) ?_
    refine va_putF (D := (dC, dI)) (ci := 1) (v := .int (gc_cap n)) (ty := .int) (C := RX2) (T := TX2) (N := 8) hx hb hts in_X2 tyX2 tyX2_ok nmX2 hown hK hP hD hS 0 rfl rfl 0 (by decide) (hts _ q147) (fun _ h9 => h9) rfl hin rfl (by decide +kernel) rfl rfl (Nat.le_of_ble_eq_true rfl) dX2_init_64 (fun H locs hP hD hS => ?_)
    have hP : va_P (dC, dI) vwCl [(o, .inr (1, [.int (gc_cap n), .int 0, .int 0, .ref a1, .ref a2, .ref a3, .ref a4, .ref a5])), (a1, .inl (dA, 66, .inl (fun _ => 0))), (a2, .inl (dA, 66, .inl (fun _ => 0))), (a3, .inl (dA, 66, .inl (fun _ => 0))), (a4, .inl (dA, 66, .inl (fun _ => 0))), (a5, .inl (dA, 67, .inl (fun _ => 0)))] H := hP
    have hD : va_D A [(o, .inr (1, [.int (gc_cap n), .int 0, .int 0, .ref a1, .ref a2, .ref a3, .ref a4, .ref a5])), (a1, .inl (dA, 66, .inl (fun _ => 0))), (a2, .inl (dA, 66, .inl (fun _ => 0))), (a3, .inl (dA, 66, .inl (fun _ => 0))), (a4, .inl (dA, 66, .inl (fun _ => 0))), (a5, .inl (dA, 67, .inl (fun _ => 0)))] := hD
    exact W.vret hx hb hr (fun t ht hW => ⟨⟨(a1, a2, a3, a4, a5), rfl, trivial, by rw [ht]; exact hP, va_K.moved hW.alike hK, hD⟩, hS.F ht⟩) hS.2.2 dX2_init_67
set_option maxHeartbeats 4000000 in
set_option maxRecDepth 100000 in
theorem metX2_goRound (l : Launch) (dC : Nat → ClassId) (dI : Nat → Nat → Nat) (dA : ClassId) (sz : Nat) (o o1 o2 o3 o4 o5 N : Nat) (xs ys px py rd : Nat → Int32) (cap pts : Int32) (n M : Nat) (V : Nat → Int × Int) (hm : Nat → Nat) (hn : 1 ≤ n) (hn6 : n ≤ 65) (hw : gw_ok n (gp px py) M V hm) : Met l yX2_goRound (ws_ yX2_goRound cX2_goRound 8 (some .int)) ({ frames := 2, cells := 0, slots := 0, locals := 64 }) (gm_Pc (dC, dI) [.ref o, .int (nI n)] sz [(o, .inr (1, [.int cap, .int (nI N), .int pts, .ref o1, .ref o2, .ref o3, .ref o4, .ref o5])), (o1, .inl (dA, 66, .inl xs)), (o2, .inl (dA, 66, .inl ys)), (o3, .inl (dA, 66, .inl px)), (o4, .inl (dA, 66, .inl py)), (o5, .inl (dA, 67, .inl rd))] [(dA, .int)]) (va_Qi (S := (Nat → Int32)) (fun r u => r = nI M ∧ ∀ j, j < M → u j = nI (hm j)) (gm_B (dC, dI) [(dA, .int)] (va_A [(o, .inr (1, [.int cap, .int (nI N), .int pts, .ref o1, .ref o2, .ref o3, .ref o4, .ref o5])), (o1, .inl (dA, 66, .inl xs)), (o2, .inl (dA, 66, .inl ys)), (o3, .inl (dA, 66, .inl px)), (o4, .inl (dA, 66, .inl py)), (o5, .inl (dA, 67, .inl rd))] sz) (fun u => [(o, .inr (1, [.int cap, .int (nI N), .int pts, .ref o1, .ref o2, .ref o3, .ref o4, .ref o5])), (o1, .inl (dA, 66, .inl xs)), (o2, .inl (dA, 66, .inl ys)), (o3, .inl (dA, 66, .inl px)), (o4, .inl (dA, 66, .inl py)), (o5, .inl (dA, 67, .inl u))])) (va_A [(o, .inr (1, [.int cap, .int (nI N), .int pts, .ref o1, .ref o2, .ref o3, .ref o4, .ref o5])), (o1, .inl (dA, 66, .inl xs)), (o2, .inl (dA, 66, .inl ys)), (o3, .inl (dA, 66, .inl px)), (o4, .inl (dA, 66, .inl py)), (o5, .inl (dA, 67, .inl rd))] sz)) 0 0 (va_A [(o, .inr (1, [.int cap, .int (nI N), .int pts, .ref o1, .ref o2, .ref o3, .ref o4, .ref o5])), (o1, .inl (dA, 66, .inl xs)), (o2, .inl (dA, 66, .inl ys)), (o3, .inl (dA, 66, .inl px)), (o4, .inl (dA, 66, .inl py)), (o5, .inl (dA, 67, .inl rd))] sz) := by
  refine Met.ofW (cc := cX2_goRound) (maxL := 8) (ret := (some .int)) (by decide) rfl ?_
  intro p e s m args below meth c s₁ B hml hv
  obtain ⟨rfl, hsz, hP, hK, hD0⟩ := hv
  have hx := B.exec
  have hb := B.bytes
  have hr := B.returns
  have hts := atoms_spec (ws := (ws_ yX2_goRound cX2_goRound 8 (some .int))) B.pre
  have hts : ∀ w ∈ lw_all, w.before _ s = true := fun w h => hts w (List.mem_cons_of_mem _ h)
  have hown : s.vm.findClass RX2 = some m.cls := findClass_of_methodNamed B.named
  have hlocks := B.notSynchronized
  subst hsz
  have hD := hD0.self (sz := s.heap.size)
  generalize hAe : va_A [(o, .inr (1, [.int cap, .int (nI N), .int pts, .ref o1, .ref o2, .ref o3, .ref o4, .ref o5])), (o1, .inl (dA, 66, .inl xs)), (o2, .inl (dA, 66, .inl ys)), (o3, .inl (dA, 66, .inl px)), (o4, .inl (dA, 66, .inl py)), (o5, .inl (dA, 67, .inl rd))] s.heap.size = A at hD ⊢
  have hA : ∀ q : Nat, s.heap.size ≤ q → A q := fun q h => by rw [← hAe]; exact Or.inr h
  have hS : va_S A s.heap s.heap [] := va_S.rf
  have hl := lv_entry ([.ref o, .int (nI n)]) (n := 8) (Nat.le_of_ble_eq_true rfl)
  rw [lg_entry_eq]
  generalize (lg_sl ([.ref o, .int (nI n)]) ++ List.replicate (8 - (lg_sl ([.ref o, .int (nI n)])).length) Slot.unset).toArray = ls at hl ⊢
  have hl : lv_has ls 8 [(0, .ref o), (1, .int (nI n))] := hl
  have hM1 := hw.1
  have hM2 := hw.2.1
  have hqok := hw.2.2.1
  have hmn : ∀ j, j < M → hm j < n := fun j hj => (hw.2.2.2.2.1 j hj).1
  have loop2 : ∀ (d mny : Nat) (rd : Nat → Int32), M < mny + d → mny < M → (∀ j, j < mny → rd j = nI (hm j)) → ∀ (H : Heap) (locs : List Loc), va_P (dC, dI) vwCl [(o, .inr (1, [.int cap, .int (nI N), .int pts, .ref o1, .ref o2, .ref o3, .ref o4, .ref o5])), (o1, .inl (dA, 66, .inl xs)), (o2, .inl (dA, 66, .inl ys)), (o3, .inl (dA, 66, .inl px)), (o4, .inl (dA, 66, .inl py)), (o5, .inl (dA, 67, .inl rd))] H → va_D A [(o, .inr (1, [.int cap, .int (nI N), .int pts, .ref o1, .ref o2, .ref o3, .ref o4, .ref o5])), (o1, .inl (dA, 66, .inl xs)), (o2, .inl (dA, 66, .inl ys)), (o3, .inl (dA, 66, .inl px)), (o4, .inl (dA, 66, .inl py)), (o5, .inl (dA, 67, .inl rd))] → va_S A s.heap H locs → ∀ (ls : Array Slot), lv_has ls 8 [(0, .ref o), (1, .int (nI n)), (2, .int (nI (hm 0))), (3, .int (nI mny)), (4, .int (nI (hm mny))), (5, .int 1)] → W p l e (headSpec (ws_ yX2_goRound cX2_goRound 8 (some .int)) ({ frames := 2, cells := 0, slots := 0, locals := 64 })).room s m ([.ref o, .int (nI n)] : List Value).toArray below meth c H locs 0 0 (MQ below (va_Qi (S := (Nat → Int32)) (fun r u => r = nI M ∧ ∀ j, j < M → u j = nI (hm j)) (gm_B (dC, dI) [(dA, .int)] A (fun u => [(o, .inr (1, [.int cap, .int (nI N), .int pts, .ref o1, .ref o2, .ref o3, .ref o4, .ref o5])), (o1, .inl (dA, 66, .inl xs)), (o2, .inl (dA, 66, .inl ys)), (o3, .inl (dA, 66, .inl px)), (o4, .inl (dA, 66, .inl py)), (o5, .inl (dA, 67, .inl u))])) A) ([.ref o, .int (nI n)] : List Value).toArray s 0 0 A) (F0 m 74 ls []) := by
    intro d
    induction d with
    | zero => intro mny rd h1 h2; omega
    | succ d ih =>
      intro mny rd hd hmM hrd H locs hP hD hS ls hl
      have ha := hmn mny hmM
      have hMM := hmn _ (gh_nxlt hmM)
      have ha0 := hmn 0 (by omega)
      refine lv_iload hx hb dX2_goRound_74 (lv_at hl 5 rfl) ?_
      refine lv_if_eq (tgt := 173) hx hb dX2_goRound_76 (by decide) (fun c_1 => ?_) (fun c_1 => ?_)
      · exact absurd c_1 (by decide)
      · refine lv_aload_n hx hb dX2_goRound_79 rfl (lv_at hl 0 rfl) ?_
        refine va_get (D := (dC, dI)) (ci := 1) (v := .ref o5) (C := RX2) (T := TX2) (N := 8) hx hb hts in_X2 hown hK hP 0 rfl rfl 7 (by decide) (hts _ q154) (fun _ h9 => h9) rfl dX2_goRound_80 ?_
        refine lv_iload_n hx hb dX2_goRound_83 rfl (lv_at hl 3 rfl) ?_
        refine lv_iload hx hb dX2_goRound_84 (lv_at hl 4 rfl) ?_
        refine gr_iast (k := mny) hx hb hK hP hD hS 5 0 rfl rfl (by omega) (by decide) dX2_goRound_86 (fun H locs hP hD hS => ?_)
        have hP : va_P (dC, dI) vwCl [(o, .inr (1, [.int cap, .int (nI N), .int pts, .ref o1, .ref o2, .ref o3, .ref o4, .ref o5])), (o1, .inl (dA, 66, .inl xs)), (o2, .inl (dA, 66, .inl ys)), (o3, .inl (dA, 66, .inl px)), (o4, .inl (dA, 66, .inl py)), (o5, .inl (dA, 67, .inl (upd rd mny (nI (hm mny)))))] H := hP
        have hD : va_D A [(o, .inr (1, [.int cap, .int (nI N), .int pts, .ref o1, .ref o2, .ref o3, .ref o4, .ref o5])), (o1, .inl (dA, 66, .inl xs)), (o2, .inl (dA, 66, .inl ys)), (o3, .inl (dA, 66, .inl px)), (o4, .inl (dA, 66, .inl py)), (o5, .inl (dA, 67, .inl (upd rd mny (nI (hm mny)))))] := hD
        refine lv_iinc (v := nI (mny + 1)) (lv' := [(3, .int (nI (mny + 1))), (0, .ref o), (1, .int (nI n)), (2, .int (nI (hm 0))), (4, .int (nI (hm mny))), (5, .int 1)]) hx hb dX2_goRound_87 hl (k := 3) rfl (nI_1 mny) (by decide) rfl (fun ls hl => ?_)
        have hrd2 : ∀ j, j < mny + 1 → upd rd mny (nI (hm mny)) j = nI (hm j) := fun j hj => by
          by_cases e : j = mny
          · rw [e, pk_us]
          · rw [pk_un e]; exact hrd j (by omega)
        generalize upd rd mny (nI (hm mny)) = rd2 at hP hD hrd2
        have inner : ∀ (g k t : Nat), n < k + g → k ≤ n → t < n → gw_in (hm (gh_nx M mny)) (hm mny) t k → ∀ (ls : Array Slot), lv_has ls 8 [(0, .ref o), (1, .int (nI n)), (2, .int (nI (hm 0))), (3, .int (nI (mny + 1))), (4, .int (nI (hm mny))), (6, .int (nI t)), (7, .int (nI k))] → W p l e (headSpec (ws_ yX2_goRound cX2_goRound 8 (some .int)) ({ frames := 2, cells := 0, slots := 0, locals := 64 })).room s m ([.ref o, .int (nI n)] : List Value).toArray below meth c H locs 0 0 (MQ below (va_Qi (S := (Nat → Int32)) (fun r u => r = nI M ∧ ∀ j, j < M → u j = nI (hm j)) (gm_B (dC, dI) [(dA, .int)] A (fun u => [(o, .inr (1, [.int cap, .int (nI N), .int pts, .ref o1, .ref o2, .ref o3, .ref o4, .ref o5])), (o1, .inl (dA, 66, .inl xs)), (o2, .inl (dA, 66, .inl ys)), (o3, .inl (dA, 66, .inl px)), (o4, .inl (dA, 66, .inl py)), (o5, .inl (dA, 67, .inl u))])) A) ([.ref o, .int (nI n)] : List Value).toArray s 0 0 A) (F0 m 107 ls []) := by
          intro g
          induction g with
          | zero => intro k t h1 h2; omega
          | succ g ihk =>
            intro k t hg hk ht hin ls hl
            refine lv_iload hx hb dX2_goRound_107 (lv_at hl 6 rfl) ?_
            refine lv_iload_n hx hb dX2_goRound_109 rfl (lv_at hl 1 rfl) ?_
            refine lv_icmp_ge (tgt := 148) hx hb dX2_goRound_110 (by decide) (fun c_2 => ?_) (fun c_2 => ?_)
            · have c1 := (nI_leI (by omega) (by omega)).mp c_2
              have e1 : t = hm (gh_nx M mny) := by
                rcases hin with e | ⟨_, e⟩
                · exact e
                · omega
              rw [e1] at hl
              refine lv_iload hx hb dX2_goRound_148 (lv_at hl 5 rfl) ?_
              refine lv_istore (lv' := [(4, .int (nI (hm (gh_nx M mny)))), (0, .ref o), (1, .int (nI n)), (2, .int (nI (hm 0))), (3, .int (nI (mny + 1))), (6, .int (nI (hm (gh_nx M mny)))), (7, .int (nI k))]) hx hb dX2_goRound_150 hl (by decide) rfl (fun ls hl => ?_)
              refine lv_iload hx hb dX2_goRound_152 (lv_at hl 0 rfl) ?_
              refine lv_iload_n hx hb dX2_goRound_154 rfl (lv_at hl 3 rfl) ?_
              refine lv_icmp_eq (tgt := 167) hx hb dX2_goRound_155 (by decide) (fun c_3 => ?_) (fun c_3 => ?_)
              · have c2 : hm (gh_nx M mny) = hm 0 := (nI_eq (by omega) (by omega)).mp c_3
                have c3 : gh_nx M mny = 0 := gw_inj hw (gh_nxlt hmM) (by omega) c2
                have c4 : mny + 1 = M := by
                  unfold gh_nx at c3
                  split at c3
                  · assumption
                  · omega
                refine lv_iconst (v := 0) hx hb dX2_goRound_167 (by decide) ?_
                refine lv_istore (lv' := [(5, .int 0), (4, .int (nI (hm (gh_nx M mny)))), (0, .ref o), (1, .int (nI n)), (2, .int (nI (hm 0))), (3, .int (nI (mny + 1))), (6, .int (nI (hm (gh_nx M mny)))), (7, .int (nI k))]) hx hb dX2_goRound_168 hl (by decide) rfl (fun ls hl => ?_)
                refine lv_goto (tgt := 74) hx hb dX2_goRound_170 (by decide) ?_
                refine lv_iload hx hb dX2_goRound_74 (lv_at hl 0 rfl) ?_
                refine lv_if_eq (tgt := 173) hx hb dX2_goRound_76 (by decide) (fun c_4 => ?_) (fun c_4 => ?_)
                · refine lv_iload_n hx hb dX2_goRound_173 rfl (lv_at hl 5 rfl) ?_
                  exact W.iret (v := (nI (mny + 1))) hx hb hr (fun t ht hW => ⟨⟨(nI (mny + 1)), rd2, rfl, ⟨by rw [c4], fun j hj => hrd2 j (by omega)⟩, by rw [ht]; exact hP, va_K.moved hW.alike hK, hD⟩, hS.F ht⟩) hS.2.2 dX2_goRound_174
                · exact absurd rfl c_4
              · have c3 : gh_nx M mny ≠ 0 := fun z => c_3 (by rw [z])
                have c4 : gh_nx M mny = mny + 1 ∧ mny + 1 < M := by
                  have := gh_nxlt hmM
                  unfold gh_nx at c3 this ⊢
                  split at c3
                  · omega
                  · rename_i e9
                    rw [if_neg e9]
                    omega
                refine lv_iload_n hx hb dX2_goRound_158 rfl (lv_at hl 4 rfl) ?_
                refine lv_iload_n hx hb dX2_goRound_159 rfl (lv_at hl 2 rfl) ?_
                refine lv_icmp_gt (tgt := 167) hx hb dX2_goRound_160 (by decide) (fun c_5 => ?_) (fun c_5 => ?_)
                · exact absurd c_5 (nI_nlt (by omega) (by omega))
                · rw [c4.1] at hl
                  refine lv_iconst (v := 1) hx hb dX2_goRound_163 (by decide) ?_
                  refine lv_goto (tgt := 168) hx hb dX2_goRound_164 (by decide) ?_
                  refine lv_istore (lv' := [(5, .int 1), (4, .int (nI (hm (mny + 1)))), (0, .ref o), (1, .int (nI n)), (2, .int (nI (hm 0))), (3, .int (nI (mny + 1))), (6, .int (nI (hm (mny + 1)))), (7, .int (nI k))]) hx hb dX2_goRound_168 hl (by decide) rfl (fun ls hl => ?_)
                  refine lv_goto (tgt := 74) hx hb dX2_goRound_170 (by decide) ?_
                  exact ih (mny + 1) rd2 (by omega) c4.2 hrd2 H locs hP hD hS ls (lv_sub hl [2, 3, 4, 5, 1, 0] rfl)
            · have c1 : k < n := Nat.not_le.mp (fun z => c_2 ((nI_leI (by omega) (by omega)).mpr z))
              obtain ⟨st1, st2, st3⟩ := gw_step hw hmM ht c1 hin
              have tail : ∀ (t2 : Nat), t2 < n → gw_in (hm (gh_nx M mny)) (hm mny) t2 (k + 1) → ∀ (ls : Array Slot), lv_has ls 8 [(0, .ref o), (1, .int (nI n)), (2, .int (nI (hm 0))), (3, .int (nI (mny + 1))), (4, .int (nI (hm mny))), (6, .int (nI t)), (7, .int (nI k))] → W p l e (headSpec (ws_ yX2_goRound cX2_goRound 8 (some .int)) ({ frames := 2, cells := 0, slots := 0, locals := 64 })).room s m ([.ref o, .int (nI n)] : List Value).toArray below meth c H locs 0 0 (MQ below (va_Qi (S := (Nat → Int32)) (fun r u => r = nI M ∧ ∀ j, j < M → u j = nI (hm j)) (gm_B (dC, dI) [(dA, .int)] A (fun u => [(o, .inr (1, [.int cap, .int (nI N), .int pts, .ref o1, .ref o2, .ref o3, .ref o4, .ref o5])), (o1, .inl (dA, 66, .inl xs)), (o2, .inl (dA, 66, .inl ys)), (o3, .inl (dA, 66, .inl px)), (o4, .inl (dA, 66, .inl py)), (o5, .inl (dA, 67, .inl u))])) A) ([.ref o, .int (nI n)] : List Value).toArray s 0 0 A) (F0 m 140 ls [.int (nI t2)]) := by
                intro t2 ht2 hin2 ls hl
                refine lv_istore (lv' := [(6, .int (nI t2)), (0, .ref o), (1, .int (nI n)), (2, .int (nI (hm 0))), (3, .int (nI (mny + 1))), (4, .int (nI (hm mny))), (7, .int (nI k))]) hx hb dX2_goRound_140 hl (by decide) rfl (fun ls hl => ?_)
                refine lv_iinc (v := nI (k + 1)) (lv' := [(7, .int (nI (k + 1))), (6, .int (nI t2)), (0, .ref o), (1, .int (nI n)), (2, .int (nI (hm 0))), (3, .int (nI (mny + 1))), (4, .int (nI (hm mny)))]) hx hb dX2_goRound_142 hl (k := 6) rfl (nI_1 k) (by decide) rfl (fun ls hl => ?_)
                refine lv_goto (tgt := 107) hx hb dX2_goRound_145 (by decide) ?_
                exact ihk (k + 1) t2 (by omega) (by omega) ht2 hin2 ls (lv_sub hl [2, 3, 4, 5, 6, 1, 0] rfl)
              refine lv_iload hx hb dX2_goRound_113 (lv_at hl 6 rfl) ?_
              refine lv_iload hx hb dX2_goRound_115 (lv_at hl 4 rfl) ?_
              refine lv_icmp_eq (tgt := 138) hx hb dX2_goRound_117 (by decide) (fun c_6 => ?_) (fun c_6 => ?_)
              · have c2 : k = hm mny := (nI_eq (by omega) (by omega)).mp c_6
                refine lv_iload hx hb dX2_goRound_138 (lv_at hl 5 rfl) ?_
                exact tail t ht (st1 c2) ls (lv_sub hl [0, 1, 2, 3, 4, 5, 6] rfl)
              · have c2 : k ≠ hm mny := fun z => c_6 (by rw [z])
                refine lv_aload_n hx hb dX2_goRound_120 rfl (lv_at hl 0 rfl) ?_
                refine lv_iload hx hb dX2_goRound_121 (lv_at hl 4 rfl) ?_
                refine lv_iload hx hb dX2_goRound_123 (lv_at hl 5 rfl) ?_
                refine lv_iload hx hb dX2_goRound_125 (lv_at hl 6 rfl) ?_
                refine vp_callSi (va_Run.run (va_runV (As := [.int (nI (hm mny)), .int (nI t), .int (nI k)]) (rest := []) ⟨hx, hb, hml, hown, hts⟩ (metX2_isNext l dC dI dA o o1 o2 o3 o4 o5 N xs ys px py rd2 cap pts n (hm mny) t k (by omega) hqok ha ht c1) (cwV 3 hts (lw_V q198 q200 qs9 q12 q201) rfl rfl rfl (by decide +kernel) ⟨Nat.le_of_ble_eq_true rfl, Nat.le_of_ble_eq_true rfl⟩) (gr_preV hK hP (ci := 1) (q0 := 0) rfl rfl (hP.sub (ws' := [(o, .inr (1, [.int cap, .int (nI N), .int pts, .ref o1, .ref o2, .ref o3, .ref o4, .ref o5])), (o1, .inl (dA, 66, .inl xs)), (o2, .inl (dA, 66, .inl ys)), (o3, .inl (dA, 66, .inl px)), (o4, .inl (dA, 66, .inl py)), (o5, .inl (dA, 67, .inl rd2))]) [0, 1, 2, 3, 4, 5] rfl) (hK.sub (tys' := [(dA, .int)]) [0] rfl)) rfl rfl hl.1 rfl (lv_room (Nat.le_of_ble_eq_true rfl)) dX2_goRound_127 ⟨Nat.zero_le _, Nat.zero_le _⟩)) (fun zn hzn => ?_)
                refine lv_if_eq (tgt := 138) hx hb dX2_goRound_130 (by decide) (fun c_8 => ?_) (fun c_8 => ?_)
                · refine lv_iload hx hb dX2_goRound_138 (lv_at hl 5 rfl) ?_
                  exact tail t ht (st3 c2 (gk_b.neg hzn c_8)) ls (lv_sub hl [0, 1, 2, 3, 4, 5, 6] rfl)
                · refine lv_iload hx hb dX2_goRound_133 (lv_at hl 6 rfl) ?_
                  refine lv_goto (tgt := 140) hx hb dX2_goRound_135 (by decide) ?_
                  exact tail k c1 (st2 c2 (gk_b.pos hzn c_8)) ls (lv_sub hl [0, 1, 2, 3, 4, 5, 6] rfl)
        have t102 : ∀ (t : Nat), t < n → gw_in (hm (gh_nx M mny)) (hm mny) t 0 → ∀ (ls : Array Slot), lv_has ls 8 [(0, .ref o), (1, .int (nI n)), (2, .int (nI (hm 0))), (3, .int (nI (mny + 1))), (4, .int (nI (hm mny)))] → W p l e (headSpec (ws_ yX2_goRound cX2_goRound 8 (some .int)) ({ frames := 2, cells := 0, slots := 0, locals := 64 })).room s m ([.ref o, .int (nI n)] : List Value).toArray below meth c H locs 0 0 (MQ below (va_Qi (S := (Nat → Int32)) (fun r u => r = nI M ∧ ∀ j, j < M → u j = nI (hm j)) (gm_B (dC, dI) [(dA, .int)] A (fun u => [(o, .inr (1, [.int cap, .int (nI N), .int pts, .ref o1, .ref o2, .ref o3, .ref o4, .ref o5])), (o1, .inl (dA, 66, .inl xs)), (o2, .inl (dA, 66, .inl ys)), (o3, .inl (dA, 66, .inl px)), (o4, .inl (dA, 66, .inl py)), (o5, .inl (dA, 67, .inl u))])) A) ([.ref o, .int (nI n)] : List Value).toArray s 0 0 A) (F0 m 102 ls [.int (nI t)]) := by
          intro t ht hin ls hl
          refine lv_istore (lv' := [(6, .int (nI t)), (0, .ref o), (1, .int (nI n)), (2, .int (nI (hm 0))), (3, .int (nI (mny + 1))), (4, .int (nI (hm mny)))]) hx hb dX2_goRound_102 hl (by decide) rfl (fun ls hl => ?_)
          refine lv_iconst (v := 0) hx hb dX2_goRound_104 (by decide) ?_
          refine gr_topi (y := nI 0) (nI_0.symm) ?_
          refine lv_istore (lv' := [(7, .int (nI 0)), (6, .int (nI t)), (0, .ref o), (1, .int (nI n)), (2, .int (nI (hm 0))), (3, .int (nI (mny + 1))), (4, .int (nI (hm mny)))]) hx hb dX2_goRound_105 hl (by decide) rfl (fun ls hl => ?_)
          exact inner (n + 1) 0 t (by omega) (by omega) ht hin ls (lv_sub hl [2, 3, 4, 5, 6, 1, 0] rfl)
        have start : ∀ t : Nat, t < n → (t ≠ hm mny ∨ n = 1) → gw_in (hm (gh_nx M mny)) (hm mny) t 0 := fun t ht h => by
          rcases h with h | h
          · exact Or.inr ⟨h, by omega⟩
          · exact Or.inl (by omega)
        refine lv_iload hx hb dX2_goRound_90 (lv_at hl 4 rfl) ?_
        refine lv_if_ne (tgt := 101) hx hb dX2_goRound_92 (by decide) (fun c_9 => ?_) (fun c_9 => ?_)
        · have c1 : hm mny ≠ 0 := fun z => c_9 (by rw [z]; rfl)
          refine lv_iconst (v := 0) hx hb dX2_goRound_101 (by decide) ?_
          refine gr_topi (y := nI 0) (nI_0.symm) ?_
          exact t102 0 (by omega) (start 0 (by omega) (by omega)) ls (lv_sub hl [1, 2, 3, 0, 4] rfl)
        · have c1 : hm mny = 0 := (nI_eq (by omega) (by omega)).mp c_9
          refine lv_iload_n hx hb dX2_goRound_95 rfl (lv_at hl 2 rfl) ?_
          refine lv_iconst (v := 1) hx hb dX2_goRound_96 (by decide) ?_
          refine lv_isub hx hb dX2_goRound_97 ?_
          refine gr_topi (y := nI (n - 1)) (gi_m1 (by omega)) ?_
          refine lv_goto (tgt := 102) hx hb dX2_goRound_98 (by decide) ?_
          exact t102 (n - 1) (by omega) (start (n - 1) (by omega) (by omega)) ls (lv_sub hl [1, 2, 3, 0, 4] rfl)
  have loop1 : ∀ (d k f : Nat), n < k + d → k ≤ n → f < k → (∀ j, j < k → gh_K (gp px py f) ≤ gh_K (gp px py j)) → ∀ (ls : Array Slot), lv_has ls 8 [(0, .ref o), (1, .int (nI n)), (2, .int (nI f)), (3, .int (nI k))] → W p l e (headSpec (ws_ yX2_goRound cX2_goRound 8 (some .int)) ({ frames := 2, cells := 0, slots := 0, locals := 64 })).room s m ([.ref o, .int (nI n)] : List Value).toArray below meth c s.heap [] 0 0 (MQ below (va_Qi (S := (Nat → Int32)) (fun r u => r = nI M ∧ ∀ j, j < M → u j = nI (hm j)) (gm_B (dC, dI) [(dA, .int)] A (fun u => [(o, .inr (1, [.int cap, .int (nI N), .int pts, .ref o1, .ref o2, .ref o3, .ref o4, .ref o5])), (o1, .inl (dA, 66, .inl xs)), (o2, .inl (dA, 66, .inl ys)), (o3, .inl (dA, 66, .inl px)), (o4, .inl (dA, 66, .inl py)), (o5, .inl (dA, 67, .inl u))])) A) ([.ref o, .int (nI n)] : List Value).toArray s 0 0 A) (F0 m 4 ls []) := by
    intro d
    induction d with
    | zero => intro k f h1 h2; omega
    | succ d ih =>
      intro k f hd hk hf hmin ls hl
      refine lv_iload_n hx hb dX2_goRound_4 rfl (lv_at hl 3 rfl) ?_
      refine lv_iload_n hx hb dX2_goRound_5 rfl (lv_at hl 1 rfl) ?_
      refine lv_icmp_ge (tgt := 66) hx hb dX2_goRound_6 (by decide) (fun c_10 => ?_) (fun c_10 => ?_)
      · have c1 := (nI_leI (by omega) (by omega)).mp c_10
        have e1 : f = hm 0 := gw_first hw (by omega) (fun j hj => hmin j (by omega))
        rw [e1] at hl
        refine lv_iconst (v := 0) hx hb dX2_goRound_66 (by decide) ?_
        refine gr_topi (y := nI 0) (nI_0.symm) ?_
        refine lv_istore_n (lv' := [(3, .int (nI 0)), (0, .ref o), (1, .int (nI n)), (2, .int (nI (hm 0)))]) hx hb dX2_goRound_67 rfl hl (by decide) rfl (fun ls hl => ?_)
        refine lv_iload_n hx hb dX2_goRound_68 rfl (lv_at hl 3 rfl) ?_
        refine lv_istore (lv' := [(4, .int (nI (hm 0))), (3, .int (nI 0)), (0, .ref o), (1, .int (nI n)), (2, .int (nI (hm 0)))]) hx hb dX2_goRound_69 hl (by decide) rfl (fun ls hl => ?_)
        refine lv_iconst (v := 1) hx hb dX2_goRound_71 (by decide) ?_
        refine lv_istore (lv' := [(5, .int 1), (4, .int (nI (hm 0))), (3, .int (nI 0)), (0, .ref o), (1, .int (nI n)), (2, .int (nI (hm 0)))]) hx hb dX2_goRound_72 hl (by decide) rfl (fun ls hl => ?_)
        exact loop2 (M + 1) 0 rd (by omega) (by omega) (fun j hj => by omega) s.heap [] hP hD hS ls (lv_sub hl [3, 4, 5, 2, 1, 0] rfl)
      · have c1 : k < n := Nat.not_le.mp (fun z => c_10 ((nI_leI (by omega) (by omega)).mpr z))
        have hkm := g2_lt (hqok k c1) (hqok f (by omega))
        rw [← gp_eq, ← gp_eq] at hkm
        have tail : ∀ (f2 : Nat), f2 < k + 1 → (∀ j, j < k + 1 → gh_K (gp px py f2) ≤ gh_K (gp px py j)) → ∀ (ls : Array Slot), lv_has ls 8 [(0, .ref o), (1, .int (nI n)), (2, .int (nI f)), (3, .int (nI k))] → W p l e (headSpec (ws_ yX2_goRound cX2_goRound 8 (some .int)) ({ frames := 2, cells := 0, slots := 0, locals := 64 })).room s m ([.ref o, .int (nI n)] : List Value).toArray below meth c s.heap [] 0 0 (MQ below (va_Qi (S := (Nat → Int32)) (fun r u => r = nI M ∧ ∀ j, j < M → u j = nI (hm j)) (gm_B (dC, dI) [(dA, .int)] A (fun u => [(o, .inr (1, [.int cap, .int (nI N), .int pts, .ref o1, .ref o2, .ref o3, .ref o4, .ref o5])), (o1, .inl (dA, 66, .inl xs)), (o2, .inl (dA, 66, .inl ys)), (o3, .inl (dA, 66, .inl px)), (o4, .inl (dA, 66, .inl py)), (o5, .inl (dA, 67, .inl u))])) A) ([.ref o, .int (nI n)] : List Value).toArray s 0 0 A) (F0 m 59 ls [.int (nI f2)]) := by
          intro f2 hf2 hmin2 ls hl
          refine lv_istore_n (lv' := [(2, .int (nI f2)), (0, .ref o), (1, .int (nI n)), (3, .int (nI k))]) hx hb dX2_goRound_59 rfl hl (by decide) rfl (fun ls hl => ?_)
          refine lv_iinc (v := nI (k + 1)) (lv' := [(3, .int (nI (k + 1))), (2, .int (nI f2)), (0, .ref o), (1, .int (nI n))]) hx hb dX2_goRound_60 hl (k := 3) rfl (nI_1 k) (by decide) rfl (fun ls hl => ?_)
          refine lv_goto (tgt := 4) hx hb dX2_goRound_63 (by decide) ?_
          exact ih (k + 1) f2 (by omega) (by omega) hf2 hmin2 ls (lv_sub hl [2, 3, 1, 0] rfl)
        refine lv_aload_n hx hb dX2_goRound_9 rfl (lv_at hl 0 rfl) ?_
        refine va_get (D := (dC, dI)) (ci := 1) (v := .ref o3) (C := RX2) (T := TX2) (N := 8) hx hb hts in_X2 hown hK hP 0 rfl rfl 5 (by decide) (hts _ q152) (fun _ h9 => h9) rfl dX2_goRound_10 ?_
        refine lv_iload_n hx hb dX2_goRound_13 rfl (lv_at hl 3 rfl) ?_
        refine gr_iald (k := k) hx hb hK hP 3 0 rfl rfl (by omega) (by decide) dX2_goRound_14 ?_
        refine lv_aload_n hx hb dX2_goRound_15 rfl (lv_at hl 0 rfl) ?_
        refine va_get (D := (dC, dI)) (ci := 1) (v := .ref o3) (C := RX2) (T := TX2) (N := 8) hx hb hts in_X2 hown hK hP 0 rfl rfl 5 (by decide) (hts _ q152) (fun _ h9 => h9) rfl dX2_goRound_16 ?_
        refine lv_iload_n hx hb dX2_goRound_19 rfl (lv_at hl 2 rfl) ?_
        refine gr_iald (k := f) hx hb hK hP 3 0 rfl rfl (by omega) (by decide) dX2_goRound_20 ?_
        refine lv_icmp_lt (tgt := 54) hx hb dX2_goRound_21 (by decide) (fun c_11 => ?_) (fun c_11 => ?_)
        · have hlt := hkm.mpr (Or.inl c_11)
          refine lv_iload_n hx hb dX2_goRound_54 rfl (lv_at hl 3 rfl) ?_
          refine lv_goto (tgt := 59) hx hb dX2_goRound_55 (by decide) ?_
          exact tail k (by omega) (fun j hj => by
            by_cases e : j = k
            · rw [e]; exact Int.le_refl _
            · have := hmin j (by omega)
              omega) ls (lv_sub hl [0, 1, 2, 3] rfl)
        · refine lv_aload_n hx hb dX2_goRound_24 rfl (lv_at hl 0 rfl) ?_
          refine va_get (D := (dC, dI)) (ci := 1) (v := .ref o3) (C := RX2) (T := TX2) (N := 8) hx hb hts in_X2 hown hK hP 0 rfl rfl 5 (by decide) (hts _ q152) (fun _ h9 => h9) rfl dX2_goRound_25 ?_
          refine lv_iload_n hx hb dX2_goRound_28 rfl (lv_at hl 3 rfl) ?_
          refine gr_iald (k := k) hx hb hK hP 3 0 rfl rfl (by omega) (by decide) dX2_goRound_29 ?_
          refine lv_aload_n hx hb dX2_goRound_30 rfl (lv_at hl 0 rfl) ?_
          refine va_get (D := (dC, dI)) (ci := 1) (v := .ref o3) (C := RX2) (T := TX2) (N := 8) hx hb hts in_X2 hown hK hP 0 rfl rfl 5 (by decide) (hts _ q152) (fun _ h9 => h9) rfl dX2_goRound_31 ?_
          refine lv_iload_n hx hb dX2_goRound_34 rfl (lv_at hl 2 rfl) ?_
          refine gr_iald (k := f) hx hb hK hP 3 0 rfl rfl (by omega) (by decide) dX2_goRound_35 ?_
          refine lv_icmp_ne (tgt := 58) hx hb dX2_goRound_36 (by decide) (fun c_12 => ?_) (fun c_12 => ?_)
          · have hge : gh_K (gp px py f) ≤ gh_K (gp px py k) := Int.not_lt.mp (fun z => by rcases hkm.mp z with q | q; exact c_11 q; exact c_12 q.1)
            refine lv_iload_n hx hb dX2_goRound_58 rfl (lv_at hl 2 rfl) ?_
            exact tail f (by omega) (fun j hj => by
              by_cases e : j = k
              · rw [e]; exact hge
              · exact hmin j (by omega)) ls (lv_sub hl [0, 1, 2, 3] rfl)
          · refine lv_aload_n hx hb dX2_goRound_39 rfl (lv_at hl 0 rfl) ?_
            refine va_get (D := (dC, dI)) (ci := 1) (v := .ref o4) (C := RX2) (T := TX2) (N := 8) hx hb hts in_X2 hown hK hP 0 rfl rfl 6 (by decide) (hts _ q153) (fun _ h9 => h9) rfl dX2_goRound_40 ?_
            refine lv_iload_n hx hb dX2_goRound_43 rfl (lv_at hl 3 rfl) ?_
            refine gr_iald (k := k) hx hb hK hP 4 0 rfl rfl (by omega) (by decide) dX2_goRound_44 ?_
            refine lv_aload_n hx hb dX2_goRound_45 rfl (lv_at hl 0 rfl) ?_
            refine va_get (D := (dC, dI)) (ci := 1) (v := .ref o4) (C := RX2) (T := TX2) (N := 8) hx hb hts in_X2 hown hK hP 0 rfl rfl 6 (by decide) (hts _ q153) (fun _ h9 => h9) rfl dX2_goRound_46 ?_
            refine lv_iload_n hx hb dX2_goRound_49 rfl (lv_at hl 2 rfl) ?_
            refine gr_iald (k := f) hx hb hK hP 4 0 rfl rfl (by omega) (by decide) dX2_goRound_50 ?_
            refine lv_icmp_ge (tgt := 58) hx hb dX2_goRound_51 (by decide) (fun c_13 => ?_) (fun c_13 => ?_)
            · have hge : gh_K (gp px py f) ≤ gh_K (gp px py k) := Int.not_lt.mp (fun z => by rcases hkm.mp z with q | q; exact c_11 q; exact absurd q.2 (Int32.not_lt.mpr c_13))
              refine lv_iload_n hx hb dX2_goRound_58 rfl (lv_at hl 2 rfl) ?_
              exact tail f (by omega) (fun j hj => by
                by_cases e : j = k
                · rw [e]; exact hge
                · exact hmin j (by omega)) ls (lv_sub hl [0, 1, 2, 3] rfl)
            · have hlt := hkm.mpr (Or.inr ⟨c_12, Int32.not_le.mp c_13⟩)
              refine lv_iload_n hx hb dX2_goRound_54 rfl (lv_at hl 3 rfl) ?_
              refine lv_goto (tgt := 59) hx hb dX2_goRound_55 (by decide) ?_
              exact tail k (by omega) (fun j hj => by
                by_cases e : j = k
                · rw [e]; exact Int.le_refl _
                · have := hmin j (by omega)
                  omega) ls (lv_sub hl [0, 1, 2, 3] rfl)
  refine lv_iconst (v := 0) hx hb dX2_goRound_0 (by decide) ?_
  refine gr_topi (y := nI 0) (nI_0.symm) ?_
  refine lv_istore_n (lv' := [(2, .int (nI 0)), (0, .ref o), (1, .int (nI n))]) hx hb dX2_goRound_1 rfl hl (by decide) rfl (fun ls hl => ?_)
  refine lv_iconst (v := 1) hx hb dX2_goRound_2 (by decide) ?_
  refine gr_topi (y := nI 1) (rfl) ?_
  refine lv_istore_n (lv' := [(3, .int (nI 1)), (2, .int (nI 0)), (0, .ref o), (1, .int (nI n))]) hx hb dX2_goRound_3 rfl hl (by decide) rfl (fun ls hl => ?_)
  exact loop1 (n + 1) 1 0 (by omega) hn (by omega) (fun j hj => by
    have e : j = 0 := by omega
    rw [e]; exact Int.le_refl _) ls (lv_sub hl [2, 3, 1, 0] rfl)
end
section
/-! ===== OnlineHullModel: add ===== -/
set_option maxHeartbeats 4000000 in
set_option maxRecDepth 100000 in
theorem metX2_add (l : Launch) (dC : Nat → ClassId) (dI : Nat → Nat → Nat) (dA : ClassId) (sz : Nat) (o o1 o2 o3 o4 o5 N : Nat) (xs ys px py rd : Nat → Int32) (capN : Nat) (pts x y : Int32) (nl nu : Nat) (L U : Nat → Int × Int) (hH : gh_H nl L nu U) (hNN : N = gh_N nl nu) (hN : N ≤ 64) (hcap : capN ≤ 64) (hV : ∀ i, i < N → gp xs ys i = gh_V nl L nu U i) (n1 n2 : Nat) (L1 U1 : Nat → Int × Int) (hu1 : gh_Up 1 nl L (g2 x y) n1 L1) (hu2 : gh_Up (-1) nu U (g2 x y) n2 U1) : Met l yX2_add (ws_ yX2_add cX2_add 6 (some .int)) ({ frames := 3, cells := 0, slots := 0, locals := 91 }) (gm_Pc (dC, dI) [.ref o, .int x, .int y] sz [(o, .inr (1, [.int (nI capN), .int (nI N), .int pts, .ref o1, .ref o2, .ref o3, .ref o4, .ref o5])), (o1, .inl (dA, 66, .inl xs)), (o2, .inl (dA, 66, .inl ys)), (o3, .inl (dA, 66, .inl px)), (o4, .inl (dA, 66, .inl py)), (o5, .inl (dA, 67, .inl rd))] [(dA, .int)]) (va_Qi (S := gB_S) (fun r u => gB_post N xs ys nl L nu U (g2 x y) capN n1 L1 n2 U1 pts r u) (gm_B (dC, dI) [(dA, .int)] (va_A [(o, .inr (1, [.int (nI capN), .int (nI N), .int pts, .ref o1, .ref o2, .ref o3, .ref o4, .ref o5])), (o1, .inl (dA, 66, .inl xs)), (o2, .inl (dA, 66, .inl ys)), (o3, .inl (dA, 66, .inl px)), (o4, .inl (dA, 66, .inl py)), (o5, .inl (dA, 67, .inl rd))] sz) (fun u => [(o, .inr (1, [.int (nI capN), .int (nI u.1), .int u.2.2.2.2.2.2, .ref o1, .ref o2, .ref o3, .ref o4, .ref o5])), (o1, .inl (dA, 66, .inl u.2.1)), (o2, .inl (dA, 66, .inl u.2.2.1)), (o3, .inl (dA, 66, .inl u.2.2.2.1)), (o4, .inl (dA, 66, .inl u.2.2.2.2.1)), (o5, .inl (dA, 67, .inl u.2.2.2.2.2.1))])) (va_A [(o, .inr (1, [.int (nI capN), .int (nI N), .int pts, .ref o1, .ref o2, .ref o3, .ref o4, .ref o5])), (o1, .inl (dA, 66, .inl xs)), (o2, .inl (dA, 66, .inl ys)), (o3, .inl (dA, 66, .inl px)), (o4, .inl (dA, 66, .inl py)), (o5, .inl (dA, 67, .inl rd))] sz)) 0 0 (va_A [(o, .inr (1, [.int (nI capN), .int (nI N), .int pts, .ref o1, .ref o2, .ref o3, .ref o4, .ref o5])), (o1, .inl (dA, 66, .inl xs)), (o2, .inl (dA, 66, .inl ys)), (o3, .inl (dA, 66, .inl px)), (o4, .inl (dA, 66, .inl py)), (o5, .inl (dA, 67, .inl rd))] sz) := by
  refine Met.ofW (cc := cX2_add) (maxL := 6) (ret := (some .int)) (by decide) rfl ?_
  intro p e s m args below meth c s₁ B hml hv
  obtain ⟨rfl, hsz, hP, hK, hD0⟩ := hv
  have hx := B.exec
  have hb := B.bytes
  have hr := B.returns
  have hts := atoms_spec (ws := (ws_ yX2_add cX2_add 6 (some .int))) B.pre
  have hts : ∀ w ∈ lw_all, w.before _ s = true := fun w h => hts w (List.mem_cons_of_mem _ h)
  have hown : s.vm.findClass RX2 = some m.cls := findClass_of_methodNamed B.named
  have hlocks := B.notSynchronized
  subst hsz
  have hD := hD0.self (sz := s.heap.size)
  generalize hAe : va_A [(o, .inr (1, [.int (nI capN), .int (nI N), .int pts, .ref o1, .ref o2, .ref o3, .ref o4, .ref o5])), (o1, .inl (dA, 66, .inl xs)), (o2, .inl (dA, 66, .inl ys)), (o3, .inl (dA, 66, .inl px)), (o4, .inl (dA, 66, .inl py)), (o5, .inl (dA, 67, .inl rd))] s.heap.size = A at hD ⊢
  have hA : ∀ q : Nat, s.heap.size ≤ q → A q := fun q h => by rw [← hAe]; exact Or.inr h
  have hS : va_S A s.heap s.heap [] := va_S.rf
  have hl := lv_entry ([.ref o, .int x, .int y]) (n := 6) (Nat.le_of_ble_eq_true rfl)
  rw [lg_entry_eq]
  generalize (lg_sl ([.ref o, .int x, .int y]) ++ List.replicate (6 - (lg_sl ([.ref o, .int x, .int y])).length) Slot.unset).toArray = ls at hl ⊢
  have hl : lv_has ls 6 [(0, .ref o), (1, .int x), (2, .int y)] := hl
  refine lv_iload_n hx hb dX2_add_0 rfl (lv_at hl 1 rfl) ?_
  refine lv_iload_n hx hb dX2_add_1 rfl (lv_at hl 2 rfl) ?_
  refine vp_callSi (va_Run.run (va_runS (As := [.int x, .int y]) (rest := []) ⟨hx, hb, hml, hown, hts⟩ (metX2_inRange l dC dI dA x y) (va_cwS 2 hts (lw_S q176 q177 q12 q178) rfl rfl rfl (by decide +kernel) ⟨Nat.le_of_ble_eq_true rfl, Nat.le_of_ble_eq_true rfl⟩) (gr_preS (hP.sub (ws' := []) [] rfl) (hK.sub (tys' := []) [] rfl)) rfl rfl hl.1 rfl (lv_room (Nat.le_of_ble_eq_true rfl)) dX2_add_2 ⟨Nat.zero_le _, Nat.zero_le _⟩)) (fun zp hzp => ?_)
  refine lv_if_ne (tgt := 10) hx hb dX2_add_5 (by decide) (fun c_2 => ?_) (fun c_2 => ?_)
  · have hok : gh_ok (g2 x y) := gk_b.pos hzp c_2
    refine lv_aload_n hx hb dX2_add_10 rfl (lv_at hl 0 rfl) ?_
    refine lv_iload_n hx hb dX2_add_11 rfl (lv_at hl 1 rfl) ?_
    refine lv_iload_n hx hb dX2_add_12 rfl (lv_at hl 2 rfl) ?_
    refine vp_callSi (va_Run.run (va_runV (As := [.int x, .int y]) (rest := []) ⟨hx, hb, hml, hown, hts⟩ (metX2_inside l dC dI dA o o1 o2 o3 o4 o5 N xs ys px py rd (nI capN) pts nl nu L U hH hNN (by omega) hV x y) (cwV 2 hts (lw_V q193 q173 q174 q12 q175) rfl rfl rfl (by decide +kernel) ⟨Nat.le_of_ble_eq_true rfl, Nat.le_of_ble_eq_true rfl⟩) (gr_preV hK hP (ci := 1) (q0 := 0) rfl rfl (hP.sub (ws' := [(o, .inr (1, [.int (nI capN), .int (nI N), .int pts, .ref o1, .ref o2, .ref o3, .ref o4, .ref o5])), (o1, .inl (dA, 66, .inl xs)), (o2, .inl (dA, 66, .inl ys)), (o3, .inl (dA, 66, .inl px)), (o4, .inl (dA, 66, .inl py)), (o5, .inl (dA, 67, .inl rd))]) [0, 1, 2, 3, 4, 5] rfl) (hK.sub (tys' := [(dA, .int)]) [0] rfl)) rfl rfl hl.1 rfl (lv_room (Nat.le_of_ble_eq_true rfl)) dX2_add_13 ⟨Nat.zero_le _, Nat.zero_le _⟩)) (fun zi hzi => ?_)
    have hzi : gI_post nl L nu U (g2 x y) zi := hzi
    refine lv_if_le (tgt := 31) hx hb dX2_add_16 (by decide) (fun c_4 => ?_) (fun c_4 => ?_)
    · have hna : ¬ (gh_A 1 nl L (g2 x y) ∧ gh_A (-1) nu U (g2 x y)) := fun z => (gI_pos hzi).mp c_4 ⟨hok, z⟩
      obtain ⟨M, hMe⟩ : ∃ M, M = gh_N n1 n2 := ⟨_, rfl⟩
      have back : M ≤ capN → ∀ (px py rd : Nat → Int32) (hm : Nat → Nat), (∀ j, j < M → hm j < N + 1 ∧ gp px py (hm j) = gh_V n1 L1 n2 U1 j ∧ rd j = nI (hm j)) → ∀ (d i : Nat) (xs2 ys2 : Nat → Int32), M < i + d → i ≤ M → (∀ j, j < i → gp xs2 ys2 j = gh_V n1 L1 n2 U1 j) → ∀ (H : Heap) (locs : List Loc), va_P (dC, dI) vwCl [(o, .inr (1, [.int (nI capN), .int (nI N), .int pts, .ref o1, .ref o2, .ref o3, .ref o4, .ref o5])), (o1, .inl (dA, 66, .inl xs2)), (o2, .inl (dA, 66, .inl ys2)), (o3, .inl (dA, 66, .inl px)), (o4, .inl (dA, 66, .inl py)), (o5, .inl (dA, 67, .inl rd))] H → va_D A [(o, .inr (1, [.int (nI capN), .int (nI N), .int pts, .ref o1, .ref o2, .ref o3, .ref o4, .ref o5])), (o1, .inl (dA, 66, .inl xs2)), (o2, .inl (dA, 66, .inl ys2)), (o3, .inl (dA, 66, .inl px)), (o4, .inl (dA, 66, .inl py)), (o5, .inl (dA, 67, .inl rd))] → va_S A s.heap H locs → ∀ (ls : Array Slot), lv_has ls 6 [(0, .ref o), (3, .int (nI M)), (4, .int (nI (N + 1) - nI M)), (5, .int (nI i))] → W p l e (headSpec (ws_ yX2_add cX2_add 6 (some .int)) ({ frames := 3, cells := 0, slots := 0, locals := 91 })).room s m ([.ref o, .int x, .int y] : List Value).toArray below meth c H locs 0 0 (MQ below (va_Qi (S := gB_S) (fun r u => gB_post N xs ys nl L nu U (g2 x y) capN n1 L1 n2 U1 pts r u) (gm_B (dC, dI) [(dA, .int)] A (fun u => [(o, .inr (1, [.int (nI capN), .int (nI u.1), .int u.2.2.2.2.2.2, .ref o1, .ref o2, .ref o3, .ref o4, .ref o5])), (o1, .inl (dA, 66, .inl u.2.1)), (o2, .inl (dA, 66, .inl u.2.2.1)), (o3, .inl (dA, 66, .inl u.2.2.2.1)), (o4, .inl (dA, 66, .inl u.2.2.2.2.1)), (o5, .inl (dA, 67, .inl u.2.2.2.2.2.1))])) A) ([.ref o, .int x, .int y] : List Value).toArray s 0 0 A) (F0 m 126 ls []) := by
        intro hle px py rd hm hmm d
        induction d with
        | zero => intro i xs2 ys2 h1 h2; omega
        | succ d ih =>
          intro i xs2 ys2 hd hi hxy H locs hP hD hS ls hl
          refine lv_iload hx hb dX2_add_126 (lv_at hl 3 rfl) ?_
          refine lv_iload_n hx hb dX2_add_128 rfl (lv_at hl 1 rfl) ?_
          refine lv_icmp_ge (tgt := 176) hx hb dX2_add_129 (by decide) (fun c_5 => ?_) (fun c_5 => ?_)
          · have c1 := (nI_leI (by omega) (by omega)).mp c_5
            refine lv_aload_n hx hb dX2_add_176 rfl (lv_at hl 0 rfl) ?_
            refine lv_iload_n hx hb dX2_add_177 rfl (lv_at hl 1 rfl) ?_
            refine va_put (D := (dC, dI)) (ci := 1) (v := .int (nI M)) (ty := .int) (C := RX2) (T := TX2) (N := 8) hx hb hts in_X2 tyX2 tyX2_ok nmX2 hown hK hP hD hS 0 rfl rfl 1 (by decide) (hts _ q148) (fun _ h9 => h9) rfl (by decide +kernel) rfl rfl (Nat.le_of_ble_eq_true rfl) dX2_add_178 (fun H locs hP hD hS => ?_)
            have hP : va_P (dC, dI) vwCl [(o, .inr (1, [.int (nI capN), .int (nI M), .int pts, .ref o1, .ref o2, .ref o3, .ref o4, .ref o5])), (o1, .inl (dA, 66, .inl xs2)), (o2, .inl (dA, 66, .inl ys2)), (o3, .inl (dA, 66, .inl px)), (o4, .inl (dA, 66, .inl py)), (o5, .inl (dA, 67, .inl rd))] H := hP
            have hD : va_D A [(o, .inr (1, [.int (nI capN), .int (nI M), .int pts, .ref o1, .ref o2, .ref o3, .ref o4, .ref o5])), (o1, .inl (dA, 66, .inl xs2)), (o2, .inl (dA, 66, .inl ys2)), (o3, .inl (dA, 66, .inl px)), (o4, .inl (dA, 66, .inl py)), (o5, .inl (dA, 67, .inl rd))] := hD
            refine lv_aload_n hx hb dX2_add_181 rfl (lv_at hl 0 rfl) ?_
            refine lv_dup hx hb dX2_add_182 rfl ?_
            refine va_get (D := (dC, dI)) (ci := 1) (v := .int pts) (C := RX2) (T := TX2) (N := 8) hx hb hts in_X2 hown hK hP 0 rfl rfl 2 (by decide) (hts _ q149) (fun _ h9 => h9) rfl dX2_add_183 ?_
            refine lv_iconst (v := 1) hx hb dX2_add_186 (by decide) ?_
            refine lv_iadd hx hb dX2_add_187 ?_
            refine va_put (D := (dC, dI)) (ci := 1) (v := .int (pts + 1)) (ty := .int) (C := RX2) (T := TX2) (N := 8) hx hb hts in_X2 tyX2 tyX2_ok nmX2 hown hK hP hD hS 0 rfl rfl 2 (by decide) (hts _ q149) (fun _ h9 => h9) rfl (by decide +kernel) rfl rfl (Nat.le_of_ble_eq_true rfl) dX2_add_188 (fun H locs hP hD hS => ?_)
            have hP : va_P (dC, dI) vwCl [(o, .inr (1, [.int (nI capN), .int (nI M), .int (pts + 1), .ref o1, .ref o2, .ref o3, .ref o4, .ref o5])), (o1, .inl (dA, 66, .inl xs2)), (o2, .inl (dA, 66, .inl ys2)), (o3, .inl (dA, 66, .inl px)), (o4, .inl (dA, 66, .inl py)), (o5, .inl (dA, 67, .inl rd))] H := hP
            have hD : va_D A [(o, .inr (1, [.int (nI capN), .int (nI M), .int (pts + 1), .ref o1, .ref o2, .ref o3, .ref o4, .ref o5])), (o1, .inl (dA, 66, .inl xs2)), (o2, .inl (dA, 66, .inl ys2)), (o3, .inl (dA, 66, .inl px)), (o4, .inl (dA, 66, .inl py)), (o5, .inl (dA, 67, .inl rd))] := hD
            refine lv_iconst (v := 1) hx hb dX2_add_191 (by decide) ?_
            refine lv_iload hx hb dX2_add_192 (lv_at hl 2 rfl) ?_
            refine lv_iadd hx hb dX2_add_194 ?_
            exact W.iret (v := (1 + (nI (N + 1) - nI M))) hx hb hr (fun t ht hW => ⟨⟨(1 + (nI (N + 1) - nI M)), (M, xs2, ys2, px, py, rd, pts + 1), rfl, Or.inr (Or.inr (Or.inr ⟨hok, hna, by rw [← hMe]; exact hle, by rw [← hMe], ⟨hMe, fun j hj => hxy j (by omega)⟩, rfl⟩)), by rw [ht]; exact hP, va_K.moved hW.alike hK, hD⟩, hS.F ht⟩) hS.2.2 dX2_add_195
          · have c1 : i < M := Nat.not_le.mp (fun z => c_5 ((nI_leI (by omega) (by omega)).mpr z))
            obtain ⟨m1, m2, m3⟩ := hmm i c1
            refine lv_aload_n hx hb dX2_add_132 rfl (lv_at hl 0 rfl) ?_
            refine va_get (D := (dC, dI)) (ci := 1) (v := .ref o1) (C := RX2) (T := TX2) (N := 8) hx hb hts in_X2 hown hK hP 0 rfl rfl 3 (by decide) (hts _ q150) (fun _ h9 => h9) rfl dX2_add_133 ?_
            refine lv_iload hx hb dX2_add_136 (lv_at hl 3 rfl) ?_
            refine lv_aload_n hx hb dX2_add_138 rfl (lv_at hl 0 rfl) ?_
            refine va_get (D := (dC, dI)) (ci := 1) (v := .ref o3) (C := RX2) (T := TX2) (N := 8) hx hb hts in_X2 hown hK hP 0 rfl rfl 5 (by decide) (hts _ q152) (fun _ h9 => h9) rfl dX2_add_139 ?_
            refine lv_aload_n hx hb dX2_add_142 rfl (lv_at hl 0 rfl) ?_
            refine va_get (D := (dC, dI)) (ci := 1) (v := .ref o5) (C := RX2) (T := TX2) (N := 8) hx hb hts in_X2 hown hK hP 0 rfl rfl 7 (by decide) (hts _ q154) (fun _ h9 => h9) rfl dX2_add_143 ?_
            refine lv_iload hx hb dX2_add_146 (lv_at hl 3 rfl) ?_
            refine gr_iald (k := i) hx hb hK hP 5 0 rfl rfl (by omega) (by decide) dX2_add_148 ?_
            refine gr_topi (y := nI (hm i)) (m3) ?_
            refine gr_iald (k := hm i) hx hb hK hP 3 0 rfl rfl (by omega) (by decide) dX2_add_149 ?_
            refine gr_iast (k := i) hx hb hK hP hD hS 1 0 rfl rfl (by omega) (by decide) dX2_add_150 (fun H locs hP hD hS => ?_)
            have hP : va_P (dC, dI) vwCl [(o, .inr (1, [.int (nI capN), .int (nI N), .int pts, .ref o1, .ref o2, .ref o3, .ref o4, .ref o5])), (o1, .inl (dA, 66, .inl (upd xs2 i (px (hm i))))), (o2, .inl (dA, 66, .inl ys2)), (o3, .inl (dA, 66, .inl px)), (o4, .inl (dA, 66, .inl py)), (o5, .inl (dA, 67, .inl rd))] H := hP
            have hD : va_D A [(o, .inr (1, [.int (nI capN), .int (nI N), .int pts, .ref o1, .ref o2, .ref o3, .ref o4, .ref o5])), (o1, .inl (dA, 66, .inl (upd xs2 i (px (hm i))))), (o2, .inl (dA, 66, .inl ys2)), (o3, .inl (dA, 66, .inl px)), (o4, .inl (dA, 66, .inl py)), (o5, .inl (dA, 67, .inl rd))] := hD
            refine lv_aload_n hx hb dX2_add_151 rfl (lv_at hl 0 rfl) ?_
            refine va_get (D := (dC, dI)) (ci := 1) (v := .ref o2) (C := RX2) (T := TX2) (N := 8) hx hb hts in_X2 hown hK hP 0 rfl rfl 4 (by decide) (hts _ q151) (fun _ h9 => h9) rfl dX2_add_152 ?_
            refine lv_iload hx hb dX2_add_155 (lv_at hl 3 rfl) ?_
            refine lv_aload_n hx hb dX2_add_157 rfl (lv_at hl 0 rfl) ?_
            refine va_get (D := (dC, dI)) (ci := 1) (v := .ref o4) (C := RX2) (T := TX2) (N := 8) hx hb hts in_X2 hown hK hP 0 rfl rfl 6 (by decide) (hts _ q153) (fun _ h9 => h9) rfl dX2_add_158 ?_
            refine lv_aload_n hx hb dX2_add_161 rfl (lv_at hl 0 rfl) ?_
            refine va_get (D := (dC, dI)) (ci := 1) (v := .ref o5) (C := RX2) (T := TX2) (N := 8) hx hb hts in_X2 hown hK hP 0 rfl rfl 7 (by decide) (hts _ q154) (fun _ h9 => h9) rfl dX2_add_162 ?_
            refine lv_iload hx hb dX2_add_165 (lv_at hl 3 rfl) ?_
            refine gr_iald (k := i) hx hb hK hP 5 0 rfl rfl (by omega) (by decide) dX2_add_167 ?_
            refine gr_topi (y := nI (hm i)) (m3) ?_
            refine gr_iald (k := hm i) hx hb hK hP 4 0 rfl rfl (by omega) (by decide) dX2_add_168 ?_
            refine gr_iast (k := i) hx hb hK hP hD hS 2 0 rfl rfl (by omega) (by decide) dX2_add_169 (fun H locs hP hD hS => ?_)
            have hP : va_P (dC, dI) vwCl [(o, .inr (1, [.int (nI capN), .int (nI N), .int pts, .ref o1, .ref o2, .ref o3, .ref o4, .ref o5])), (o1, .inl (dA, 66, .inl (upd xs2 i (px (hm i))))), (o2, .inl (dA, 66, .inl (upd ys2 i (py (hm i))))), (o3, .inl (dA, 66, .inl px)), (o4, .inl (dA, 66, .inl py)), (o5, .inl (dA, 67, .inl rd))] H := hP
            have hD : va_D A [(o, .inr (1, [.int (nI capN), .int (nI N), .int pts, .ref o1, .ref o2, .ref o3, .ref o4, .ref o5])), (o1, .inl (dA, 66, .inl (upd xs2 i (px (hm i))))), (o2, .inl (dA, 66, .inl (upd ys2 i (py (hm i))))), (o3, .inl (dA, 66, .inl px)), (o4, .inl (dA, 66, .inl py)), (o5, .inl (dA, 67, .inl rd))] := hD
            refine lv_iinc (v := nI (i + 1)) (lv' := [(5, .int (nI (i + 1))), (0, .ref o), (3, .int (nI M)), (4, .int (nI (N + 1) - nI M))]) hx hb dX2_add_170 hl (k := 3) rfl (nI_1 i) (by decide) rfl (fun ls hl => ?_)
            refine lv_goto (tgt := 126) hx hb dX2_add_173 (by decide) ?_
            exact ih (i + 1) (upd xs2 i (px (hm i))) (upd ys2 i (py (hm i))) (by omega) (by omega) (fun j hj => by
              by_cases e : j = i
              · rw [e, gp_upds]; exact m2
              · rw [gp_upd e]; exact hxy j (by omega)) H locs hP hD hS ls (lv_sub hl [1, 2, 3, 0] rfl)
      have copy : ∀ (d k : Nat) (px py : Nat → Int32), N < k + d → k ≤ N → (∀ j, j < k → gp px py j = gh_V nl L nu U j) → ∀ (H : Heap) (locs : List Loc), va_P (dC, dI) vwCl [(o, .inr (1, [.int (nI capN), .int (nI N), .int pts, .ref o1, .ref o2, .ref o3, .ref o4, .ref o5])), (o1, .inl (dA, 66, .inl xs)), (o2, .inl (dA, 66, .inl ys)), (o3, .inl (dA, 66, .inl px)), (o4, .inl (dA, 66, .inl py)), (o5, .inl (dA, 67, .inl rd))] H → va_D A [(o, .inr (1, [.int (nI capN), .int (nI N), .int pts, .ref o1, .ref o2, .ref o3, .ref o4, .ref o5])), (o1, .inl (dA, 66, .inl xs)), (o2, .inl (dA, 66, .inl ys)), (o3, .inl (dA, 66, .inl px)), (o4, .inl (dA, 66, .inl py)), (o5, .inl (dA, 67, .inl rd))] → va_S A s.heap H locs → ∀ (ls : Array Slot), lv_has ls 6 [(0, .ref o), (1, .int x), (2, .int y), (3, .int (nI k))] → W p l e (headSpec (ws_ yX2_add cX2_add 6 (some .int)) ({ frames := 3, cells := 0, slots := 0, locals := 91 })).room s m ([.ref o, .int x, .int y] : List Value).toArray below meth c H locs 0 0 (MQ below (va_Qi (S := gB_S) (fun r u => gB_post N xs ys nl L nu U (g2 x y) capN n1 L1 n2 U1 pts r u) (gm_B (dC, dI) [(dA, .int)] A (fun u => [(o, .inr (1, [.int (nI capN), .int (nI u.1), .int u.2.2.2.2.2.2, .ref o1, .ref o2, .ref o3, .ref o4, .ref o5])), (o1, .inl (dA, 66, .inl u.2.1)), (o2, .inl (dA, 66, .inl u.2.2.1)), (o3, .inl (dA, 66, .inl u.2.2.2.1)), (o4, .inl (dA, 66, .inl u.2.2.2.2.1)), (o5, .inl (dA, 67, .inl u.2.2.2.2.2.1))])) A) ([.ref o, .int x, .int y] : List Value).toArray s 0 0 A) (F0 m 33 ls []) := by
        intro d
        induction d with
        | zero => intro k px py h1 h2; omega
        | succ d ih =>
          intro k px py hd hk hxy H locs hP hD hS ls hl
          refine lv_iload_n hx hb dX2_add_33 rfl (lv_at hl 3 rfl) ?_
          refine lv_aload_n hx hb dX2_add_34 rfl (lv_at hl 0 rfl) ?_
          refine va_get (D := (dC, dI)) (ci := 1) (v := .int (nI N)) (C := RX2) (T := TX2) (N := 8) hx hb hts in_X2 hown hK hP 0 rfl rfl 1 (by decide) (hts _ q148) (fun _ h9 => h9) rfl dX2_add_35 ?_
          refine lv_icmp_ge (tgt := 71) hx hb dX2_add_38 (by decide) (fun c_6 => ?_) (fun c_6 => ?_)
          · have c1 := (nI_leI (by omega) (by omega)).mp c_6
            refine lv_aload_n hx hb dX2_add_71 rfl (lv_at hl 0 rfl) ?_
            refine va_get (D := (dC, dI)) (ci := 1) (v := .ref o3) (C := RX2) (T := TX2) (N := 8) hx hb hts in_X2 hown hK hP 0 rfl rfl 5 (by decide) (hts _ q152) (fun _ h9 => h9) rfl dX2_add_72 ?_
            refine lv_aload_n hx hb dX2_add_75 rfl (lv_at hl 0 rfl) ?_
            refine va_get (D := (dC, dI)) (ci := 1) (v := .int (nI N)) (C := RX2) (T := TX2) (N := 8) hx hb hts in_X2 hown hK hP 0 rfl rfl 1 (by decide) (hts _ q148) (fun _ h9 => h9) rfl dX2_add_76 ?_
            refine lv_iload_n hx hb dX2_add_79 rfl (lv_at hl 1 rfl) ?_
            refine gr_iast (k := N) hx hb hK hP hD hS 3 0 rfl rfl (by omega) (by decide) dX2_add_80 (fun H locs hP hD hS => ?_)
            have hP : va_P (dC, dI) vwCl [(o, .inr (1, [.int (nI capN), .int (nI N), .int pts, .ref o1, .ref o2, .ref o3, .ref o4, .ref o5])), (o1, .inl (dA, 66, .inl xs)), (o2, .inl (dA, 66, .inl ys)), (o3, .inl (dA, 66, .inl (upd px N x))), (o4, .inl (dA, 66, .inl py)), (o5, .inl (dA, 67, .inl rd))] H := hP
            have hD : va_D A [(o, .inr (1, [.int (nI capN), .int (nI N), .int pts, .ref o1, .ref o2, .ref o3, .ref o4, .ref o5])), (o1, .inl (dA, 66, .inl xs)), (o2, .inl (dA, 66, .inl ys)), (o3, .inl (dA, 66, .inl (upd px N x))), (o4, .inl (dA, 66, .inl py)), (o5, .inl (dA, 67, .inl rd))] := hD
            refine lv_aload_n hx hb dX2_add_81 rfl (lv_at hl 0 rfl) ?_
            refine va_get (D := (dC, dI)) (ci := 1) (v := .ref o4) (C := RX2) (T := TX2) (N := 8) hx hb hts in_X2 hown hK hP 0 rfl rfl 6 (by decide) (hts _ q153) (fun _ h9 => h9) rfl dX2_add_82 ?_
            refine lv_aload_n hx hb dX2_add_85 rfl (lv_at hl 0 rfl) ?_
            refine va_get (D := (dC, dI)) (ci := 1) (v := .int (nI N)) (C := RX2) (T := TX2) (N := 8) hx hb hts in_X2 hown hK hP 0 rfl rfl 1 (by decide) (hts _ q148) (fun _ h9 => h9) rfl dX2_add_86 ?_
            refine lv_iload_n hx hb dX2_add_89 rfl (lv_at hl 2 rfl) ?_
            refine gr_iast (k := N) hx hb hK hP hD hS 4 0 rfl rfl (by omega) (by decide) dX2_add_90 (fun H locs hP hD hS => ?_)
            have hP : va_P (dC, dI) vwCl [(o, .inr (1, [.int (nI capN), .int (nI N), .int pts, .ref o1, .ref o2, .ref o3, .ref o4, .ref o5])), (o1, .inl (dA, 66, .inl xs)), (o2, .inl (dA, 66, .inl ys)), (o3, .inl (dA, 66, .inl (upd px N x))), (o4, .inl (dA, 66, .inl (upd py N y))), (o5, .inl (dA, 67, .inl rd))] H := hP
            have hD : va_D A [(o, .inr (1, [.int (nI capN), .int (nI N), .int pts, .ref o1, .ref o2, .ref o3, .ref o4, .ref o5])), (o1, .inl (dA, 66, .inl xs)), (o2, .inl (dA, 66, .inl ys)), (o3, .inl (dA, 66, .inl (upd px N x))), (o4, .inl (dA, 66, .inl (upd py N y))), (o5, .inl (dA, 67, .inl rd))] := hD
            have hq1 : ∀ j, j < N → gp (upd px N x) (upd py N y) j = gh_V nl L nu U j := fun j hj => by
              rw [gp_upd (by omega)]; exact hxy j (by omega)
            have hq2 : gp (upd px N x) (upd py N y) N = g2 x y := gp_upds
            generalize upd px N x = px2 at hP hD hq1 hq2
            generalize upd py N y = py2 at hP hD hq1 hq2
            obtain ⟨hm, hw⟩ := gw_of hH hok hu1 hu2 (gh_Up_le hu1) (gh_Up_le hu2) hna (Q := gp px2 py2) (fun i hi => hq1 i (by omega)) (by rw [← hNN]; exact hq2)
            rw [← hNN, ← hMe] at hw
            refine lv_aload_n hx hb dX2_add_91 rfl (lv_at hl 0 rfl) ?_
            refine lv_aload_n hx hb dX2_add_92 rfl (lv_at hl 0 rfl) ?_
            refine va_get (D := (dC, dI)) (ci := 1) (v := .int (nI N)) (C := RX2) (T := TX2) (N := 8) hx hb hts in_X2 hown hK hP 0 rfl rfl 1 (by decide) (hts _ q148) (fun _ h9 => h9) rfl dX2_add_93 ?_
            refine lv_iconst (v := 1) hx hb dX2_add_96 (by decide) ?_
            refine lv_iadd hx hb dX2_add_97 ?_
            refine gr_topi (y := nI (N + 1)) (nI_1 N) ?_
            have hPc := hP.sub (ws' := [(o, .inr (1, [.int (nI capN), .int (nI N), .int pts, .ref o1, .ref o2, .ref o3, .ref o4, .ref o5])), (o1, .inl (dA, 66, .inl xs)), (o2, .inl (dA, 66, .inl ys)), (o3, .inl (dA, 66, .inl px2)), (o4, .inl (dA, 66, .inl py2)), (o5, .inl (dA, 67, .inl rd))]) [0, 1, 2, 3, 4, 5] rfl
            have hDc := hD.sub (ws' := [(o, .inr (1, [.int (nI capN), .int (nI N), .int pts, .ref o1, .ref o2, .ref o3, .ref o4, .ref o5])), (o1, .inl (dA, 66, .inl xs)), (o2, .inl (dA, 66, .inl ys)), (o3, .inl (dA, 66, .inl px2)), (o4, .inl (dA, 66, .inl py2)), (o5, .inl (dA, 67, .inl rd))]) [0, 1, 2, 3, 4, 5] (by decide) rfl
            have hKc := hK.sub (tys' := [(dA, .int)]) [0] rfl
            have hFc := va_free (wc := [(o, .inr (1, [.int (nI capN), .int (nI N), .int pts, .ref o1, .ref o2, .ref o3, .ref o4, .ref o5])), (o1, .inl (dA, 66, .inl xs)), (o2, .inl (dA, 66, .inl ys)), (o3, .inl (dA, 66, .inl px2)), (o4, .inl (dA, 66, .inl py2)), (o5, .inl (dA, 67, .inl rd))]) hD hS hA [0, 1, 2, 3, 4, 5] rfl
            refine va_calli (va_runV (As := [.int (nI (N + 1))]) (rest := []) ⟨hx, hb, hml, hown, hts⟩ (metX2_goRound l dC dI dA H.size o o1 o2 o3 o4 o5 N xs ys px2 py2 rd (nI capN) pts (N + 1) M (gh_V n1 L1 n2 U1) hm (by omega) (by omega) hw) (cwV 1 hts (lw_V q194 q196 qs8 q12 q197) rfl rfl rfl (by decide +kernel) ⟨Nat.le_of_ble_eq_true rfl, Nat.le_of_ble_eq_true rfl⟩) (gm_preV hK hP (ci := 1) (q0 := 0) rfl rfl hPc hKc hDc) rfl rfl hl.1 rfl (lv_room (Nat.le_of_ble_eq_true rfl)) dX2_add_98 ⟨Nat.zero_le _, Nat.zero_le _⟩) hS (fun q _ h => hFc q h) hFc (fun zr ru t H1 locs ht hvm hwru hB hz1 hk1 hS => ?_)
            obtain ⟨hP1, hK1, hD1⟩ := hB
            rw [ht] at hP1
            obtain ⟨hP, hD⟩ := va_join (wr := []) (w1 := [(o, .inr (1, [.int (nI capN), .int (nI N), .int pts, .ref o1, .ref o2, .ref o3, .ref o4, .ref o5])), (o1, .inl (dA, 66, .inl xs)), (o2, .inl (dA, 66, .inl ys)), (o3, .inl (dA, 66, .inl px2)), (o4, .inl (dA, 66, .inl py2)), (o5, .inl (dA, 67, .inl ru))]) hP hD [0, 1, 2, 3, 4, 5] [] rfl rfl (by decide) (by decide) hk1 hFc hP1 hD1
            generalize H1 = H at hP hS ⊢
            have hP := hP.sub (ws' := [(o, .inr (1, [.int (nI capN), .int (nI N), .int pts, .ref o1, .ref o2, .ref o3, .ref o4, .ref o5])), (o1, .inl (dA, 66, .inl xs)), (o2, .inl (dA, 66, .inl ys)), (o3, .inl (dA, 66, .inl px2)), (o4, .inl (dA, 66, .inl py2)), (o5, .inl (dA, 67, .inl ru))]) [0, 1, 2, 3, 4, 5] rfl
            have hD := hD.sub (ws' := [(o, .inr (1, [.int (nI capN), .int (nI N), .int pts, .ref o1, .ref o2, .ref o3, .ref o4, .ref o5])), (o1, .inl (dA, 66, .inl xs)), (o2, .inl (dA, 66, .inl ys)), (o3, .inl (dA, 66, .inl px2)), (o4, .inl (dA, 66, .inl py2)), (o5, .inl (dA, 67, .inl ru))]) [0, 1, 2, 3, 4, 5] (by decide) rfl
            obtain ⟨hz1_, hrd⟩ : zr = nI M ∧ ∀ j, j < M → ru j = nI (hm j) := hwru
            subst hz1_
            have hMb := hw.2.1
            refine lv_istore_n (lv' := [(3, .int (nI M)), (0, .ref o), (1, .int x), (2, .int y)]) hx hb dX2_add_101 rfl hl (by decide) rfl (fun ls hl => ?_)
            refine lv_iload_n hx hb dX2_add_102 rfl (lv_at hl 0 rfl) ?_
            refine lv_aload_n hx hb dX2_add_103 rfl (lv_at hl 1 rfl) ?_
            refine va_get (D := (dC, dI)) (ci := 1) (v := .int (nI capN)) (C := RX2) (T := TX2) (N := 8) hx hb hts in_X2 hown hK hP 0 rfl rfl 0 (by decide) (hts _ q147) (fun _ h9 => h9) rfl dX2_add_104 ?_
            refine lv_icmp_le (tgt := 113) hx hb dX2_add_107 (by decide) (fun c_7 => ?_) (fun c_7 => ?_)
            · have c2 : M ≤ capN := (nI_leI (by omega) (by omega)).mp c_7
              refine lv_aload_n hx hb dX2_add_113 rfl (lv_at hl 1 rfl) ?_
              refine va_get (D := (dC, dI)) (ci := 1) (v := .int (nI N)) (C := RX2) (T := TX2) (N := 8) hx hb hts in_X2 hown hK hP 0 rfl rfl 1 (by decide) (hts _ q148) (fun _ h9 => h9) rfl dX2_add_114 ?_
              refine lv_iconst (v := 1) hx hb dX2_add_117 (by decide) ?_
              refine lv_iadd hx hb dX2_add_118 ?_
              refine gr_topi (y := nI (N + 1)) (nI_1 N) ?_
              refine lv_iload_n hx hb dX2_add_119 rfl (lv_at hl 0 rfl) ?_
              refine lv_isub hx hb dX2_add_120 ?_
              refine lv_istore (lv' := [(4, .int ((nI (N + 1)) - (nI M))), (3, .int (nI M)), (0, .ref o), (1, .int x), (2, .int y)]) hx hb dX2_add_121 hl (by decide) rfl (fun ls hl => ?_)
              refine lv_iconst (v := 0) hx hb dX2_add_123 (by decide) ?_
              refine gr_topi (y := nI 0) (nI_0.symm) ?_
              refine lv_istore (lv' := [(5, .int (nI 0)), (4, .int ((nI (N + 1)) - (nI M))), (3, .int (nI M)), (0, .ref o), (1, .int x), (2, .int y)]) hx hb dX2_add_124 hl (by decide) rfl (fun ls hl => ?_)
              exact back c2 px2 py2 ru hm (fun j hj => ⟨(hw.2.2.2.2.1 j hj).1, (hw.2.2.2.2.1 j hj).2, hrd j hj⟩) (M + 1) 0 xs ys (by omega) (by omega) (fun j hj => by omega) H locs hP hD hS ls (lv_sub hl [3, 2, 1, 0] rfl)
            · have c2 : capN < M := Nat.not_le.mp (fun z => c_7 ((nI_leI (by omega) (by omega)).mpr z))
              refine lv_bipush (v := (-2)) hx hb dX2_add_110 (by decide) ?_
              exact W.iret (v := (-2)) hx hb hr (fun t ht hW => ⟨⟨(-2), (N, xs, ys, px2, py2, ru, pts), rfl, Or.inr (Or.inr (Or.inl ⟨hok, hna, by rw [← hMe]; exact c2, rfl, ⟨rfl, rfl, rfl⟩, rfl⟩)), by rw [ht]; exact hP, va_K.moved hW.alike hK, hD⟩, hS.F ht⟩) hS.2.2 dX2_add_112
          · have c1 : k < N := Nat.not_le.mp (fun z => c_6 ((nI_leI (by omega) (by omega)).mpr z))
            refine lv_aload_n hx hb dX2_add_41 rfl (lv_at hl 0 rfl) ?_
            refine va_get (D := (dC, dI)) (ci := 1) (v := .ref o3) (C := RX2) (T := TX2) (N := 8) hx hb hts in_X2 hown hK hP 0 rfl rfl 5 (by decide) (hts _ q152) (fun _ h9 => h9) rfl dX2_add_42 ?_
            refine lv_iload_n hx hb dX2_add_45 rfl (lv_at hl 3 rfl) ?_
            refine lv_aload_n hx hb dX2_add_46 rfl (lv_at hl 0 rfl) ?_
            refine va_get (D := (dC, dI)) (ci := 1) (v := .ref o1) (C := RX2) (T := TX2) (N := 8) hx hb hts in_X2 hown hK hP 0 rfl rfl 3 (by decide) (hts _ q150) (fun _ h9 => h9) rfl dX2_add_47 ?_
            refine lv_iload_n hx hb dX2_add_50 rfl (lv_at hl 3 rfl) ?_
            refine gr_iald (k := k) hx hb hK hP 1 0 rfl rfl (by omega) (by decide) dX2_add_51 ?_
            refine gr_iast (k := k) hx hb hK hP hD hS 3 0 rfl rfl (by omega) (by decide) dX2_add_52 (fun H locs hP hD hS => ?_)
            have hP : va_P (dC, dI) vwCl [(o, .inr (1, [.int (nI capN), .int (nI N), .int pts, .ref o1, .ref o2, .ref o3, .ref o4, .ref o5])), (o1, .inl (dA, 66, .inl xs)), (o2, .inl (dA, 66, .inl ys)), (o3, .inl (dA, 66, .inl (upd px k (xs k)))), (o4, .inl (dA, 66, .inl py)), (o5, .inl (dA, 67, .inl rd))] H := hP
            have hD : va_D A [(o, .inr (1, [.int (nI capN), .int (nI N), .int pts, .ref o1, .ref o2, .ref o3, .ref o4, .ref o5])), (o1, .inl (dA, 66, .inl xs)), (o2, .inl (dA, 66, .inl ys)), (o3, .inl (dA, 66, .inl (upd px k (xs k)))), (o4, .inl (dA, 66, .inl py)), (o5, .inl (dA, 67, .inl rd))] := hD
            refine lv_aload_n hx hb dX2_add_53 rfl (lv_at hl 0 rfl) ?_
            refine va_get (D := (dC, dI)) (ci := 1) (v := .ref o4) (C := RX2) (T := TX2) (N := 8) hx hb hts in_X2 hown hK hP 0 rfl rfl 6 (by decide) (hts _ q153) (fun _ h9 => h9) rfl dX2_add_54 ?_
            refine lv_iload_n hx hb dX2_add_57 rfl (lv_at hl 3 rfl) ?_
            refine lv_aload_n hx hb dX2_add_58 rfl (lv_at hl 0 rfl) ?_
            refine va_get (D := (dC, dI)) (ci := 1) (v := .ref o2) (C := RX2) (T := TX2) (N := 8) hx hb hts in_X2 hown hK hP 0 rfl rfl 4 (by decide) (hts _ q151) (fun _ h9 => h9) rfl dX2_add_59 ?_
            refine lv_iload_n hx hb dX2_add_62 rfl (lv_at hl 3 rfl) ?_
            refine gr_iald (k := k) hx hb hK hP 2 0 rfl rfl (by omega) (by decide) dX2_add_63 ?_
            refine gr_iast (k := k) hx hb hK hP hD hS 4 0 rfl rfl (by omega) (by decide) dX2_add_64 (fun H locs hP hD hS => ?_)
            have hP : va_P (dC, dI) vwCl [(o, .inr (1, [.int (nI capN), .int (nI N), .int pts, .ref o1, .ref o2, .ref o3, .ref o4, .ref o5])), (o1, .inl (dA, 66, .inl xs)), (o2, .inl (dA, 66, .inl ys)), (o3, .inl (dA, 66, .inl (upd px k (xs k)))), (o4, .inl (dA, 66, .inl (upd py k (ys k)))), (o5, .inl (dA, 67, .inl rd))] H := hP
            have hD : va_D A [(o, .inr (1, [.int (nI capN), .int (nI N), .int pts, .ref o1, .ref o2, .ref o3, .ref o4, .ref o5])), (o1, .inl (dA, 66, .inl xs)), (o2, .inl (dA, 66, .inl ys)), (o3, .inl (dA, 66, .inl (upd px k (xs k)))), (o4, .inl (dA, 66, .inl (upd py k (ys k)))), (o5, .inl (dA, 67, .inl rd))] := hD
            refine lv_iinc (v := nI (k + 1)) (lv' := [(3, .int (nI (k + 1))), (0, .ref o), (1, .int x), (2, .int y)]) hx hb dX2_add_65 hl (k := 3) rfl (nI_1 k) (by decide) rfl (fun ls hl => ?_)
            refine lv_goto (tgt := 33) hx hb dX2_add_68 (by decide) ?_
            exact ih (k + 1) (upd px k (xs k)) (upd py k (ys k)) (by omega) (by omega) (fun j hj => by
              by_cases e : j = k
              · rw [e, gp_upds, ← gp_eq]; exact hV k c1
              · rw [gp_upd e]; exact hxy j (by omega)) H locs hP hD hS ls (lv_sub hl [1, 2, 3, 0] rfl)
      refine lv_iconst (v := 0) hx hb dX2_add_31 (by decide) ?_
      refine gr_topi (y := nI 0) (nI_0.symm) ?_
      refine lv_istore_n (lv' := [(3, .int (nI 0)), (0, .ref o), (1, .int x), (2, .int y)]) hx hb dX2_add_32 rfl hl (by decide) rfl (fun ls hl => ?_)
      exact copy (N + 1) 0 px py (by omega) (by omega) (fun j hj => by omega) s.heap [] hP hD hS ls (lv_sub hl [1, 2, 3, 0] rfl)
    · have hin := Classical.not_not.mp (fun z => c_4 ((gI_pos hzi).mpr z))
      refine lv_aload_n hx hb dX2_add_19 rfl (lv_at hl 0 rfl) ?_
      refine lv_dup hx hb dX2_add_20 rfl ?_
      refine va_get (D := (dC, dI)) (ci := 1) (v := .int pts) (C := RX2) (T := TX2) (N := 8) hx hb hts in_X2 hown hK hP 0 rfl rfl 2 (by decide) (hts _ q149) (fun _ h9 => h9) rfl dX2_add_21 ?_
      refine lv_iconst (v := 1) hx hb dX2_add_24 (by decide) ?_
      refine lv_iadd hx hb dX2_add_25 ?_
      refine va_put (D := (dC, dI)) (ci := 1) (v := .int (pts + 1)) (ty := .int) (C := RX2) (T := TX2) (N := 8) hx hb hts in_X2 tyX2 tyX2_ok nmX2 hown hK hP hD hS 0 rfl rfl 2 (by decide) (hts _ q149) (fun _ h9 => h9) rfl (by decide +kernel) rfl rfl (Nat.le_of_ble_eq_true rfl) dX2_add_26 (fun H locs hP hD hS => ?_)
      have hP : va_P (dC, dI) vwCl [(o, .inr (1, [.int (nI capN), .int (nI N), .int (pts + 1), .ref o1, .ref o2, .ref o3, .ref o4, .ref o5])), (o1, .inl (dA, 66, .inl xs)), (o2, .inl (dA, 66, .inl ys)), (o3, .inl (dA, 66, .inl px)), (o4, .inl (dA, 66, .inl py)), (o5, .inl (dA, 67, .inl rd))] H := hP
      have hD : va_D A [(o, .inr (1, [.int (nI capN), .int (nI N), .int (pts + 1), .ref o1, .ref o2, .ref o3, .ref o4, .ref o5])), (o1, .inl (dA, 66, .inl xs)), (o2, .inl (dA, 66, .inl ys)), (o3, .inl (dA, 66, .inl px)), (o4, .inl (dA, 66, .inl py)), (o5, .inl (dA, 67, .inl rd))] := hD
      refine lv_iconst (v := 0) hx hb dX2_add_29 (by decide) ?_
      exact W.iret (v := 0) hx hb hr (fun t ht hW => ⟨⟨0, (N, xs, ys, px, py, rd, pts + 1), rfl, Or.inr (Or.inl ⟨hok, hin.2, rfl, ⟨rfl, rfl, rfl⟩, rfl⟩), by rw [ht]; exact hP, va_K.moved hW.alike hK, hD⟩, hS.F ht⟩) hS.2.2 dX2_add_30
  · refine lv_iconst (v := (-1)) hx hb dX2_add_8 (by decide) ?_
    exact W.iret (v := (-1)) hx hb hr (fun t ht hW => ⟨⟨(-1), (N, xs, ys, px, py, rd, pts), rfl, Or.inl ⟨gk_b.neg hzp c_2, rfl, ⟨rfl, rfl, rfl⟩, rfl⟩, by rw [ht]; exact hP, va_K.moved hW.alike hK, hD⟩, hS.F ht⟩) hS.2.2 dX2_add_9
end
section
/-! THE CLAIM OUT OF ONE WALK OF THE LAW'S BODY. Your part is whole_start (and what it stands on); all else here is the same for every law, but numbers. -/
def R_law : String := "OnlineHullLaw"
def lw_P (b : Addr) (xs : List Int32) (args : Array Value) (s : State) : Prop := args = #[.ref b] ∧ s.IntsAt b xs ∧ xs.length ≤ 257 ∧ (Jvm.Cond.and given_1 narrow_1).before args s = true
def lw_Q (_ : Array Value) (s : State) (o : Outcome) (t : State) : Prop := o = .returned (some (.int 1)) ∧ Framed s o t [] 600000 7290000
def lw_Z (below : List Frame) (a : Array Value) (s : State) : State → Prop := fun t => ∃ o, t.status = .running ∧ Ended t below o ∧ lw_Q a s o t
/-- the law's own end, with 1 on the stack, nothing written that was there before, its room as the claim has it -/
theorem lw_ret {p : Program} {l : Launch} {e : Env} {s : State} {m : MethodId} {below : List Frame} {meth : Method} {c : Code} {b : Nat} (hx : p.tables.exec = Jvm.exec) (hb : c.code = code) (hr : meth.sig.returnType = ret) (hlocks : meth.locks = false) {pc : Nat} {H : Heap} {ls : Array Slot} (hdg : decode code pc = .ok (.ireturn, 1)) : W p l e room_1 s m #[Value.ref b] below meth c H [] 600000 7290000 (lw_Z below #[Value.ref b] s) (F0 m pc ls [.int 1]) := by
  intro T hT X
  obtain ⟨fs, hret, hrun, hended, hW, hframe⟩ := X.leave (v := some (.int 1)) (hlocks := hlocks) (fun h => by rw [hr] at h; cases h)
  have hmeth' : T.vm.method? m = some meth := X.method'
  refine ⟨T.setFrames fs, ?_, .returned (some (.int 1)), hrun, hended, rfl, ⟨_, rfl⟩, hW, hframe⟩
  jvm_step X.here [X.here.top, hx, hb, hdg, hmeth', hr, ret, narrow_b1]
  (try refine ⟨rfl, ?_⟩); (try refine ⟨rfl, ?_⟩)
  first | (intro acts; rw [hret _ acts rfl rfl rfl]) | rw [hret _ _ rfl rfl rfl]
  exact Steps.refl _
/-- what holds at the law's entry: the machine, the code, the tables' words (any of lw_tbl by 'hts w (by decide +kernel)'), the script of L ints xs at the cell b, what the Statement gives of the start (any of its parts by flat_of_before) -/
def lw_At (p : Program) (s : State) (m : MethodId) (meth : Method) (c : Code) (b L : Nat) (xs : Nat → Int32) : Prop :=
  p.tables.exec = Jvm.exec ∧ c.code = code ∧ meth.sig.returnType = ret ∧ c.maxLocals = 4 ∧ s.vm.findClass R_law = some m.cls ∧ (∀ w ∈ lw_tbl, w.before #[Value.ref b] s = true) ∧ va_X b L xs s s.heap ∧ b < s.heap.size ∧ meth.locks = false ∧ (Jvm.Cond.and given_1 narrow_1).before #[Value.ref b] s = true
/-! ===== the law: what holds between the two, and cell ===== -/
theorem gh_H.congr {nl nu : Nat} {L U L' U' : Nat → Int × Int} (h : gh_H nl L nu U) (eL : ∀ i, i < nl → L' i = L i) (eU : ∀ i, i < nu → U' i = U i) : gh_H nl L' nu U' := by
  obtain ⟨a, b, c, d, e, f⟩ := h
  refine ⟨a.congr eL, b.congr eU, fun i hi => by rw [eL i hi]; exact c i hi, fun i hi => by rw [eU i hi]; exact d i hi, e, fun h0 => ?_⟩
  obtain ⟨f1, f2⟩ := f h0
  have h1 : 0 < nu := by
    rcases Nat.eq_zero_or_pos nu with q | q
    · have := e.mpr q
      omega
    · exact q
  rw [eL 0 h0, eU 0 h1, eL (nl - 1) (by omega), eU (nu - 1) (by omega)]
  exact ⟨f1, f2⟩
theorem gh_H.Vcongr {nl nu : Nat} {L U L' U' : Nat → Int × Int} (h : gh_H nl L nu U) (eL : ∀ i, i < nl → L' i = L i) (eU : ∀ i, i < nu → U' i = U i) {i : Nat} (hi : i < gh_N nl nu) : gh_V nl L' nu U' i = gh_V nl L nu U i := by
  rcases h.mem hi with ⟨a, b⟩ | ⟨j, a1, a2, a3, a4, a5, a6⟩
  · rw [gh_V_lo a, gh_V_lo a, eL i a]
  · rw [gh_V_hi a3 a5, gh_V_hi a3 a5, eU j (by omega)]
/-- what holds between the hull's chains and the model's corners -/
def gl_I (capN nl nu : Nat) (lx ly ux uy : Nat → Int32) (seen : Int32) (N : Nat) (mx my : Nat → Int32) (pts : Int32) : Prop :=
  gh_H nl (gp lx ly) nu (gp ux uy) ∧ N = gh_N nl nu ∧ N ≤ capN ∧ (∀ i, i < N → gp mx my i = gh_V nl (gp lx ly) nu (gp ux uy) i) ∧ pts = seen
theorem gl_bd {nl nu : Nat} {L U : Nat → Int × Int} (h : gh_H nl L nu U) (hN : gh_N nl nu ≤ 64) : nl ≤ 64 ∧ nu ≤ 64 := by
  by_cases q : nl < 2
  · have : ¬ 2 ≤ nu := fun z => by
      have := h.two.mpr z
      omega
    omega
  · have e := gh_N_two (nl := nl) (nu := nu) (by omega)
    have := h.two.mp (by omega)
    omega
theorem gl_0 (capN : Nat) : gl_I capN 0 0 (fun _ => 0) (fun _ => 0) (fun _ => 0) (fun _ => 0) 0 0 (fun _ => 0) (fun _ => 0) 0 := by
  refine ⟨⟨⟨fun i hi => by omega, fun i hi => by omega⟩, ⟨fun i hi => by omega, fun i hi => by omega⟩, fun i hi => by omega, fun i hi => by omega, Iff.rfl, fun h => by omega⟩, rfl, by omega, fun i hi => by omega, rfl⟩
theorem gl_add {capN nl nu : Nat} {lx ly ux uy : Nat → Int32} {seen : Int32} {N : Nat} {mx my : Nat → Int32} {pts : Int32} (h : gl_I capN nl nu lx ly ux uy seen N mx my pts) {p : Int × Int} {n1 n2 : Nat} {L1 U1 : Nat → Int × Int} (hu1 : gh_Up 1 nl (gp lx ly) p n1 L1) (hu2 : gh_Up (-1) nu (gp ux uy) p n2 U1) {r1 r2 : Int32} {u : gA_S} {v : gB_S} (ha : gA_post nl lx ly nu ux uy p capN n1 L1 n2 U1 seen r1 u) (hb : gB_post N mx my nl (gp lx ly) nu (gp ux uy) p capN n1 L1 n2 U1 pts r2 v) :
    r1 = r2 ∧ gl_I capN u.1.1 u.1.2 u.2.1.1 u.2.1.2.1 u.2.1.2.2.1 u.2.1.2.2.2.1 u.2.2.2 v.1 v.2.1 v.2.2.1 v.2.2.2.2.2.2 := by
  obtain ⟨i1, i2, i3, i4, i5⟩ := h
  rcases ha with ⟨x1, x2, ⟨y1, y2, y3, y4, y5, y6⟩, x4⟩ | ⟨x1, x0, x2, ⟨y1, y2, y3, y4, y5, y6⟩, x4⟩ | ⟨x1, x0, x00, x2, ⟨y1, y2, y3, y4, y5, y6⟩, x4⟩ | ⟨x1, x0, x00, x2, ⟨y1, y2, y3, y4⟩, x4⟩
  · rcases hb with ⟨z1, z2, ⟨w1, w2, w3⟩, z4⟩ | ⟨z1, z0, z2, ⟨w1, w2, w3⟩, z4⟩ | ⟨z1, z0, z00, z2, ⟨w1, w2, w3⟩, z4⟩ | ⟨z1, z0, z00, z2, ⟨w1, w2⟩, z4⟩
    · refine ⟨by rw [x2, z2], ?_⟩
      rw [y1, y2, y3, y4, y5, y6, x4, w1, w2, w3, z4]
      exact ⟨i1, i2, i3, i4, i5⟩
    · exact absurd z1 x1
    · exact absurd z1 x1
    · exact absurd z1 x1
  · rcases hb with ⟨z1, z2, ⟨w1, w2, w3⟩, z4⟩ | ⟨z1, z0, z2, ⟨w1, w2, w3⟩, z4⟩ | ⟨z1, z0, z00, z2, ⟨w1, w2, w3⟩, z4⟩ | ⟨z1, z0, z00, z2, ⟨w1, w2⟩, z4⟩
    · exact absurd x1 z1
    · refine ⟨by rw [x2, z2], ?_⟩
      rw [y1, y2, y3, y4, y5, y6, x4, w1, w2, w3, z4]
      exact ⟨i1, i2, i3, i4, by rw [i5]⟩
    · exact absurd x0 z0
    · exact absurd x0 z0
  · rcases hb with ⟨z1, z2, ⟨w1, w2, w3⟩, z4⟩ | ⟨z1, z0, z2, ⟨w1, w2, w3⟩, z4⟩ | ⟨z1, z0, z00, z2, ⟨w1, w2, w3⟩, z4⟩ | ⟨z1, z0, z00, z2, ⟨w1, w2⟩, z4⟩
    · exact absurd x1 z1
    · exact absurd z0 x0
    · refine ⟨by rw [x2, z2], ?_⟩
      rw [y1, y2, y3, y4, y5, y6, x4, w1, w2, w3, z4]
      exact ⟨i1, i2, i3, i4, i5⟩
    · omega
  · rcases hb with ⟨z1, z2, ⟨w1, w2, w3⟩, z4⟩ | ⟨z1, z0, z2, ⟨w1, w2, w3⟩, z4⟩ | ⟨z1, z0, z00, z2, ⟨w1, w2, w3⟩, z4⟩ | ⟨z1, z0, z00, z2, ⟨w1, w2⟩, z4⟩
    · exact absurd x1 z1
    · exact absurd z0 x0
    · omega
    · have hs := (i1.step x1 hu1 hu2).1
      refine ⟨?_, ?_⟩
      · rw [x2, z2, i2, nI_succ]
        grind
      · rw [y1, y2, x4, w1, z4]
        refine ⟨hs.congr y3 y4, rfl, z00, fun i hi => ?_, by rw [i5]⟩
        rw [w2 i hi, hs.Vcongr y3 y4 hi]
theorem gl_V {capN nl nu : Nat} {lx ly ux uy : Nat → Int32} {seen : Int32} {N : Nat} {mx my : Nat → Int32} {pts : Int32} (h : gl_I capN nl nu lx ly ux uy seen N mx my pts) {j : Nat} (hj : j < gh_N nl nu) : gv nl lx nu ux j = mx j ∧ gv nl ly nu uy j = my j := by
  obtain ⟨i1, i2, i3, i4, i5⟩ := h
  have e := i4 j (by omega)
  rw [gv_V, gp_eq] at e
  have := g2_inj e
  exact ⟨this.1.symm, this.2.symm⟩
theorem gl_tan {N : Nat} {V : Nat → Int × Int} {p : Int × Int} {wh : Int32} {ins : Prop} {r r' : Int32} (hV : 3 ≤ N → gh_Poly N V) (h : gq_tan N V p wh ins r) (h' : gq_tan N V p wh ins r') : r = r' := by
  by_cases e : 3 ≤ N
  · exact gq_tan_one (hV e) h h'
  · rw [h.1 (Or.inr (Or.inr (Or.inl (by omega)))), h'.1 (Or.inr (Or.inr (Or.inl (by omega))))]
theorem gl_dia {N : Nat} {V : Nat → Int × Int} {r r' : Int32} (h : ∃ M, gq_dia N V M ∧ r = (Int64.ofInt M).toInt32) (h' : ∃ M, gq_dia N V M ∧ r' = (Int64.ofInt M).toInt32) : r = r' := by
  obtain ⟨a, a1, a2⟩ := h
  obtain ⟨b, b1, b2⟩ := h'
  rw [a2, b2, gq_dia_one a1 b1]
theorem gl_gt {L i : Nat} (hL : L ≤ 257) (hi : i ≤ 300) : nI L - 4 < nI i ↔ L < i + 4 := by
  have e : (nI L - nI 4).toInt = (L : Int) - 4 := pk_sub_toInt (by omega) (by omega)
  have e2 : (nI L - 4) = nI L - nI 4 := rfl
  rw [Int32.lt_iff_toInt_lt, e2, e, nI_toInt (by omega)]
  omega
def gl_A (s : State) : Nat → Prop := fun q => s.heap.size ≤ q
def gl_cell (L : Nat) (xs : Nat → Int32) : Int32 := if 0 < L then xs 0 else 0
def gl_Pc (av : List Value) (b L : Nat) (xs : Nat → Int32) : Array Value → State → Prop := va_Pc av (fun U => va_X b L xs U U.heap)
theorem gl_blind {av : List Value} {b L : Nat} {xs : Nat → Int32} : FrameBlind (gl_Pc av b L xs) := fun a U g mk q => ⟨q.1, va_X.moved (u := U) (U := U.calling g mk a) (Vm.Alike.refl U.vm) q.2⟩
theorem gl_preS {s : State} {H : Heap} {As : List Value} {b L : Nat} {xs : Nat → Int32} (hX : va_X b L xs s H) : PreS s H (gl_Pc As b L xs) As := ⟨gl_blind, fun U hU hW => ⟨rfl, by show va_X b L xs U U.heap; rw [hU]; exact va_X.moved hW.alike hX⟩⟩
section GLW
variable {p : Program} {l : Launch} {e : Env} {R : Room} {s : State} {m : MethodId} {args : Array Value} {below : List Frame} {meth : Method} {c : Code} {H : Heap} {locs : List Loc} {cells slots : Nat} {Q : State → Prop}
variable {cc : ByteArray} {pc : Nat} {ls : Array Slot} {rest : List Value} {A : Nat → Prop} {H0 : Heap}
theorem gl_sld (hexec : p.tables.exec = Jvm.exec) (hb : c.code = cc) {b L : Nat} {xs : Nat → Int32} (hX : va_X b L xs s H0) (hbl : b < H0.size) (hbA : ¬ A b) (hS : va_S A H0 H locs) {k : Nat} (hk : k < L) (hL : L ≤ 257) (hdg : decode cc pc = .ok (.iaload, 1))
    (kk : W p l e R s m args below meth c H locs cells slots Q (F0 m (pc + 1) ls (.int (xs k) :: rest))) : W p l e R s m args below meth c H locs cells slots Q (F0 m pc ls (.int (nI k) :: .ref b :: rest)) :=
  va_sld hexec hb hX hbl hbA hS (vp_in_nI hk (by omega)) hdg (by rw [nI_clamp (by omega)]; exact kk)
end GLW
set_option maxHeartbeats 4000000 in
set_option maxRecDepth 100000 in
theorem metX0_cell (l : Launch) (b L : Nat) (xs : Nat → Int32) (hL : L ≤ 257) : Met l yX0_cell (ws_ yX0_cell cX0_cell 2 (some .int)) ({ frames := 0, cells := 0, slots := 0, locals := 0 }) (gl_Pc [.ref b, .int 0] b L xs) (vp_Si (fun r => r = gl_cell L xs)) 0 0 (fun _ => False) := by
  refine Met.ofW (cc := cX0_cell) (maxL := 2) (ret := (some .int)) (by decide) rfl ?_
  intro p e s m args below meth c s₁ B hml hv
  obtain ⟨rfl, hX⟩ := hv
  have hx := B.exec
  have hb := B.bytes
  have hr := B.returns
  have hlocks := B.notSynchronized
  have hbl : b < s.heap.size := by
    obtain ⟨scr, h1, _⟩ := hX
    exact (Array.getElem?_eq_some_iff.mp h1).1
  have hS : va_S (fun _ => False) s.heap s.heap [] := va_S.rf
  have hl := lv_entry ([.ref b, .int 0]) (n := 2) (Nat.le_of_ble_eq_true rfl)
  rw [lg_entry_eq]
  generalize (lg_sl ([.ref b, .int 0]) ++ List.replicate (2 - (lg_sl ([.ref b, .int 0])).length) Slot.unset).toArray = ls at hl ⊢
  have hl : lv_has ls 2 [(0, .ref b), (1, .int 0)] := hl
  refine lv_iload_n hx hb dX0_cell_0 rfl (lv_at hl 1 rfl) ?_
  refine lv_aload_n hx hb dX0_cell_1 rfl (lv_at hl 0 rfl) ?_
  refine va_slen hx hb hX hbl (fun z => z) hS dX0_cell_2 ?_
  refine gr_topi (y := nI L) (rfl) ?_
  refine lv_icmp_ge (tgt := 12) hx hb dX0_cell_3 (by decide) (fun c_1 => ?_) (fun c_1 => ?_)
  · have c1 : L ≤ 0 := (nI_leI (b := 0) (by omega) (by omega)).mp c_1
    refine lv_iconst (v := 0) hx hb dX0_cell_12 (by decide) ?_
    exact W.iret (v := 0) hx hb hr (fun t ht hW => ⟨0, rfl, by unfold gl_cell; rw [if_neg (by omega)], ht⟩) (fun q h => by cases h) dX0_cell_13
  · have c1 : 0 < L := Nat.not_le.mp (fun z => c_1 ((nI_leI (b := 0) (by omega) (by omega)).mpr z))
    refine lv_aload_n hx hb dX0_cell_6 rfl (lv_at hl 0 rfl) ?_
    refine lv_iload_n hx hb dX0_cell_7 rfl (lv_at hl 1 rfl) ?_
    refine gr_topi (y := nI 0) (nI_0.symm) ?_
    refine gl_sld (k := 0) hx hb hX hbl (fun z => z) hS c1 hL dX0_cell_8 ?_
    refine lv_goto (tgt := 13) hx hb dX0_cell_9 (by decide) ?_
    exact W.iret (v := (xs 0)) hx hb hr (fun t ht hW => ⟨(xs 0), rfl, by unfold gl_cell; rw [if_pos c1], ht⟩) (fun q h => by cases h) dX0_cell_13
end
section
set_option maxHeartbeats 8000000 in
set_option maxRecDepth 100000 in
theorem law_loop {p : Program} {e : Env} {s : State} {m : MethodId} {below : List Frame} {meth : Method} {c : Code} (l : Launch) {b L : Nat} {xs : Nat → Int32} (hL : L ≤ 257) (C0 : lw_At p s m meth c b L xs) (dC : Nat → ClassId) (dI : Nat → Nat → Nat) (dA : ClassId) (hK : va_K (dC, dI) vwCl [(dA, .int)] s) (capN : Nat) (hcap : capN ≤ 64) (h a1 a2 a3 a4 a5 a6 o o1 o2 o3 o4 o5 : Nat) : ∀ (d i : Nat), L + 5 ≤ i + d → i ≤ L + 4 → ∀ (nl nu : Nat) (lx ly ux uy tx ty : Nat → Int32) (nt seen : Int32) (N : Nat) (mx my px py rd : Nat → Int32) (pts : Int32), gl_I capN nl nu lx ly ux uy seen N mx my pts → ∀ (H : Heap) (locs : List Loc), va_P (dC, dI) vwCl [(h, .inr (0, [.ref a1, .ref a2, .ref a3, .ref a4, .int (nI nl), .int (nI nu), .ref a5, .ref a6, .int nt, .int (nI capN), .int seen])), (a1, .inl (dA, 68, .inl lx)), (a2, .inl (dA, 68, .inl ly)), (a3, .inl (dA, 68, .inl ux)), (a4, .inl (dA, 68, .inl uy)), (a5, .inl (dA, 68, .inl tx)), (a6, .inl (dA, 68, .inl ty)), (o, .inr (1, [.int (nI capN), .int (nI N), .int pts, .ref o1, .ref o2, .ref o3, .ref o4, .ref o5])), (o1, .inl (dA, 66, .inl mx)), (o2, .inl (dA, 66, .inl my)), (o3, .inl (dA, 66, .inl px)), (o4, .inl (dA, 66, .inl py)), (o5, .inl (dA, 67, .inl rd))] H → va_D (gl_A s) [(h, .inr (0, [.ref a1, .ref a2, .ref a3, .ref a4, .int (nI nl), .int (nI nu), .ref a5, .ref a6, .int nt, .int (nI capN), .int seen])), (a1, .inl (dA, 68, .inl lx)), (a2, .inl (dA, 68, .inl ly)), (a3, .inl (dA, 68, .inl ux)), (a4, .inl (dA, 68, .inl uy)), (a5, .inl (dA, 68, .inl tx)), (a6, .inl (dA, 68, .inl ty)), (o, .inr (1, [.int (nI capN), .int (nI N), .int pts, .ref o1, .ref o2, .ref o3, .ref o4, .ref o5])), (o1, .inl (dA, 66, .inl mx)), (o2, .inl (dA, 66, .inl my)), (o3, .inl (dA, 66, .inl px)), (o4, .inl (dA, 66, .inl py)), (o5, .inl (dA, 67, .inl rd))] → va_S (gl_A s) s.heap H locs → ∀ (ls : Array Slot), lv_has ls 4 [(0, .ref b), (1, .ref h), (2, .ref o), (3, .int (nI i))] → W p l e room_1 s m #[Value.ref b] below meth c H locs 13 758 (lw_Z below #[Value.ref b] s) (F0 m 28 ls []) := by
  obtain ⟨hx, hb, hr, hml, hown, hts0, hX, hbl, hlocks, hgv⟩ := C0
  have hts : ∀ w ∈ lw_all, w.before #[Value.ref b] s = true := fun w h => hts0 w (lw_all_tbl h)
  have hA : ∀ q : Nat, s.heap.size ≤ q → gl_A s q := fun _ h => h
  have hbA : ¬ gl_A s b := Nat.not_le.mpr hbl
  intro d
  induction d with
  | zero => intro i h1 h2; omega
  | succ d ih =>
    intro i hd hi nl nu lx ly ux uy tx ty nt seen N mx my px py rd pts hI H locs hP hD hS ls hl
    obtain ⟨hH, hNN, hNc, hV, hps⟩ := id hI
    obtain ⟨hnl, hnu⟩ := gl_bd hH (by omega)
    have hVok : ∀ i, i < N → gh_ok (gh_V nl (gp lx ly) nu (gp ux uy) i) := fun i hi => hH.vok (by omega)
    have at336 : i + 4 ≤ L → ∀ (nl nu : Nat) (lx ly ux uy tx ty : Nat → Int32) (nt seen : Int32) (N : Nat) (mx my px py rd : Nat → Int32) (pts : Int32), gl_I capN nl nu lx ly ux uy seen N mx my pts → ∀ (H : Heap) (locs : List Loc), va_P (dC, dI) vwCl [(h, .inr (0, [.ref a1, .ref a2, .ref a3, .ref a4, .int (nI nl), .int (nI nu), .ref a5, .ref a6, .int nt, .int (nI capN), .int seen])), (a1, .inl (dA, 68, .inl lx)), (a2, .inl (dA, 68, .inl ly)), (a3, .inl (dA, 68, .inl ux)), (a4, .inl (dA, 68, .inl uy)), (a5, .inl (dA, 68, .inl tx)), (a6, .inl (dA, 68, .inl ty)), (o, .inr (1, [.int (nI capN), .int (nI N), .int pts, .ref o1, .ref o2, .ref o3, .ref o4, .ref o5])), (o1, .inl (dA, 66, .inl mx)), (o2, .inl (dA, 66, .inl my)), (o3, .inl (dA, 66, .inl px)), (o4, .inl (dA, 66, .inl py)), (o5, .inl (dA, 67, .inl rd))] H → va_D (gl_A s) [(h, .inr (0, [.ref a1, .ref a2, .ref a3, .ref a4, .int (nI nl), .int (nI nu), .ref a5, .ref a6, .int nt, .int (nI capN), .int seen])), (a1, .inl (dA, 68, .inl lx)), (a2, .inl (dA, 68, .inl ly)), (a3, .inl (dA, 68, .inl ux)), (a4, .inl (dA, 68, .inl uy)), (a5, .inl (dA, 68, .inl tx)), (a6, .inl (dA, 68, .inl ty)), (o, .inr (1, [.int (nI capN), .int (nI N), .int pts, .ref o1, .ref o2, .ref o3, .ref o4, .ref o5])), (o1, .inl (dA, 66, .inl mx)), (o2, .inl (dA, 66, .inl my)), (o3, .inl (dA, 66, .inl px)), (o4, .inl (dA, 66, .inl py)), (o5, .inl (dA, 67, .inl rd))] → va_S (gl_A s) s.heap H locs → ∀ (ls : Array Slot), lv_has ls 4 [(0, .ref b), (1, .ref h), (2, .ref o), (3, .int (nI i))] → W p l e room_1 s m #[Value.ref b] below meth c H locs 13 758 (lw_Z below #[Value.ref b] s) (F0 m 336 ls []) := by
      intro hiL nl nu lx ly ux uy tx ty nt seen N mx my px py rd pts hI H locs hP hD hS ls hl
      refine lv_iinc (v := nI (i + 4)) (lv' := [(3, .int (nI (i + 4))), (0, .ref b), (1, .ref h), (2, .ref o)]) hx hb dL_law_336 hl (k := 3) rfl (by rw [show Int32.ofInt 4 = nI 4 by decide]; exact nI_add i 4) (by decide) rfl (fun ls hl => ?_)
      refine lv_goto (tgt := 28) hx hb dL_law_339 (by decide) ?_
      exact ih (i + 4) (by omega) (by omega) nl nu lx ly ux uy tx ty nt seen N mx my px py rd pts hI H locs hP hD hS ls (lv_sub hl [1, 2, 3, 0] rfl)
    refine lv_iload_n hx hb dL_law_28 rfl (lv_at hl 3 rfl) ?_
    refine lv_aload_n hx hb dL_law_29 rfl (lv_at hl 0 rfl) ?_
    refine va_slen hx hb hX hbl hbA hS dL_law_30 ?_
    refine gr_topi (y := nI L) (rfl) ?_
    refine lv_iconst (v := 4) hx hb dL_law_31 (by decide) ?_
    refine lv_isub hx hb dL_law_32 ?_
    refine lv_icmp_gt (tgt := 342) hx hb dL_law_33 (by decide) (fun c_1 => ?_) (fun c_1 => ?_)
    · refine lv_iconst (v := 1) hx hb dL_law_342 (by decide) ?_
      refine va_forget (fun q hq => hS.2.2 q hq) ?_
      refine W.widen (k := 600000) (n := 7290000) (Nat.le_of_ble_eq_true rfl) (Nat.le_of_ble_eq_true rfl) ?_
      exact lw_ret hx hb hr hlocks dL_law_343
    · have hiL : i + 4 ≤ L := Nat.not_lt.mp (fun z => c_1 ((gl_gt hL (by omega)).mpr z))
      refine lv_aload_n hx hb dL_law_36 rfl (lv_at hl 0 rfl) ?_
      refine lv_iload_n hx hb dL_law_37 rfl (lv_at hl 3 rfl) ?_
      refine gl_sld (k := i) hx hb hX hbl hbA hS (by omega) hL dL_law_38 ?_
      refine lv_bipush (v := 15) hx hb dL_law_39 (by decide) ?_
      refine lv_iand hx hb dL_law_41 ?_
      obtain ⟨j, hj, ej⟩ := pk_andE (xs i) (m := 15) 4 (by decide)
      refine gr_topi (y := nI j) (ej) ?_
      have hcase : j = 0 ∨ j = 1 ∨ j = 2 ∨ j = 3 ∨ j = 4 ∨ j = 5 ∨ j = 6 ∨ j = 7 ∨ j = 8 ∨ j = 9 ∨ 9 < j := by omega
      rcases hcase with e0 | e0 | e0 | e0 | e0 | e0 | e0 | e0 | e0 | e0 | e0
      · subst e0
        refine lv_tableIn (off := 54) (tgt := 96) hx hb dL_law_42 (by decide) (by decide) (by rfl) (by decide) ?_
        refine lv_aload_n hx hb dL_law_96 rfl (lv_at hl 1 rfl) ?_
        refine lv_aload_n hx hb dL_law_97 rfl (lv_at hl 0 rfl) ?_
        refine lv_iload_n hx hb dL_law_98 rfl (lv_at hl 3 rfl) ?_
        refine lv_iconst (v := 1) hx hb dL_law_99 (by decide) ?_
        refine lv_iadd hx hb dL_law_100 ?_
        refine gr_topi (y := nI (i + 1)) (nI_1 i) ?_
        refine gl_sld (k := i + 1) hx hb hX hbl hbA hS (by omega) hL dL_law_101 ?_
        refine lv_aload_n hx hb dL_law_102 rfl (lv_at hl 0 rfl) ?_
        refine lv_iload_n hx hb dL_law_103 rfl (lv_at hl 3 rfl) ?_
        refine lv_iconst (v := 2) hx hb dL_law_104 (by decide) ?_
        refine lv_iadd hx hb dL_law_105 ?_
        refine gr_topi (y := nI (i + 2)) (nI_add i 2) ?_
        refine gl_sld (k := i + 2) hx hb hX hbl hbA hS (by omega) hL dL_law_106 ?_
        obtain ⟨n1, L1, hu1⟩ := gh_Up_ex 1 nl (gp lx ly) (g2 (xs (i + 1)) (xs (i + 2)))
        obtain ⟨n2, U1, hu2⟩ := gh_Up_ex (-1) nu (gp ux uy) (g2 (xs (i + 1)) (xs (i + 2)))
        have hPc := hP.sub (ws' := [(h, .inr (0, [.ref a1, .ref a2, .ref a3, .ref a4, .int (nI nl), .int (nI nu), .ref a5, .ref a6, .int nt, .int (nI capN), .int seen])), (a1, .inl (dA, 68, .inl lx)), (a2, .inl (dA, 68, .inl ly)), (a3, .inl (dA, 68, .inl ux)), (a4, .inl (dA, 68, .inl uy)), (a5, .inl (dA, 68, .inl tx)), (a6, .inl (dA, 68, .inl ty))]) [0, 1, 2, 3, 4, 5, 6] rfl
        have hDc := hD.sub (ws' := [(h, .inr (0, [.ref a1, .ref a2, .ref a3, .ref a4, .int (nI nl), .int (nI nu), .ref a5, .ref a6, .int nt, .int (nI capN), .int seen])), (a1, .inl (dA, 68, .inl lx)), (a2, .inl (dA, 68, .inl ly)), (a3, .inl (dA, 68, .inl ux)), (a4, .inl (dA, 68, .inl uy)), (a5, .inl (dA, 68, .inl tx)), (a6, .inl (dA, 68, .inl ty))]) [0, 1, 2, 3, 4, 5, 6] (by decide) rfl
        have hKc := hK.sub (tys' := [(dA, .int)]) [0] rfl
        have hFc := va_free (wc := [(h, .inr (0, [.ref a1, .ref a2, .ref a3, .ref a4, .int (nI nl), .int (nI nu), .ref a5, .ref a6, .int nt, .int (nI capN), .int seen])), (a1, .inl (dA, 68, .inl lx)), (a2, .inl (dA, 68, .inl ly)), (a3, .inl (dA, 68, .inl ux)), (a4, .inl (dA, 68, .inl uy)), (a5, .inl (dA, 68, .inl tx)), (a6, .inl (dA, 68, .inl ty))]) hD hS hA [0, 1, 2, 3, 4, 5, 6] rfl
        refine va_calli (va_runV (As := [.int (xs (i + 1)), .int (xs (i + 2))]) (rest := []) ⟨hx, hb, hml, hown, hts⟩ (metX1_add l dC dI dA H.size h a1 a2 a3 a4 a5 a6 nl nu lx ly ux uy tx ty nt capN seen (xs (i + 1)) (xs (i + 2)) (by omega) (by omega) hcap hH n1 n2 L1 U1 hu1 hu2) (cwV 2 hts (lw_V q72 q73 q74 q11 q75) rfl rfl rfl (by decide +kernel) ⟨Nat.le_of_ble_eq_true rfl, Nat.le_of_ble_eq_true rfl⟩) (gm_preV hK hP (ci := 0) (q0 := 0) rfl rfl hPc hKc hDc) rfl rfl hl.1 rfl (lv_room (Nat.le_of_ble_eq_true rfl)) dL_law_107 ⟨Nat.le_of_ble_eq_true rfl, Nat.le_of_ble_eq_true rfl⟩) hS (fun q _ h => hFc q h) hFc (fun zr1 ua t H1 locs ht hvm hwua hB hz1 hk1 hS => ?_)
        obtain ⟨hP1, hK1, hD1⟩ := hB
        rw [ht] at hP1
        obtain ⟨hP, hD⟩ := va_join (wr := [(o, .inr (1, [.int (nI capN), .int (nI N), .int pts, .ref o1, .ref o2, .ref o3, .ref o4, .ref o5])), (o1, .inl (dA, 66, .inl mx)), (o2, .inl (dA, 66, .inl my)), (o3, .inl (dA, 66, .inl px)), (o4, .inl (dA, 66, .inl py)), (o5, .inl (dA, 67, .inl rd))]) (w1 := [(h, .inr (0, [.ref a1, .ref a2, .ref a3, .ref a4, .int (nI ua.1.1), .int (nI ua.1.2), .ref a5, .ref a6, .int ua.2.2.1, .int (nI capN), .int ua.2.2.2])), (a1, .inl (dA, 68, .inl ua.2.1.1)), (a2, .inl (dA, 68, .inl ua.2.1.2.1)), (a3, .inl (dA, 68, .inl ua.2.1.2.2.1)), (a4, .inl (dA, 68, .inl ua.2.1.2.2.2.1)), (a5, .inl (dA, 68, .inl ua.2.1.2.2.2.2.1)), (a6, .inl (dA, 68, .inl ua.2.1.2.2.2.2.2))]) hP hD [0, 1, 2, 3, 4, 5, 6] [7, 8, 9, 10, 11, 12] rfl rfl (by decide) (by decide) hk1 hFc hP1 hD1
        generalize H1 = H at hP hS ⊢
        have hP := hP.sub (ws' := [(h, .inr (0, [.ref a1, .ref a2, .ref a3, .ref a4, .int (nI ua.1.1), .int (nI ua.1.2), .ref a5, .ref a6, .int ua.2.2.1, .int (nI capN), .int ua.2.2.2])), (a1, .inl (dA, 68, .inl ua.2.1.1)), (a2, .inl (dA, 68, .inl ua.2.1.2.1)), (a3, .inl (dA, 68, .inl ua.2.1.2.2.1)), (a4, .inl (dA, 68, .inl ua.2.1.2.2.2.1)), (a5, .inl (dA, 68, .inl ua.2.1.2.2.2.2.1)), (a6, .inl (dA, 68, .inl ua.2.1.2.2.2.2.2)), (o, .inr (1, [.int (nI capN), .int (nI N), .int pts, .ref o1, .ref o2, .ref o3, .ref o4, .ref o5])), (o1, .inl (dA, 66, .inl mx)), (o2, .inl (dA, 66, .inl my)), (o3, .inl (dA, 66, .inl px)), (o4, .inl (dA, 66, .inl py)), (o5, .inl (dA, 67, .inl rd))]) [6, 7, 8, 9, 10, 11, 12, 0, 1, 2, 3, 4, 5] rfl
        have hD := hD.sub (ws' := [(h, .inr (0, [.ref a1, .ref a2, .ref a3, .ref a4, .int (nI ua.1.1), .int (nI ua.1.2), .ref a5, .ref a6, .int ua.2.2.1, .int (nI capN), .int ua.2.2.2])), (a1, .inl (dA, 68, .inl ua.2.1.1)), (a2, .inl (dA, 68, .inl ua.2.1.2.1)), (a3, .inl (dA, 68, .inl ua.2.1.2.2.1)), (a4, .inl (dA, 68, .inl ua.2.1.2.2.2.1)), (a5, .inl (dA, 68, .inl ua.2.1.2.2.2.2.1)), (a6, .inl (dA, 68, .inl ua.2.1.2.2.2.2.2)), (o, .inr (1, [.int (nI capN), .int (nI N), .int pts, .ref o1, .ref o2, .ref o3, .ref o4, .ref o5])), (o1, .inl (dA, 66, .inl mx)), (o2, .inl (dA, 66, .inl my)), (o3, .inl (dA, 66, .inl px)), (o4, .inl (dA, 66, .inl py)), (o5, .inl (dA, 67, .inl rd))]) [6, 7, 8, 9, 10, 11, 12, 0, 1, 2, 3, 4, 5] (by decide) rfl
        refine lv_aload_n hx hb dL_law_110 rfl (lv_at hl 2 rfl) ?_
        refine lv_aload_n hx hb dL_law_111 rfl (lv_at hl 0 rfl) ?_
        refine lv_iload_n hx hb dL_law_112 rfl (lv_at hl 3 rfl) ?_
        refine lv_iconst (v := 1) hx hb dL_law_113 (by decide) ?_
        refine lv_iadd hx hb dL_law_114 ?_
        refine gr_topi (y := nI (i + 1)) (nI_1 i) ?_
        refine gl_sld (k := i + 1) hx hb hX hbl hbA hS (by omega) hL dL_law_115 ?_
        refine lv_aload_n hx hb dL_law_116 rfl (lv_at hl 0 rfl) ?_
        refine lv_iload_n hx hb dL_law_117 rfl (lv_at hl 3 rfl) ?_
        refine lv_iconst (v := 2) hx hb dL_law_118 (by decide) ?_
        refine lv_iadd hx hb dL_law_119 ?_
        refine gr_topi (y := nI (i + 2)) (nI_add i 2) ?_
        refine gl_sld (k := i + 2) hx hb hX hbl hbA hS (by omega) hL dL_law_120 ?_
        have hPc := hP.sub (ws' := [(o, .inr (1, [.int (nI capN), .int (nI N), .int pts, .ref o1, .ref o2, .ref o3, .ref o4, .ref o5])), (o1, .inl (dA, 66, .inl mx)), (o2, .inl (dA, 66, .inl my)), (o3, .inl (dA, 66, .inl px)), (o4, .inl (dA, 66, .inl py)), (o5, .inl (dA, 67, .inl rd))]) [7, 8, 9, 10, 11, 12] rfl
        have hDc := hD.sub (ws' := [(o, .inr (1, [.int (nI capN), .int (nI N), .int pts, .ref o1, .ref o2, .ref o3, .ref o4, .ref o5])), (o1, .inl (dA, 66, .inl mx)), (o2, .inl (dA, 66, .inl my)), (o3, .inl (dA, 66, .inl px)), (o4, .inl (dA, 66, .inl py)), (o5, .inl (dA, 67, .inl rd))]) [7, 8, 9, 10, 11, 12] (by decide) rfl
        have hKc := hK.sub (tys' := [(dA, .int)]) [0] rfl
        have hFc := va_free (wc := [(o, .inr (1, [.int (nI capN), .int (nI N), .int pts, .ref o1, .ref o2, .ref o3, .ref o4, .ref o5])), (o1, .inl (dA, 66, .inl mx)), (o2, .inl (dA, 66, .inl my)), (o3, .inl (dA, 66, .inl px)), (o4, .inl (dA, 66, .inl py)), (o5, .inl (dA, 67, .inl rd))]) hD hS hA [7, 8, 9, 10, 11, 12] rfl
        refine va_calli (va_runV (As := [.int (xs (i + 1)), .int (xs (i + 2))]) (rest := [.int zr1]) ⟨hx, hb, hml, hown, hts⟩ (metX2_add l dC dI dA H.size o o1 o2 o3 o4 o5 N mx my px py rd capN pts (xs (i + 1)) (xs (i + 2)) nl nu (gp lx ly) (gp ux uy) hH hNN (by omega) hcap hV n1 n2 L1 U1 hu1 hu2) (cwV 2 hts (lw_V q189 q190 q191 q12 q192) rfl rfl rfl (by decide +kernel) ⟨Nat.le_of_ble_eq_true rfl, Nat.le_of_ble_eq_true rfl⟩) (gm_preV hK hP (ci := 1) (q0 := 7) rfl rfl hPc hKc hDc) rfl rfl hl.1 rfl (lv_room (Nat.le_of_ble_eq_true rfl)) dL_law_121 ⟨Nat.le_of_ble_eq_true rfl, Nat.le_of_ble_eq_true rfl⟩) hS (fun q _ h => hFc q h) hFc (fun zr2 ub t H1 locs ht hvm hwub hB hz1 hk1 hS => ?_)
        obtain ⟨hP1, hK1, hD1⟩ := hB
        rw [ht] at hP1
        obtain ⟨hP, hD⟩ := va_join (wr := [(h, .inr (0, [.ref a1, .ref a2, .ref a3, .ref a4, .int (nI ua.1.1), .int (nI ua.1.2), .ref a5, .ref a6, .int ua.2.2.1, .int (nI capN), .int ua.2.2.2])), (a1, .inl (dA, 68, .inl ua.2.1.1)), (a2, .inl (dA, 68, .inl ua.2.1.2.1)), (a3, .inl (dA, 68, .inl ua.2.1.2.2.1)), (a4, .inl (dA, 68, .inl ua.2.1.2.2.2.1)), (a5, .inl (dA, 68, .inl ua.2.1.2.2.2.2.1)), (a6, .inl (dA, 68, .inl ua.2.1.2.2.2.2.2))]) (w1 := [(o, .inr (1, [.int (nI capN), .int (nI ub.1), .int ub.2.2.2.2.2.2, .ref o1, .ref o2, .ref o3, .ref o4, .ref o5])), (o1, .inl (dA, 66, .inl ub.2.1)), (o2, .inl (dA, 66, .inl ub.2.2.1)), (o3, .inl (dA, 66, .inl ub.2.2.2.1)), (o4, .inl (dA, 66, .inl ub.2.2.2.2.1)), (o5, .inl (dA, 67, .inl ub.2.2.2.2.2.1))]) hP hD [7, 8, 9, 10, 11, 12] [0, 1, 2, 3, 4, 5, 6] rfl rfl (by decide) (by decide) hk1 hFc hP1 hD1
        generalize H1 = H at hP hS ⊢
        have hP := hP.sub (ws' := [(h, .inr (0, [.ref a1, .ref a2, .ref a3, .ref a4, .int (nI ua.1.1), .int (nI ua.1.2), .ref a5, .ref a6, .int ua.2.2.1, .int (nI capN), .int ua.2.2.2])), (a1, .inl (dA, 68, .inl ua.2.1.1)), (a2, .inl (dA, 68, .inl ua.2.1.2.1)), (a3, .inl (dA, 68, .inl ua.2.1.2.2.1)), (a4, .inl (dA, 68, .inl ua.2.1.2.2.2.1)), (a5, .inl (dA, 68, .inl ua.2.1.2.2.2.2.1)), (a6, .inl (dA, 68, .inl ua.2.1.2.2.2.2.2)), (o, .inr (1, [.int (nI capN), .int (nI ub.1), .int ub.2.2.2.2.2.2, .ref o1, .ref o2, .ref o3, .ref o4, .ref o5])), (o1, .inl (dA, 66, .inl ub.2.1)), (o2, .inl (dA, 66, .inl ub.2.2.1)), (o3, .inl (dA, 66, .inl ub.2.2.2.1)), (o4, .inl (dA, 66, .inl ub.2.2.2.2.1)), (o5, .inl (dA, 67, .inl ub.2.2.2.2.2.1))]) [0, 1, 2, 3, 4, 5, 6, 7, 8, 9, 10, 11, 12] rfl
        have hD := hD.sub (ws' := [(h, .inr (0, [.ref a1, .ref a2, .ref a3, .ref a4, .int (nI ua.1.1), .int (nI ua.1.2), .ref a5, .ref a6, .int ua.2.2.1, .int (nI capN), .int ua.2.2.2])), (a1, .inl (dA, 68, .inl ua.2.1.1)), (a2, .inl (dA, 68, .inl ua.2.1.2.1)), (a3, .inl (dA, 68, .inl ua.2.1.2.2.1)), (a4, .inl (dA, 68, .inl ua.2.1.2.2.2.1)), (a5, .inl (dA, 68, .inl ua.2.1.2.2.2.2.1)), (a6, .inl (dA, 68, .inl ua.2.1.2.2.2.2.2)), (o, .inr (1, [.int (nI capN), .int (nI ub.1), .int ub.2.2.2.2.2.2, .ref o1, .ref o2, .ref o3, .ref o4, .ref o5])), (o1, .inl (dA, 66, .inl ub.2.1)), (o2, .inl (dA, 66, .inl ub.2.2.1)), (o3, .inl (dA, 66, .inl ub.2.2.2.1)), (o4, .inl (dA, 66, .inl ub.2.2.2.2.1)), (o5, .inl (dA, 67, .inl ub.2.2.2.2.2.1))]) [0, 1, 2, 3, 4, 5, 6, 7, 8, 9, 10, 11, 12] (by decide) rfl
        obtain ⟨heq, hI2⟩ := gl_add hI hu1 hu2 hwua hwub
        refine lv_icmp_eq (tgt := 336) hx hb dL_law_124 (by decide) (fun c_2 => ?_) (fun c_2 => ?_)
        · exact at336 (by omega) ua.1.1 ua.1.2 ua.2.1.1 ua.2.1.2.1 ua.2.1.2.2.1 ua.2.1.2.2.2.1 ua.2.1.2.2.2.2.1 ua.2.1.2.2.2.2.2 ua.2.2.1 ua.2.2.2 ub.1 ub.2.1 ub.2.2.1 ub.2.2.2.1 ub.2.2.2.2.1 ub.2.2.2.2.2.1 ub.2.2.2.2.2.2 hI2 H locs hP hD hS ls (lv_sub hl [0, 1, 2, 3] rfl)
        · exact absurd heq c_2
      · subst e0
        refine lv_tableIn (off := 87) (tgt := 129) hx hb dL_law_42 (by decide) (by decide) (by rfl) (by decide) ?_
        refine lv_aload_n hx hb dL_law_129 rfl (lv_at hl 1 rfl) ?_
        refine vp_callSi (va_Run.run (va_runV (As := []) (rest := []) ⟨hx, hb, hml, hown, hts⟩ (metX1_size l dC dI dA h a1 a2 a3 a4 a5 a6 nl nu lx ly ux uy tx ty nt (nI capN) seen (by omega) (by omega) hH) (cwV 0 hts (lw_V q97 q82 q83 q11 q84) rfl rfl rfl (by decide +kernel) ⟨Nat.le_of_ble_eq_true rfl, Nat.le_of_ble_eq_true rfl⟩) (gr_preV hK hP (ci := 0) (q0 := 0) rfl rfl (hP.sub (ws' := [(h, .inr (0, [.ref a1, .ref a2, .ref a3, .ref a4, .int (nI nl), .int (nI nu), .ref a5, .ref a6, .int nt, .int (nI capN), .int seen])), (a1, .inl (dA, 68, .inl lx)), (a2, .inl (dA, 68, .inl ly)), (a3, .inl (dA, 68, .inl ux)), (a4, .inl (dA, 68, .inl uy)), (a5, .inl (dA, 68, .inl tx)), (a6, .inl (dA, 68, .inl ty))]) [0, 1, 2, 3, 4, 5, 6] rfl) (hK.sub (tys' := [(dA, .int)]) [0] rfl)) rfl rfl hl.1 rfl (lv_room (Nat.le_of_ble_eq_true rfl)) dL_law_130 ⟨Nat.le_of_ble_eq_true rfl, Nat.le_of_ble_eq_true rfl⟩)) (fun zr1 hzr1 => ?_)
        refine lv_aload_n hx hb dL_law_133 rfl (lv_at hl 2 rfl) ?_
        refine vp_callSi (va_Run.run (va_runV (As := []) (rest := [.int zr1]) ⟨hx, hb, hml, hown, hts⟩ (metX2_size l dC dI dA o o1 o2 o3 o4 o5 N mx my px py rd (nI capN) pts) (cwV 0 hts (lw_V q202 q203 q204 q12 q205) rfl rfl rfl (by decide +kernel) ⟨Nat.le_of_ble_eq_true rfl, Nat.le_of_ble_eq_true rfl⟩) (gr_preV hK hP (ci := 1) (q0 := 7) rfl rfl (hP.sub (ws' := [(o, .inr (1, [.int (nI capN), .int (nI N), .int pts, .ref o1, .ref o2, .ref o3, .ref o4, .ref o5])), (o1, .inl (dA, 66, .inl mx)), (o2, .inl (dA, 66, .inl my)), (o3, .inl (dA, 66, .inl px)), (o4, .inl (dA, 66, .inl py)), (o5, .inl (dA, 67, .inl rd))]) [7, 8, 9, 10, 11, 12] rfl) (hK.sub (tys' := [(dA, .int)]) [0] rfl)) rfl rfl hl.1 rfl (lv_room (Nat.le_of_ble_eq_true rfl)) dL_law_134 ⟨Nat.le_of_ble_eq_true rfl, Nat.le_of_ble_eq_true rfl⟩)) (fun zr2 hzr2 => ?_)
        have heq : zr1 = zr2 := by rw [show zr1 = nI (gh_N nl nu) from hzr1, show zr2 = nI N from hzr2, hNN]
        refine lv_icmp_eq (tgt := 336) hx hb dL_law_137 (by decide) (fun c_5 => ?_) (fun c_5 => ?_)
        · exact at336 (by omega) nl nu lx ly ux uy tx ty nt seen N mx my px py rd pts hI H locs hP hD hS ls (lv_sub hl [0, 1, 2, 3] rfl)
        · exact absurd heq c_5
      · subst e0
        refine lv_tableIn (off := 100) (tgt := 142) hx hb dL_law_42 (by decide) (by decide) (by rfl) (by decide) ?_
        refine lv_aload_n hx hb dL_law_142 rfl (lv_at hl 1 rfl) ?_
        refine lv_aload_n hx hb dL_law_143 rfl (lv_at hl 0 rfl) ?_
        refine lv_iload_n hx hb dL_law_144 rfl (lv_at hl 3 rfl) ?_
        refine lv_iconst (v := 1) hx hb dL_law_145 (by decide) ?_
        refine lv_iadd hx hb dL_law_146 ?_
        refine gr_topi (y := nI (i + 1)) (nI_1 i) ?_
        refine gl_sld (k := i + 1) hx hb hX hbl hbA hS (by omega) hL dL_law_147 ?_
        refine vp_callSi (va_Run.run (va_runV (As := [.int (xs (i + 1))]) (rest := []) ⟨hx, hb, hml, hown, hts⟩ (metX1_xOf l dC dI dA h a1 a2 a3 a4 a5 a6 nl nu lx ly ux uy tx ty nt (nI capN) seen (xs (i + 1)) (by omega) (by omega) hH) (cwV 1 hts (lw_V q98 q99 q100 q11 q101) rfl rfl rfl (by decide +kernel) ⟨Nat.le_of_ble_eq_true rfl, Nat.le_of_ble_eq_true rfl⟩) (gr_preV hK hP (ci := 0) (q0 := 0) rfl rfl (hP.sub (ws' := [(h, .inr (0, [.ref a1, .ref a2, .ref a3, .ref a4, .int (nI nl), .int (nI nu), .ref a5, .ref a6, .int nt, .int (nI capN), .int seen])), (a1, .inl (dA, 68, .inl lx)), (a2, .inl (dA, 68, .inl ly)), (a3, .inl (dA, 68, .inl ux)), (a4, .inl (dA, 68, .inl uy)), (a5, .inl (dA, 68, .inl tx)), (a6, .inl (dA, 68, .inl ty))]) [0, 1, 2, 3, 4, 5, 6] rfl) (hK.sub (tys' := [(dA, .int)]) [0] rfl)) rfl rfl hl.1 rfl (lv_room (Nat.le_of_ble_eq_true rfl)) dL_law_148 ⟨Nat.le_of_ble_eq_true rfl, Nat.le_of_ble_eq_true rfl⟩)) (fun zr1 hzr1 => ?_)
        refine lv_aload_n hx hb dL_law_151 rfl (lv_at hl 2 rfl) ?_
        refine lv_aload_n hx hb dL_law_152 rfl (lv_at hl 0 rfl) ?_
        refine lv_iload_n hx hb dL_law_153 rfl (lv_at hl 3 rfl) ?_
        refine lv_iconst (v := 1) hx hb dL_law_154 (by decide) ?_
        refine lv_iadd hx hb dL_law_155 ?_
        refine gr_topi (y := nI (i + 1)) (nI_1 i) ?_
        refine gl_sld (k := i + 1) hx hb hX hbl hbA hS (by omega) hL dL_law_156 ?_
        refine vp_callSi (va_Run.run (va_runV (As := [.int (xs (i + 1))]) (rest := [.int zr1]) ⟨hx, hb, hml, hown, hts⟩ (metX2_xOf l dC dI dA o o1 o2 o3 o4 o5 N mx my px py rd (nI capN) pts (xs (i + 1)) (by omega)) (cwV 1 hts (lw_V q206 q207 q208 q12 q209) rfl rfl rfl (by decide +kernel) ⟨Nat.le_of_ble_eq_true rfl, Nat.le_of_ble_eq_true rfl⟩) (gr_preV hK hP (ci := 1) (q0 := 7) rfl rfl (hP.sub (ws' := [(o, .inr (1, [.int (nI capN), .int (nI N), .int pts, .ref o1, .ref o2, .ref o3, .ref o4, .ref o5])), (o1, .inl (dA, 66, .inl mx)), (o2, .inl (dA, 66, .inl my)), (o3, .inl (dA, 66, .inl px)), (o4, .inl (dA, 66, .inl py)), (o5, .inl (dA, 67, .inl rd))]) [7, 8, 9, 10, 11, 12] rfl) (hK.sub (tys' := [(dA, .int)]) [0] rfl)) rfl rfl hl.1 rfl (lv_room (Nat.le_of_ble_eq_true rfl)) dL_law_157 ⟨Nat.le_of_ble_eq_true rfl, Nat.le_of_ble_eq_true rfl⟩)) (fun zr2 hzr2 => ?_)
        have heq : zr1 = zr2 := gq_of_one (by omega) (show gq_of (gh_N nl nu) (gv nl lx nu ux) (xs (i + 1)) zr1 from hzr1) (by rw [← hNN]; exact hzr2) (fun j hj => (gl_V hI hj).1)
        refine lv_icmp_eq (tgt := 336) hx hb dL_law_160 (by decide) (fun c_8 => ?_) (fun c_8 => ?_)
        · exact at336 (by omega) nl nu lx ly ux uy tx ty nt seen N mx my px py rd pts hI H locs hP hD hS ls (lv_sub hl [0, 1, 2, 3] rfl)
        · exact absurd heq c_8
      · subst e0
        refine lv_tableIn (off := 123) (tgt := 165) hx hb dL_law_42 (by decide) (by decide) (by rfl) (by decide) ?_
        refine lv_aload_n hx hb dL_law_165 rfl (lv_at hl 1 rfl) ?_
        refine lv_aload_n hx hb dL_law_166 rfl (lv_at hl 0 rfl) ?_
        refine lv_iload_n hx hb dL_law_167 rfl (lv_at hl 3 rfl) ?_
        refine lv_iconst (v := 1) hx hb dL_law_168 (by decide) ?_
        refine lv_iadd hx hb dL_law_169 ?_
        refine gr_topi (y := nI (i + 1)) (nI_1 i) ?_
        refine gl_sld (k := i + 1) hx hb hX hbl hbA hS (by omega) hL dL_law_170 ?_
        refine vp_callSi (va_Run.run (va_runV (As := [.int (xs (i + 1))]) (rest := []) ⟨hx, hb, hml, hown, hts⟩ (metX1_yOf l dC dI dA h a1 a2 a3 a4 a5 a6 nl nu lx ly ux uy tx ty nt (nI capN) seen (xs (i + 1)) (by omega) (by omega) hH) (cwV 1 hts (lw_V q106 q107 q108 q11 q109) rfl rfl rfl (by decide +kernel) ⟨Nat.le_of_ble_eq_true rfl, Nat.le_of_ble_eq_true rfl⟩) (gr_preV hK hP (ci := 0) (q0 := 0) rfl rfl (hP.sub (ws' := [(h, .inr (0, [.ref a1, .ref a2, .ref a3, .ref a4, .int (nI nl), .int (nI nu), .ref a5, .ref a6, .int nt, .int (nI capN), .int seen])), (a1, .inl (dA, 68, .inl lx)), (a2, .inl (dA, 68, .inl ly)), (a3, .inl (dA, 68, .inl ux)), (a4, .inl (dA, 68, .inl uy)), (a5, .inl (dA, 68, .inl tx)), (a6, .inl (dA, 68, .inl ty))]) [0, 1, 2, 3, 4, 5, 6] rfl) (hK.sub (tys' := [(dA, .int)]) [0] rfl)) rfl rfl hl.1 rfl (lv_room (Nat.le_of_ble_eq_true rfl)) dL_law_171 ⟨Nat.le_of_ble_eq_true rfl, Nat.le_of_ble_eq_true rfl⟩)) (fun zr1 hzr1 => ?_)
        refine lv_aload_n hx hb dL_law_174 rfl (lv_at hl 2 rfl) ?_
        refine lv_aload_n hx hb dL_law_175 rfl (lv_at hl 0 rfl) ?_
        refine lv_iload_n hx hb dL_law_176 rfl (lv_at hl 3 rfl) ?_
        refine lv_iconst (v := 1) hx hb dL_law_177 (by decide) ?_
        refine lv_iadd hx hb dL_law_178 ?_
        refine gr_topi (y := nI (i + 1)) (nI_1 i) ?_
        refine gl_sld (k := i + 1) hx hb hX hbl hbA hS (by omega) hL dL_law_179 ?_
        refine vp_callSi (va_Run.run (va_runV (As := [.int (xs (i + 1))]) (rest := [.int zr1]) ⟨hx, hb, hml, hown, hts⟩ (metX2_yOf l dC dI dA o o1 o2 o3 o4 o5 N mx my px py rd (nI capN) pts (xs (i + 1)) (by omega)) (cwV 1 hts (lw_V q210 q211 q212 q12 q213) rfl rfl rfl (by decide +kernel) ⟨Nat.le_of_ble_eq_true rfl, Nat.le_of_ble_eq_true rfl⟩) (gr_preV hK hP (ci := 1) (q0 := 7) rfl rfl (hP.sub (ws' := [(o, .inr (1, [.int (nI capN), .int (nI N), .int pts, .ref o1, .ref o2, .ref o3, .ref o4, .ref o5])), (o1, .inl (dA, 66, .inl mx)), (o2, .inl (dA, 66, .inl my)), (o3, .inl (dA, 66, .inl px)), (o4, .inl (dA, 66, .inl py)), (o5, .inl (dA, 67, .inl rd))]) [7, 8, 9, 10, 11, 12] rfl) (hK.sub (tys' := [(dA, .int)]) [0] rfl)) rfl rfl hl.1 rfl (lv_room (Nat.le_of_ble_eq_true rfl)) dL_law_180 ⟨Nat.le_of_ble_eq_true rfl, Nat.le_of_ble_eq_true rfl⟩)) (fun zr2 hzr2 => ?_)
        have heq : zr1 = zr2 := gq_of_one (by omega) (show gq_of (gh_N nl nu) (gv nl ly nu uy) (xs (i + 1)) zr1 from hzr1) (by rw [← hNN]; exact hzr2) (fun j hj => (gl_V hI hj).2)
        refine lv_icmp_eq (tgt := 336) hx hb dL_law_183 (by decide) (fun c_11 => ?_) (fun c_11 => ?_)
        · exact at336 (by omega) nl nu lx ly ux uy tx ty nt seen N mx my px py rd pts hI H locs hP hD hS ls (lv_sub hl [0, 1, 2, 3] rfl)
        · exact absurd heq c_11
      · subst e0
        refine lv_tableIn (off := 146) (tgt := 188) hx hb dL_law_42 (by decide) (by decide) (by rfl) (by decide) ?_
        refine lv_aload_n hx hb dL_law_188 rfl (lv_at hl 1 rfl) ?_
        refine lv_aload_n hx hb dL_law_189 rfl (lv_at hl 0 rfl) ?_
        refine lv_iload_n hx hb dL_law_190 rfl (lv_at hl 3 rfl) ?_
        refine lv_iconst (v := 1) hx hb dL_law_191 (by decide) ?_
        refine lv_iadd hx hb dL_law_192 ?_
        refine gr_topi (y := nI (i + 1)) (nI_1 i) ?_
        refine gl_sld (k := i + 1) hx hb hX hbl hbA hS (by omega) hL dL_law_193 ?_
        refine lv_aload_n hx hb dL_law_194 rfl (lv_at hl 0 rfl) ?_
        refine lv_iload_n hx hb dL_law_195 rfl (lv_at hl 3 rfl) ?_
        refine lv_iconst (v := 2) hx hb dL_law_196 (by decide) ?_
        refine lv_iadd hx hb dL_law_197 ?_
        refine gr_topi (y := nI (i + 2)) (nI_add i 2) ?_
        refine gl_sld (k := i + 2) hx hb hX hbl hbA hS (by omega) hL dL_law_198 ?_
        refine vp_callSi (va_Run.run (va_runV (As := [.int (xs (i + 1)), .int (xs (i + 2))]) (rest := []) ⟨hx, hb, hml, hown, hts⟩ (metX1_inside l dC dI dA h a1 a2 a3 a4 a5 a6 nl nu lx ly ux uy tx ty nt (nI capN) seen (xs (i + 1)) (xs (i + 2)) (by omega) (by omega) hH) (cwV 2 hts (lw_V q56 q57 q58 q11 q59) rfl rfl rfl (by decide +kernel) ⟨Nat.le_of_ble_eq_true rfl, Nat.le_of_ble_eq_true rfl⟩) (gr_preV hK hP (ci := 0) (q0 := 0) rfl rfl (hP.sub (ws' := [(h, .inr (0, [.ref a1, .ref a2, .ref a3, .ref a4, .int (nI nl), .int (nI nu), .ref a5, .ref a6, .int nt, .int (nI capN), .int seen])), (a1, .inl (dA, 68, .inl lx)), (a2, .inl (dA, 68, .inl ly)), (a3, .inl (dA, 68, .inl ux)), (a4, .inl (dA, 68, .inl uy)), (a5, .inl (dA, 68, .inl tx)), (a6, .inl (dA, 68, .inl ty))]) [0, 1, 2, 3, 4, 5, 6] rfl) (hK.sub (tys' := [(dA, .int)]) [0] rfl)) rfl rfl hl.1 rfl (lv_room (Nat.le_of_ble_eq_true rfl)) dL_law_199 ⟨Nat.le_of_ble_eq_true rfl, Nat.le_of_ble_eq_true rfl⟩)) (fun zr1 hzr1 => ?_)
        refine lv_aload_n hx hb dL_law_202 rfl (lv_at hl 2 rfl) ?_
        refine lv_aload_n hx hb dL_law_203 rfl (lv_at hl 0 rfl) ?_
        refine lv_iload_n hx hb dL_law_204 rfl (lv_at hl 3 rfl) ?_
        refine lv_iconst (v := 1) hx hb dL_law_205 (by decide) ?_
        refine lv_iadd hx hb dL_law_206 ?_
        refine gr_topi (y := nI (i + 1)) (nI_1 i) ?_
        refine gl_sld (k := i + 1) hx hb hX hbl hbA hS (by omega) hL dL_law_207 ?_
        refine lv_aload_n hx hb dL_law_208 rfl (lv_at hl 0 rfl) ?_
        refine lv_iload_n hx hb dL_law_209 rfl (lv_at hl 3 rfl) ?_
        refine lv_iconst (v := 2) hx hb dL_law_210 (by decide) ?_
        refine lv_iadd hx hb dL_law_211 ?_
        refine gr_topi (y := nI (i + 2)) (nI_add i 2) ?_
        refine gl_sld (k := i + 2) hx hb hX hbl hbA hS (by omega) hL dL_law_212 ?_
        refine vp_callSi (va_Run.run (va_runV (As := [.int (xs (i + 1)), .int (xs (i + 2))]) (rest := [.int zr1]) ⟨hx, hb, hml, hown, hts⟩ (metX2_inside l dC dI dA o o1 o2 o3 o4 o5 N mx my px py rd (nI capN) pts nl nu (gp lx ly) (gp ux uy) hH hNN (by omega) hV (xs (i + 1)) (xs (i + 2))) (cwV 2 hts (lw_V q172 q173 q174 q12 q175) rfl rfl rfl (by decide +kernel) ⟨Nat.le_of_ble_eq_true rfl, Nat.le_of_ble_eq_true rfl⟩) (gr_preV hK hP (ci := 1) (q0 := 7) rfl rfl (hP.sub (ws' := [(o, .inr (1, [.int (nI capN), .int (nI N), .int pts, .ref o1, .ref o2, .ref o3, .ref o4, .ref o5])), (o1, .inl (dA, 66, .inl mx)), (o2, .inl (dA, 66, .inl my)), (o3, .inl (dA, 66, .inl px)), (o4, .inl (dA, 66, .inl py)), (o5, .inl (dA, 67, .inl rd))]) [7, 8, 9, 10, 11, 12] rfl) (hK.sub (tys' := [(dA, .int)]) [0] rfl)) rfl rfl hl.1 rfl (lv_room (Nat.le_of_ble_eq_true rfl)) dL_law_213 ⟨Nat.le_of_ble_eq_true rfl, Nat.le_of_ble_eq_true rfl⟩)) (fun zr2 hzr2 => ?_)
        have heq : zr1 = zr2 := gI_one hzr1 hzr2
        refine lv_icmp_eq (tgt := 336) hx hb dL_law_216 (by decide) (fun c_14 => ?_) (fun c_14 => ?_)
        · exact at336 (by omega) nl nu lx ly ux uy tx ty nt seen N mx my px py rd pts hI H locs hP hD hS ls (lv_sub hl [0, 1, 2, 3] rfl)
        · exact absurd heq c_14
      · subst e0
        refine lv_tableIn (off := 179) (tgt := 221) hx hb dL_law_42 (by decide) (by decide) (by rfl) (by decide) ?_
        refine lv_aload_n hx hb dL_law_221 rfl (lv_at hl 1 rfl) ?_
        refine vp_callSi (va_Run.run (va_runV (As := []) (rest := []) ⟨hx, hb, hml, hown, hts⟩ (metX1_twiceArea l dC dI dA h a1 a2 a3 a4 a5 a6 nl nu lx ly ux uy tx ty nt (nI capN) seen (by omega) (by omega) hH) (cwV 0 hts (lw_V q114 q115 q116 q11 q117) rfl rfl rfl (by decide +kernel) ⟨Nat.le_of_ble_eq_true rfl, Nat.le_of_ble_eq_true rfl⟩) (gr_preV hK hP (ci := 0) (q0 := 0) rfl rfl (hP.sub (ws' := [(h, .inr (0, [.ref a1, .ref a2, .ref a3, .ref a4, .int (nI nl), .int (nI nu), .ref a5, .ref a6, .int nt, .int (nI capN), .int seen])), (a1, .inl (dA, 68, .inl lx)), (a2, .inl (dA, 68, .inl ly)), (a3, .inl (dA, 68, .inl ux)), (a4, .inl (dA, 68, .inl uy)), (a5, .inl (dA, 68, .inl tx)), (a6, .inl (dA, 68, .inl ty))]) [0, 1, 2, 3, 4, 5, 6] rfl) (hK.sub (tys' := [(dA, .int)]) [0] rfl)) rfl rfl hl.1 rfl (lv_room (Nat.le_of_ble_eq_true rfl)) dL_law_222 ⟨Nat.le_of_ble_eq_true rfl, Nat.le_of_ble_eq_true rfl⟩)) (fun zr1 hzr1 => ?_)
        refine lv_aload_n hx hb dL_law_225 rfl (lv_at hl 2 rfl) ?_
        refine vp_callSi (va_Run.run (va_runV (As := []) (rest := [.int zr1]) ⟨hx, hb, hml, hown, hts⟩ (metX2_twiceArea l dC dI dA o o1 o2 o3 o4 o5 N mx my px py rd (nI capN) pts (gh_V nl (gp lx ly) nu (gp ux uy)) (by omega) hV hVok) (cwV 0 hts (lw_V q214 q215 q216 q12 q217) rfl rfl rfl (by decide +kernel) ⟨Nat.le_of_ble_eq_true rfl, Nat.le_of_ble_eq_true rfl⟩) (gr_preV hK hP (ci := 1) (q0 := 7) rfl rfl (hP.sub (ws' := [(o, .inr (1, [.int (nI capN), .int (nI N), .int pts, .ref o1, .ref o2, .ref o3, .ref o4, .ref o5])), (o1, .inl (dA, 66, .inl mx)), (o2, .inl (dA, 66, .inl my)), (o3, .inl (dA, 66, .inl px)), (o4, .inl (dA, 66, .inl py)), (o5, .inl (dA, 67, .inl rd))]) [7, 8, 9, 10, 11, 12] rfl) (hK.sub (tys' := [(dA, .int)]) [0] rfl)) rfl rfl hl.1 rfl (lv_room (Nat.le_of_ble_eq_true rfl)) dL_law_226 ⟨Nat.le_of_ble_eq_true rfl, Nat.le_of_ble_eq_true rfl⟩)) (fun zr2 hzr2 => ?_)
        have heq : zr1 = zr2 := by rw [show zr1 = (Int64.ofInt (gq_area (gh_V nl (gp lx ly) nu (gp ux uy)) (gh_N nl nu - 2))).toInt32 from hzr1, show zr2 = (Int64.ofInt (gq_area (gh_V nl (gp lx ly) nu (gp ux uy)) (N - 2))).toInt32 from hzr2, hNN]
        refine lv_icmp_eq (tgt := 336) hx hb dL_law_229 (by decide) (fun c_17 => ?_) (fun c_17 => ?_)
        · exact at336 (by omega) nl nu lx ly ux uy tx ty nt seen N mx my px py rd pts hI H locs hP hD hS ls (lv_sub hl [0, 1, 2, 3] rfl)
        · exact absurd heq c_17
      · subst e0
        refine lv_tableIn (off := 192) (tgt := 234) hx hb dL_law_42 (by decide) (by decide) (by rfl) (by decide) ?_
        refine lv_aload_n hx hb dL_law_234 rfl (lv_at hl 1 rfl) ?_
        refine lv_aload_n hx hb dL_law_235 rfl (lv_at hl 0 rfl) ?_
        refine lv_iload_n hx hb dL_law_236 rfl (lv_at hl 3 rfl) ?_
        refine lv_iconst (v := 1) hx hb dL_law_237 (by decide) ?_
        refine lv_iadd hx hb dL_law_238 ?_
        refine gr_topi (y := nI (i + 1)) (nI_1 i) ?_
        refine gl_sld (k := i + 1) hx hb hX hbl hbA hS (by omega) hL dL_law_239 ?_
        refine lv_aload_n hx hb dL_law_240 rfl (lv_at hl 0 rfl) ?_
        refine lv_iload_n hx hb dL_law_241 rfl (lv_at hl 3 rfl) ?_
        refine lv_iconst (v := 2) hx hb dL_law_242 (by decide) ?_
        refine lv_iadd hx hb dL_law_243 ?_
        refine gr_topi (y := nI (i + 2)) (nI_add i 2) ?_
        refine gl_sld (k := i + 2) hx hb hX hbl hbA hS (by omega) hL dL_law_244 ?_
        refine vp_callSi (va_Run.run (va_runV (As := [.int (xs (i + 1)), .int (xs (i + 2))]) (rest := []) ⟨hx, hb, hml, hown, hts⟩ (metX1_farthest l dC dI dA h a1 a2 a3 a4 a5 a6 nl nu lx ly ux uy tx ty nt (nI capN) seen (xs (i + 1)) (xs (i + 2)) (by omega) (by omega) hH) (cwV 2 hts (lw_V q118 q119 q120 q11 q121) rfl rfl rfl (by decide +kernel) ⟨Nat.le_of_ble_eq_true rfl, Nat.le_of_ble_eq_true rfl⟩) (gr_preV hK hP (ci := 0) (q0 := 0) rfl rfl (hP.sub (ws' := [(h, .inr (0, [.ref a1, .ref a2, .ref a3, .ref a4, .int (nI nl), .int (nI nu), .ref a5, .ref a6, .int nt, .int (nI capN), .int seen])), (a1, .inl (dA, 68, .inl lx)), (a2, .inl (dA, 68, .inl ly)), (a3, .inl (dA, 68, .inl ux)), (a4, .inl (dA, 68, .inl uy)), (a5, .inl (dA, 68, .inl tx)), (a6, .inl (dA, 68, .inl ty))]) [0, 1, 2, 3, 4, 5, 6] rfl) (hK.sub (tys' := [(dA, .int)]) [0] rfl)) rfl rfl hl.1 rfl (lv_room (Nat.le_of_ble_eq_true rfl)) dL_law_245 ⟨Nat.le_of_ble_eq_true rfl, Nat.le_of_ble_eq_true rfl⟩)) (fun zr1 hzr1 => ?_)
        refine lv_aload_n hx hb dL_law_248 rfl (lv_at hl 2 rfl) ?_
        refine lv_aload_n hx hb dL_law_249 rfl (lv_at hl 0 rfl) ?_
        refine lv_iload_n hx hb dL_law_250 rfl (lv_at hl 3 rfl) ?_
        refine lv_iconst (v := 1) hx hb dL_law_251 (by decide) ?_
        refine lv_iadd hx hb dL_law_252 ?_
        refine gr_topi (y := nI (i + 1)) (nI_1 i) ?_
        refine gl_sld (k := i + 1) hx hb hX hbl hbA hS (by omega) hL dL_law_253 ?_
        refine lv_aload_n hx hb dL_law_254 rfl (lv_at hl 0 rfl) ?_
        refine lv_iload_n hx hb dL_law_255 rfl (lv_at hl 3 rfl) ?_
        refine lv_iconst (v := 2) hx hb dL_law_256 (by decide) ?_
        refine lv_iadd hx hb dL_law_257 ?_
        refine gr_topi (y := nI (i + 2)) (nI_add i 2) ?_
        refine gl_sld (k := i + 2) hx hb hX hbl hbA hS (by omega) hL dL_law_258 ?_
        refine vp_callSi (va_Run.run (va_runV (As := [.int (xs (i + 1)), .int (xs (i + 2))]) (rest := [.int zr1]) ⟨hx, hb, hml, hown, hts⟩ (metX2_farthest l dC dI dA o o1 o2 o3 o4 o5 N mx my px py rd (nI capN) pts (gh_V nl (gp lx ly) nu (gp ux uy)) (by omega) hV hVok (xs (i + 1)) (xs (i + 2))) (cwV 2 hts (lw_V q218 q219 q220 q12 q221) rfl rfl rfl (by decide +kernel) ⟨Nat.le_of_ble_eq_true rfl, Nat.le_of_ble_eq_true rfl⟩) (gr_preV hK hP (ci := 1) (q0 := 7) rfl rfl (hP.sub (ws' := [(o, .inr (1, [.int (nI capN), .int (nI N), .int pts, .ref o1, .ref o2, .ref o3, .ref o4, .ref o5])), (o1, .inl (dA, 66, .inl mx)), (o2, .inl (dA, 66, .inl my)), (o3, .inl (dA, 66, .inl px)), (o4, .inl (dA, 66, .inl py)), (o5, .inl (dA, 67, .inl rd))]) [7, 8, 9, 10, 11, 12] rfl) (hK.sub (tys' := [(dA, .int)]) [0] rfl)) rfl rfl hl.1 rfl (lv_room (Nat.le_of_ble_eq_true rfl)) dL_law_259 ⟨Nat.le_of_ble_eq_true rfl, Nat.le_of_ble_eq_true rfl⟩)) (fun zr2 hzr2 => ?_)
        have heq : zr1 = zr2 := gq_far_one (show gq_far (gh_N nl nu) (gh_V nl (gp lx ly) nu (gp ux uy)) (g2 (xs (i + 1)) (xs (i + 2))) zr1 from hzr1) (by rw [← hNN]; exact hzr2)
        refine lv_icmp_eq (tgt := 336) hx hb dL_law_262 (by decide) (fun c_20 => ?_) (fun c_20 => ?_)
        · exact at336 (by omega) nl nu lx ly ux uy tx ty nt seen N mx my px py rd pts hI H locs hP hD hS ls (lv_sub hl [0, 1, 2, 3] rfl)
        · exact absurd heq c_20
      · subst e0
        refine lv_tableIn (off := 225) (tgt := 267) hx hb dL_law_42 (by decide) (by decide) (by rfl) (by decide) ?_
        refine lv_aload_n hx hb dL_law_267 rfl (lv_at hl 1 rfl) ?_
        refine lv_aload_n hx hb dL_law_268 rfl (lv_at hl 0 rfl) ?_
        refine lv_iload_n hx hb dL_law_269 rfl (lv_at hl 3 rfl) ?_
        refine lv_iconst (v := 1) hx hb dL_law_270 (by decide) ?_
        refine lv_iadd hx hb dL_law_271 ?_
        refine gr_topi (y := nI (i + 1)) (nI_1 i) ?_
        refine gl_sld (k := i + 1) hx hb hX hbl hbA hS (by omega) hL dL_law_272 ?_
        refine lv_aload_n hx hb dL_law_273 rfl (lv_at hl 0 rfl) ?_
        refine lv_iload_n hx hb dL_law_274 rfl (lv_at hl 3 rfl) ?_
        refine lv_iconst (v := 2) hx hb dL_law_275 (by decide) ?_
        refine lv_iadd hx hb dL_law_276 ?_
        refine gr_topi (y := nI (i + 2)) (nI_add i 2) ?_
        refine gl_sld (k := i + 2) hx hb hX hbl hbA hS (by omega) hL dL_law_277 ?_
        refine lv_aload_n hx hb dL_law_278 rfl (lv_at hl 0 rfl) ?_
        refine lv_iload_n hx hb dL_law_279 rfl (lv_at hl 3 rfl) ?_
        refine lv_iconst (v := 3) hx hb dL_law_280 (by decide) ?_
        refine lv_iadd hx hb dL_law_281 ?_
        refine gr_topi (y := nI (i + 3)) (nI_add i 3) ?_
        refine gl_sld (k := i + 3) hx hb hX hbl hbA hS (by omega) hL dL_law_282 ?_
        refine vp_callSi (va_Run.run (va_runV (As := [.int (xs (i + 1)), .int (xs (i + 2)), .int (xs (i + 3))]) (rest := []) ⟨hx, hb, hml, hown, hts⟩ (metX1_tangent l dC dI dA h a1 a2 a3 a4 a5 a6 nl nu lx ly ux uy tx ty nt (nI capN) seen (xs (i + 1)) (xs (i + 2)) (xs (i + 3)) (by omega) (by omega) hH) (cwV 3 hts (lw_V q122 q123 q124 q11 q125) rfl rfl rfl (by decide +kernel) ⟨Nat.le_of_ble_eq_true rfl, Nat.le_of_ble_eq_true rfl⟩) (gr_preV hK hP (ci := 0) (q0 := 0) rfl rfl (hP.sub (ws' := [(h, .inr (0, [.ref a1, .ref a2, .ref a3, .ref a4, .int (nI nl), .int (nI nu), .ref a5, .ref a6, .int nt, .int (nI capN), .int seen])), (a1, .inl (dA, 68, .inl lx)), (a2, .inl (dA, 68, .inl ly)), (a3, .inl (dA, 68, .inl ux)), (a4, .inl (dA, 68, .inl uy)), (a5, .inl (dA, 68, .inl tx)), (a6, .inl (dA, 68, .inl ty))]) [0, 1, 2, 3, 4, 5, 6] rfl) (hK.sub (tys' := [(dA, .int)]) [0] rfl)) rfl rfl hl.1 rfl (lv_room (Nat.le_of_ble_eq_true rfl)) dL_law_283 ⟨Nat.le_of_ble_eq_true rfl, Nat.le_of_ble_eq_true rfl⟩)) (fun zr1 hzr1 => ?_)
        refine lv_aload_n hx hb dL_law_286 rfl (lv_at hl 2 rfl) ?_
        refine lv_aload_n hx hb dL_law_287 rfl (lv_at hl 0 rfl) ?_
        refine lv_iload_n hx hb dL_law_288 rfl (lv_at hl 3 rfl) ?_
        refine lv_iconst (v := 1) hx hb dL_law_289 (by decide) ?_
        refine lv_iadd hx hb dL_law_290 ?_
        refine gr_topi (y := nI (i + 1)) (nI_1 i) ?_
        refine gl_sld (k := i + 1) hx hb hX hbl hbA hS (by omega) hL dL_law_291 ?_
        refine lv_aload_n hx hb dL_law_292 rfl (lv_at hl 0 rfl) ?_
        refine lv_iload_n hx hb dL_law_293 rfl (lv_at hl 3 rfl) ?_
        refine lv_iconst (v := 2) hx hb dL_law_294 (by decide) ?_
        refine lv_iadd hx hb dL_law_295 ?_
        refine gr_topi (y := nI (i + 2)) (nI_add i 2) ?_
        refine gl_sld (k := i + 2) hx hb hX hbl hbA hS (by omega) hL dL_law_296 ?_
        refine lv_aload_n hx hb dL_law_297 rfl (lv_at hl 0 rfl) ?_
        refine lv_iload_n hx hb dL_law_298 rfl (lv_at hl 3 rfl) ?_
        refine lv_iconst (v := 3) hx hb dL_law_299 (by decide) ?_
        refine lv_iadd hx hb dL_law_300 ?_
        refine gr_topi (y := nI (i + 3)) (nI_add i 3) ?_
        refine gl_sld (k := i + 3) hx hb hX hbl hbA hS (by omega) hL dL_law_301 ?_
        refine vp_callSi (va_Run.run (va_runV (As := [.int (xs (i + 1)), .int (xs (i + 2)), .int (xs (i + 3))]) (rest := [.int zr1]) ⟨hx, hb, hml, hown, hts⟩ (metX2_tangent l dC dI dA o o1 o2 o3 o4 o5 N mx my px py rd (nI capN) pts nl nu (gp lx ly) (gp ux uy) hH hNN (by omega) hV (xs (i + 1)) (xs (i + 2)) (xs (i + 3))) (cwV 3 hts (lw_V q222 q223 q224 q12 q225) rfl rfl rfl (by decide +kernel) ⟨Nat.le_of_ble_eq_true rfl, Nat.le_of_ble_eq_true rfl⟩) (gr_preV hK hP (ci := 1) (q0 := 7) rfl rfl (hP.sub (ws' := [(o, .inr (1, [.int (nI capN), .int (nI N), .int pts, .ref o1, .ref o2, .ref o3, .ref o4, .ref o5])), (o1, .inl (dA, 66, .inl mx)), (o2, .inl (dA, 66, .inl my)), (o3, .inl (dA, 66, .inl px)), (o4, .inl (dA, 66, .inl py)), (o5, .inl (dA, 67, .inl rd))]) [7, 8, 9, 10, 11, 12] rfl) (hK.sub (tys' := [(dA, .int)]) [0] rfl)) rfl rfl hl.1 rfl (lv_room (Nat.le_of_ble_eq_true rfl)) dL_law_302 ⟨Nat.le_of_ble_eq_true rfl, Nat.le_of_ble_eq_true rfl⟩)) (fun zr2 hzr2 => ?_)
        have heq : zr1 = zr2 := by
          have h1 : gq_tan (gh_N nl nu) (gh_V nl (gp lx ly) nu (gp ux uy)) (g2 (xs (i + 1)) (xs (i + 2))) (xs (i + 3)) (gh_ok (g2 (xs (i + 1)) (xs (i + 2))) ∧ gh_A 1 nl (gp lx ly) (g2 (xs (i + 1)) (xs (i + 2))) ∧ gh_A (-1) nu (gp ux uy) (g2 (xs (i + 1)) (xs (i + 2)))) zr1 := hzr1
          refine gl_tan (fun h3 => hH.Poly h3) h1 ?_
          rw [← hNN]
          exact hzr2
        refine lv_icmp_eq (tgt := 336) hx hb dL_law_305 (by decide) (fun c_23 => ?_) (fun c_23 => ?_)
        · exact at336 (by omega) nl nu lx ly ux uy tx ty nt seen N mx my px py rd pts hI H locs hP hD hS ls (lv_sub hl [0, 1, 2, 3] rfl)
        · exact absurd heq c_23
      · subst e0
        refine lv_tableIn (off := 268) (tgt := 310) hx hb dL_law_42 (by decide) (by decide) (by rfl) (by decide) ?_
        refine lv_aload_n hx hb dL_law_310 rfl (lv_at hl 1 rfl) ?_
        refine vp_callSi (va_Run.run (va_runV (As := []) (rest := []) ⟨hx, hb, hml, hown, hts⟩ (metX1_diameter l dC dI dA h a1 a2 a3 a4 a5 a6 nl nu lx ly ux uy tx ty nt (nI capN) seen (by omega) (by omega) hH) (cwV 0 hts (lw_V q130 q131 q132 q11 q133) rfl rfl rfl (by decide +kernel) ⟨Nat.le_of_ble_eq_true rfl, Nat.le_of_ble_eq_true rfl⟩) (gr_preV hK hP (ci := 0) (q0 := 0) rfl rfl (hP.sub (ws' := [(h, .inr (0, [.ref a1, .ref a2, .ref a3, .ref a4, .int (nI nl), .int (nI nu), .ref a5, .ref a6, .int nt, .int (nI capN), .int seen])), (a1, .inl (dA, 68, .inl lx)), (a2, .inl (dA, 68, .inl ly)), (a3, .inl (dA, 68, .inl ux)), (a4, .inl (dA, 68, .inl uy)), (a5, .inl (dA, 68, .inl tx)), (a6, .inl (dA, 68, .inl ty))]) [0, 1, 2, 3, 4, 5, 6] rfl) (hK.sub (tys' := [(dA, .int)]) [0] rfl)) rfl rfl hl.1 rfl (lv_room (Nat.le_of_ble_eq_true rfl)) dL_law_311 ⟨Nat.le_of_ble_eq_true rfl, Nat.le_of_ble_eq_true rfl⟩)) (fun zr1 hzr1 => ?_)
        refine lv_aload_n hx hb dL_law_314 rfl (lv_at hl 2 rfl) ?_
        refine vp_callSi (va_Run.run (va_runV (As := []) (rest := [.int zr1]) ⟨hx, hb, hml, hown, hts⟩ (metX2_diameter l dC dI dA o o1 o2 o3 o4 o5 N mx my px py rd (nI capN) pts (gh_V nl (gp lx ly) nu (gp ux uy)) (by omega) hV hVok) (cwV 0 hts (lw_V q226 q227 q228 q12 q229) rfl rfl rfl (by decide +kernel) ⟨Nat.le_of_ble_eq_true rfl, Nat.le_of_ble_eq_true rfl⟩) (gr_preV hK hP (ci := 1) (q0 := 7) rfl rfl (hP.sub (ws' := [(o, .inr (1, [.int (nI capN), .int (nI N), .int pts, .ref o1, .ref o2, .ref o3, .ref o4, .ref o5])), (o1, .inl (dA, 66, .inl mx)), (o2, .inl (dA, 66, .inl my)), (o3, .inl (dA, 66, .inl px)), (o4, .inl (dA, 66, .inl py)), (o5, .inl (dA, 67, .inl rd))]) [7, 8, 9, 10, 11, 12] rfl) (hK.sub (tys' := [(dA, .int)]) [0] rfl)) rfl rfl hl.1 rfl (lv_room (Nat.le_of_ble_eq_true rfl)) dL_law_315 ⟨Nat.le_of_ble_eq_true rfl, Nat.le_of_ble_eq_true rfl⟩)) (fun zr2 hzr2 => ?_)
        have heq : zr1 = zr2 := gl_dia (show ∃ M, gq_dia (gh_N nl nu) (gh_V nl (gp lx ly) nu (gp ux uy)) M ∧ zr1 = (Int64.ofInt M).toInt32 from hzr1) (by rw [← hNN]; exact hzr2)
        refine lv_icmp_eq (tgt := 336) hx hb dL_law_318 (by decide) (fun c_26 => ?_) (fun c_26 => ?_)
        · exact at336 (by omega) nl nu lx ly ux uy tx ty nt seen N mx my px py rd pts hI H locs hP hD hS ls (lv_sub hl [0, 1, 2, 3] rfl)
        · exact absurd heq c_26
      · subst e0
        refine lv_tableIn (off := 281) (tgt := 323) hx hb dL_law_42 (by decide) (by decide) (by rfl) (by decide) ?_
        refine lv_aload_n hx hb dL_law_323 rfl (lv_at hl 1 rfl) ?_
        refine vp_callSi (va_Run.run (va_runV (As := []) (rest := []) ⟨hx, hb, hml, hown, hts⟩ (metX1_points l dC dI dA h a1 a2 a3 a4 a5 a6 nl nu lx ly ux uy tx ty nt (nI capN) seen) (cwV 0 hts (lw_V q134 q135 q136 q11 q137) rfl rfl rfl (by decide +kernel) ⟨Nat.le_of_ble_eq_true rfl, Nat.le_of_ble_eq_true rfl⟩) (gr_preV hK hP (ci := 0) (q0 := 0) rfl rfl (hP.sub (ws' := [(h, .inr (0, [.ref a1, .ref a2, .ref a3, .ref a4, .int (nI nl), .int (nI nu), .ref a5, .ref a6, .int nt, .int (nI capN), .int seen])), (a1, .inl (dA, 68, .inl lx)), (a2, .inl (dA, 68, .inl ly)), (a3, .inl (dA, 68, .inl ux)), (a4, .inl (dA, 68, .inl uy)), (a5, .inl (dA, 68, .inl tx)), (a6, .inl (dA, 68, .inl ty))]) [0, 1, 2, 3, 4, 5, 6] rfl) (hK.sub (tys' := [(dA, .int)]) [0] rfl)) rfl rfl hl.1 rfl (lv_room (Nat.le_of_ble_eq_true rfl)) dL_law_324 ⟨Nat.le_of_ble_eq_true rfl, Nat.le_of_ble_eq_true rfl⟩)) (fun zr1 hzr1 => ?_)
        refine lv_aload_n hx hb dL_law_327 rfl (lv_at hl 2 rfl) ?_
        refine vp_callSi (va_Run.run (va_runV (As := []) (rest := [.int zr1]) ⟨hx, hb, hml, hown, hts⟩ (metX2_points l dC dI dA o o1 o2 o3 o4 o5 N mx my px py rd (nI capN) pts) (cwV 0 hts (lw_V q230 q231 q232 q12 q233) rfl rfl rfl (by decide +kernel) ⟨Nat.le_of_ble_eq_true rfl, Nat.le_of_ble_eq_true rfl⟩) (gr_preV hK hP (ci := 1) (q0 := 7) rfl rfl (hP.sub (ws' := [(o, .inr (1, [.int (nI capN), .int (nI N), .int pts, .ref o1, .ref o2, .ref o3, .ref o4, .ref o5])), (o1, .inl (dA, 66, .inl mx)), (o2, .inl (dA, 66, .inl my)), (o3, .inl (dA, 66, .inl px)), (o4, .inl (dA, 66, .inl py)), (o5, .inl (dA, 67, .inl rd))]) [7, 8, 9, 10, 11, 12] rfl) (hK.sub (tys' := [(dA, .int)]) [0] rfl)) rfl rfl hl.1 rfl (lv_room (Nat.le_of_ble_eq_true rfl)) dL_law_328 ⟨Nat.le_of_ble_eq_true rfl, Nat.le_of_ble_eq_true rfl⟩)) (fun zr2 hzr2 => ?_)
        have heq : zr1 = zr2 := by rw [show zr1 = seen from hzr1, show zr2 = pts from hzr2, hps]
        refine lv_icmp_eq (tgt := 336) hx hb dL_law_331 (by decide) (fun c_29 => ?_) (fun c_29 => ?_)
        · exact at336 (by omega) nl nu lx ly ux uy tx ty nt seen N mx my px py rd pts hI H locs hP hD hS ls (lv_sub hl [0, 1, 2, 3] rfl)
        · exact absurd heq c_29
      · refine lv_tableOut (tgt := 336) hx hb dL_law_42 (Or.inr (by rw [nI_toInt (by omega)]; omega)) (by decide) ?_
        exact at336 hiL nl nu lx ly ux uy tx ty nt seen N mx my px py rd pts hI H locs hP hD hS ls (lv_sub hl [0, 1, 2, 3] rfl)
end
section
set_option maxHeartbeats 4000000 in
set_option maxRecDepth 100000 in
/-- from the entry, for every script of at most 257 ints, the law comes to its end with true -/
theorem whole_start {p : Program} {e : Env} {s : State} {m : MethodId} {below : List Frame} {meth : Method} {c : Code} (l : Launch) {b L : Nat} {xs : Nat → Int32} (hL : L ≤ 257) (C0 : lw_At p s m meth c b L xs) : W p l e room_1 s m #[Value.ref b] below meth c s.heap [] 0 0 (lw_Z below #[Value.ref b] s) (entryFrame m ([Value.ref b] : List Value).toArray 4) := by
  obtain ⟨hx, hb, hr, hml, hown, hts0, hX, hbl, hlocks, hgv⟩ := id C0
  have hts : ∀ w ∈ lw_all, w.before #[Value.ref b] s = true := fun w h => hts0 w (lw_all_tbl h)
  have hA : ∀ q : Nat, s.heap.size ≤ q → gl_A s q := fun _ h => h
  have hbA : ¬ gl_A s b := Nat.not_le.mpr hbl
  obtain ⟨c0, iS0, hKn0⟩ := u_known (C := RX1) (T := TX1) (N := 11) (n := 11) hts in_X1 (hts _ q14)
  obtain ⟨c1, iS1, hKn1⟩ := u_known (C := RX2) (T := TX2) (N := 8) (n := 8) hts in_X2 (hts _ q142)
  obtain ⟨dC, dI, hKc⟩ : ∃ (dC : Nat → ClassId) (dI : Nat → Nat → Nat), ∀ (k : Nat) (q : vw_C), vwCl[k]? = some q → u_Kn s q.1 q.2.1 q.2.2 (dC k) (dI k) := by
    refine ⟨fun k => if k = 0 then c0 else c1, fun k => if k = 0 then iS0 else iS1, ?_⟩
    intro k q hq
    match k, hq with
    | 0, hq => cases hq; exact hKn0
    | 1, hq => cases hq; exact hKn1
    | k + 2, hq => simp [vwCl] at hq
  obtain ⟨dA, hA1, hA2⟩ := gm_arr (hts _ q55)
  have hS : va_S (gl_A s) s.heap s.heap [] := va_S.rf
  have hK : va_K (dC, dI) vwCl [(dA, .int)] s := ⟨hKc, fun k q h => by
    match k, h with
    | 0, h => cases h; exact ⟨hA1, hA2⟩
    | k + 1, h => simp at h⟩
  have hP : va_P (dC, dI) vwCl [] s.heap := fun k q h => by simp at h
  have hD : va_D (gl_A s) [] := ⟨fun i j p q h => by simp at h, fun k q h => by simp at h⟩
  have hl := lv_entry ([.ref b]) (n := 4) (Nat.le_of_ble_eq_true rfl)
  rw [lg_entry_eq]
  generalize (lg_sl ([.ref b]) ++ List.replicate (4 - (lg_sl ([.ref b])).length) Slot.unset).toArray = ls at hl ⊢
  have hl : lv_has ls 4 [(0, .ref b)] := hl
  obtain ⟨capN, hc3, hc64, hcap⟩ := gc_cap_ok (gl_cell L xs)
  refine va_new (ci := 0) (fs := [.null, .null, .null, .null, .int 0, .int 0, .null, .null, .int 0, .int 0, .int 0]) (C := RX1) (T := TX1) (N := 11) hx hb hts in_X1 tyX1 tyX1_ok hown (hts _ q13) (hts _ q14) (hts _ q11) hK hP hD hS hA rfl (fun j hj => by
    rcases (show j = 0 ∨ j = 1 ∨ j = 2 ∨ j = 3 ∨ j = 4 ∨ j = 5 ∨ j = 6 ∨ j = 7 ∨ j = 8 ∨ j = 9 ∨ j = 10 by omega) with rfl | rfl | rfl | rfl | rfl | rfl | rfl | rfl | rfl | rfl | rfl <;> rfl) (Nat.le_of_ble_eq_true rfl) (Nat.le_of_ble_eq_true rfl) dL_law_0 (fun h H hP hD hS => ?_)
  refine W.widen (k := 1) (n := 11) (Nat.le_of_ble_eq_true rfl) (Nat.le_of_ble_eq_true rfl) ?_
  have hP : va_P (dC, dI) vwCl [(h, .inr (0, [.null, .null, .null, .null, .int 0, .int 0, .null, .null, .int 0, .int 0, .int 0]))] H := hP
  have hD : va_D (gl_A s) [(h, .inr (0, [.null, .null, .null, .null, .int 0, .int 0, .null, .null, .int 0, .int 0, .int 0]))] := hD
  refine lv_dup hx hb dL_law_3 rfl ?_
  refine lv_aload_n hx hb dL_law_4 rfl (lv_at hl 0 rfl) ?_
  refine lv_iconst (v := 0) hx hb dL_law_5 (by decide) ?_
  have hXH : va_X b L xs s H := hX.kept (hS.2.1 b hbl hbA)
  refine vp_callSi (va_Run.run (va_runS (As := [.ref b, .int 0]) (rest := [.ref h, .ref h]) ⟨hx, hb, hml, hown, hts⟩ (metX0_cell l b L xs hL) (va_cwS 2 hts (lw_S q138 q139 q10 q140) rfl rfl rfl (by decide +kernel) ⟨Nat.le_of_ble_eq_true rfl, Nat.le_of_ble_eq_true rfl⟩) (gl_preS hXH) rfl rfl hl.1 rfl (lv_room (Nat.le_of_ble_eq_true rfl)) dL_law_6 ⟨Nat.le_of_ble_eq_true rfl, Nat.le_of_ble_eq_true rfl⟩)) (fun zc hzc => ?_)
  have hzc : zc = gl_cell L xs := hzc
  subst hzc
  have hPc := hP.sub (ws' := [(h, .inr (0, [.null, .null, .null, .null, .int 0, .int 0, .null, .null, .int 0, .int 0, .int 0]))]) [0] rfl
  have hDc := hD.sub (ws' := [(h, .inr (0, [.null, .null, .null, .null, .int 0, .int 0, .null, .null, .int 0, .int 0, .int 0]))]) [0] (by decide) rfl
  have hKc := hK.sub (tys' := [(dA, .int)]) [0] rfl
  have hFc := va_free (wc := [(h, .inr (0, [.null, .null, .null, .null, .int 0, .int 0, .null, .null, .int 0, .int 0, .int 0]))]) hD hS hA [0] rfl
  refine va_callv (va_runI (As := [.int (gl_cell L xs)]) (rest := [.ref h]) ⟨hx, hb, hml, hown, hts⟩ (metX1_init l dC dI dA H.size h (gl_cell L xs)) (cwI 1 hts (lw_meth q17) rfl rfl rfl (hts _ q11) (hts _ q15) (hts _ q16) rfl (by decide +kernel) ⟨Nat.le_of_ble_eq_true rfl, Nat.le_of_ble_eq_true rfl⟩) (gm_preS hPc hKc hDc) rfl rfl hl.1 rfl (lv_room (Nat.le_of_ble_eq_true rfl)) dL_law_9 ⟨Nat.le_of_ble_eq_true rfl, Nat.le_of_ble_eq_true rfl⟩) hS (fun q _ h => hFc q h) hFc (fun ui t H1 locs ht hvm hwui hB hz1 hk1 hS => ?_)
  obtain ⟨hP1, hK1, hD1⟩ := hB
  rw [ht] at hP1
  obtain ⟨hP, hD⟩ := va_join (wr := []) (w1 := [(h, .inr (0, [.ref ui.1, .ref ui.2.1, .ref ui.2.2.1, .ref ui.2.2.2.1, .int 0, .int 0, .ref ui.2.2.2.2.1, .ref ui.2.2.2.2.2, .int 0, .int (gc_cap (gl_cell L xs)), .int 0])), (ui.1, .inl (dA, 68, .inl (fun _ => 0))), (ui.2.1, .inl (dA, 68, .inl (fun _ => 0))), (ui.2.2.1, .inl (dA, 68, .inl (fun _ => 0))), (ui.2.2.2.1, .inl (dA, 68, .inl (fun _ => 0))), (ui.2.2.2.2.1, .inl (dA, 68, .inl (fun _ => 0))), (ui.2.2.2.2.2, .inl (dA, 68, .inl (fun _ => 0)))]) hP hD [0] [] rfl rfl (by decide) (by decide) hk1 hFc hP1 hD1
  generalize H1 = H at hP hS ⊢
  have hP := hP.sub (ws' := [(h, .inr (0, [.ref ui.1, .ref ui.2.1, .ref ui.2.2.1, .ref ui.2.2.2.1, .int 0, .int 0, .ref ui.2.2.2.2.1, .ref ui.2.2.2.2.2, .int 0, .int (gc_cap (gl_cell L xs)), .int 0])), (ui.1, .inl (dA, 68, .inl (fun _ => 0))), (ui.2.1, .inl (dA, 68, .inl (fun _ => 0))), (ui.2.2.1, .inl (dA, 68, .inl (fun _ => 0))), (ui.2.2.2.1, .inl (dA, 68, .inl (fun _ => 0))), (ui.2.2.2.2.1, .inl (dA, 68, .inl (fun _ => 0))), (ui.2.2.2.2.2, .inl (dA, 68, .inl (fun _ => 0)))]) [0, 1, 2, 3, 4, 5, 6] rfl
  have hD := hD.sub (ws' := [(h, .inr (0, [.ref ui.1, .ref ui.2.1, .ref ui.2.2.1, .ref ui.2.2.2.1, .int 0, .int 0, .ref ui.2.2.2.2.1, .ref ui.2.2.2.2.2, .int 0, .int (gc_cap (gl_cell L xs)), .int 0])), (ui.1, .inl (dA, 68, .inl (fun _ => 0))), (ui.2.1, .inl (dA, 68, .inl (fun _ => 0))), (ui.2.2.1, .inl (dA, 68, .inl (fun _ => 0))), (ui.2.2.2.1, .inl (dA, 68, .inl (fun _ => 0))), (ui.2.2.2.2.1, .inl (dA, 68, .inl (fun _ => 0))), (ui.2.2.2.2.2, .inl (dA, 68, .inl (fun _ => 0)))]) [0, 1, 2, 3, 4, 5, 6] (by decide) rfl
  refine W.widen (k := 7) (n := 419) (Nat.le_of_ble_eq_true rfl) (Nat.le_of_ble_eq_true rfl) ?_
  obtain ⟨a1, a2, a3, a4, a5, a6⟩ := ui
  rw [hcap] at hP hD
  have hP : va_P (dC, dI) vwCl [(h, .inr (0, [.ref a1, .ref a2, .ref a3, .ref a4, .int 0, .int 0, .ref a5, .ref a6, .int 0, .int (nI capN), .int 0])), (a1, .inl (dA, 68, .inl (fun _ => 0))), (a2, .inl (dA, 68, .inl (fun _ => 0))), (a3, .inl (dA, 68, .inl (fun _ => 0))), (a4, .inl (dA, 68, .inl (fun _ => 0))), (a5, .inl (dA, 68, .inl (fun _ => 0))), (a6, .inl (dA, 68, .inl (fun _ => 0)))] H := hP
  have hD : va_D (gl_A s) [(h, .inr (0, [.ref a1, .ref a2, .ref a3, .ref a4, .int 0, .int 0, .ref a5, .ref a6, .int 0, .int (nI capN), .int 0])), (a1, .inl (dA, 68, .inl (fun _ => 0))), (a2, .inl (dA, 68, .inl (fun _ => 0))), (a3, .inl (dA, 68, .inl (fun _ => 0))), (a4, .inl (dA, 68, .inl (fun _ => 0))), (a5, .inl (dA, 68, .inl (fun _ => 0))), (a6, .inl (dA, 68, .inl (fun _ => 0)))] := hD
  refine lv_astore_n (lv' := [(1, .ref h), (0, .ref b)]) hx hb dL_law_12 rfl hl (by decide) rfl (fun ls hl => ?_)
  refine va_new (ci := 1) (fs := [.int 0, .int 0, .int 0, .null, .null, .null, .null, .null]) (C := RX2) (T := TX2) (N := 8) hx hb hts in_X2 tyX2 tyX2_ok hown (hts _ q141) (hts _ q142) (hts _ q12) hK hP hD hS hA rfl (fun j hj => by
    rcases (show j = 0 ∨ j = 1 ∨ j = 2 ∨ j = 3 ∨ j = 4 ∨ j = 5 ∨ j = 6 ∨ j = 7 by omega) with rfl | rfl | rfl | rfl | rfl | rfl | rfl | rfl <;> rfl) (Nat.le_of_ble_eq_true rfl) (Nat.le_of_ble_eq_true rfl) dL_law_13 (fun o H hP hD hS => ?_)
  refine W.widen (k := 8) (n := 427) (Nat.le_of_ble_eq_true rfl) (Nat.le_of_ble_eq_true rfl) ?_
  have hP : va_P (dC, dI) vwCl [(h, .inr (0, [.ref a1, .ref a2, .ref a3, .ref a4, .int 0, .int 0, .ref a5, .ref a6, .int 0, .int (nI capN), .int 0])), (a1, .inl (dA, 68, .inl (fun _ => 0))), (a2, .inl (dA, 68, .inl (fun _ => 0))), (a3, .inl (dA, 68, .inl (fun _ => 0))), (a4, .inl (dA, 68, .inl (fun _ => 0))), (a5, .inl (dA, 68, .inl (fun _ => 0))), (a6, .inl (dA, 68, .inl (fun _ => 0))), (o, .inr (1, [.int 0, .int 0, .int 0, .null, .null, .null, .null, .null]))] H := hP
  have hD : va_D (gl_A s) [(h, .inr (0, [.ref a1, .ref a2, .ref a3, .ref a4, .int 0, .int 0, .ref a5, .ref a6, .int 0, .int (nI capN), .int 0])), (a1, .inl (dA, 68, .inl (fun _ => 0))), (a2, .inl (dA, 68, .inl (fun _ => 0))), (a3, .inl (dA, 68, .inl (fun _ => 0))), (a4, .inl (dA, 68, .inl (fun _ => 0))), (a5, .inl (dA, 68, .inl (fun _ => 0))), (a6, .inl (dA, 68, .inl (fun _ => 0))), (o, .inr (1, [.int 0, .int 0, .int 0, .null, .null, .null, .null, .null]))] := hD
  refine lv_dup hx hb dL_law_16 rfl ?_
  refine lv_aload_n hx hb dL_law_17 rfl (lv_at hl 1 rfl) ?_
  refine lv_iconst (v := 0) hx hb dL_law_18 (by decide) ?_
  have hXH : va_X b L xs s H := hX.kept (hS.2.1 b hbl hbA)
  refine vp_callSi (va_Run.run (va_runS (As := [.ref b, .int 0]) (rest := [.ref o, .ref o]) ⟨hx, hb, hml, hown, hts⟩ (metX0_cell l b L xs hL) (va_cwS 2 hts (lw_S q138 q139 q10 q140) rfl rfl rfl (by decide +kernel) ⟨Nat.le_of_ble_eq_true rfl, Nat.le_of_ble_eq_true rfl⟩) (gl_preS hXH) rfl rfl hl.1 rfl (lv_room (Nat.le_of_ble_eq_true rfl)) dL_law_19 ⟨Nat.le_of_ble_eq_true rfl, Nat.le_of_ble_eq_true rfl⟩)) (fun zc hzc => ?_)
  have hzc : zc = gl_cell L xs := hzc
  subst hzc
  have hPc := hP.sub (ws' := [(o, .inr (1, [.int 0, .int 0, .int 0, .null, .null, .null, .null, .null]))]) [7] rfl
  have hDc := hD.sub (ws' := [(o, .inr (1, [.int 0, .int 0, .int 0, .null, .null, .null, .null, .null]))]) [7] (by decide) rfl
  have hKc := hK.sub (tys' := [(dA, .int)]) [0] rfl
  have hFc := va_free (wc := [(o, .inr (1, [.int 0, .int 0, .int 0, .null, .null, .null, .null, .null]))]) hD hS hA [7] rfl
  refine va_callv (va_runI (As := [.int (gl_cell L xs)]) (rest := [.ref o]) ⟨hx, hb, hml, hown, hts⟩ (metX2_init l dC dI dA H.size o (gl_cell L xs)) (cwI 1 hts (lw_meth q145) rfl rfl rfl (hts _ q12) (hts _ q143) (hts _ q144) rfl (by decide +kernel) ⟨Nat.le_of_ble_eq_true rfl, Nat.le_of_ble_eq_true rfl⟩) (gm_preS hPc hKc hDc) rfl rfl hl.1 rfl (lv_room (Nat.le_of_ble_eq_true rfl)) dL_law_22 ⟨Nat.le_of_ble_eq_true rfl, Nat.le_of_ble_eq_true rfl⟩) hS (fun q _ h => hFc q h) hFc (fun uo t H1 locs ht hvm hwuo hB hz1 hk1 hS => ?_)
  obtain ⟨hP1, hK1, hD1⟩ := hB
  rw [ht] at hP1
  obtain ⟨hP, hD⟩ := va_join (wr := [(h, .inr (0, [.ref a1, .ref a2, .ref a3, .ref a4, .int 0, .int 0, .ref a5, .ref a6, .int 0, .int (nI capN), .int 0])), (a1, .inl (dA, 68, .inl (fun _ => 0))), (a2, .inl (dA, 68, .inl (fun _ => 0))), (a3, .inl (dA, 68, .inl (fun _ => 0))), (a4, .inl (dA, 68, .inl (fun _ => 0))), (a5, .inl (dA, 68, .inl (fun _ => 0))), (a6, .inl (dA, 68, .inl (fun _ => 0)))]) (w1 := [(o, .inr (1, [.int (gc_cap (gl_cell L xs)), .int 0, .int 0, .ref uo.1, .ref uo.2.1, .ref uo.2.2.1, .ref uo.2.2.2.1, .ref uo.2.2.2.2])), (uo.1, .inl (dA, 66, .inl (fun _ => 0))), (uo.2.1, .inl (dA, 66, .inl (fun _ => 0))), (uo.2.2.1, .inl (dA, 66, .inl (fun _ => 0))), (uo.2.2.2.1, .inl (dA, 66, .inl (fun _ => 0))), (uo.2.2.2.2, .inl (dA, 67, .inl (fun _ => 0)))]) hP hD [7] [0, 1, 2, 3, 4, 5, 6] rfl rfl (by decide) (by decide) hk1 hFc hP1 hD1
  generalize H1 = H at hP hS ⊢
  have hP := hP.sub (ws' := [(h, .inr (0, [.ref a1, .ref a2, .ref a3, .ref a4, .int 0, .int 0, .ref a5, .ref a6, .int 0, .int (nI capN), .int 0])), (a1, .inl (dA, 68, .inl (fun _ => 0))), (a2, .inl (dA, 68, .inl (fun _ => 0))), (a3, .inl (dA, 68, .inl (fun _ => 0))), (a4, .inl (dA, 68, .inl (fun _ => 0))), (a5, .inl (dA, 68, .inl (fun _ => 0))), (a6, .inl (dA, 68, .inl (fun _ => 0))), (o, .inr (1, [.int (gc_cap (gl_cell L xs)), .int 0, .int 0, .ref uo.1, .ref uo.2.1, .ref uo.2.2.1, .ref uo.2.2.2.1, .ref uo.2.2.2.2])), (uo.1, .inl (dA, 66, .inl (fun _ => 0))), (uo.2.1, .inl (dA, 66, .inl (fun _ => 0))), (uo.2.2.1, .inl (dA, 66, .inl (fun _ => 0))), (uo.2.2.2.1, .inl (dA, 66, .inl (fun _ => 0))), (uo.2.2.2.2, .inl (dA, 67, .inl (fun _ => 0)))]) [0, 1, 2, 3, 4, 5, 6, 7, 8, 9, 10, 11, 12] rfl
  have hD := hD.sub (ws' := [(h, .inr (0, [.ref a1, .ref a2, .ref a3, .ref a4, .int 0, .int 0, .ref a5, .ref a6, .int 0, .int (nI capN), .int 0])), (a1, .inl (dA, 68, .inl (fun _ => 0))), (a2, .inl (dA, 68, .inl (fun _ => 0))), (a3, .inl (dA, 68, .inl (fun _ => 0))), (a4, .inl (dA, 68, .inl (fun _ => 0))), (a5, .inl (dA, 68, .inl (fun _ => 0))), (a6, .inl (dA, 68, .inl (fun _ => 0))), (o, .inr (1, [.int (gc_cap (gl_cell L xs)), .int 0, .int 0, .ref uo.1, .ref uo.2.1, .ref uo.2.2.1, .ref uo.2.2.2.1, .ref uo.2.2.2.2])), (uo.1, .inl (dA, 66, .inl (fun _ => 0))), (uo.2.1, .inl (dA, 66, .inl (fun _ => 0))), (uo.2.2.1, .inl (dA, 66, .inl (fun _ => 0))), (uo.2.2.2.1, .inl (dA, 66, .inl (fun _ => 0))), (uo.2.2.2.2, .inl (dA, 67, .inl (fun _ => 0)))]) [0, 1, 2, 3, 4, 5, 6, 7, 8, 9, 10, 11, 12] (by decide) rfl
  refine W.widen (k := 13) (n := 758) (Nat.le_of_ble_eq_true rfl) (Nat.le_of_ble_eq_true rfl) ?_
  obtain ⟨o1, o2, o3, o4, o5⟩ := uo
  rw [hcap] at hP hD
  have hP : va_P (dC, dI) vwCl [(h, .inr (0, [.ref a1, .ref a2, .ref a3, .ref a4, .int 0, .int 0, .ref a5, .ref a6, .int 0, .int (nI capN), .int 0])), (a1, .inl (dA, 68, .inl (fun _ => 0))), (a2, .inl (dA, 68, .inl (fun _ => 0))), (a3, .inl (dA, 68, .inl (fun _ => 0))), (a4, .inl (dA, 68, .inl (fun _ => 0))), (a5, .inl (dA, 68, .inl (fun _ => 0))), (a6, .inl (dA, 68, .inl (fun _ => 0))), (o, .inr (1, [.int (nI capN), .int 0, .int 0, .ref o1, .ref o2, .ref o3, .ref o4, .ref o5])), (o1, .inl (dA, 66, .inl (fun _ => 0))), (o2, .inl (dA, 66, .inl (fun _ => 0))), (o3, .inl (dA, 66, .inl (fun _ => 0))), (o4, .inl (dA, 66, .inl (fun _ => 0))), (o5, .inl (dA, 67, .inl (fun _ => 0)))] H := hP
  have hD : va_D (gl_A s) [(h, .inr (0, [.ref a1, .ref a2, .ref a3, .ref a4, .int 0, .int 0, .ref a5, .ref a6, .int 0, .int (nI capN), .int 0])), (a1, .inl (dA, 68, .inl (fun _ => 0))), (a2, .inl (dA, 68, .inl (fun _ => 0))), (a3, .inl (dA, 68, .inl (fun _ => 0))), (a4, .inl (dA, 68, .inl (fun _ => 0))), (a5, .inl (dA, 68, .inl (fun _ => 0))), (a6, .inl (dA, 68, .inl (fun _ => 0))), (o, .inr (1, [.int (nI capN), .int 0, .int 0, .ref o1, .ref o2, .ref o3, .ref o4, .ref o5])), (o1, .inl (dA, 66, .inl (fun _ => 0))), (o2, .inl (dA, 66, .inl (fun _ => 0))), (o3, .inl (dA, 66, .inl (fun _ => 0))), (o4, .inl (dA, 66, .inl (fun _ => 0))), (o5, .inl (dA, 67, .inl (fun _ => 0)))] := hD
  refine lv_astore_n (lv' := [(2, .ref o), (1, .ref h), (0, .ref b)]) hx hb dL_law_25 rfl hl (by decide) rfl (fun ls hl => ?_)
  refine lv_iconst (v := 1) hx hb dL_law_26 (by decide) ?_
  refine gr_topi (y := nI 1) (rfl) ?_
  refine lv_istore_n (lv' := [(3, .int (nI 1)), (2, .ref o), (1, .ref h), (0, .ref b)]) hx hb dL_law_27 rfl hl (by decide) rfl (fun ls hl => ?_)
  exact law_loop l hL C0 dC dI dA hK capN hc64 h a1 a2 a3 a4 a5 a6 o o1 o2 o3 o4 o5 (L + 5) 1 (by omega) (by omega) 0 0 (fun _ => 0) (fun _ => 0) (fun _ => 0) (fun _ => 0) (fun _ => 0) (fun _ => 0) 0 0 0 (fun _ => 0) (fun _ => 0) (fun _ => 0) (fun _ => 0) (fun _ => 0) 0 (gl_0 capN) H _ hP hD hS ls (lv_sub hl [3, 2, 1, 0] rfl)
set_option maxHeartbeats 4000000 in
theorem lw_walk (l : Launch) (b : Addr) (xs : List Int32) : MetFree l x (headSpec (Jvm.Cond.code x code maxLocals ret :: tables_1) room_1) (lw_P b xs) (fun _ _ _ _ _ => True) lw_Q := by
  refine MetFree.of_bodyS (code := code) (maxLocals := maxLocals) (ret := ret) (by decide) ?_ ?_
  · intro args s m h hn
    obtain ⟨meth, c, h1, h2, h3, h4, h5, h6, -, -⟩ := Cond.code_spec hn (atoms_spec (ws := Jvm.Cond.code x code maxLocals ret :: tables_1) h _ List.mem_cons_self)
    exact ⟨meth, c, h1, h2, h3, h4, h5, h6⟩
  · intro p e s m args below meth c s₁ B hml0 hP _
    obtain ⟨rfl, hx, hbd, hgv⟩ := hP
    obtain ⟨scr, harrAt, hlist, hof, hsmall⟩ := hx
    obtain ⟨hcb, hkn, -, -⟩ := State.arrayAt?_spec harrAt
    have hown : s.vm.findClass R_law = some m.cls := findClass_of_methodNamed B.named
    have hts0 : ∀ c ∈ (Jvm.Cond.code x code maxLocals ret :: tables_1), c.before #[Value.ref b] s = true := atoms_spec (ws := Jvm.Cond.code x code maxLocals ret :: tables_1) B.pre
    have hts : ∀ w ∈ lw_tbl, w.before #[Value.ref b] s = true := k2_hts_sels lw_privs (fun w hw => hts0 w (List.mem_cons_of_mem _ hw)) lw_privs_ok
    have hml : c.maxLocals = 4 := B.maxLocals_eq (hts0 _ List.mem_cons_self)
    have X₀ : Stand p l e room_1 s m #[Value.ref b] below meth c s₁ [] 0 0 := Stand.of_body B
    have hh0 : s₁.heap = s.heap := by rw [B.state]; rfl
    have hsz : scr.slots.size = xs.length := by rw [← Array.length_toList, hlist, List.length_map]
    have hval : ∀ j : Nat, j < xs.length → scr.slots[j]? = some (.int (xs.getD j 0)) := fun j hj => by
      rw [← Array.getElem?_toList, hlist]
      simp [hj]
    have hbl : b < s.heap.size := (Array.getElem?_eq_some_iff.mp hcb).1
    have hX : va_X b xs.length (fun j => xs.getD j 0) s s.heap := ⟨scr, hcb, hof, hkn, hsz, hval⟩
    have K : W p l e room_1 s m #[Value.ref b] below meth c s₁.heap [] 0 0 (lw_Z below #[Value.ref b] s) (entryFrame m ([Value.ref b] : List Value).toArray 4) := by
      rw [hh0]
      exact whole_start l hbd ⟨B.exec, B.bytes, B.returns, hml, hown, hts, hX, hbl, B.notSynchronized, hgv⟩
    obtain ⟨t, a1, o, b1, b2, b3⟩ := K s₁ rfl X₀
    exact ⟨t, o, a1, b1, b2, b3⟩
theorem lw_pre_spec {args : Array Value} {s : State} (h : (Jvm.Cond.and given_1 narrow_1).before args s = true) (hr : rest_1_c.before args s = true) : ∃ (b : Addr) (xs : List Int32), lw_P b xs args s := by
  have hs := flat_of_before _ h
  have hq := flat_of_before _ hr
  have hc : (Cond.count 1).before args s = true := hs _ (by decide +kernel)
  have harr : (Cond.arrayOf (.arg 0) .int).before args s = true := hs _ (by decide +kernel)
  have hle : (Cond.le (.length (.arg 0)) (.int 257)).before args s = true := hs _ (by decide +kernel)
  have hlen : (Cond.isInt (.length (.arg 0))).before args s = true := hq _ (by decide +kernel)
  have hall : (Cond.all (.arg 0) (.isInt (.elem (.arg 0) (.index 0)))).before args s = true := hq _ (by decide +kernel)
  obtain ⟨b, xs, hb, hx⟩ := State.ints_of_pre rfl harr hlen hall
  have hsm : xs.length < 2 ^ 31 := hx.choose_spec.2.2.2
  have hev : (Term.length (.arg 0)).eval args s none [] s = some (.int xs.length.toInt32) := hx.length_eval hb
  have hv := Cond.le_ints hev (show (Term.int 257).eval args s none [] s = some (.int 257) from rfl)
  have hd : xs.length.toInt32 ≤ 257 := by
    simpa [Cond.before, Cond.holds, hv] using hle
  have hN : xs.length ≤ 257 := (Int32.ofNat_le_ofNat hsm (by decide)).mp (show Int32.ofNat xs.length ≤ Int32.ofNat 257 from hd)
  exact ⟨b, xs, Cond.one_arg hc (show args[0]? = some (.ref b) from hb), hx, hN, h⟩
theorem lw_comes (l : Launch) : Comes l x (Jvm.Cond.code x code maxLocals ret :: tables_1) room_1 (fun tb e args s => Calls_1 tb e args s ∧ rest_1 tb e args s ∧ Pre_1 tb e args s)
    (fun _ _ args s o t => lw_Q args s o t) := by
  intro p e ha hc hk s m args below hf hfit hheap happ hpre
  obtain ⟨b, xs, hP⟩ := lw_pre_spec hpre.2.2 hpre.2.1
  obtain ⟨k, o, h1, h2, h3, hQ⟩ := lw_walk l b xs p e ha hc hk s m args below hf ((Spec.applies_iff_loose hf).mp happ).1 hP trivial
  exact ⟨k, o, h1, h2, h3, hQ⟩
theorem lw_frame {s t : State} {o : Outcome} {args : Array Value} (h : Framed s o t [] 600000 7290000) :
    Framed s o t (fieldLocs frame_1_writes args s ++ arrayLocs frame_1_arrays args s ++ staticLocs frame_1_statics s) 600000 7290000 := h
theorem lw_limb (L : Cond) (hL : ∀ (args : Array Value) (s t : State), L.after args s (.returned (some (.int 1))) t = true) :
    ArmFor flags0 classFile x code maxLocals ret World_1 tables_1 room_1 Calls_1 rest_1 Pre_1
      (fun tb e a s o t => postC L tb e a s o t ∧ Framed s o t (fieldLocs frame_1_writes a s ++ arrayLocs frame_1_arrays a s ++ staticLocs frame_1_statics s) 600000 7290000) := by
  intro l _ _ _ p e ha hc hk s m args below hf hfit hheap happ hpre
  obtain ⟨k, o, h1, h2, h3, rfl, hF⟩ := lw_comes l p e ha hc hk s m args below hf hfit hheap happ hpre
  exact ⟨k, _, h1, h2, h3, hL args s _, lw_frame hF⟩
theorem i_vc : Claimed_1_1 ∧ Claimed_1_2 := ⟨lw_limb limb_1_1 (fun args s t => by simp [limb_1_1, Cond.after, Cond.holds, Cond.value]), lw_limb limb_1_2 (fun args s t => Cond.after_iff.mpr (by
  first | (rw [show limb_1_2 = Cond.eq .result (.int 1) from rfl, Cond.eq_ints (x := 1) (y := 1) rfl rfl]; simp; done) | (simp [limb_1_2, Cond.value, Term.eval]; done)))⟩
end
