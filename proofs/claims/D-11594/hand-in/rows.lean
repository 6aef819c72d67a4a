section
/-! the greatest end of a word, over plain ints -/
theorem tw_fd (f g : Nat → Int) (N : Nat) : ∃ d, d ≤ N ∧ (∀ j, j < d → f j = g j) ∧ (d < N → f d ≠ g d) := by
  induction N with
  | zero => exact ⟨0, Nat.le_refl 0, fun j h => absurd h (by omega), fun h => absurd h (by omega)⟩
  | succ N ih =>
    obtain ⟨d, h1, h2, h3⟩ := ih
    by_cases hd : d < N
    · exact ⟨d, by omega, h2, fun _ => h3 hd⟩
    · by_cases he : f d = g d
      · refine ⟨d + 1, by omega, fun j hj => ?_, fun h => absurd h (by omega)⟩
        by_cases e : j = d
        · rw [e, he]
        · exact h2 j (by omega)
      · exact ⟨d, by omega, h2, fun _ => he⟩
theorem tw_per {y : Nat → Int} {b q p : Nat} (h : ∀ i, b ≤ i → i + p < q → y i = y (i + p)) (r : Nat) : ∀ c, b + r + c * p < q → y (b + r) = y (b + r + c * p) := by
  intro c
  induction c with
  | zero =>
    intro _
    rw [Nat.zero_mul, Nat.add_zero]
  | succ c ih =>
    intro hq
    rw [Nat.succ_mul] at hq
    rw [Nat.succ_mul]
    have h1 := ih (by omega)
    have h2 := h (b + r + c * p) (by omega) (by omega)
    have h3 : b + r + c * p + p = b + r + (c * p + p) := by omega
    rw [h3] at h2
    exact h1.trans h2
/-- b: where the greatest end of y's first q letters begins; p: its period -/
def tw_co (y : Nat → Int) (m b q p : Nat) : Prop :=
  (∀ s, s < b → ∃ i, b + i < m ∧ (∀ j, j < i → y (s + j) = y (b + j)) ∧ y (s + i) < y (b + i)) ∧
  (∀ s i, b < s → s + i < q → (∀ j, j < i → y (s + j) = y (b + j)) → y (s + i) ≤ y (b + i)) ∧
  (∀ i, b ≤ i → i + p < q → y i = y (i + p)) ∧
  (∀ s, b < s → s < b + p → ∃ i, s + i < q ∧ (∀ j, j < i → y (s + j) = y (b + j)) ∧ y (s + i) < y (b + i))
theorem tw_coE {y : Nat → Int} {m b q p : Nat} (h : tw_co y m b q p) (hp : 1 ≤ p) (hb : b + p ≤ q) (e : y q = y (q - p)) : tw_co y m b (q + 1) p := by
  obtain ⟨hA, hB, hC, hD⟩ := h
  refine ⟨hA, ?_, ?_, ?_⟩
  · intro s i hs hi ha
    by_cases h1 : s + i < q
    · exact hB s i hs h1 ha
    · have hi' : s + i = q := by omega
      by_cases h2 : s < b + p
      · obtain ⟨i', g1, g2, g3⟩ := hD s hs h2
        have g4 := ha i' (by omega)
        omega
      · have e2 : ∀ j, j < i → y (s - p + j) = y (b + j) := by
          intro j hj
          have g := hC (s - p + j) (by omega) (by omega)
          have g' : s - p + j + p = s + j := by omega
          rw [g'] at g
          exact g.trans (ha j hj)
        rw [hi', e]
        by_cases h3 : s = b + p
        · have g : q - p = b + i := by omega
          rw [g]
          exact Int.le_refl _
        · have g := hB (s - p) i (by omega) (by omega) e2
          have g' : s - p + i = q - p := by omega
          rw [g'] at g
          exact g
  · intro i hi hq
    by_cases h1 : i + p < q
    · exact hC i hi h1
    · have g : i + p = q := by omega
      have g' : q - p = i := by omega
      rw [g, e, g']
  · intro s h1 h2
    obtain ⟨i, g1, g2, g3⟩ := hD s h1 h2
    exact ⟨i, by omega, g2, g3⟩
theorem tw_coS {y : Nat → Int} {m b q p : Nat} (h : tw_co y m b q p) (hp : 1 ≤ p) (hb : b + p ≤ q) (e : y q < y (q - p)) : tw_co y m b (q + 1) (q + 1 - b) := by
  obtain ⟨hA, hB, hC, hD⟩ := h
  have key : ∀ s, b < s → s < q + 1 → ∃ i, s + i < q + 1 ∧ (∀ j, j < i → y (s + j) = y (b + j)) ∧ y (s + i) < y (b + i) := by
    intro s h1 h2
    obtain ⟨d, d1, d2, d3⟩ := tw_fd (fun j => y (s + j)) (fun j => y (b + j)) (q - s)
    by_cases hd : d < q - s
    · have g := hB s d h1 (by omega) d2
      have g' := d3 hd
      exact ⟨d, by omega, d2, by omega⟩
    · by_cases h3 : s < b + p
      · obtain ⟨i, g1, g2, g3⟩ := hD s h1 h3
        have g4 := d2 i (by omega)
        omega
      · have e2 : ∀ j, j < q - s → y (s - p + j) = y (b + j) := by
          intro j hj
          have g := hC (s - p + j) (by omega) (by omega)
          have g' : s - p + j + p = s + j := by omega
          rw [g'] at g
          exact g.trans (d2 j (by omega))
        refine ⟨q - s, by omega, fun j hj => d2 j (by omega), ?_⟩
        have e3 : s + (q - s) = q := by omega
        rw [e3]
        by_cases h4 : s = b + p
        · have g : b + (q - s) = q - p := by omega
          rw [g]
          exact e
        · have g := hB (s - p) (q - s) (by omega) (by omega) e2
          have g' : s - p + (q - s) = q - p := by omega
          rw [g'] at g
          omega
  refine ⟨hA, ?_, ?_, ?_⟩
  · intro s i hs hi ha
    obtain ⟨i', g1, g2, g3⟩ := key s hs (by omega)
    by_cases h1 : i' < i
    · have g4 := ha i' h1
      omega
    · by_cases h2 : i = i'
      · rw [h2]
        omega
      · have g4 := g2 i (by omega)
        omega
  · intro i h1 h2
    exact absurd h2 (by omega)
  · intro s h1 h2
    exact key s h1 (by omega)
theorem tw_coG {y : Nat → Int} {m b q p o k : Nat} (h : tw_co y m b q p) (hq : q < m) (ho : b < o) (hk : q = o + k) (ha : ∀ j, j < k → y (o + j) = y (b + j)) (e : y (b + k) < y (o + k)) : tw_co y m o (o + 1) 1 := by
  obtain ⟨hA, hB, hC, hD⟩ := h
  refine ⟨?_, fun s i h1 h2 _ => absurd h2 (by omega), fun i h1 h2 => absurd h2 (by omega), fun s h1 h2 => absurd h2 (by omega)⟩
  intro s hs
  by_cases h1 : s < b
  · obtain ⟨i, g1, g2, g3⟩ := hA s h1
    by_cases h2 : i < k
    · have g4 := ha i h2
      exact ⟨i, by omega, fun j hj => (g2 j hj).trans (ha j (by omega)).symm, by omega⟩
    · refine ⟨k, by omega, fun j hj => (g2 j (by omega)).trans (ha j hj).symm, ?_⟩
      by_cases h3 : i = k
      · rw [h3] at g3
        omega
      · have g4 := g2 k (by omega)
        omega
  · by_cases h2 : s = b
    · rw [h2]
      exact ⟨k, by omega, fun j hj => (ha j hj).symm, e⟩
    · obtain ⟨d, d1, d2, d3⟩ := tw_fd (fun j => y (s + j)) (fun j => y (b + j)) k
      have g := hB s d (by omega) (by omega) d2
      by_cases h3 : d < k
      · have g4 := d3 h3
        have g5 := ha d h3
        exact ⟨d, by omega, fun j hj => (d2 j hj).trans (ha j (by omega)).symm, by omega⟩
      · have h4 : d = k := by omega
        rw [h4] at g d2
        exact ⟨k, by omega, fun j hj => (d2 j hj).trans (ha j hj).symm, by omega⟩
/-- the loop of findEnd: best b, other o, matched k, period p -/
def tw_fe (y : Nat → Int) (m b o k p : Nat) : Prop :=
  1 ≤ p ∧ k < p ∧ o + k ≤ m ∧ (∃ c, o = b + c * p + p) ∧ tw_co y m b (o + k) p
theorem tw_fe_b {y : Nat → Int} {m b o k p : Nat} (h : tw_fe y m b o k p) : 1 ≤ p ∧ k < p ∧ o + k ≤ m ∧ b + p ≤ o := by
  obtain ⟨h1, h2, h3, ⟨c, h4⟩, _⟩ := h
  exact ⟨h1, h2, h3, by omega⟩
theorem tw_fe_0 {y : Nat → Int} {m : Nat} (hm : 1 ≤ m) : tw_fe y m 0 1 0 1 :=
  ⟨by omega, by omega, by omega, ⟨0, by omega⟩, fun s h => absurd h (by omega), fun s i h1 h2 => absurd h2 (by omega), fun i h1 h2 => absurd h2 (by omega), fun s h1 h2 => absurd h2 (by omega)⟩
theorem tw_fe_q {y : Nat → Int} {m b o k p : Nat} (h : tw_fe y m b o k p) : y (o + k - p) = y (b + k) := by
  obtain ⟨h1, h2, h3, ⟨c, h4⟩, h5⟩ := h
  have g := tw_per h5.2.2.1 k c (by omega)
  have e : o + k - p = b + k + c * p := by omega
  rw [e]
  exact g.symm
theorem tw_fe_a {y : Nat → Int} {m b o k p : Nat} (h : tw_fe y m b o k p) : ∀ j, j < k → y (o + j) = y (b + j) := by
  obtain ⟨h1, h2, h3, ⟨c, h4⟩, h5⟩ := h
  intro j hj
  have s1 : (c + 1) * p = c * p + p := Nat.succ_mul c p
  have g := tw_per h5.2.2.1 j (c + 1) (by omega)
  have e : o + j = b + j + (c + 1) * p := by omega
  rw [e]
  exact g.symm
theorem tw_fe_e1 {y : Nat → Int} {m b o k p : Nat} (h : tw_fe y m b o k p) (hq : o + k < m) (e : y (o + k) = y (b + k)) (hk : k + 1 ≠ p) : tw_fe y m b o (k + 1) p := by
  have hb := tw_fe_b h
  have g := tw_fe_q h
  have g2 := tw_coE h.2.2.2.2 hb.1 (by omega) (e.trans g.symm)
  exact ⟨hb.1, by omega, by omega, h.2.2.2.1, g2⟩
theorem tw_fe_e2 {y : Nat → Int} {m b o k p : Nat} (h : tw_fe y m b o k p) (hq : o + k < m) (e : y (o + k) = y (b + k)) (hk : k + 1 = p) : tw_fe y m b (o + p) 0 p := by
  have hb := tw_fe_b h
  have g := tw_fe_q h
  have g2 := tw_coE h.2.2.2.2 hb.1 (by omega) (e.trans g.symm)
  obtain ⟨c, hc⟩ := h.2.2.2.1
  have s1 : (c + 1) * p = c * p + p := Nat.succ_mul c p
  have e3 : o + k + 1 = o + p + 0 := by omega
  rw [e3] at g2
  exact ⟨hb.1, by omega, by omega, ⟨c + 1, by omega⟩, g2⟩
theorem tw_fe_s {y : Nat → Int} {m b o k p : Nat} (h : tw_fe y m b o k p) (hq : o + k < m) (e : y (o + k) < y (b + k)) : tw_fe y m b (o + k + 1) 0 (o + k + 1 - b) := by
  have hb := tw_fe_b h
  have g := tw_fe_q h
  have g2 := tw_coS h.2.2.2.2 hb.1 (by omega) (by rw [g]; exact e)
  exact ⟨by omega, by omega, by omega, ⟨0, by omega⟩, g2⟩
theorem tw_fe_g {y : Nat → Int} {m b o k p : Nat} (h : tw_fe y m b o k p) (hq : o + k < m) (e : y (b + k) < y (o + k)) : tw_fe y m o (o + 1) 0 1 := by
  have hb := tw_fe_b h
  have g2 := tw_coG h.2.2.2.2 hq (by omega) rfl (tw_fe_a h) e
  exact ⟨by omega, by omega, by omega, ⟨0, by omega⟩, g2⟩
/-- what findEnd finds: the end of w (m letters) at b has the period q, and no end that begins earlier goes on as it does -/
def tw_FE (w : Nat → Int32) (m b q : Nat) : Prop :=
  1 ≤ q ∧ b + q ≤ m ∧ (∀ i, b ≤ i → i + q < m → w i = w (i + q)) ∧ (∀ s, s < b → ∃ i, b + i < m ∧ w (s + i) ≠ w (b + i))
theorem tw_fe_x {y : Nat → Int} {w : Nat → Int32} (hy : ∀ i j, y i = y j ↔ w i = w j) {m b o k p : Nat} (h : tw_fe y m b o k p) (hq : m ≤ o + k) : tw_FE w m b p := by
  have hb := tw_fe_b h
  obtain ⟨hA, hB, hC, hD⟩ := h.2.2.2.2
  refine ⟨hb.1, by omega, fun i h1 h2 => (hy _ _).mp (hC i h1 (by omega)), fun s hs => ?_⟩
  obtain ⟨i, g1, g2, g3⟩ := hA s hs
  exact ⟨i, g1, fun z => by have g := (hy _ _).mpr z; omega⟩
/-- a word that has the period q on the whole is cut ahead of q -/
theorem tw_FE_lt {w : Nat → Int32} {m b q : Nat} (h : tw_FE w m b q) (hp : ∀ i, i < b → w i = w (i + q)) : b < q := by
  obtain ⟨h1, h2, h3, h4⟩ := h
  rcases Nat.lt_or_ge b q with z | z
  · exact z
  · obtain ⟨i, g1, g2⟩ := h4 (b - q) (by omega)
    exfalso
    apply g2
    have e : b - q + i + q = b + i := by omega
    by_cases hi : b - q + i < b
    · have g := hp (b - q + i) hi
      rw [e] at g
      exact g
    · have g := h3 (b - q + i) (by omega) (by omega)
      rw [e] at g
      exact g
theorem tw_FE_all {w : Nat → Int32} {m b q : Nat} (h : tw_FE w m b q) (hp : ∀ i, i < b → w i = w (i + q)) : ∀ i, i + q < m → w i = w (i + q) := by
  intro i hi
  by_cases g : i < b
  · exact hp i g
  · exact h.2.2.1 i (by omega) hi
/-! the letters' order -/
def tw_y (o : Int32) (w : Nat → Int32) (i : Nat) : Int := if o = 0 then (w i).toInt else -(w i).toInt
theorem tw_yeq (o : Int32) (w : Nat → Int32) (i j : Nat) : tw_y o w i = tw_y o w j ↔ w i = w j := by
  unfold tw_y
  by_cases h : o = 0
  · rw [if_pos h, if_pos h]
    exact Int32.toInt_inj
  · rw [if_neg h, if_neg h]
    exact ⟨fun z => Int32.toInt_inj.mp (by omega), fun z => by rw [z]⟩
end
section
/-! matches, borders, candidates -/
/-- the last k letters of t's first i are p's first k -/
def tw_mt (p t : Nat → Int32) (i k : Nat) : Prop := k ≤ i ∧ ∀ j, j < k → p j = t (i - k + j)
theorem tw_mt_0 (p t : Nat → Int32) (i : Nat) : tw_mt p t i 0 := ⟨by omega, fun j h => absurd h (by omega)⟩
theorem tw_mt_s {p t : Nat → Int32} {i k : Nat} (h : tw_mt p t i k) (e : p k = t i) : tw_mt p t (i + 1) (k + 1) := by
  obtain ⟨h1, h2⟩ := h
  refine ⟨by omega, fun j hj => ?_⟩
  rw [Nat.add_sub_add_right]
  by_cases g : j < k
  · exact h2 j g
  · have e2 : j = k := by omega
    have e3 : i - k + k = i := by omega
    rw [e2, e3]
    exact e
theorem tw_mt_p {p t : Nat → Int32} {i k : Nat} (h : tw_mt p t (i + 1) (k + 1)) : tw_mt p t i k ∧ p k = t i := by
  obtain ⟨h1, h2⟩ := h
  rw [Nat.add_sub_add_right] at h2
  refine ⟨⟨by omega, fun j hj => h2 j (by omega)⟩, ?_⟩
  have g := h2 k (by omega)
  have e3 : i - k + k = i := by omega
  rw [e3] at g
  exact g
theorem tw_mt_d {p t : Nat → Int32} {i c b : Nat} (h : tw_mt p t i c) (g : tw_mt p t i b) (hb : b ≤ c) : tw_mt p p c b := by
  obtain ⟨h1, h2⟩ := h
  obtain ⟨g1, g2⟩ := g
  refine ⟨hb, fun j hj => ?_⟩
  have a1 := g2 j hj
  have a2 := h2 (c - b + j) (by omega)
  have e : i - c + (c - b + j) = i - b + j := by omega
  rw [e] at a2
  exact a1.trans a2.symm
theorem tw_mt_u {p t : Nat → Int32} {i c b : Nat} (h : tw_mt p t i c) (g : tw_mt p p c b) : tw_mt p t i b := by
  obtain ⟨h1, h2⟩ := h
  obtain ⟨g1, g2⟩ := g
  refine ⟨by omega, fun j hj => ?_⟩
  have a1 := g2 j hj
  have a2 := h2 (c - b + j) (by omega)
  have e : i - c + (c - b + j) = i - b + j := by omega
  rw [e] at a2
  exact a1.trans a2
/-- the longest border of p's first k letters, of at most the given length -/
def tw_bs (p : Nat → Int32) (k : Nat) : Nat → Nat
  | 0 => 0
  | b + 1 => if (∀ j, j < b + 1 → p j = p (k - (b + 1) + j)) then b + 1 else tw_bs p k b
theorem tw_bs_ok (p : Nat → Int32) (k : Nat) : ∀ n, n ≤ k → tw_mt p p k (tw_bs p k n) ∧ tw_bs p k n ≤ n ∧ ∀ b, b ≤ n → tw_mt p p k b → b ≤ tw_bs p k n := by
  intro n
  induction n with
  | zero => exact fun _ => ⟨tw_mt_0 p p k, Nat.le_refl 0, fun b hb _ => hb⟩
  | succ n ih =>
    intro hn
    obtain ⟨i1, i2, i3⟩ := ih (by omega)
    unfold tw_bs
    by_cases hc : (∀ j, j < n + 1 → p j = p (k - (n + 1) + j))
    · rw [if_pos hc]
      exact ⟨⟨hn, hc⟩, Nat.le_refl _, fun b hb _ => hb⟩
    · rw [if_neg hc]
      refine ⟨i1, by omega, fun b hb g => ?_⟩
      by_cases e : b = n + 1
      · rw [e] at g
        exact absurd g.2 hc
      · exact i3 b (by omega) g
def tw_be (p : Nat → Int32) (k : Nat) : Nat := tw_bs p k (k - 1)
theorem tw_be_ok (p : Nat → Int32) {k : Nat} (hk : 1 ≤ k) : tw_mt p p k (tw_be p k) ∧ tw_be p k < k ∧ ∀ b, b < k → tw_mt p p k b → b ≤ tw_be p k := by
  obtain ⟨h1, h2, h3⟩ := tw_bs_ok p k (k - 1) (by omega)
  unfold tw_be
  exact ⟨h1, by omega, fun b hb g => h3 b (by omega) g⟩
/-- k is the longest match at i of at most M letters -/
def tw_mx (p t : Nat → Int32) (M i k : Nat) : Prop := tw_mt p t i k ∧ k ≤ M ∧ ∀ k', k' ≤ M → tw_mt p t i k' → k' ≤ k
theorem tw_be_u {p : Nat → Int32} {i b : Nat} (h : tw_mx p p i (i + 1) b) : tw_be p (i + 1) = b := by
  obtain ⟨h1, h2, h3⟩ := h
  obtain ⟨g1, g2, g3⟩ := tw_be_ok p (show 1 ≤ i + 1 by omega)
  have a1 := h3 (tw_be p (i + 1)) (by omega) g1
  have a2 := g3 b (by omega) h1
  omega
/-- a border grows by at most one -/
theorem tw_be_1 (p : Nat → Int32) {k : Nat} (hk : 1 ≤ k) : tw_be p (k + 1) ≤ tw_be p k + 1 := by
  obtain ⟨g1, g2, g3⟩ := tw_be_ok p (show 1 ≤ k + 1 by omega)
  obtain ⟨f1, f2, f3⟩ := tw_be_ok p hk
  rcases Nat.eq_zero_or_pos (tw_be p (k + 1)) with z | z
  · omega
  · obtain ⟨b, hb⟩ : ∃ b, tw_be p (k + 1) = b + 1 := ⟨tw_be p (k + 1) - 1, by omega⟩
    rw [hb] at g1 g2
    rw [hb]
    have a := f3 b (by omega) (tw_mt_p g1).1
    omega
/-- what the array holds at k, one more -/
def tw_e (p : Nat → Int32) (k : Nat) : Nat := if k = 0 then 0 else tw_be p k + 1
theorem tw_e_0 (p : Nat → Int32) : tw_e p 0 = 0 := rfl
theorem tw_e_s (p : Nat → Int32) {k : Nat} (hk : 1 ≤ k) : tw_e p k = tw_be p k + 1 := by
  unfold tw_e
  rw [if_neg (by omega)]
theorem tw_e_le (p : Nat → Int32) (k : Nat) : tw_e p k ≤ k := by
  rcases Nat.eq_zero_or_pos k with z | z
  · rw [z, tw_e_0]
    exact Nat.le_refl 0
  · rw [tw_e_s p z]
    have g := (tw_be_ok p z).2.1
    omega
/-- the candidates below d at place i: d is 0, or d - 1 is a match at i; all matches that go on are below d -/
def tw_ca (p t : Nat → Int32) (M i d : Nat) : Prop := (∀ c, d = c + 1 → tw_mt p t i c) ∧ ∀ c, c < M → tw_mt p t i c → p c = t i → c < d
theorem tw_ca_s {p t : Nat → Int32} {M i c : Nat} (h : tw_ca p t M i (c + 1)) (hc : M ≤ c ∨ ¬ p c = t i) : tw_ca p t M i (tw_e p c) := by
  obtain ⟨h1, h2⟩ := h
  have hm := h1 c rfl
  constructor
  · intro c2 e
    rcases Nat.eq_zero_or_pos c with z | z
    · rw [z, tw_e_0] at e
      exact absurd e (by omega)
    · rw [tw_e_s p z] at e
      have e2 : tw_be p c = c2 := by omega
      rw [← e2]
      exact tw_mt_u hm (tw_be_ok p z).1
  · intro c' g1 g2 g3
    have g4 := h2 c' g1 g2 g3
    have g5 : c' ≠ c := by
      intro z
      rw [z] at g1 g3
      rcases hc with y | y
      · omega
      · exact y g3
    rw [tw_e_s p (show 1 ≤ c by omega)]
    have g6 := (tw_be_ok p (show 1 ≤ c by omega)).2.2 c' (by omega) (tw_mt_d hm g2 (by omega))
    omega
theorem tw_ca_0 {p t : Nat → Int32} {M i : Nat} (h : tw_ca p t M i 0) : tw_mx p t M (i + 1) 0 := by
  refine ⟨tw_mt_0 p t (i + 1), by omega, fun k' g1 g2 => ?_⟩
  rcases k' with _ | k
  · exact Nat.le_refl 0
  · have g := tw_mt_p g2
    exact absurd (h.2 k (by omega) g.1 g.2) (by omega)
theorem tw_ca_x {p t : Nat → Int32} {M i c : Nat} (h : tw_ca p t M i (c + 1)) (hc : c < M) (e : p c = t i) : tw_mx p t M (i + 1) (c + 1) := by
  refine ⟨tw_mt_s (h.1 c rfl) e, by omega, fun k' g1 g2 => ?_⟩
  rcases k' with _ | k
  · exact Nat.zero_le _
  · have g := tw_mt_p g2
    have g' := h.2 k (by omega) g.1 g.2
    omega
theorem tw_ca_t {p t : Nat → Int32} {M i k : Nat} (h : tw_mx p t M i k) : tw_ca p t M i (k + 1) := by
  refine ⟨fun c e => ?_, fun c g1 g2 _ => ?_⟩
  · have e2 : k = c := by omega
    rw [← e2]
    exact h.1
  · have g := h.2.2 c (by omega) g2
    omega
theorem tw_ca_b (p : Nat → Int32) (i : Nat) : tw_ca p p i i (tw_e p i) := by
  refine ⟨fun c e => ?_, fun c g1 g2 _ => ?_⟩
  · rcases Nat.eq_zero_or_pos i with z | z
    · rw [z, tw_e_0] at e
      exact absurd e (by omega)
    · rw [tw_e_s p z] at e
      have e2 : tw_be p i = c := by omega
      rw [← e2]
      exact (tw_be_ok p z).1
  · have z : 1 ≤ i := by omega
    rw [tw_e_s p z]
    have g := (tw_be_ok p z).2.2 c g1 g2
    omega
/-- one less than a natural, as an int -/
def tw_mI (d : Nat) : Int32 := nI d - 1
theorem tw_mI_0 : tw_mI 0 = -1 := by decide
theorem tw_mI_s (d : Nat) : tw_mI (d + 1) = nI d := nI_pred d
theorem tw_mI_1 (d : Nat) : tw_mI d + 1 = nI d := by
  rcases d with _ | d
  · decide
  · rw [tw_mI_s, nI_1]
theorem tw_mI_d (d : Nat) : tw_mI (d + 1) + (-1) = tw_mI d := by
  rcases d with _ | d
  · decide
  · rw [tw_mI_s, tw_mI_s, pk_m1]
/-- the border array up to K -/
def tw_BA (p bo : Nat → Int32) (K : Nat) : Prop := ∀ k, k ≤ K → bo k = tw_mI (tw_e p k)
theorem tw_BA_be {p bo : Nat → Int32} {K k : Nat} (h : tw_BA p bo K) (h1 : 1 ≤ k) (h2 : k ≤ K) : bo k = nI (tw_be p k) := by
  rw [h k h2, tw_e_s p h1, tw_mI_s]
theorem tw_BA_s {p bo : Nat → Int32} {i : Nat} (h : tw_BA p bo i) : tw_BA p (upd bo (i + 1) (nI (tw_be p (i + 1)))) (i + 1) := by
  intro k hk
  by_cases e : k = i + 1
  · rw [e, pk_us, tw_e_s p (by omega), tw_mI_s]
  · rw [pk_un e]
    exact h k (by omega)
/-- how many steps down the borders from s, at most f -/
def tw_ch (p : Nat → Int32) : Nat → Nat → Nat
  | 0, _ => 0
  | f + 1, s => if s = 0 then 0 else tw_ch p f (tw_be p s) + 1
theorem tw_ch_0 (p : Nat → Int32) (f : Nat) : tw_ch p f 0 = 0 := by
  rcases f with _ | f
  · rfl
  · rfl
theorem tw_ch_s (p : Nat → Int32) (f : Nat) {s : Nat} (h : 0 < s) : tw_ch p (f + 1) s = tw_ch p f (tw_be p s) + 1 := by
  show (if s = 0 then 0 else tw_ch p f (tw_be p s) + 1) = _
  rw [if_neg (by omega)]
theorem tw_ch_le (p : Nat → Int32) : ∀ f s, tw_ch p f s ≤ f := by
  intro f
  induction f with
  | zero => exact fun s => Nat.le_refl 0
  | succ f ih =>
    intro s
    rcases Nat.eq_zero_or_pos s with z | z
    · rw [z, tw_ch_0]
      omega
    · rw [tw_ch_s p f z]
      have g := ih (tw_be p s)
      omega
/-! the places found: apart and covered -/
def tw_ap (P : Nat → Nat) (m : Nat) : Nat → Nat × Nat
  | 0 => (0, 0)
  | k + 1 => if P k < (tw_ap P m k).2 then tw_ap P m k else ((tw_ap P m k).1 + 1, P k + m)
def tw_cv (P : Nat → Nat) (m : Nat) : Nat → Nat × Nat
  | 0 => (0, 0)
  | k + 1 => ((tw_cv P m k).1 + P k + m - max (P k) (tw_cv P m k).2, P k + m)
theorem tw_ap_s1 {P : Nat → Nat} {m k : Nat} (h : P k < (tw_ap P m k).2) : tw_ap P m (k + 1) = tw_ap P m k := by
  show (if _ then _ else _) = _
  rw [if_pos h]
theorem tw_ap_s2 {P : Nat → Nat} {m k : Nat} (h : ¬ P k < (tw_ap P m k).2) : tw_ap P m (k + 1) = ((tw_ap P m k).1 + 1, P k + m) := by
  show (if _ then _ else _) = _
  rw [if_neg h]
theorem tw_cv_s {P : Nat → Nat} {m k : Nat} : tw_cv P m (k + 1) = ((tw_cv P m k).1 + P k + m - max (P k) (tw_cv P m k).2, P k + m) := rfl
/-- the places rise and lie in the text -/
def tw_up (P : Nat → Nat) (m n c : Nat) : Prop := (∀ k, k < c → P k + m ≤ n) ∧ ∀ k, k + 1 < c → P k < P (k + 1)
theorem tw_sum {P : Nat → Nat} {m n c : Nat} (h : tw_up P m n c) : ∀ k, k ≤ c →
    (tw_ap P m k).1 ≤ k ∧ (tw_ap P m k).2 ≤ (tw_cv P m k).2 ∧ (tw_cv P m k).1 ≤ (tw_cv P m k).2 ∧ (tw_cv P m k).2 ≤ n ∧
    (tw_ap P m k).1 * m + (tw_cv P m k).2 ≤ (tw_cv P m k).1 + (tw_ap P m k).2 ∧ (∀ j, k = j + 1 → (tw_cv P m k).2 = P j + m) ∧
    (0 < k → 1 ≤ (tw_ap P m k).1 ∧ m ≤ (tw_cv P m k).1) ∧ (k < c → (tw_cv P m k).2 ≤ P k + m) := by
  intro k
  induction k with
  | zero => exact fun _ => ⟨Nat.le_refl 0, Nat.le_refl 0, Nat.le_refl 0, Nat.zero_le n, by show 0 * m + 0 ≤ 0 + 0; omega, fun j hj => absurd hj (by omega), fun z => absurd z (by omega), fun _ => Nat.zero_le _⟩
  | succ k ih =>
    intro hk
    obtain ⟨i1, i2, i3, i4, i5, i6, i7, i8⟩ := ih (by omega)
    have j8 := i8 (by omega)
    have hn := h.1 k (by omega)
    have hx : k + 1 < c → (tw_cv P m (k + 1)).2 ≤ P (k + 1) + m := by
      intro z
      have g := h.2 k z
      show P k + m ≤ P (k + 1) + m
      omega
    have hz : 0 < k ∨ k = 0 := by omega
    by_cases hc : P k < (tw_ap P m k).2
    · rw [tw_ap_s1 hc, tw_cv_s]
      rw [tw_cv_s] at hx
      have h0 : 0 < k := by
        rcases hz with z | z
        · exact z
        · rw [z] at hc
          exact absurd hc (Nat.not_lt_zero _)
      obtain ⟨j7, k7⟩ := i7 h0
      generalize (tw_ap P m k).1 * m = am at *
      generalize (tw_ap P m k).1 = a1 at *
      generalize (tw_ap P m k).2 = a2 at *
      generalize (tw_cv P m k).1 = c1 at *
      generalize (tw_cv P m k).2 = c2 at *
      dsimp only at hx ⊢
      refine ⟨by omega, by omega, by omega, hn, by omega, fun j hj => ?_, fun _ => ⟨j7, by omega⟩, hx⟩
      have e : j = k := by omega
      rw [e]
    · rw [tw_ap_s2 hc, tw_cv_s]
      rw [tw_cv_s] at hx
      dsimp only at hx ⊢
      rw [Nat.succ_mul]
      have h0 : m ≤ (tw_cv P m k).1 + P k + m - max (P k) (tw_cv P m k).2 := by
        rcases hz with z | z
        · have g := (i7 z).2
          omega
        · rw [z]
          show m ≤ 0 + P 0 + m - max (P 0) 0
          omega
      generalize (tw_ap P m k).1 * m = am at *
      generalize (tw_ap P m k).1 = a1 at *
      generalize (tw_ap P m k).2 = a2 at *
      generalize (tw_cv P m k).1 = c1 at *
      generalize (tw_cv P m k).2 = c2 at *
      refine ⟨by omega, by omega, by omega, hn, by omega, fun j hj => ?_, fun _ => ⟨by omega, h0⟩, hx⟩
      have e : j = k := by omega
      rw [e]
end
section
/-! the picture, and one turn -/
def tw_P (pl : Nat → Int32) (k : Nat) : Nat := (pl k).toNatClampNeg
/-- c places are found, all true -/
def tw_SR (p t pl : Nat → Int32) (m n c : Nat) : Prop :=
  c ≤ 48 ∧ (m = 0 → c = 0) ∧ (∀ k, k < c → pl k = nI (tw_P pl k)) ∧ (∀ k, k < c → ∀ i, i < m → p i = t (i + tw_P pl k)) ∧ tw_up (tw_P pl) m n c
/-- the object between two turns -/
def tw_K (fm fn se co : Int32) (p t pl : Nat → Int32) : Prop :=
  ∃ m n, fm = nI m ∧ fn = nI n ∧ m ≤ 16 ∧ n ≤ 48 ∧ (se = 0 ∨ (¬ se = 0 ∧ ∃ c, co = nI c ∧ tw_SR p t pl m n c))
theorem tw_K_0 {m n : Nat} {co : Int32} {p t pl : Nat → Int32} (hm : m ≤ 16) (hn : n ≤ 48) : tw_K (nI m) (nI n) 0 co p t pl :=
  ⟨m, n, rfl, rfl, hm, hn, Or.inl rfl⟩
section
variable {fm fn cut turn fc ft se co : Int32} {p t w pl bo fl : Nat → Int32} {m n : Nat}
theorem tw_fp {post : Int32 → St1 → Prop} (hm : m ≤ 16) (hn : n + m ≤ 48) (H : ∀ t', post (nI (n + m)) (nI m, nI (n + m), cut, turn, fc, ft, 0, co, p, t', w, pl, bo, fl)) :
    ∃ f, wX_feedPattern_19 post (nI m) (nI n) cut turn fc ft se co f 0 p t w pl bo fl :=
  pk_loop (fun f i s => wX_feedPattern_19 post (nI m) (nI n) cut turn fc ft se co f (nI i) p s w pl bo fl) (fun _ _ => True) m 0 t (by omega) trivial
    (fun f s _ => pk_le m m (fun _ => nm_r (nI_add n m) (H s)) (fun z => absurd z (by omega)))
    (fun f i s hi _ hw => pk_le m i (fun z => absurd z (by omega)) (fun _ => ⟨pk_in i 16 (by omega), pk_in (n + i) 48 (by omega) (nI_add n i), nm_e (nm_r (nI_1 i) (hw _ trivial))⟩))
theorem tw_feedP {post : Int32 → St1 → Prop} (hm : m ≤ 16) (hn : n ≤ 48) (H0 : ∀ r, post r (nI m, nI n, cut, turn, fc, ft, se, co, p, t, w, pl, bo, fl))
    (H : n + m ≤ 48 → ∀ r t', post r (nI m, nI (n + m), cut, turn, fc, ft, 0, co, p, t', w, pl, bo, fl)) :
    wpX_feedPattern post (nI m, nI n, cut, turn, fc, ft, se, co, p, t, w, pl, bo, fl) := by
  refine pk_le (n + m) 48 (fun z => tw_fp hm z (fun t' => H z _ t')) (fun z => H0 _) (nI_add n m) rfl
theorem tw_bad {post : Int32 → Prop} {x : Int32} (h0 : post 0) (h1 : post 1) : wpX_badLetter post (fm, fn, cut, turn, fc, ft, se, co, p, t, w, pl, bo, fl) x :=
  br_c (fun _ => h1) (fun _ => br_c (fun _ => h0) (fun _ => h1))
theorem tw_feed {post : Int32 → St1 → Prop} {x : Int32} (hn : n ≤ 48) (H0 : ∀ r, post r (fm, nI n, cut, turn, fc, ft, se, co, p, t, w, pl, bo, fl))
    (H : n + 1 ≤ 48 → ∀ r t', post r (fm, nI (n + 1), cut, turn, fc, ft, 0, co, p, t', w, pl, bo, fl)) :
    wpX_feed post (fm, nI n, cut, turn, fc, ft, se, co, p, t, w, pl, bo, fl) x := by
  unfold wpX_feed
  refine tw_bad ?_ ?_
  · exact br_t rfl (pk_eq n 48 (fun _ => H0 _) (fun z => ⟨pk_in n 48 (by omega), nm_e (nm_r (nI_1 n) (H (by omega) _ _))⟩))
  · exact br_f (by decide) (H0 _)
theorem tw_pattern {post : Int32 → St1 → Prop} {x : Int32} (hm : m ≤ 16) (H0 : ∀ r, post r (nI m, fn, cut, turn, fc, ft, se, co, p, t, w, pl, bo, fl))
    (H : m + 1 ≤ 16 → ∀ r p', post r (nI (m + 1), fn, cut, turn, fc, ft, 0, co, p', t, w, pl, bo, fl)) :
    wpX_pattern post (nI m, fn, cut, turn, fc, ft, se, co, p, t, w, pl, bo, fl) x := by
  unfold wpX_pattern
  refine tw_bad ?_ ?_
  · exact br_t rfl (pk_eq m 16 (fun _ => H0 _) (fun z => ⟨pk_in m 16 (by omega), nm_e (nm_r (nI_1 m) (H (by omega) _ _))⟩))
  · exact br_f (by decide) (H0 _)
theorem tw_turn {post : St1 → Prop} {x1 x2 : Int32} (h : tw_K fm fn se co p t pl)
    (H : ∀ fm fn cut turn fc ft se co p t w pl bo fl, tw_K fm fn se co p t pl → post (fm, fn, cut, turn, fc, ft, se, co, p, t, w, pl, bo, fl)) :
    wpL_turn post (fm, fn, cut, turn, fc, ft, se, co, p, t, w, pl, bo, fl) x1 x2 := by
  have hK := h
  obtain ⟨m, n, rfl, rfl, hm, hn, hs⟩ := h
  have hE : ∀ r : Int32, post (nI m, nI n, cut, turn, fc, ft, se, co, p, t, w, pl, bo, fl) := fun _ => H _ _ _ _ _ _ _ _ _ _ _ _ _ _ hK
  unfold wpL_turn
  refine nm_e (br_c (fun _ => br_c (fun _ => ?_) (fun _ => br_c (fun _ => br_c (fun _ => ?_) (fun _ => ?_)) (fun _ => ?_))) (fun _ => ?_))
  · exact H _ _ _ _ _ _ _ _ _ _ _ _ _ _ (tw_K_0 (m := 0) (by omega) hn)
  · exact H _ _ _ _ _ _ _ _ _ _ _ _ _ _ (tw_K_0 (n := 0) hm (by omega))
  · exact tw_feedP hm hn hE (fun z _ _ => H _ _ _ _ _ _ _ _ _ _ _ _ _ _ (tw_K_0 hm z))
  · exact tw_feed hn hE (fun z _ _ => H _ _ _ _ _ _ _ _ _ _ _ _ _ _ (tw_K_0 hm z))
  · exact tw_pattern hm hE (fun z _ _ => H _ _ _ _ _ _ _ _ _ _ _ _ _ _ (tw_K_0 z hn))
end
end
section
/-! rotateInto, findEnd, cutWord, periodic, rightDifference, leftFits, search -/
theorem tw_neg {k : Nat} (hk : k < 2 ^ 31) : (-1 : Int32) < nI k := by
  rw [Int32.lt_iff_toInt_lt, nI_toInt hk]
  have e : (-1 : Int32).toInt = -1 := by decide
  rw [e]
  omega
section
variable {fm fn cut turn fc ft se co : Int32} {p t w pl bo fl : Nat → Int32} {m n b q j kn : Nat}
theorem tw_rot {post : St1 → Prop} {i : Nat} (hm : m ≤ 16) (hi : i < m) (H : ∀ w' : Nat → Int32, (i = 0 → ∀ k, k < m → w' k = p k) → post (nI m, fn, cut, turn, fc, ft, se, co, p, t, w', pl, bo, fl)) :
    wpX_rotateInto post (nI m, fn, cut, turn, fc, ft, se, co, p, t, w, pl, bo, fl) (nI i) := by
  refine pk_loop (fun f k s => wX_rotateInto_2 post (nI i) (nI m) fn cut turn fc ft se co f (nI k) p t s pl bo fl) (fun k s => i = 0 → ∀ j, j < k → s j = p j) m 0 w (by omega) (fun _ j hj => absurd hj (by omega)) ?_ ?_
  · intro f s h
    exact pk_le m m (fun _ => H s h) (fun z => absurd z (by omega))
  · intro f k s hk h hw
    refine pk_le m k (fun z => absurd z (by omega)) (fun _ => nm_r (nI_add i k) (pk_le m (i + k) (fun z => ⟨pk_in (i + k - m) 16 (by omega) (pk_sub z), pk_in k 16 (by omega), nm_e (nm_r (nI_1 k) (hw _ ?_))⟩) (fun z => ⟨pk_in (i + k) 16 (by omega), pk_in k 16 (by omega), nm_e (nm_r (nI_1 k) (hw _ ?_))⟩)))
    · intro h0
      exact absurd z (by omega)
    · intro h0 j hj
      rw [nI_clamp (show k < 2 ^ 31 by omega), nI_clamp (show i + k < 2 ^ 31 by omega)]
      by_cases e : j = k
      · rw [e, pk_us, h0, Nat.zero_add]
      · rw [pk_un e]
        exact h h0 j (by omega)
theorem tw_sm {post : Int32 → Prop} {v : Nat → Int32} {i j : Nat} {o : Int32} (h1 : tw_y o v i < tw_y o v j → post 1) (h0 : ¬ tw_y o v i < tw_y o v j → post 0) :
    wpX_smaller post (fm, fn, cut, turn, fc, ft, se, co, p, t, w, pl, bo, fl) (v i) (v j) o := by
  unfold tw_y at h1 h0
  refine br_c (fun e => ?_) (fun e => ?_)
  · rw [if_pos e, if_pos e] at h1 h0
    refine br_c (fun g => h0 ?_) (fun g => h1 ?_)
    · have g' := Int32.le_iff_toInt_le.mp g
      omega
    · have g' : ¬ (v j).toInt ≤ (v i).toInt := fun z => g (Int32.le_iff_toInt_le.mpr z)
      omega
  · rw [if_neg e, if_neg e] at h1 h0
    refine br_c (fun g => h0 ?_) (fun g => h1 ?_)
    · have g' := Int32.le_iff_toInt_le.mp g
      omega
    · have g' : ¬ (v i).toInt ≤ (v j).toInt := fun z => g (Int32.le_iff_toInt_le.mpr z)
      omega
theorem tw_end {post : St1 → Prop} {o : Int32} (h1 : 1 ≤ m) (hm : m ≤ 16) (H : ∀ b q, tw_FE w m b q → post (nI m, fn, cut, turn, nI b, nI q, se, co, p, t, w, pl, bo, fl)) :
    wpX_findEnd post (nI m, fn, cut, turn, fc, ft, se, co, p, t, w, pl, bo, fl) o := by
  refine lp5 (fun f b o' k q r => wX_findEnd_13 post o (nI m) fn cut turn fc ft se co p t w pl bo fl f (nI b) (nI o') (nI k) (nI q) (nI r)) (fun b o' k q r => tw_fe (tw_y o w) m b o' k q ∧ r + 1 ≤ b + o' + k) (fun _ _ _ _ r => 64 - r) ?_ 0 1 0 1 0 ⟨tw_fe_0 h1, by omega⟩
  intro f b o' k q r hI hw
  obtain ⟨h, hr⟩ := hI
  obtain ⟨b1, b2, b3, b4⟩ := tw_fe_b h
  refine pk_le 64 r (fun z => absurd z (by omega)) (fun _ => ?_)
  refine pk_le m (o' + k) (fun z => H b q (tw_fe_x (tw_yeq o w) h z)) (fun z => ?_) rfl (nI_add o' k)
  refine ⟨pk_in (o' + k) 16 (by omega) (nI_add o' k), nm_r (e' := w (o' + k)) (by rw [nI_add, nI_clamp (by omega)]) ⟨pk_in (b + k) 16 (by omega) (nI_add b k), nm_r (e' := w (b + k)) (by rw [nI_add, nI_clamp (by omega)]) ?_⟩⟩
  refine br_c (fun e => ?_) (fun e => ?_)
  · have e' := (tw_yeq o w _ _).mpr e
    exact nm_r (nI_1 k) (pk_eq (k + 1) q (fun z2 => nm_r (nI_add o' q) (nm_r (nI_1 r) (hw b (o' + q) 0 q (r + 1) ⟨tw_fe_e2 h z e' z2, by omega⟩ (by omega)))) (fun z2 => nm_r (nI_1 r) (hw b o' (k + 1) q (r + 1) ⟨tw_fe_e1 h z e' z2, by omega⟩ (by omega))))
  · have e' : ¬ tw_y o w (o' + k) = tw_y o w (b + k) := fun g => e ((tw_yeq o w _ _).mp g)
    refine tw_sm (o := o) (fun g => ?_) (fun g => ?_)
    · exact br_f (by decide) (nm_r (e' := nI (o' + k + 1)) (by rw [nI_add, nI_1]) (nm_r (pk_sub (show b ≤ o' + k + 1 by omega)) (nm_r (nI_1 r) (hw b (o' + k + 1) 0 (o' + k + 1 - b) (r + 1) ⟨tw_fe_s h z g, by omega⟩ (by omega)))))
    · exact br_t rfl (nm_r (nI_1 o') (nm_r (nI_1 r) (hw o' (o' + 1) 0 1 (r + 1) ⟨tw_fe_g h z (by omega), by omega⟩ (by omega))))
theorem tw_cut {post : St1 → Prop} (h1 : 1 ≤ m) (hm : m ≤ 16) (H : ∀ b q fc' ft', tw_FE w m b q → post (nI m, fn, nI b, nI q, fc', ft', se, co, p, t, w, pl, bo, fl)) :
    wpX_cutWord post (nI m, fn, cut, turn, fc, ft, se, co, p, t, w, pl, bo, fl) := by
  unfold wpX_cutWord
  refine tw_end h1 hm (fun b q h => ?_)
  refine tw_end h1 hm (fun b' q' h' => ?_)
  exact br_c (fun _ => H b q _ _ h) (fun _ => H b' q' _ _ h')
theorem tw_perd {post : Int32 → Prop} (hm : m ≤ 16) (hF : b + q ≤ m) (H0 : post 0) (H1 : (∀ i, i < b → w i = w (i + q)) → post 1) :
    wpX_periodic post (nI m, fn, nI b, nI q, fc, ft, se, co, p, t, w, pl, bo, fl) := by
  refine br_t (by rw [nI_add]; exact nI_le hF (by omega)) ?_
  refine pk_loop (σ := Unit) (fun f i _ => wX_periodic_20 post (nI m) fn (nI b) (nI q) fc ft se co p t w pl bo fl f (nI i)) (fun i _ => ∀ j, j < i → w j = w (j + q)) b 0 () (by omega) (fun j hj => absurd hj (by omega)) ?_ ?_
  · intro f _ h
    exact pk_le b b (fun _ => H1 h) (fun z => absurd z (by omega))
  · intro f i _ hi h hw
    refine pk_le b i (fun z => absurd z (by omega)) (fun _ => ⟨pk_in i 16 (by omega), pk_in (i + q) 16 (by omega) (nI_add i q), ?_⟩)
    rw [nI_add, nI_clamp (show i < 2 ^ 31 by omega), nI_clamp (show i + q < 2 ^ 31 by omega)]
    exact br_c (fun e => nm_r (nI_1 i) (hw () (lt_s h e))) (fun _ => H0)
theorem tw_rd20 {post : Int32 → Prop} {s : Nat} (hm : m ≤ 16) (hn : n ≤ 48) (hj : j + m ≤ n) (hs : s ≤ m) (H : ∀ i, s ≤ i → i ≤ m → (∀ l, s ≤ l → l < i → w l = t (l + j)) → post (nI i)) :
    ∃ f, wX_rightDifference_20 post (nI j) (nI m) fn cut turn fc ft se co p t w pl bo fl f (nI s) 0 := by
  refine lp2 (fun f i k => wX_rightDifference_20 post (nI j) (nI m) fn cut turn fc ft se co p t w pl bo fl f (nI i) (nI k)) (fun i k => s ≤ i ∧ i ≤ m ∧ k ≤ 16 ∧ ∀ l, s ≤ l → l < i → w l = t (l + j)) (fun _ k => 16 - k) ?_ s 0 ⟨by omega, hs, by omega, fun l h1 h2 => absurd h2 (by omega)⟩
  intro f i k hI hw
  obtain ⟨a1, a2, a3, a4⟩ := hI
  refine pk_le 16 k (fun _ => H i a1 a2 a4) (fun z => pk_le m i (fun _ => H i a1 a2 a4) (fun z2 => ⟨pk_in i 16 (by omega), pk_in (i + j) 48 (by omega) (nI_add i j), ?_⟩))
  rw [nI_add, nI_clamp (show i < 2 ^ 31 by omega), nI_clamp (show i + j < 2 ^ 31 by omega)]
  refine br_c (fun e => nm_r (nI_1 i) (nm_r (nI_1 k) (hw (i + 1) (k + 1) ⟨by omega, by omega, by omega, fun l h1 h2 => ?_⟩ (by omega)))) (fun _ => H i a1 a2 a4)
  by_cases g : l = i
  · rw [g]
    exact e
  · exact a4 l h1 (by omega)
theorem tw_rd {post : Int32 → Prop} (hm : m ≤ 16) (hn : n ≤ 48) (hj : j + m ≤ n) (hb : b ≤ m) (hk : kn ≤ m) (H : ∀ i, b ≤ i → kn ≤ i → i ≤ m → (∀ l, b ≤ l → kn ≤ l → l < i → w l = t (l + j)) → post (nI i)) :
    wpX_rightDifference post (nI m, fn, nI b, turn, fc, ft, se, co, p, t, w, pl, bo, fl) (nI j) (nI kn) :=
  pk_le b kn (fun z => tw_rd20 hm hn hj hk (fun i h1 h2 h3 => H i (by omega) h1 h2 (fun l g1 g2 g3 => h3 l g2 g3)))
    (fun z => tw_rd20 hm hn hj hb (fun i h1 h2 h3 => H i h1 (by omega) h2 (fun l g1 g2 g3 => h3 l g1 g3)))
theorem tw_lf {post : Int32 → Prop} (hm : m ≤ 16) (hn : n ≤ 48) (hj : j + m ≤ n) (hb : b ≤ m) (hk : kn ≤ m) (H0 : post 0) (H1 : (∀ l, kn ≤ l → l < b → w l = t (l + j)) → post 1) :
    wpX_leftFits post (nI m, fn, nI b, turn, fc, ft, se, co, p, t, w, pl, bo, fl) (nI j) (nI kn) := by
  refine nm_r (e' := tw_mI b) rfl ?_
  refine lp1 (fun f d => wX_leftFits_7 post (nI j) (nI kn) (nI m) fn (nI b) turn fc ft se co p t w pl bo fl f (tw_mI d)) (fun d => d ≤ b ∧ ∀ l, d ≤ l → kn ≤ l → l < b → w l = t (l + j)) (fun d => d) ?_ b ⟨by omega, fun l h1 _ h2 => absurd h2 (by omega)⟩
  intro f d hI hw
  obtain ⟨a1, a2⟩ := hI
  rcases d with _ | d
  · exact br_t (by rw [tw_mI_0]; exact tw_neg (by omega)) (H1 (fun l h1 h2 => a2 l (by omega) h1 h2))
  · refine pk_lt d kn (fun z => H1 (fun l h1 h2 => a2 l (by omega) h1 h2)) (fun z => ⟨pk_in d 16 (by omega) (tw_mI_s d), pk_in (d + j) 48 (by omega) (by rw [tw_mI_s, nI_add]), ?_⟩) (tw_mI_s d) rfl
    have e1 : (tw_mI (d + 1)).toNatClampNeg = d := by rw [tw_mI_s, nI_clamp (by omega)]
    have e2 : (tw_mI (d + 1) + nI j).toNatClampNeg = d + j := by rw [tw_mI_s, nI_add, nI_clamp (by omega)]
    rw [e1, e2]
    refine br_c (fun e => nm_r (tw_mI_d d) (hw d ⟨by omega, fun l h1 h2 h3 => ?_⟩ (by omega))) (fun _ => H0)
    by_cases g : l = d
    · rw [g]
      exact e
    · exact a2 l (by omega) h2 h3
/-- what search answers -/
def tw_sr (w t : Nat → Int32) (m n j0 : Nat) (r : Int32) : Prop := r = -1 ∨ ∃ j, r = nI j ∧ j0 ≤ j ∧ j + m ≤ n ∧ ∀ i, i < m → w i = t (i + j)
theorem tw_s57 {post : Int32 → Prop} {x2 : Int32} {sh j0 : Nat} (hm1 : 1 ≤ m) (hm : m ≤ 16) (hn : n ≤ 48) (hF : tw_FE w m b q) (hj : j0 ≤ 49)
    (hx : (x2 = 0 ∧ sh ≤ 17) ∨ (¬ x2 = 0 ∧ sh = q ∧ ∀ i, i < b → w i = w (i + q))) (H : ∀ r, tw_sr w t m n j0 r → post r) :
    ∃ f, wX_search_57 post x2 (nI sh) (nI m) (nI n) (nI b) (nI q) fc ft se co p t w pl bo fl f 0 (nI j0) 0 := by
  have hbq := hF.2.1
  have hq1 := hF.1
  refine lp3 (fun f kn j r => wX_search_57 post x2 (nI sh) (nI m) (nI n) (nI b) (nI q) fc ft se co p t w pl bo fl f (nI kn) (nI j) (nI r)) (fun kn j r => kn ≤ m ∧ j0 ≤ j ∧ j ≤ 100 ∧ r ≤ 49 ∧ ∀ i, i < kn → w i = t (i + j)) (fun _ _ r => 49 - r) ?_ 0 j0 0 ⟨by omega, by omega, by omega, by omega, fun i hi => absurd hi (by omega)⟩
  intro f kn j r hI hw
  obtain ⟨a1, a2, a3, a4, a5⟩ := hI
  refine pk_lt 48 r (fun _ => H _ (Or.inl rfl)) (fun z1 => ?_)
  refine pk_lt n (j + m) (fun _ => H _ (Or.inl rfl)) (fun z2 => ?_) rfl (nI_add j m)
  refine tw_rd hm hn z2 (show b ≤ m by omega) a1 (fun i b1 b2 b3 b4 => ?_)
  refine pk_le m i (fun z3 => ?_) (fun z3 => ?_)
  · have hi : i = m := by omega
    rw [hi] at b4
    refine tw_lf hm hn z2 (show b ≤ m by omega) a1 ?_ (fun hl => ?_)
    · refine br_t rfl (nm_r (nI_add j sh) ?_)
      rcases hx with ⟨x0, s1⟩ | ⟨x0, s1, s2⟩
      · exact br_t x0 (nm_r (nI_1 r) (hw 0 (j + sh) (r + 1) ⟨by omega, by omega, by omega, by omega, fun i hi => absurd hi (by omega)⟩ (by omega)))
      · have hlt := tw_FE_lt hF s2
        refine br_f x0 (nm_r (pk_sub (show sh ≤ m by omega)) (nm_r (nI_1 r) (hw (m - sh) (j + sh) (r + 1) ⟨by omega, by omega, by omega, by omega, fun i hi => ?_⟩ (by omega))))
        have e1 := tw_FE_all hF s2 i (by omega)
        have e2 : i + (j + sh) = i + q + j := by omega
        rw [e1, e2]
        by_cases g : i + q < kn
        · exact a5 (i + q) g
        · exact b4 (i + q) (by omega) (by omega) (by omega)
    · refine br_f (by decide) (H _ (Or.inr ⟨j, rfl, a2, z2, fun l hl' => ?_⟩))
      by_cases g : l < kn
      · exact a5 l g
      · by_cases g2 : l < b
        · exact hl l (by omega) g2
        · exact b4 l (by omega) (by omega) hl'
  · exact nm_r (e' := nI (j + i - b + 1)) (by rw [nI_add, pk_sub (by omega), nI_1]) (nm_r (nI_1 r) (hw 0 (j + i - b + 1) (r + 1) ⟨by omega, by omega, by omega, by omega, fun i hi => absurd hi (by omega)⟩ (by omega)))
theorem tw_search {post : Int32 → Prop} {x : Int32} {j0 : Nat} (hm1 : 1 ≤ m) (hm : m ≤ 16) (hn : n ≤ 48) (hF : tw_FE w m b q) (hj : j0 ≤ 49) (hx : x = nI j0) (H : ∀ r, tw_sr w t m n j0 r → post r) :
    wpX_search post (nI m, nI n, nI b, nI q, fc, ft, se, co, p, t, w, pl, bo, fl) x := by
  subst hx
  have hbq := hF.2.1
  unfold wpX_search
  refine tw_perd hm hbq ?_ (fun hp => ?_)
  · refine nm_r (pk_sub (show b ≤ m by omega)) (br_t rfl (pk_le b (m - b) (fun z => ?_) (fun z => ?_)))
    · exact nm_r (nI_1 (m - b)) (tw_s57 hm1 hm hn hF hj (Or.inl ⟨rfl, by omega⟩) H)
    · exact nm_r (nI_1 b) (tw_s57 hm1 hm hn hF hj (Or.inl ⟨rfl, by omega⟩) H)
  · exact nm_r (pk_sub (show b ≤ m by omega)) (br_f (by decide) (tw_s57 hm1 hm hn hF hj (Or.inr ⟨by decide, rfl, hp⟩) H))
end
end
section
/-! findAll, occurrences, apart, covered, next -/
theorem tw_SR_0 {p t pl : Nat → Int32} {m n : Nat} : tw_SR p t pl m n 0 :=
  ⟨by omega, fun _ => rfl, fun k hk => absurd hk (by omega), fun k hk => absurd hk (by omega), fun k hk => absurd hk (by omega), fun k hk => absurd hk (by omega)⟩
theorem tw_P_s {pl : Nat → Int32} {c j : Nat} (hj : j < 2 ^ 31) : tw_P (upd pl c (nI j)) c = j := by
  unfold tw_P
  rw [pk_us, nI_clamp hj]
theorem tw_P_n {pl : Nat → Int32} {c k : Nat} {x : Int32} (h : k ≠ c) : tw_P (upd pl c x) k = tw_P pl k := by
  unfold tw_P
  rw [pk_un h]
theorem tw_SR_s {p t pl : Nat → Int32} {m n c j : Nat} (h : tw_SR p t pl m n c) (hc : c < 48) (hm : 1 ≤ m) (hn : n ≤ 48) (h1 : ∀ k, k + 1 = c → tw_P pl k < j) (h2 : j + m ≤ n) (h3 : ∀ i, i < m → p i = t (i + j)) : tw_SR p t (upd pl c (nI j)) m n (c + 1) := by
  obtain ⟨a1, a2, a3, a4, a5, a6⟩ := h
  have hj : j < 2 ^ 31 := by omega
  refine ⟨by omega, fun z => absurd z (by omega), fun k hk => ?_, fun k hk => ?_, fun k hk => ?_, fun k hk => ?_⟩
  · by_cases e : k = c
    · rw [e, tw_P_s hj, pk_us]
    · rw [tw_P_n e, pk_un e]
      exact a3 k (by omega)
  · by_cases e : k = c
    · rw [e, tw_P_s hj]
      exact h3
    · rw [tw_P_n e]
      exact a4 k (by omega)
  · by_cases e : k = c
    · rw [e, tw_P_s hj]
      exact h2
    · rw [tw_P_n e]
      exact a5 k (by omega)
  · rw [tw_P_n (show k ≠ c by omega)]
    by_cases e : k + 1 = c
    · rw [e, tw_P_s hj]
      exact h1 k e
    · rw [tw_P_n e]
      exact a6 k (by omega)
section
variable {fm fn cut turn fc ft se co : Int32} {p t w pl bo fl : Nat → Int32} {m n b q c : Nat}
theorem tw_fa37 {post : St1 → Prop} {x : Int32} (hm1 : 1 ≤ m) (hm : m ≤ 16) (hn : n ≤ 48) (hF : tw_FE w m b q) (hwp : ∀ k, k < m → w k = p k)
    (H : ∀ c pl', tw_SR p t pl' m n c → post (nI m, nI n, nI b, nI q, fc, ft, 1, nI c, p, t, w, pl', bo, fl)) (hx : tw_sr w t m n 0 x) :
    ∃ f, wX_findAll_37 post (nI m) (nI n) (nI b) (nI q) fc ft se f x 0 0 p t w pl bo fl := by
  refine lp3 (fun f x c s => wX_findAll_37 post (nI m) (nI n) (nI b) (nI q) fc ft se f x (nI c) (nI c) p t w s bo fl) (fun x c s => tw_SR p t s m n c ∧ (x = -1 ∨ ∃ j, x = nI j ∧ (∀ k, k + 1 = c → tw_P s k < j) ∧ j + m ≤ n ∧ ∀ i, i < m → w i = t (i + j))) (fun _ c _ => 48 - c) ?_ x 0 pl ⟨tw_SR_0, ?_⟩
  · intro f x c s hI hw
    obtain ⟨hS, hx⟩ := hI
    have hc := hS.1
    refine pk_le 48 c (fun _ => H c s hS) (fun z => ?_)
    rcases hx with hx | ⟨j, hx, j1, j2, j3⟩
    · subst hx
      exact br_t (by decide) (H c s hS)
    · subst hx
      refine br_f (nI_pos (by omega)) ⟨pk_in c 48 (by omega), nm_r (e' := upd s c (nI j)) (by rw [nI_clamp (by omega)]) (nm_r (nI_1 c) ?_)⟩
      have hS' := tw_SR_s hS z hm1 hn j1 j2 (fun i hi => (hwp i hi).symm.trans (j3 i hi))
      refine tw_search hm1 hm hn hF (show j + 1 ≤ 49 by omega) (nI_1 j) (fun r hr => nm_r (nI_1 c) (hw r (c + 1) _ ⟨hS', ?_⟩ (by omega)))
      rcases hr with hr | ⟨j', r1, r2, r3, r4⟩
      · exact Or.inl hr
      · refine Or.inr ⟨j', r1, fun k hk => ?_, r3, r4⟩
        have e : k = c := by omega
        rw [e, tw_P_s (by omega)]
        omega
  · rcases hx with hx | ⟨j, r1, r2, r3, r4⟩
    · exact Or.inl hx
    · exact Or.inr ⟨j, r1, fun k hk => absurd hk (by omega), r3, r4⟩
theorem tw_findAll {post : St1 → Prop} (hm : m ≤ 16) (hn : n ≤ 48) (hs : se = 0 ∨ (¬ se = 0 ∧ ∃ c, co = nI c ∧ tw_SR p t pl m n c))
    (H : ∀ cut' turn' fc' ft' se' c w' pl', ¬ se' = 0 → tw_SR p t pl' m n c → post (nI m, nI n, cut', turn', fc', ft', se', nI c, p, t, w', pl', bo, fl)) :
    wpX_findAll post (nI m, nI n, cut, turn, fc, ft, se, co, p, t, w, pl, bo, fl) := by
  rcases hs with hs | ⟨h0, c, hc, hS⟩
  · subst hs
    unfold wpX_findAll
    refine br_t rfl (pk_le m 0 (fun z => ?_) (fun z => ?_))
    · exact H _ _ _ _ 1 0 _ _ (by decide) tw_SR_0
    · refine tw_rot (i := 0) hm z (fun w' hw' => ?_)
      refine tw_cut z hm (fun b q fc' ft' hF => ?_)
      refine tw_search (j0 := 0) z hm hn hF (by omega) rfl (fun r hr => ?_)
      exact tw_fa37 z hm hn hF (hw' rfl) (fun c pl' hS => H _ _ _ _ 1 c _ _ (by decide) hS) hr
  · subst hc
    exact br_f h0 (H _ _ _ _ se c _ _ h0 hS)
theorem tw_faN {post : St1 → Prop} (h0 : ¬ se = 0) (H : post (fm, fn, cut, turn, fc, ft, se, co, p, t, w, pl, bo, fl)) :
    wpX_findAll post (fm, fn, cut, turn, fc, ft, se, co, p, t, w, pl, bo, fl) := br_f h0 H
theorem tw_apart {post : Int32 → St1 → Prop} (hm : m ≤ 16) (hn : n ≤ 48) (h0 : ¬ se = 0) (hS : tw_SR p t pl m n c)
    (H : post (nI (tw_ap (tw_P pl) m c).1) (nI m, nI n, cut, turn, fc, ft, se, nI c, p, t, w, pl, bo, fl)) :
    wpX_apart post (nI m, nI n, cut, turn, fc, ft, se, nI c, p, t, w, pl, bo, fl) := by
  unfold wpX_apart
  refine tw_faN h0 ?_
  have hc := hS.1
  refine pk_loop (σ := Unit) (fun f k _ => wX_apart_10 post (nI m) (nI n) cut turn fc ft se (nI c) p t w pl bo fl f (nI (tw_ap (tw_P pl) m k).1) (nI (tw_ap (tw_P pl) m k).2) (nI k)) (fun _ _ => True) c 0 () (by omega) trivial ?_ ?_
  · intro f _ _
    exact pk_le c c (fun _ => H) (fun z => absurd z (by omega))
  · intro f k _ hk _ hw
    have hw' : wX_apart_10 post (nI m) (nI n) cut turn fc ft se (nI c) p t w pl bo fl f (nI (tw_ap (tw_P pl) m (k + 1)).1) (nI (tw_ap (tw_P pl) m (k + 1)).2) (nI (k + 1)) := hw () trivial
    obtain ⟨u1, u2, u3, u4, u5, u6, u7, u8⟩ := tw_sum hS.2.2.2.2 k (by omega)
    have hP := hS.2.2.2.2.1 k hk
    have e : pl (nI k).toNatClampNeg = nI (tw_P pl k) := by rw [nI_clamp (by omega)]; exact hS.2.2.1 k hk
    refine pk_le c k (fun z => absurd z (by omega)) (fun _ => ⟨pk_in k 48 (by omega), ?_⟩)
    rw [e]
    refine pk_lt (tw_P pl k) (tw_ap (tw_P pl) m k).2 (fun z => nm_r (nI_1 k) ?_) (fun z => nm_r (nI_1 _) ⟨pk_in k 48 (by omega), nm_r (nI_add _ _) (nm_r (nI_1 k) ?_)⟩)
    · rw [tw_ap_s1 z] at hw'
      exact hw'
    · rw [tw_ap_s2 (show ¬ tw_P pl k < (tw_ap (tw_P pl) m k).2 by omega)] at hw'
      exact hw'
theorem tw_covered {post : Int32 → St1 → Prop} (hm : m ≤ 16) (hn : n ≤ 48) (h0 : ¬ se = 0) (hS : tw_SR p t pl m n c)
    (H : post (nI (tw_cv (tw_P pl) m c).1) (nI m, nI n, cut, turn, fc, ft, se, nI c, p, t, w, pl, bo, fl)) :
    wpX_covered post (nI m, nI n, cut, turn, fc, ft, se, nI c, p, t, w, pl, bo, fl) := by
  unfold wpX_covered
  refine tw_faN h0 ?_
  have hc := hS.1
  refine pk_loop (σ := Unit) (fun f k _ => wX_covered_10 post (nI m) (nI n) cut turn fc ft se (nI c) p t w pl bo fl f (nI (tw_cv (tw_P pl) m k).1) (nI (tw_cv (tw_P pl) m k).2) (nI k)) (fun _ _ => True) c 0 () (by omega) trivial ?_ ?_
  · intro f _ _
    exact pk_le c c (fun _ => H) (fun z => absurd z (by omega))
  · intro f k _ hk _ hw
    have hw' : wX_covered_10 post (nI m) (nI n) cut turn fc ft se (nI c) p t w pl bo fl f (nI (tw_cv (tw_P pl) m (k + 1)).1) (nI (tw_cv (tw_P pl) m (k + 1)).2) (nI (k + 1)) := hw () trivial
    obtain ⟨u1, u2, u3, u4, u5, u6, u7, u8⟩ := tw_sum hS.2.2.2.2 k (by omega)
    have u8' := u8 hk
    have hP := hS.2.2.2.2.1 k hk
    rw [tw_cv_s] at hw'
    have e : pl (nI k).toNatClampNeg = nI (tw_P pl k) := by rw [nI_clamp (by omega)]; exact hS.2.2.1 k hk
    have main : ∀ z : Nat, z = max (tw_P pl k) (tw_cv (tw_P pl) m k).2 → wX_covered_38 post (wX_covered_10 post (nI m) (nI n) cut turn fc ft se (nI c) p t w pl bo fl f) (nI (tw_cv (tw_P pl) m k).1) (nI k) (nI z) (nI m) (nI n) cut turn fc ft se (nI c) p t w pl bo fl := by
      intro z hz
      unfold wX_covered_38
      rw [e]
      refine ⟨pk_in k 48 (by omega), nm_r (e' := nI ((tw_cv (tw_P pl) m k).1 + tw_P pl k + m - z)) (by rw [nI_add, nI_add, pk_sub (by omega)]) ⟨pk_in k 48 (by omega), nm_r (nI_add _ _) (nm_r (nI_1 k) ?_)⟩⟩
      rw [hz]
      exact hw'
    refine pk_le c k (fun z => absurd z (by omega)) (fun _ => ⟨pk_in k 48 (by omega), ?_⟩)
    rw [e]
    exact pk_le (tw_P pl k) (tw_cv (tw_P pl) m k).2 (fun z => main _ (by omega)) (fun z => ⟨pk_in k 48 (by omega), main _ (by omega)⟩)
theorem tw_next {post : Int32 → St1 → Prop} {x : Int32} (h0 : ¬ se = 0) (hS : tw_SR p t pl m n c)
    (H : ∀ r, (c = 0 → r = -4) → (0 < c → ¬ nI (tw_P pl 0) < x → r = nI (tw_P pl 0)) → post r (nI m, nI n, cut, turn, fc, ft, se, nI c, p, t, w, pl, bo, fl)) :
    wpX_next post (nI m, nI n, cut, turn, fc, ft, se, nI c, p, t, w, pl, bo, fl) x := by
  unfold wpX_next
  refine tw_faN h0 ?_
  have hc := hS.1
  refine pk_loop (σ := Unit) (fun f k _ => wX_next_6 post x (nI m) (nI n) cut turn fc ft se (nI c) p t w pl bo fl f (nI k)) (fun k _ => k = 0 ∨ (0 < c ∧ nI (tw_P pl 0) < x)) c 0 () (by omega) (Or.inl rfl) ?_ ?_
  · intro f _ h
    refine pk_le c c (fun _ => H _ (fun _ => rfl) (fun g1 g2 => ?_)) (fun z => absurd z (by omega))
    rcases h with h | h
    · exact absurd h (by omega)
    · exact absurd h.2 g2
  · intro f k _ hk h hw
    have e : pl (nI k).toNatClampNeg = nI (tw_P pl k) := by rw [nI_clamp (by omega)]; exact hS.2.2.1 k hk
    refine pk_le c k (fun z => absurd z (by omega)) (fun _ => ⟨pk_in k 48 (by omega), ?_⟩)
    rw [e]
    refine br_c (fun g => nm_r (nI_1 k) (hw () (Or.inr ⟨by omega, ?_⟩))) (fun g => ⟨pk_in k 48 (by omega), H _ (fun z => absurd z (by omega)) (fun g1 g2 => ?_)⟩)
    · rcases h with h | h
      · rw [h] at g
        exact g
      · exact h.2
    · rcases h with h | h
      · rw [h]
      · exact absurd h.2 g2
end
end
section
/-! fillBorders, overlap, periods, border -/
section
variable {fm fn cut turn fc ft se co : Int32} {p t w pl bo fl : Nat → Int32} {m n : Nat}
theorem tw_fb28 {post : St1 → Prop} {J : Int32 → (Nat → Int32) → (Nat → Int32) → (Nat → Int32) → (Nat → Int32) → (Nat → Int32) → (Nat → Int32) → Prop} {i : Nat} (hi : i < 16) (hB : tw_BA p bo i)
    (H : J (nI (i + 2)) p t w pl (upd bo (i + 1) (nI (tw_be p (i + 1)))) fl) :
    ∃ f, wX_fillBorders_28 post J (nI (i + 1)) fm fn cut turn fc ft se co p t w pl bo fl f (tw_mI (tw_e p i)) 0 := by
  have ex : ∀ d, tw_mx p p i (i + 1) d → wX_fillBorders_68 post J (nI (i + 1)) (tw_mI d) fm fn cut turn fc ft se co p t w pl bo fl := by
    intro d hd
    have e := tw_be_u hd
    rw [e] at H
    exact ⟨pk_in (i + 1) 17 (by omega), nm_r (e' := upd bo (i + 1) (nI d)) (by rw [nI_clamp (by omega), tw_mI_1]) (nm_r (nI_1 (i + 1)) H)⟩
  refine lp2 (fun f d s => wX_fillBorders_28 post J (nI (i + 1)) fm fn cut turn fc ft se co p t w pl bo fl f (tw_mI d) (nI s)) (fun d s => tw_ca p p i i d ∧ d + s ≤ 16 ∧ d ≤ i) (fun d _ => d) ?_ (tw_e p i) 0 ⟨tw_ca_b p i, by have := tw_e_le p i; omega, tw_e_le p i⟩
  intro f d s hI hw
  obtain ⟨a1, a2, a3⟩ := hI
  rcases d with _ | d
  · have g := ex 0 (tw_ca_0 a1)
    exact br_c (fun _ => g) (fun _ => br_t (by decide) g)
  · refine pk_le 16 s (fun z => absurd z (by omega)) (fun _ => br_f (by rw [tw_mI_s]; exact nI_pos (by omega)) ⟨pk_in d 16 (by omega) (tw_mI_s d), pk_in i 16 hi (nI_pred i), ?_⟩)
    have e1 : (tw_mI (d + 1)).toNatClampNeg = d := by rw [tw_mI_s, nI_clamp (by omega)]
    have e2 : (nI (i + 1) - 1).toNatClampNeg = i := by rw [nI_pred, nI_clamp (by omega)]
    rw [e1, e2]
    refine br_c (fun g => ex (d + 1) (tw_ca_x a1 (by omega) g)) (fun g => ⟨pk_in d 17 (by omega) (tw_mI_s d), nm_r (hB d (by omega)) (nm_r (nI_1 s) (hw (tw_e p d) (s + 1) ⟨tw_ca_s a1 (Or.inr g), ?_, ?_⟩ ?_))⟩)
    · have g2 := tw_e_le p d
      omega
    · have g2 := tw_e_le p d
      omega
    · have g2 := tw_e_le p d
      omega
theorem tw_fill {post : St1 → Prop} (hm : m ≤ 16) (H : ∀ bo', tw_BA p bo' m → post (nI m, fn, cut, turn, fc, ft, se, co, p, t, w, pl, bo', fl)) :
    wpX_fillBorders post (nI m, fn, cut, turn, fc, ft, se, co, p, t, w, pl, bo, fl) := by
  refine nm_e ?_
  refine pk_loop (fun f k s => wX_fillBorders_9 post (nI m) fn cut turn fc ft se co f (nI k) p t w pl s fl) (fun k s => 1 ≤ k ∧ tw_BA p s (k - 1)) (m + 1) 1 (upd bo 0 (-1)) (by omega) ?_ ?_ ?_
  · refine ⟨by omega, fun k hk => ?_⟩
    have e : k = 0 := by omega
    rw [e, pk_us, tw_e_0, tw_mI_0]
  · intro f s h
    exact pk_lt m (m + 1) (fun _ => H s h.2) (fun z => absurd z (by omega))
  · intro f k s hk h hw
    rcases k with _ | i
    · exact absurd h.1 (by omega)
    · have h' : tw_BA p s i := h.2
      refine pk_lt m (i + 1) (fun z => absurd z (by omega)) (fun _ => ⟨pk_in i 17 (by omega) (nI_pred i), nm_r (e' := tw_mI (tw_e p i)) (by rw [nI_pred, nI_clamp (by omega)]; exact h' i (by omega)) ?_⟩)
      exact tw_fb28 (by omega) h' (hw _ ⟨by omega, tw_BA_s h'⟩)
theorem tw_ov47 {post : Int32 → St1 → Prop} {J : Int32 → Int32 → Prop} {i d : Nat} (hm : m ≤ 16) (hi : i < 48) (hB : tw_BA p bo m) (hd : tw_ca p t m i d) (hd1 : d ≤ m + 1)
    (H : ∀ k, tw_mx p t m (i + 1) k → J (nI k) (nI (i + 1))) :
    ∃ f, wX_overlap_47 post J (nI i) (nI m) fn cut turn fc ft se co p t w pl bo fl f (tw_mI d) 0 := by
  refine lp2 (fun f d s => wX_overlap_47 post J (nI i) (nI m) fn cut turn fc ft se co p t w pl bo fl f (tw_mI d) (nI s)) (fun d s => tw_ca p t m i d ∧ d + s ≤ 17 ∧ d ≤ m + 1) (fun d _ => d) ?_ d 0 ⟨hd, by omega, hd1⟩
  intro f d s hI hw
  obtain ⟨a1, a2, a3⟩ := hI
  rcases d with _ | d
  · have g := H 0 (tw_ca_0 a1)
    exact br_c (fun _ => nm_r (tw_mI_1 0) (nm_r (nI_1 i) g)) (fun _ => br_t (by decide) (nm_r (tw_mI_1 0) (nm_r (nI_1 i) g)))
  · have g2 := tw_e_le p d
    have e1 : (tw_mI (d + 1)).toNatClampNeg = d := by rw [tw_mI_s, nI_clamp (by omega)]
    have e2 : (nI i).toNatClampNeg = i := nI_clamp (by omega)
    refine pk_lt 16 s (fun z => absurd z (by omega)) (fun _ => br_f (by rw [tw_mI_s]; exact nI_pos (by omega)) ?_)
    rw [e1, e2]
    refine pk_eq d m (fun z => ?_) (fun z => ⟨pk_in d 16 (by omega) (tw_mI_s d), pk_in i 48 hi, ?_⟩) (tw_mI_s d) rfl
    · exact ⟨pk_in d 17 (by omega) (tw_mI_s d), nm_r (hB d (by omega)) (nm_r (nI_1 s) (hw (tw_e p d) (s + 1) ⟨tw_ca_s a1 (Or.inl (by omega)), by omega, by omega⟩ (by omega)))⟩
    · refine br_c (fun g => nm_r (tw_mI_1 (d + 1)) (nm_r (nI_1 i) (H (d + 1) (tw_ca_x a1 (by omega) g)))) (fun g => ⟨pk_in d 17 (by omega) (tw_mI_s d), nm_r (hB d (by omega)) (nm_r (nI_1 s) (hw (tw_e p d) (s + 1) ⟨tw_ca_s a1 (Or.inr g), by omega, by omega⟩ (by omega)))⟩)
theorem tw_overlap {post : Int32 → St1 → Prop} (hm : m ≤ 16) (hn : n ≤ 48) (H : ∀ k bo', tw_mx p t m n k → post (nI k) (nI m, nI n, cut, turn, fc, ft, se, co, p, t, w, pl, bo', fl)) :
    wpX_overlap post (nI m, nI n, cut, turn, fc, ft, se, co, p, t, w, pl, bo, fl) := by
  unfold wpX_overlap
  refine tw_fill hm (fun bo' hB => ?_)
  refine pk_loop (fun f i k => wX_overlap_8 post (nI m) (nI n) cut turn fc ft se co p t w pl bo' fl f (nI k) (nI i)) (fun i k => tw_mx p t m i k) n 0 0 (by omega) ⟨tw_mt_0 p t 0, by omega, fun k' _ g => g.1⟩ ?_ ?_
  · intro f k h
    refine pk_le n n (fun _ => ?_) (fun z => absurd z (by omega))
    refine pk_eq m 0 (fun z => ?_) (fun _ => H k bo' h)
    have e : k = 0 := by
      have g := h.2.1
      omega
    rw [e] at h
    exact H 0 bo' h
  · intro f i k hi h hw
    have hk := h.2.1
    have hc := tw_ca_t h
    refine pk_le n i (fun z => absurd z (by omega)) (fun _ => ?_)
    refine pk_eq k m (fun z => ?_) (fun z => ?_)
    · refine pk_eq m 0 (fun z2 => ?_) (fun z2 => ⟨pk_in m 17 (by omega), nm_r (e' := tw_mI (tw_e p m)) (by rw [nI_clamp (by omega)]; exact hB m (by omega)) ?_⟩)
      · have e : k = 0 := by omega
        rw [e] at hc
        exact tw_ov47 hm (by omega) hB hc (by omega) hw
      · rw [z] at hc
        have g := tw_e_le p m
        exact tw_ov47 hm (by omega) hB (tw_ca_s hc (Or.inl (by omega))) (by omega) hw
    · have g := tw_ov47 (fn := nI n) (cut := cut) (turn := turn) (fc := fc) (ft := ft) (se := se) (co := co) (w := w) (pl := pl) (fl := fl) (post := post) hm (show i < 48 by omega) hB hc (by omega) hw
      rw [tw_mI_s] at g
      exact g
theorem tw_periods {post : Int32 → St1 → Prop} (hm : m ≤ 16) (H : ∀ bo', post (nI (tw_ch p 16 m)) (nI m, fn, cut, turn, fc, ft, se, co, p, t, w, pl, bo', fl)) :
    wpX_periods post (nI m, fn, cut, turn, fc, ft, se, co, p, t, w, pl, bo, fl) := by
  unfold wpX_periods
  refine tw_fill hm (fun bo' hB => ?_)
  refine lp3 (fun f a s i => wX_periods_13 post (nI m) fn cut turn fc ft se co p t w pl bo' fl f (nI a) (nI s) (nI i)) (fun a s i => i ≤ 16 ∧ s ≤ m ∧ a + tw_ch p (16 - i) s = tw_ch p 16 m) (fun _ _ i => 16 - i) ?_ 0 m 0 ⟨by omega, by omega, by rw [Nat.zero_add]⟩
  intro f a s i hI hw
  obtain ⟨a1, a2, a3⟩ := hI
  refine pk_le 16 i (fun z => ?_) (fun z => ?_)
  · have e : 16 - i = 0 := by omega
    rw [e] at a3
    have e2 : tw_ch p 16 m = a := a3.symm
    have g := H bo'
    rw [e2] at g
    exact g
  · refine pk_le s 0 (fun z2 => ?_) (fun z2 => ?_)
    · have e : s = 0 := by omega
      rw [e, tw_ch_0] at a3
      have e2 : tw_ch p 16 m = a := a3.symm
      have g := H bo'
      rw [e2] at g
      exact g
    · have g := (tw_be_ok p z2).2.1
      have e : 16 - i = 16 - (i + 1) + 1 := by omega
      rw [e, tw_ch_s p _ z2] at a3
      exact nm_r (nI_1 a) ⟨pk_in s 17 (by omega), nm_r (e' := nI (tw_be p s)) (by rw [nI_clamp (by omega)]; exact tw_BA_be hB z2 a2) (nm_r (nI_1 i) (hw (a + 1) (tw_be p s) (i + 1) ⟨by omega, by omega, by omega⟩ (by omega)))⟩
theorem tw_border {post : Int32 → St1 → Prop} {k : Nat} (hm : m ≤ 16) (h1 : 1 ≤ k) (h2 : k ≤ m) (H : ∀ bo', post (nI (tw_be p k)) (nI m, fn, cut, turn, fc, ft, se, co, p, t, w, pl, bo', fl)) :
    wpX_border post (nI m, fn, cut, turn, fc, ft, se, co, p, t, w, pl, bo, fl) (nI k) := by
  refine pk_lt k 1 (fun z => absurd z (by omega)) (fun _ => pk_le k m (fun _ => ?_) (fun z => absurd z (by omega)))
  refine tw_fill hm (fun bo' hB => ⟨pk_in k 17 (by omega), ?_⟩)
  rw [nI_clamp (by omega), tw_BA_be hB h1 h2]
  exact H bo'
theorem tw_borderN {post : Int32 → St1 → Prop} {x : Int32} {k : Nat} (hm : m < k) (hk : k < 100) (hx : x = nI k) (H : post (-4) (nI m, fn, cut, turn, fc, ft, se, co, p, t, w, pl, bo, fl)) :
    wpX_border post (nI m, fn, cut, turn, fc, ft, se, co, p, t, w, pl, bo, fl) x :=
  pk_lt k 1 (fun _ => H) (fun _ => pk_le k m (fun z => absurd z (by omega)) (fun _ => H) hx rfl) hx rfl
end
end
section
/-! greatestEnd, leastRotation, rotationsFound -/
section
variable {fm fn cut turn fc ft se co : Int32} {p t w pl bo fl : Nat → Int32} {m n : Nat}
theorem tw_ge {post : Int32 → St1 → Prop} {o : Nat} (ho : o ≤ 1) (hm : m ≤ 16) (H : ∀ r fc' ft' w', (m = 0 ∧ r = -4 ∨ ∃ b, r = nI b ∧ b < m) → post r (nI m, fn, cut, turn, fc', ft', se, co, p, t, w', pl, bo, fl)) :
    wpX_greatestEnd post (nI m, fn, cut, turn, fc, ft, se, co, p, t, w, pl, bo, fl) (nI o) := by
  refine pk_lt o 0 (fun z => absurd z (by omega)) (fun _ => pk_le o 1 (fun _ => ?_) (fun z => absurd z (by omega)))
  refine pk_eq m 0 (fun z => H _ _ _ _ (Or.inl ⟨z, rfl⟩)) (fun z => ?_)
  refine tw_rot (i := 0) hm (by omega) (fun w' _ => ?_)
  refine tw_end (by omega) hm (fun b q hF => ?_)
  have g1 := hF.1
  have g2 := hF.2.1
  exact H _ _ _ _ (Or.inr ⟨b, rfl, by omega⟩)
theorem tw_td {post : Int32 → Prop} {x : Int32} {i : Nat} (hm : m ≤ 16) (hi : i < m + m) (hx : x = nI i) (H : ∀ y, post y) :
    wpX_turned post (nI m, fn, cut, turn, fc, ft, se, co, p, t, w, pl, bo, fl) x := by
  subst hx
  refine lp2 (fun f i k => wX_turned_4 post (nI m) fn cut turn fc ft se co p t w pl bo fl f (nI i) (nI k)) (fun i k => k ≤ 3 ∧ (i < m ∨ k = 0 ∧ i < m + m)) (fun _ k => 3 - k) ?_ i 0 ⟨by omega, Or.inr ⟨rfl, hi⟩⟩
  intro f i k hI hw
  obtain ⟨a1, a2⟩ := hI
  exact pk_le 3 k (fun z => ⟨pk_in i 16 (by omega), H _⟩) (fun z => pk_lt i m (fun z2 => ⟨pk_in i 16 (by omega), H _⟩) (fun z2 => nm_r (pk_sub z2) (nm_r (nI_1 k) (hw (i - m) (k + 1) ⟨by omega, Or.inl (by omega)⟩ (by omega)))))
theorem tw_lr19 {post : Int32 → Prop} (hm1 : 1 ≤ m) (hm : m ≤ 16) (H : ∀ a, a < m → post (nI a)) :
    ∃ f, wX_leastRotation_19 post (nI m) fn cut turn fc ft se co p t w pl bo fl f 0 1 0 0 := by
  have ex : ∀ i j, (i < m ∨ j < m) → i ≤ 64 → j ≤ 64 → wX_leastRotation_119 post (nI i) (nI j) (nI m) fn cut turn fc ft se co p t w pl bo fl := fun i j h hi hj => pk_le j i (fun z => H j (by omega)) (fun z => H i (by omega))
  refine lp4 (fun f i j k r => wX_leastRotation_19 post (nI m) fn cut turn fc ft se co p t w pl bo fl f (nI i) (nI j) (nI k) (nI r)) (fun i j k r => (i < m ∨ j < m) ∧ i ≤ 64 ∧ j ≤ 64 ∧ k ≤ m ∧ r ≤ 80) (fun _ _ _ r => 80 - r) ?_ 0 1 0 0 ⟨Or.inl (by omega), by omega, by omega, by omega, by omega⟩
  intro f i j k r hI hw
  obtain ⟨a1, a2, a3, a4, a5⟩ := hI
  have E := ex i j a1 a2 a3
  refine pk_le 80 r (fun _ => E) (fun z1 => pk_le m i (fun _ => E) (fun z2 => pk_le m j (fun _ => E) (fun z3 => pk_le m k (fun _ => E) (fun z4 => ?_))))
  have J : ∀ i' j', (i' < m ∨ j' < m) → i' ≤ 63 → j' ≤ 63 → wX_leastRotation_103 post (wX_leastRotation_19 post (nI m) fn cut turn fc ft se co p t w pl bo fl f) (nI i') (nI j') (nI r) (nI m) fn cut turn fc ft se co p t w pl bo fl := by
    intro i' j' h hi hj
    exact pk_eq i' j' (fun e => nm_r (nI_1 j') (nm_r (nI_1 r) (hw i' (j' + 1) 0 (r + 1) ⟨by omega, by omega, by omega, by omega, by omega⟩ (by omega)))) (fun _ => nm_r (nI_1 r) (hw i' j' 0 (r + 1) ⟨h, by omega, by omega, by omega, by omega⟩ (by omega)))
  refine tw_td hm (show i + k < m + m by omega) (nI_add i k) (fun x => tw_td hm (show j + k < m + m by omega) (nI_add j k) (fun y => ?_))
  exact br_c (fun _ => nm_r (nI_1 k) (nm_r (nI_1 r) (hw i j (k + 1) (r + 1) ⟨a1, a2, a3, by omega, by omega⟩ (by omega)))) (fun _ => br_c (fun _ => nm_r (e' := nI (j + k + 1)) (by rw [nI_add, nI_1]) (J i (j + k + 1) (Or.inl z2) (by omega) (by omega))) (fun _ => nm_r (e' := nI (i + k + 1)) (by rw [nI_add, nI_1]) (J (i + k + 1) j (Or.inr z3) (by omega) (by omega))))
theorem tw_lr {post : Int32 → Prop} (hm : m ≤ 16) (H : ∀ r, (m = 0 ∧ r = -4 ∨ ∃ b, r = nI b ∧ b < m) → post r) :
    wpX_leastRotation post (nI m, fn, cut, turn, fc, ft, se, co, p, t, w, pl, bo, fl) :=
  pk_eq m 0 (fun z => H _ (Or.inl ⟨z, rfl⟩)) (fun z => tw_lr19 (by omega) hm (fun a ha => H _ (Or.inr ⟨a, rfl, ha⟩)))
theorem tw_rots {post : Int32 → St1 → Prop} (hm : m ≤ 16) (hn : n ≤ 48) (H : ∀ a cut' turn' fc' ft' w', a ≤ m → post (nI a) (nI m, nI n, cut', turn', fc', ft', se, co, p, t, w', pl, bo, fl)) :
    wpX_rotationsFound post (nI m, nI n, cut, turn, fc, ft, se, co, p, t, w, pl, bo, fl) := by
  refine lp7 (fun f (a i : Nat) (c1 c2 c3 c4 : Int32) (v : Nat → Int32) => wX_rotationsFound_4 post f (nI a) (nI i) (nI m) (nI n) c1 c2 c3 c4 se co p t v pl bo fl) (fun a i _ _ _ _ _ => a ≤ i ∧ i ≤ m) (fun _ i _ _ _ _ _ => m - i) ?_ 0 0 cut turn fc ft w ⟨by omega, by omega⟩
  intro f a i c1 c2 c3 c4 v hI hw
  obtain ⟨a1, a2⟩ := hI
  refine pk_le m i (fun z => H _ _ _ _ _ _ (by omega)) (fun z => ?_)
  refine tw_rot hm z (fun w' _ => ?_)
  refine tw_cut (by omega) hm (fun b q fc' ft' hF => ?_)
  refine tw_search (j0 := 0) (by omega) hm hn hF (by omega) rfl (fun r _ => ?_)
  exact br_c (fun _ => nm_r (nI_1 i) (hw a (i + 1) _ _ _ _ _ ⟨by omega, by omega⟩ (by omega))) (fun _ => nm_r (nI_1 a) (nm_r (nI_1 i) (hw (a + 1) (i + 1) _ _ _ _ _ ⟨by omega, by omega⟩ (by omega))))
end
end
section
/-! sound -/
section
variable {cut turn fc ft se co : Int32} {p t w pl bo fl : Nat → Int32} {m n c : Nat}
theorem tw_416 {post : Int32 → St1 → Prop} (hm : m ≤ 16) (hn : n ≤ 48) (H : ∀ cut turn fc ft w bo, post 1 (nI m, nI n, cut, turn, fc, ft, se, nI c, p, t, w, pl, bo, fl)) : wL_sound_416 post (nI m) (nI m) (nI n) cut turn fc ft se (nI c) p t w pl bo fl := by
  unfold wL_sound_416
  exact tw_rots hm hn (fun a _ _ _ _ _ ha => pk_lt m a (fun z => absurd z (by omega)) (fun _ => H _ _ _ _ _ _))
theorem tw_314 {post : Int32 → St1 → Prop} (hm : m ≤ 16) (hn : n ≤ 48) (H : ∀ cut turn fc ft w bo, post 1 (nI m, nI n, cut, turn, fc, ft, se, nI c, p, t, w, pl, bo, fl)) : wL_sound_314 post (nI m) (nI (tw_ch p 16 m)) (nI m) (nI n) cut turn fc ft se (nI c) p t w pl bo fl := by
  unfold wL_sound_314
  refine tw_ge (o := 0) (by omega) hm (fun r1 fc1 ft1 w1 h1 => ?_)
  refine tw_ge (o := 1) (by omega) hm (fun r2 fc2 ft2 w2 h2 => ?_)
  refine tw_lr hm (fun r3 h3 => ?_)
  refine tw_periods hm (fun bo1 => ?_)
  refine br_t rfl ?_
  refine tw_borderN (show m < m + 1 by omega) (by omega) (nI_1 m) ?_
  refine br_t rfl ?_
  have G := fun cut turn fc ft w bo => tw_416 (cut := cut) (turn := turn) (fc := fc) (ft := ft) (w := w) (bo := bo) hm hn H
  refine pk_eq m 0 (fun z => ?_) (fun z => ?_)
  · rcases h1 with ⟨_, h1⟩ | ⟨b, _, hb⟩
    · rcases h2 with ⟨_, h2⟩ | ⟨b, _, hb⟩
      · rcases h3 with ⟨_, h3⟩ | ⟨b, _, hb⟩
        · exact br_t h1 (br_t h2 (br_t h3 (G _ _ _ _ _ _)))
        · exact absurd hb (by omega)
      · exact absurd hb (by omega)
    · exact absurd hb (by omega)
  · rcases h1 with ⟨h1, _⟩ | ⟨b1, e1, hb1⟩
    · exact absurd h1 z
    · rcases h2 with ⟨h2, _⟩ | ⟨b2, e2, hb2⟩
      · exact absurd h2 z
      · rcases h3 with ⟨h3, _⟩ | ⟨b3, e3, hb3⟩
        · exact absurd h3 z
        · subst e1 e2 e3
          exact br_f (nI_pos (by omega)) (pk_le m b1 (fun y => absurd y (by omega)) (fun _ => br_f (nI_pos (by omega)) (pk_le m b2 (fun y => absurd y (by omega)) (fun _ => br_f (nI_pos (by omega)) (pk_le m b3 (fun y => absurd y (by omega)) (fun _ => G _ _ _ _ _ _))))))
theorem tw_285 {post : Int32 → St1 → Prop} (hm : m ≤ 16) (hn : n ≤ 48) (H : ∀ cut turn fc ft w bo, post 1 (nI m, nI n, cut, turn, fc, ft, se, nI c, p, t, w, pl, bo, fl)) : ∃ f, wL_sound_285 post (nI m) f 0 (nI m) 0 (nI m) (nI n) cut turn fc ft se (nI c) p t w pl bo fl := by
  refine lp4 (fun f (a s i : Nat) (v : Nat → Int32) => wL_sound_285 post (nI m) f (nI a) (nI s) (nI i) (nI m) (nI n) cut turn fc ft se (nI c) p t w pl v fl) (fun a s i _ => i ≤ 16 ∧ s ≤ m ∧ a + tw_ch p (16 - i) s = tw_ch p 16 m) (fun _ _ i _ => 16 - i) ?_ 0 m 0 bo ⟨by omega, by omega, by rw [Nat.zero_add]⟩
  intro f a s i v hI hw
  obtain ⟨a1, a2, a3⟩ := hI
  have G := tw_314 (cut := cut) (turn := turn) (fc := fc) (ft := ft) (w := w) (bo := v) hm hn H
  refine pk_le 16 i (fun z => ?_) (fun z => ?_)
  · have e : 16 - i = 0 := by omega
    rw [e] at a3
    have e2 : tw_ch p 16 m = a := a3.symm
    rw [e2] at G
    exact G
  · refine pk_le s 0 (fun z2 => ?_) (fun z2 => ?_)
    · have e : s = 0 := by omega
      rw [e, tw_ch_0] at a3
      have e2 : tw_ch p 16 m = a := a3.symm
      rw [e2] at G
      exact G
    · have g := (tw_be_ok p z2).2.1
      have e : 16 - i = 16 - (i + 1) + 1 := by omega
      rw [e, tw_ch_s p _ z2] at a3
      exact tw_border hm z2 a2 (fun bo' => nm_r (nI_1 a) (nm_r (nI_1 i) (hw (a + 1) (tw_be p s) (i + 1) bo' ⟨by omega, by omega, by omega⟩ (by omega))))
theorem tw_225 {post : Int32 → St1 → Prop} (hm : m ≤ 16) (hn : n ≤ 48) (H : ∀ cut turn fc ft w bo, post 1 (nI m, nI n, cut, turn, fc, ft, se, nI c, p, t, w, pl, bo, fl)) : ∃ f, wL_sound_225 post (nI m) 0 f 0 1 (nI m) (nI n) cut turn fc ft se (nI c) p t w pl bo fl := by
  refine lp3 (fun f (l k : Nat) (v : Nat → Int32) => wL_sound_225 post (nI m) 0 f (nI l) (nI k) (nI m) (nI n) cut turn fc ft se (nI c) p t w pl v fl) (fun l k _ => 1 ≤ k ∧ k ≤ m + 1 ∧ (k = 1 ∧ l = 0 ∨ 2 ≤ k ∧ l = tw_be p (k - 1))) (fun _ k _ => 17 - k) ?_ 0 1 bo ⟨by omega, by omega, Or.inl ⟨rfl, rfl⟩⟩
  intro f l k v hI hw
  obtain ⟨a1, a2, a3⟩ := hI
  have G := tw_285 (cut := cut) (turn := turn) (fc := fc) (ft := ft) (w := w) (bo := v) hm hn H
  have hl : l ≤ 16 := by
    rcases a3 with ⟨_, h⟩ | ⟨h, h'⟩
    · omega
    · have g := (tw_be_ok p (show 1 ≤ k - 1 by omega)).2.1
      omega
  refine pk_le 17 k (fun _ => G) (fun z => pk_lt m k (fun _ => G) (fun z2 => ?_))
  have g := (tw_be_ok p a1).2.1
  have g2 : tw_be p k ≤ l + 1 := by
    rcases a3 with ⟨h, _⟩ | ⟨h, h'⟩
    · omega
    · have g3 := tw_be_1 p (show 1 ≤ k - 1 by omega)
      have e : k - 1 + 1 = k := by omega
      rw [e, ← h'] at g3
      exact g3
  refine tw_border hm a1 z2 (fun bo' => br_f (nI_pos (by omega)) (pk_le k (tw_be p k) (fun y => absurd y (by omega)) (fun _ => pk_le (tw_be p k) (l + 1) (fun _ => nm_r (nI_1 k) (hw (tw_be p k) (k + 1) bo' ⟨by omega, by omega, Or.inr ⟨by omega, rfl⟩⟩ (by omega))) (fun y => absurd y (by omega)) rfl (nI_1 l))))
theorem tw_211 {post : Int32 → St1 → Prop} {z0 z1 : Int32} (hm : m ≤ 16) (hn : n ≤ 48) (H : ∀ cut turn fc ft w bo, post 1 (nI m, nI n, cut, turn, fc, ft, se, nI c, p, t, w, pl, bo, fl)) (hz : z1 = z0) : wL_sound_211 post (nI m) z0 z1 (nI m) (nI n) cut turn fc ft se (nI c) p t w pl bo fl :=
  br_t hz (tw_225 hm hn H)
theorem tw_170a {post : Int32 → St1 → Prop} {o : Nat} (hm : m ≤ 16) (hn : n ≤ 48) (H : ∀ cut turn fc ft w bo, post 1 (nI m, nI n, cut, turn, fc, ft, se, nI c, p, t, w, pl, bo, fl)) (h0 : ¬ se = 0) (hS : tw_SR p t pl m n c) (hc : c = 0) (ho : tw_mx p t m n o) :
    wL_sound_170 post (nI m) (nI n) (nI o) (-4) 0 (nI m) (nI n) cut turn fc ft se (nI c) p t w pl bo fl := by
  unfold wL_sound_170
  refine tw_next h0 hS (fun r r1 _ => ?_)
  have e := r1 hc
  subst e
  have G : wL_sound_210 post (nI m) 0 (nI m) (nI n) cut turn fc ft se (nI c) p t w pl bo fl := tw_211 hm hn H rfl
  have G2 : wL_sound_193 post (nI m) (nI n) (-4) 0 (nI m) (nI n) cut turn fc ft se (nI c) p t w pl bo fl := br_c (fun _ => G) (fun _ => br_t (by decide) G)
  have h1 := ho.1.1
  have h2 := ho.2.1
  refine br_c (fun e => ?_) (fun _ => G2)
  refine pk_eq o m (fun z => ?_) (fun _ => G2)
  exfalso
  rw [pk_sub (show m ≤ n by omega)] at e
  have g : ¬ nI (n - m) < 0 := nI_pos (by omega)
  rw [← e] at g
  exact g (by decide)
theorem tw_170b {post : Int32 → St1 → Prop} {o : Nat} (hm : m ≤ 16) (hn : n ≤ 48) (H : ∀ cut turn fc ft w bo, post 1 (nI m, nI n, cut, turn, fc, ft, se, nI c, p, t, w, pl, bo, fl)) (h0 : ¬ se = 0) (hS : tw_SR p t pl m n c) (hc : 0 < c) (ho : tw_mx p t m n o) :
    wL_sound_170 post (nI m) (nI n) (nI o) (nI (tw_P pl 0)) 1 (nI m) (nI n) cut turn fc ft se (nI c) p t w pl bo fl := by
  unfold wL_sound_170
  have hP := hS.2.2.2.2.1 0 hc
  have hO := hS.2.2.2.1 0 hc
  have hm0 : m ≠ 0 := fun z => absurd (hS.2.1 z) (by omega)
  have h1 := ho.1.1
  have h2 := ho.2.1
  have G : wL_sound_206 post (nI m) 1 (nI m) (nI n) cut turn fc ft se (nI c) p t w pl bo fl := tw_211 hm hn H rfl
  refine tw_next h0 hS (fun r _ r2 => ?_)
  rw [pk_sub (show m ≤ n by omega)] at r2
  rw [pk_sub (show m ≤ n by omega)]
  by_cases hq : tw_P pl 0 < n - m
  · have G2 : wL_sound_193 post (nI m) (nI n) (nI (tw_P pl 0)) 1 (nI m) (nI n) cut turn fc ft se (nI c) p t w pl bo fl := pk_le (n - m) (tw_P pl 0) (fun y => absurd y (by omega)) (fun _ => br_f (nI_pos (by omega)) G) (pk_sub (by omega)) rfl
    exact br_c (fun _ => pk_eq o m (fun _ => pk_lt 0 m (fun _ => G) (fun _ => G2)) (fun _ => G2)) (fun _ => G2)
  · have e : tw_P pl 0 = n - m := by omega
    rw [e] at r2 hO
    have e2 := r2 hc (nI_nlt (Nat.le_refl _) (by omega))
    have h3 := ho.2.2 m (Nat.le_refl m) ⟨by omega, fun j hj => by rw [Nat.add_comm]; exact hO j hj⟩
    exact br_t e2 (pk_eq o m (fun _ => pk_lt 0 m (fun _ => G) (fun y => absurd y (by omega))) (fun y => absurd y (by omega)))
theorem tw_96 {post : Int32 → St1 → Prop} {a s o : Nat} {x : Int32} (hm : m ≤ 16) (hn : n ≤ 48) (H : ∀ cut turn fc ft w bo, post 1 (nI m, nI n, cut, turn, fc, ft, se, nI c, p, t, w, pl, bo, fl)) (h0 : ¬ se = 0) (hS : tw_SR p t pl m n c) (ho : tw_mx p t m n o)
    (hx0 : c = 0 → x = -4) (hx1 : 0 < c → x = nI (tw_P pl 0)) (ha : a ≤ c) (ha1 : 0 < c → 1 ≤ a ∧ m ≤ s) (hs : s ≤ n) :
    (nI c = 0 → wL_sound_96 post (nI m) (nI n) (nI c) (nI a) (nI s) (nI o) x 1 (nI m) (nI n) cut turn fc ft se (nI c) p t w pl bo fl) ∧ (¬ nI c = 0 → wL_sound_96 post (nI m) (nI n) (nI c) (nI a) (nI s) (nI o) x 0 (nI m) (nI n) cut turn fc ft se (nI c) p t w pl bo fl) := by
  have h1 := ho.1.1
  have h2 := ho.2.1
  have hc48 := hS.1
  refine pk_eq c 0 (fun z => ?_) (fun z => ?_)
  · have e := hx0 z
    subst e
    have G := tw_170a (cut := cut) (turn := turn) (fc := fc) (ft := ft) (w := w) (bo := bo) hm hn H h0 hS z ho
    have G149 : wL_sound_149 post (nI m) (nI n) (nI c) (nI o) (-4) (nI m) (nI n) cut turn fc ft se (nI c) p t w pl bo fl := pk_lt m o (fun y => absurd y (by omega)) (fun _ => pk_lt n o (fun y => absurd y (by omega)) (fun _ => pk_le c 0 (fun _ => G) (fun y => absurd y (by omega))))
    have G130 : wL_sound_130 post (nI m) (nI n) (nI c) (nI s) (nI o) (-4) 1 1 (nI m) (nI n) cut turn fc ft se (nI c) p t w pl bo fl := br_t rfl (pk_le c 0 (fun _ => G149) (fun y => absurd y (by omega)))
    have G120 : wL_sound_120 post (nI m) (nI n) (nI c) (nI a) (nI s) (nI o) (-4) 1 (nI m) (nI n) cut turn fc ft se (nI c) p t w pl bo fl := pk_eq a 0 (fun _ => G130) (fun y => absurd y (by omega))
    have G108 : wL_sound_108 post (nI m) (nI n) (nI c) (nI a) (nI s) (nI o) (-4) 1 1 (nI m) (nI n) cut turn fc ft se (nI c) p t w pl bo fl := br_t rfl (pk_eq c 0 (fun _ => G120) (fun y => absurd y (by omega)))
    exact br_t rfl G108
  · have hc : 0 < c := by omega
    have e := hx1 hc
    subst e
    obtain ⟨k1, k2⟩ := ha1 hc
    have hP := hS.2.2.2.2.1 0 hc
    have hm0 : m ≠ 0 := fun z => absurd (hS.2.1 z) (by omega)
    have G := tw_170b (cut := cut) (turn := turn) (fc := fc) (ft := ft) (w := w) (bo := bo) hm hn H h0 hS hc ho
    have G149 : wL_sound_149 post (nI m) (nI n) (nI c) (nI o) (nI (tw_P pl 0)) (nI m) (nI n) cut turn fc ft se (nI c) p t w pl bo fl := pk_lt m o (fun y => absurd y (by omega)) (fun _ => pk_lt n o (fun y => absurd y (by omega)) (fun _ => pk_le c 0 (fun y => absurd y (by omega)) (fun _ => G)))
    have G130 : wL_sound_130 post (nI m) (nI n) (nI c) (nI s) (nI o) (nI (tw_P pl 0)) 0 0 (nI m) (nI n) cut turn fc ft se (nI c) p t w pl bo fl := br_t rfl (pk_le c 0 (fun y => absurd y (by omega)) (fun _ => pk_lt s m (fun y => absurd y (by omega)) (fun _ => pk_eq m 0 (fun y => absurd y hm0) (fun _ => G149))))
    have G120 : wL_sound_120 post (nI m) (nI n) (nI c) (nI a) (nI s) (nI o) (nI (tw_P pl 0)) 0 (nI m) (nI n) cut turn fc ft se (nI c) p t w pl bo fl := pk_eq a 0 (fun y => absurd y (by omega)) (fun _ => G130)
    have G108 : wL_sound_108 post (nI m) (nI n) (nI c) (nI a) (nI s) (nI o) (nI (tw_P pl 0)) 0 0 (nI m) (nI n) cut turn fc ft se (nI c) p t w pl bo fl := br_t rfl (pk_eq c 0 (fun y => absurd y (by omega)) (fun _ => G120))
    refine br_f (fun y => ?_) G108
    have g : ¬ nI (tw_P pl 0) < 0 := nI_pos (by omega)
    rw [y] at g
    exact g (by decide)
theorem tw_sound {post : Int32 → St1 → Prop} (hm : m ≤ 16) (hn : n ≤ 48) (hs : se = 0 ∨ (¬ se = 0 ∧ ∃ c, co = nI c ∧ tw_SR p t pl m n c))
    (H : ∀ cut turn fc ft se co w pl bo, tw_K (nI m) (nI n) se co p t pl → post 1 (nI m, nI n, cut, turn, fc, ft, se, co, p, t, w, pl, bo, fl)) :
    wpL_sound post (nI m, nI n, cut, turn, fc, ft, se, co, p, t, w, pl, bo, fl) := by
  unfold wpL_sound wpX_patternLength wpX_textLength wpX_occurrences
  refine tw_findAll hm hn hs (fun cut turn fc ft se c w pl h0 hS => ?_)
  refine tw_apart hm hn h0 hS ?_
  refine tw_covered hm hn h0 hS ?_
  refine tw_overlap hm hn (fun o bo' ho => ?_)
  refine tw_next h0 hS (fun r r1 r2 => ?_)
  have hc := hS.1
  obtain ⟨u1, u2, u3, u4, u5, u6, u7, u8⟩ := tw_sum hS.2.2.2.2 c (Nat.le_refl c)
  have H' : ∀ cut turn fc ft w bo, post 1 (nI m, nI n, cut, turn, fc, ft, se, nI c, p, t, w, pl, bo, fl) := fun _ _ _ _ _ _ => H _ _ _ _ _ _ _ _ _ ⟨m, n, rfl, rfl, hm, hn, Or.inr ⟨h0, c, rfl, hS⟩⟩
  refine br_f (nI_pos (by omega)) (pk_lt 16 m (fun y => absurd y (by omega)) (fun _ => br_f (nI_pos (by omega)) (pk_lt 48 n (fun y => absurd y (by omega)) (fun _ => br_f (nI_pos (by omega)) (pk_lt c (tw_ap (tw_P pl) m c).1 (fun y => absurd y (by omega)) (fun _ => pk_lt (tw_cv (tw_P pl) m c).1 ((tw_ap (tw_P pl) m c).1 * m) (fun y => absurd y (by omega)) (fun _ => pk_le (tw_cv (tw_P pl) m c).1 n (fun _ => ?_) (fun y => absurd y (by omega))) rfl (pk_mul _ _)))))))
  exact tw_96 hm hn H' h0 hS ho r1 (fun hc => r2 hc (nI_pos (by have := hS.2.2.2.2.1 0 hc; omega))) u1 u7 (by omega)
end
end
section
/-! the law -/
theorem tw_law {post : Int32 → Prop} {L kc ks : Nat} {xs : Nat → Int32} (hL : L ≤ 260) (H : post 1) {cut turn fc ft co : Int32} {p t w pl bo fl : Nat → Int32} :
    ∃ f, wL_law_10 post L xs kc ks f 0 0 0 cut turn fc ft 0 co p t w pl bo fl := by
  refine lp15 (fun f (i : Nat) fm fn cut turn fc ft se co p t w pl bo fl => wL_law_10 post L xs kc ks f (nI i) fm fn cut turn fc ft se co p t w pl bo fl) (fun i fm fn _ _ _ _ se co p t _ pl _ _ => i ≤ 1000 ∧ tw_K fm fn se co p t pl) (fun i _ _ _ _ _ _ _ _ _ _ _ _ _ _ => 1000 - i) ?_ 0 0 0 cut turn fc ft 0 co p t w pl bo fl ⟨by omega, tw_K_0 (m := 0) (n := 0) (by omega) (by omega)⟩
  intro f i fm fn cut turn fc ft se co p t w pl bo fl hI hw
  obtain ⟨a1, hK⟩ := hI
  refine pk_le L (i + 1) (fun _ => H) (fun z => ⟨pk_in i L (by omega), pk_in (i + 1) L (by omega) (nI_1 i), ?_⟩) rfl (nI_1 i)
  refine tw_turn hK (fun fm fn cut turn fc ft se co p t w pl bo fl hK => ?_)
  obtain ⟨m, n, e1, e2, hm, hn, hs⟩ := hK
  subst e1 e2
  refine tw_sound hm hn hs (fun cut turn fc ft se co w pl bo hK => ?_)
  exact br_f (by decide) (nm_r (e' := nI (i + 2)) (nI_add i 2) (hw (i + 2) _ _ _ _ _ _ _ _ _ _ _ _ _ _ ⟨by omega, hK⟩ (by omega)))
theorem i_vc (xs : Nat → Int32) (L : Nat) (hL : L ≤ 260) : wpL_law (fun r => r = 1) L xs := by
  refine ⟨6, 161, by omega, by omega, ?_⟩
  refine ⟨by omega, by omega, by omega, by omega, by omega, by omega, by omega, by omega, by omega, by omega, by omega, by omega, ?_⟩
  exact tw_law (post := fun r => r = 1) hL rfl
end
