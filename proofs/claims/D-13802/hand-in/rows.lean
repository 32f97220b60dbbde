section
/-! counting: how many of the first i places have p -/
def cn_c (p : Nat → Bool) : Nat → Nat
  | 0 => 0
  | i + 1 => cn_c p i + (p i).toNat
theorem cn_0 (p : Nat → Bool) : cn_c p 0 = 0 := rfl
theorem cn_s (p : Nat → Bool) (i : Nat) : cn_c p (i + 1) = cn_c p i + (p i).toNat := rfl
theorem cn_t {p : Nat → Bool} {i : Nat} (h : p i = true) : cn_c p (i + 1) = cn_c p i + 1 := by rw [cn_s, h]; rfl
theorem cn_f {p : Nat → Bool} {i : Nat} (h : p i = false) : cn_c p (i + 1) = cn_c p i := by rw [cn_s, h]; rfl
theorem cn_nf {x : Bool} (h : ¬ x = true) : x = false := by cases x with
  | false => rfl
  | true => exact absurd rfl h
theorem cn_nt {x : Bool} (h : ¬ x = false) : x = true := by cases x with
  | true => rfl
  | false => exact absurd rfl h
theorem cn_le (p : Nat → Bool) (i : Nat) : cn_c p i ≤ i := by
  induction i with
  | zero => exact Nat.le_refl 0
  | succ i ih =>
    rw [cn_s]
    have h1 := Bool.toNat_le (p i)
    omega
theorem cn_mono (p : Nat → Bool) {i j : Nat} (h : i ≤ j) : cn_c p i ≤ cn_c p j := by
  induction j with
  | zero =>
    have e : i = 0 := by omega
    subst e
    exact Nat.le_refl _
  | succ j ih =>
    rcases Nat.lt_or_ge j i with e | e
    · have e2 : i = j + 1 := by omega
      subst e2
      exact Nat.le_refl _
    · rw [cn_s]
      have h1 := ih e
      omega
theorem cn_near (p : Nat → Bool) {i j : Nat} (h : i ≤ j) : cn_c p j ≤ cn_c p i + (j - i) := by
  induction j with
  | zero =>
    have e : i = 0 := by omega
    subst e
    exact Nat.le_refl _
  | succ j ih =>
    rcases Nat.lt_or_ge j i with e | e
    · have e2 : i = j + 1 := by omega
      subst e2
      omega
    · rw [cn_s]
      have h1 := ih e
      have h2 := Bool.toNat_le (p j)
      omega
theorem cn_congr {p q : Nat → Bool} {i : Nat} (h : ∀ j, j < i → p j = q j) : cn_c p i = cn_c q i := by
  induction i with
  | zero => rfl
  | succ i ih => rw [cn_s, cn_s, ih (fun j hj => h j (by omega)), h i (by omega)]
theorem cn_add {p q r : Nat → Bool} {i : Nat} (h : ∀ j, j < i → (r j).toNat = (p j).toNat + (q j).toNat) : cn_c r i = cn_c p i + cn_c q i := by
  induction i with
  | zero => rfl
  | succ i ih =>
    rw [cn_s, cn_s, cn_s, ih (fun j hj => h j (by omega)), h i (by omega)]
    omega
theorem cn_sub {p q : Nat → Bool} {i : Nat} (h : ∀ j, j < i → p j = true → q j = true) : cn_c p i ≤ cn_c q i := by
  induction i with
  | zero => exact Nat.le_refl 0
  | succ i ih =>
    have h1 := ih (fun j hj => h j (by omega))
    cases hp : p i with
    | false =>
      rw [cn_f hp, cn_s]
      omega
    | true =>
      rw [cn_t hp, cn_t (h i (by omega) hp)]
      omega
theorem cn_flat {p : Nat → Bool} {i j : Nat} (h : i ≤ j) (hp : ∀ k, i ≤ k → k < j → p k = false) : cn_c p j = cn_c p i := by
  induction j with
  | zero =>
    have e : i = 0 := by omega
    subst e
    rfl
  | succ j ih =>
    rcases Nat.lt_or_ge j i with e | e
    · have e2 : i = j + 1 := by omega
      subst e2
      rfl
    · rw [cn_f (hp j e (by omega))]
      exact ih e (fun k h1 h2 => hp k h1 (by omega))
theorem cn_all {p : Nat → Bool} {i : Nat} (h : ∀ j, j < i → p j = true) : cn_c p i = i := by
  induction i with
  | zero => rfl
  | succ i ih => rw [cn_t (h i (by omega)), ih (fun j hj => h j (by omega))]
theorem cn_none {p : Nat → Bool} {i : Nat} (h : ∀ j, j < i → p j = false) : cn_c p i = 0 := by
  induction i with
  | zero => rfl
  | succ i ih => rw [cn_f (h i (by omega)), ih (fun j hj => h j (by omega))]
theorem cn_lt {p : Nat → Bool} {x y : Nat} (h : x < y) (hx : p x = true) : cn_c p x < cn_c p y := by
  have h1 := cn_mono p (show x + 1 ≤ y from h)
  rw [cn_t hx] at h1
  omega
theorem cn_inj {p : Nat → Bool} {x y : Nat} (hx : p x = true) (hy : p y = true) (h : cn_c p x = cn_c p y) : x = y := by
  rcases Nat.lt_trichotomy x y with e | e | e
  · have h1 := cn_lt e hx
    omega
  · exact e
  · have h1 := cn_lt e hy
    omega
theorem cn_sel {p : Nat → Bool} {n k : Nat} (h : k < cn_c p n) : ∃ x, x < n ∧ p x = true ∧ cn_c p x = k := by
  induction n with
  | zero => exact absurd h (Nat.not_lt_zero k)
  | succ n ih =>
    rcases Nat.lt_or_ge k (cn_c p n) with e | e
    · obtain ⟨x, h1, h2, h3⟩ := ih e
      exact ⟨x, by omega, h2, h3⟩
    · cases hp : p n with
      | false =>
        rw [cn_f hp] at h
        omega
      | true =>
        rw [cn_t hp] at h
        exact ⟨n, by omega, hp, by omega⟩
/-- the zeros -/
theorem cn_not (p : Nat → Bool) (i : Nat) : cn_c (fun j => !p j) i = i - cn_c p i := by
  induction i with
  | zero => rfl
  | succ i ih =>
    have h1 := cn_le p i
    cases hp : p i with
    | false =>
      rw [cn_t (p := fun j => !p j) (by simp [hp]), cn_f hp, ih]
      omega
    | true =>
      rw [cn_f (p := fun j => !p j) (by simp [hp]), cn_t hp, ih]
      omega
/-- a bit by its counts -/
theorem cn_bit {p : Nat → Bool} {x : Nat} : p x = true ↔ cn_c p (x + 1) = cn_c p x + 1 := by
  constructor
  · exact cn_t
  · intro h
    cases hp : p x with
    | false =>
      rw [cn_f hp] at h
      omega
    | true => rfl
theorem cn_bit0 {p : Nat → Bool} {x : Nat} : p x = false ↔ cn_c p (x + 1) = cn_c p x := by
  constructor
  · exact cn_f
  · intro h
    cases hp : p x with
    | false => rfl
    | true =>
      rw [cn_t hp] at h
      omega
theorem cn_pos {p : Nat → Bool} {n : Nat} (h : 0 < cn_c p n) : ∃ x, x < n ∧ p x = true := by
  obtain ⟨x, h1, h2, _⟩ := cn_sel h
  exact ⟨x, h1, h2⟩
theorem cn_shift (p : Nat → Bool) (a i : Nat) : cn_c p (a + i) = cn_c p a + cn_c (fun j => p (a + j)) i := by
  induction i with
  | zero => rfl
  | succ i ih =>
    rw [← Nat.add_assoc, cn_s, ih, cn_s]
    omega

/-! letters: ranks, letters below -/
/-- how often c stands before place i -/
def lt_r (l : Nat → Nat) (c i : Nat) : Nat := cn_c (fun j => decide (l j = c)) i
/-- how many before place i are below c -/
def lt_b (l : Nat → Nat) (c i : Nat) : Nat := cn_c (fun j => decide (l j < c)) i
theorem lt_b0 (l : Nat → Nat) (i : Nat) : lt_b l 0 i = 0 := cn_none (fun j _ => by simp)
theorem lt_b8 {l : Nat → Nat} (hl : ∀ j, l j < 8) (i : Nat) : lt_b l 8 i = i := cn_all (fun j _ => by simp [hl j])
theorem lt_bs (l : Nat → Nat) (c i : Nat) : lt_b l (c + 1) i = lt_b l c i + lt_r l c i := by
  refine cn_add (fun j _ => ?_)
  by_cases h1 : l j < c
  · have h2 : l j < c + 1 := by omega
    have h3 : ¬ l j = c := by omega
    simp [h1, h2, h3]
  · by_cases h3 : l j = c
    · have h2 : l j < c + 1 := by omega
      simp [h1, h2, h3]
    · have h2 : ¬ l j < c + 1 := by omega
      simp [h1, h2, h3]
theorem lt_r_le (l : Nat → Nat) (c i : Nat) : lt_r l c i ≤ i := cn_le _ i
theorem lt_b_le (l : Nat → Nat) (c i : Nat) : lt_b l c i ≤ i := cn_le _ i
theorem lt_r_mono (l : Nat → Nat) (c : Nat) {i j : Nat} (h : i ≤ j) : lt_r l c i ≤ lt_r l c j := cn_mono _ h
theorem lt_b_mono (l : Nat → Nat) (c : Nat) {i j : Nat} (h : i ≤ j) : lt_b l c i ≤ lt_b l c j := cn_mono _ h
theorem lt_r_s (l : Nat → Nat) (c i : Nat) : lt_r l c (i + 1) = lt_r l c i + (if l i = c then 1 else 0) := by
  unfold lt_r
  rw [cn_s]
  by_cases h : l i = c
  · simp [h]
  · simp [h]
theorem lt_r_t {l : Nat → Nat} {c i : Nat} (h : l i = c) : lt_r l c (i + 1) = lt_r l c i + 1 := by rw [lt_r_s, if_pos h]
theorem lt_r_f {l : Nat → Nat} {c i : Nat} (h : ¬ l i = c) : lt_r l c (i + 1) = lt_r l c i := by rw [lt_r_s, if_neg h, Nat.add_zero]
/-- ranges -/
theorem lt_b_c (l : Nat → Nat) {c d : Nat} (h : c ≤ d) {i j : Nat} (hij : i ≤ j) : lt_b l c j - lt_b l c i ≤ lt_b l d j - lt_b l d i := by
  have h1 : cn_c (fun k => decide (l (i + k) < c)) (j - i) ≤ cn_c (fun k => decide (l (i + k) < d)) (j - i) := cn_sub (fun k _ hk => by
    have h2 := of_decide_eq_true hk
    exact decide_eq_true (by omega))
  have h3 := cn_shift (fun k => decide (l k < c)) i (j - i)
  have h4 := cn_shift (fun k => decide (l k < d)) i (j - i)
  have e : i + (j - i) = j := by omega
  rw [e] at h3 h4
  unfold lt_b
  omega
end
section
/-! the cost of joining the two smallest again and again, over the tails F t = how many weights are above t -/
def hf_M (F : Nat → Nat) (x y : Nat) : Nat → Nat := fun t => F t - (if t < x then 1 else 0) - (if t < y then 1 else 0) + (if t < x + y then 1 else 0)
/-- what the joins cost ahead of the last one; m + 2 weights (m = 0: at most two) -/
def hf_E : Nat → (Nat → Nat) → Nat → Prop
  | 0 => fun F c => (∀ t, F t ≤ 2) ∧ c = 0
  | m + 1 => fun F c => ∃ x y c', 0 < x ∧ x ≤ y ∧ (∀ t, t < x → F t = m + 3) ∧ (∀ t, x ≤ t → F t ≤ m + 2) ∧ (∀ t, t < y → m + 2 ≤ F t) ∧ (∀ t, y ≤ t → F t ≤ m + 1) ∧ hf_E m (hf_M F x y) c' ∧ c = x + y + c'
theorem hf_mm {F F' : Nat → Nat} {m x y x' y' t : Nat} (h1 : t < x → F t = m + 3) (h2 : x ≤ t → F t ≤ m + 2) (h3 : t < y → m + 2 ≤ F t) (h4 : y ≤ t → F t ≤ m + 1)
    (g1 : t < x' → F' t = m + 3) (g2 : x' ≤ t → F' t ≤ m + 2) (g3 : t < y' → m + 2 ≤ F' t) (g4 : y' ≤ t → F' t ≤ m + 1) (hx : x ≤ y) (hx' : x' ≤ y') (e1 : x ≤ x') (e2 : y ≤ y') (h : F t ≤ F' t) :
    hf_M F x y t ≤ hf_M F' x' y' t := by
  unfold hf_M
  generalize F t = u at *
  generalize F' t = v at *
  by_cases c1 : t < x <;> by_cases c2 : t < y <;> by_cases c3 : t < x + y <;> by_cases d1 : t < x' <;> by_cases d2 : t < y' <;> by_cases d3 : t < x' + y' <;>
    simp only [c1, c2, c3, d1, d2, d3, if_true, if_false] <;> omega
theorem hf_m1 {F F' : Nat → Nat} {m x' y' t : Nat} (h0 : F t ≤ m + 2) (g1 : t < x' → F' t = m + 3) (g2 : x' ≤ t → F' t ≤ m + 2) (g3 : t < y' → m + 2 ≤ F' t) (hx' : x' ≤ y') (h : F t ≤ F' t) :
    F t ≤ hf_M F' x' y' t := by
  unfold hf_M
  generalize F t = u at *
  generalize F' t = v at *
  by_cases d1 : t < x' <;> by_cases d2 : t < y' <;> by_cases d3 : t < x' + y' <;>
    simp only [d1, d2, d3, if_true, if_false] <;> omega
theorem hf_top {m : Nat} {F : Nat → Nat} {c : Nat} (h : hf_E m F c) (t : Nat) : F t ≤ m + 2 := by
  cases m with
  | zero => exact h.1 t
  | succ m =>
    obtain ⟨x, y, c', _, _, h1, h2, _⟩ := h
    rcases Nat.lt_or_ge t x with e | e
    · rw [h1 t e]
      omega
    · have h3 := h2 t e
      omega
theorem hf_mono : ∀ (m' : Nat) (F' : Nat → Nat) (c' : Nat), hf_E m' F' c' → ∀ (m : Nat) (F : Nat → Nat) (c : Nat), hf_E m F c → (∀ t, F t ≤ F' t) → c ≤ c' := by
  intro m'
  induction m' with
  | zero =>
    intro F' c' h' m F c h hF
    cases m with
    | zero =>
      have h1 := h.2
      omega
    | succ m =>
      obtain ⟨x, y, d, hx, _, h1, _⟩ := h
      have h2 := h1 0 hx
      have h3 := hF 0
      have h4 := h'.1 0
      omega
  | succ m' ih =>
    intro F' c' h' m F c h hF
    obtain ⟨x', y', d', px', xy', g1, g2, g3, g4, g5, g6⟩ := h'
    cases m with
    | zero =>
      have h1 := h.2
      omega
    | succ m =>
      have ht := fun t => hf_top h t
      rcases Nat.lt_trichotomy m m' with e | e | e
      · have h1 := ih _ d' g5 (m + 1) F c h (fun t => hf_m1 (m := m') (by have h2 := ht t; omega) (g1 t) (g2 t) (g3 t) xy' (hF t))
        omega
      · subst e
        obtain ⟨x, y, d, px, xy, h1, h2, h3, h4, h5, h6⟩ := h
        have e1 : x ≤ x' := by
          rcases Nat.lt_or_ge x' x with z | z
          · have z1 := h1 x' z
            have z2 := g2 x' (Nat.le_refl _)
            have z3 := hF x'
            omega
          · exact z
        have e2 : y ≤ y' := by
          rcases Nat.lt_or_ge y' y with z | z
          · have z1 := h3 y' z
            have z2 := g4 y' (Nat.le_refl _)
            have z3 := hF y'
            omega
          · exact z
        have h7 := ih _ d' g5 m (hf_M F x y) d h5 (fun t => hf_mm (h1 t) (h2 t) (h3 t) (h4 t) (g1 t) (g2 t) (g3 t) (g4 t) xy xy' e1 e2 (hF t))
        omega
      · obtain ⟨x, y, d, px, xy, h1, _⟩ := h
        have z1 := h1 0 px
        have z2 := g1 0 px'
        have z3 := hF 0
        omega
theorem hf_uniq {m m' : Nat} {F F' : Nat → Nat} {c c' : Nat} (h : hf_E m F c) (h' : hf_E m' F' c') (e : ∀ t, F t = F' t) : c = c' := by
  have h1 := hf_mono m' F' c' h' m F c h (fun t => Nat.le_of_eq (e t))
  have h2 := hf_mono m F c h m' F' c' h' (fun t => Nat.le_of_eq (e t).symm)
  omega
/-! one place less -/
theorem cn_del (q : Nat → Bool) {a N : Nat} (h : a < N) : cn_c (fun y => q y && !decide (y = a)) N + (q a).toNat = cn_c q N := by
  induction N with
  | zero => exact absurd h (Nat.not_lt_zero a)
  | succ N ih =>
    rw [cn_s, cn_s]
    by_cases e : a = N
    · subst e
      have h1 : cn_c (fun y => q y && !decide (y = a)) a = cn_c q a := cn_congr (fun j hj => by
        have h2 : ¬ j = a := by omega
        simp [h2])
      rw [h1]
      simp
    · have h1 := ih (by omega)
      have h2 : ¬ N = a := fun z => e z.symm
      simp only [h2, decide_false, Bool.not_false, Bool.and_true]
      omega
/-- free places p with weights w; a has the least weight, b the least of the others -/
theorem hf_step {p : Nat → Bool} {w : Nat → Nat} {N a b m : Nat} (ha : a < N) (hb : b < N) (pa : p a = true) (pb : p b = true) (ab : ¬ b = a)
    (ma : ∀ y, y < N → p y = true → w a ≤ w y) (mb : ∀ y, y < N → p y = true → ¬ y = a → w b ≤ w y) (hp : ∀ y, y < N → p y = true → 0 < w y) (hm : cn_c p N = m + 3) (t : Nat) :
    (t < w a → cn_c (fun y => p y && decide (t < w y)) N = m + 3) ∧ (w a ≤ t → cn_c (fun y => p y && decide (t < w y)) N ≤ m + 2) ∧
    (t < w b → m + 2 ≤ cn_c (fun y => p y && decide (t < w y)) N) ∧ (w b ≤ t → cn_c (fun y => p y && decide (t < w y)) N ≤ m + 1) := by
  have d1 := cn_del p ha
  rw [pa] at d1
  have d2 := cn_del (fun y => p y && !decide (y = a)) hb
  have d3 : (p b && !decide (b = a)) = true := by simp [pb, ab]
  simp only [d3] at d2
  have t1 : Bool.toNat true = 1 := rfl
  rw [t1] at d1 d2
  refine ⟨fun h => ?_, fun h => ?_, fun h => ?_, fun h => ?_⟩
  · rw [← hm]
    refine cn_congr (fun y hy => ?_)
    cases hpy : p y with
    | false => rfl
    | true =>
      have h1 := ma y hy hpy
      exact decide_eq_true (by omega)
  · have h1 : cn_c (fun y => p y && decide (t < w y)) N ≤ cn_c (fun y => p y && !decide (y = a)) N := cn_sub (fun y hy h2 => by
      simp only [Bool.and_eq_true, decide_eq_true_eq, Bool.not_eq_true', decide_eq_false_iff_not] at h2 ⊢
      refine ⟨h2.1, fun e => ?_⟩
      rw [e] at h2
      omega)
    omega
  · have h1 : cn_c (fun y => p y && !decide (y = a)) N ≤ cn_c (fun y => p y && decide (t < w y)) N := cn_sub (fun y hy h2 => by
      simp only [Bool.and_eq_true, decide_eq_true_eq, Bool.not_eq_true', decide_eq_false_iff_not] at h2 ⊢
      have h3 := mb y hy h2.1 h2.2
      exact ⟨h2.1, by omega⟩)
    omega
  · have h1 : cn_c (fun y => p y && decide (t < w y)) N ≤ cn_c (fun y => (p y && !decide (y = a)) && !decide (y = b)) N := cn_sub (fun y hy h2 => by
      simp only [Bool.and_eq_true, decide_eq_true_eq, Bool.not_eq_true', decide_eq_false_iff_not] at h2 ⊢
      have h3 := ma b hb pb
      refine ⟨⟨h2.1, fun e => ?_⟩, fun e => ?_⟩
      · rw [e] at h2
        omega
      · rw [e] at h2
        omega)
    omega
/-- the tails after a join: a and b are no longer free, N is, with their sum -/
theorem hf_join {p p' : Nat → Bool} {w w' : Nat → Nat} {N a b : Nat} (ha : a < N) (hb : b < N) (pa : p a = true) (pb : p b = true) (ab : ¬ b = a)
    (hp : ∀ y, y < N → p' y = (p y && !decide (y = a) && !decide (y = b))) (hw : ∀ y, y < N → w' y = w y) (pN : p' N = true) (wN : w' N = w a + w b) (t : Nat) :
    cn_c (fun y => p' y && decide (t < w' y)) (N + 1) = hf_M (fun t => cn_c (fun y => p y && decide (t < w y)) N) (w a) (w b) t := by
  have d1 := cn_del (fun y => p y && decide (t < w y)) ha
  have d2 := cn_del (fun y => (p y && decide (t < w y)) && !decide (y = a)) hb
  have e1 : cn_c (fun y => p' y && decide (t < w' y)) N = cn_c (fun y => ((p y && decide (t < w y)) && !decide (y = a)) && !decide (y = b)) N := cn_congr (fun y hy => by
    simp only [hp y hy, hw y hy]
    cases p y <;> cases decide (y = a) <;> cases decide (y = b) <;> cases decide (t < w y) <;> rfl)
  rw [cn_s, e1]
  simp only [pa, pb, ab, pN, wN, Bool.true_and, Bool.and_true, decide_false, Bool.not_false] at d1 d2 ⊢
  unfold hf_M
  dsimp only
  have f1 : (decide (t < w a)).toNat = if t < w a then 1 else 0 := by by_cases h : t < w a <;> simp [h]
  have f2 : (decide (t < w b)).toNat = if t < w b then 1 else 0 := by by_cases h : t < w b <;> simp [h]
  have f3 : (decide (t < w a + w b)).toNat = if t < w a + w b then 1 else 0 := by by_cases h : t < w a + w b <;> simp [h]
  rw [f1] at d1
  rw [f2] at d2
  rw [f3]
  omega
end
section
/-! bits of an int (out of laws/BITS.to-paste, own names) -/
def bw_t (x : Int32) (i : Nat) : Bool := x.toBitVec.getLsbD i
theorem bw_ext {x y : Int32} (h : ∀ i, i < 32 → bw_t x i = bw_t y i) : x = y := Int32.toBitVec_inj.mp (BitVec.eq_of_getLsbD_eq (fun i hi => h i hi))
theorem bw_or (x y : Int32) (i : Nat) : bw_t (x ||| y) i = (bw_t x i || bw_t y i) := by unfold bw_t; rw [Int32.toBitVec_or, BitVec.getLsbD_or]
theorem bw_and (x y : Int32) (i : Nat) : bw_t (x &&& y) i = (bw_t x i && bw_t y i) := by unfold bw_t; rw [Int32.toBitVec_and, BitVec.getLsbD_and]
theorem bw_big {x : Int32} {i : Nat} (h : 32 ≤ i) : bw_t x i = false := BitVec.getLsbD_of_ge _ _ h
theorem bw_0 (i : Nat) : bw_t 0 i = false := BitVec.getLsbD_zero
theorem bw_sl : ∀ n, n < 32 → ((nI n &&& 31).toBitVec.smod 32).toNat = n := by decide +kernel
theorem bw_su : ∀ n, n < 32 → (((nI n).toUInt32 &&& Int32.toUInt32 31).toBitVec % 32).toNat = n := by decide +kernel
theorem bw_ushr (n : Nat) (hn : n < 32) (x : Int32) (i : Nat) : bw_t ((x.toUInt32 >>> ((nI n).toUInt32 &&& Int32.toUInt32 31)).toInt32) i = bw_t x (n + i) := by
  show (x.toUInt32 >>> ((nI n).toUInt32 &&& Int32.toUInt32 31)).toBitVec.getLsbD i = x.toUInt32.toBitVec.getLsbD (n + i)
  rw [UInt32.toBitVec_shiftRight]
  show (x.toUInt32.toBitVec >>> (((nI n).toUInt32 &&& Int32.toUInt32 31).toBitVec % 32).toNat).getLsbD i = _
  rw [bw_su n hn, BitVec.getLsbD_ushiftRight]
/-- one bit alone -/
theorem bw_one : ∀ n, n < 32 → ∀ i, i < 32 → bw_t ((1 : Int32) <<< (nI n &&& 31)) i = decide (i = n) := by decide +kernel
theorem bw_1 : ∀ i, i < 32 → bw_t 1 i = decide (i = 0) := by decide +kernel
theorem bw_and1 (x : Int32) : (x &&& 1 = 0) ↔ bw_t x 0 = false := by
  constructor
  · intro h
    have h1 : bw_t (x &&& 1) 0 = bw_t 0 0 := by rw [h]
    rw [bw_and, bw_0, bw_1 0 (by omega)] at h1
    simpa using h1
  · intro h
    refine bw_ext (fun i hi => ?_)
    rw [bw_and, bw_0, bw_1 i hi]
    by_cases e : i = 0
    · rw [e, h]
      rfl
    · simp [e]
theorem bw_nat (x : Int32) (i : Nat) : bw_t x i = x.toBitVec.toNat.testBit i := rfl
/-! the ones of a byte -/
def bw_pc (x : Nat) : Nat := cn_c (fun i => x.testBit i) 8
theorem bw_pcs : ∀ x, x < 256 → ¬ x = 0 → (nI x &&& (nI x - 1)) = nI (x &&& (x - 1)) ∧ bw_pc (x &&& (x - 1)) + 1 = bw_pc x ∧ (x &&& (x - 1)) < x := by decide +kernel
theorem bw_pc0 : bw_pc 0 = 0 := by decide +kernel
theorem bw_pcm (y : Int32) {r : Nat} (hr : r ≤ 8) : bw_pc (y.toBitVec.toNat % 2 ^ r) = cn_c (fun j => bw_t y j) r := by
  unfold bw_pc
  have e : 8 = r + (8 - r) := by omega
  rw [e, cn_shift]
  have h1 : cn_c (fun i => (y.toBitVec.toNat % 2 ^ r).testBit i) r = cn_c (fun j => bw_t y j) r := cn_congr (fun j hj => by
    rw [Nat.testBit_mod_two_pow, bw_nat]
    simp [hj])
  have h2 : cn_c (fun j => (y.toBitVec.toNat % 2 ^ r).testBit (r + j)) (8 - r) = 0 := cn_none (fun j _ => by
    rw [Nat.testBit_mod_two_pow, decide_eq_false (by omega), Bool.false_and])
  rw [h1, h2]
  rfl
theorem bw_onesN {post : Int32 → Prop} : ∀ N x, x ≤ N → x < 256 → ∀ k, post (nI (k + bw_pc x)) → wX_onesIn_4 post (N + 1) (nI k) (nI x) := by
  intro N
  induction N with
  | zero =>
    intro x hx _ k h
    have e : x = 0 := by omega
    subst e
    refine br_t rfl ?_
    rw [bw_pc0] at h
    exact h
  | succ N ih =>
    intro x hx hx2 k h
    by_cases e : x = 0
    · subst e
      refine br_t rfl ?_
      rw [bw_pc0] at h
      exact h
    · obtain ⟨h1, h2, h3⟩ := bw_pcs x hx2 e
      refine br_f (nI_ne0 (by omega) (by omega)) (nm_r (nI_1 k) (nm_r h1 (ih _ (by omega) (by omega) (k + 1) ?_)))
      rw [← h2] at h
      rw [show k + 1 + bw_pc (x &&& (x - 1)) = k + (bw_pc (x &&& (x - 1)) + 1) by omega]
      exact h
theorem bw_ones {post : Int32 → Prop} {x : Nat} {z : Int32} (hz : z = nI x) (hx : x < 256) (h : post (nI (bw_pc x))) : wpX_onesIn post () z := by
  subst hz
  refine ⟨256, bw_onesN 255 x (by omega) hx 0 ?_⟩
  rw [Nat.zero_add]
  exact h
/-! rows of bits: k words a row -/
def bw_r (a : Nat → Int32) (k row i : Nat) : Bool := bw_t (a (row * k + i / 32)) (i % 32)
theorem bw_set {a : Nat → Int32} {k row i : Nat} (hk : ∀ r r' x x' : Nat, x < k → x' < k → r * k + x = r' * k + x' → r = r' ∧ x = x') (hi : i < 32 * k) (row' i' : Nat) (hi' : i' < 32 * k) :
    bw_r (upd a (row * k + i / 32) (a (row * k + i / 32) ||| ((1 : Int32) <<< (nI (i % 32) &&& 31)))) k row' i' = (bw_r a k row' i' || decide (row' = row ∧ i' = i)) := by
  unfold bw_r
  by_cases e : row' * k + i' / 32 = row * k + i / 32
  · obtain ⟨e1, e2⟩ := hk row' row (i' / 32) (i / 32) (by omega) (by omega) e
    rw [e, pk_us, bw_or, bw_one (i % 32) (by omega) (i' % 32) (by omega)]
    congr 1
    by_cases e3 : i' % 32 = i % 32
    · have e4 : i' = i := by omega
      simp [e1, e4]
    · have e4 : ¬ i' = i := fun z => e3 (by rw [z])
      simp [e3, e4]
  · rw [pk_un e]
    have e4 : ¬ (row' = row ∧ i' = i) := fun z => e (by rw [z.1, z.2])
    simp [e4]
theorem bw_7 (r r' x x' : Nat) (h : x < 7) (h' : x' < 7) (e : r * 7 + x = r' * 7 + x') : r = r' ∧ x = x' := by omega
theorem bw_13 (r r' x x' : Nat) (h : x < 13) (h' : x' < 13) (e : r * 13 + x = r' * 13 + x') : r = r' ∧ x = x' := by omega
theorem bw_ix {i : Nat} (hi : i < 2 ^ 31) (row k : Nat) : (nI row * nI k) + (nI i >>> ((5 : Int32) &&& 31)) = nI (row * k + i / 32) := by
  rw [pk_mul, pk_shrN hi _ 5 (by decide), nI_add]
theorem bw_ix3 {i : Nat} (hi : i < 2 ^ 31) (row k : Nat) : (nI row * nI k) + (nI i >>> ((3 : Int32) &&& 31)) = nI (row * k + i / 8) := by
  rw [pk_mul, pk_shrN hi _ 3 (by decide), nI_add]
theorem bw_a31 {i : Nat} (hi : i < 2 ^ 31) : nI i &&& 31 = nI (i % 32) := pk_andN (by omega) 5 (by decide)
theorem bw_a7 {i : Nat} (hi : i < 2 ^ 31) : nI i &&& 7 = nI (i % 8) := pk_andN (by omega) 3 (by decide)
theorem bw_a24 : ∀ i, i < 256 → nI i &&& 24 = nI (8 * (i / 8 % 4)) := by decide +kernel
theorem bw_m : ∀ r, r < 8 → ((1 : Int32) <<< (nI r &&& 31)) - 1 = nI (2 ^ r - 1) := by decide +kernel
theorem bw_mt : ∀ r, r < 8 → (nI (2 ^ r - 1)).toBitVec.toNat = 2 ^ r - 1 := by decide +kernel
theorem bw_n16 {s : Nat} (h : s < 32768) : (nI s).toInt16.toInt32 = nI s := by
  have h1 : (nI s).toInt16.toInt = (s : Int) := by
    rw [Int32.toInt_toInt16, nI_toInt (by omega)]
    exact Int.bmod_eq_of_le (by omega) (by omega)
  apply Int32.toInt_inj.mp
  rw [Int16.toInt_toInt32, h1, nI_toInt (by omega)]
theorem bw_n8 : ∀ s, s < 128 → (nI s).toInt8.toInt32 = nI s := by decide +kernel
theorem bw_v8 {s : Nat} (h : s < 128) : vp_nar .byte (nI s) = nI s := by rw [vp_nar_byte, bw_n8 s h]
theorem bw_v16 {s : Nat} (h : s < 32768) : vp_nar .short (nI s) = nI s := by rw [vp_nar_short, bw_n16 h]
theorem bw_z (n : Nat) : (0 : Int32) + nI n = nI n := by rw [← nI_0, nI_add, Nat.zero_add]
theorem bw_n0 (n : Nat) : nI n + (0 : Int32) = nI n := by rw [← nI_0, nI_add, Nat.add_zero]
theorem bw_add {x y : Int32} {a b c : Nat} (hx : x = nI a) (hy : y = nI b) (hc : a + b = c) : x + y = nI c := by rw [hx, hy, nI_add, hc]
theorem bw_sub {x y : Int32} {a b c : Nat} (hx : x = nI a) (hy : y = nI b) (hc : c + b = a) : x - y = nI c := by
  rw [hx, hy, pk_sub (by omega)]
  congr 1
  omega
theorem bw_mul {x y : Int32} {a b c : Nat} (hx : x = nI a) (hy : y = nI b) (hc : a * b = c) : x * y = nI c := by rw [hx, hy, pk_mul, hc]
end
section
/-! a row that is written from its start on: a push at the cursor -/
theorem cu_push {row row' : Nat → Bool} {c N : Nat} {b : Bool} (hz : ∀ x, c ≤ x → x < N → row x = false) (hr : ∀ x, x < N → row' x = (row x || (b && decide (x = c)))) (hc : c < N) :
    (∀ x, x ≤ c → cn_c row' x = cn_c row x) ∧ cn_c row' (c + 1) = cn_c row c + b.toNat ∧ (∀ x, c + 1 ≤ x → x < N → row' x = false) := by
  have h1 : ∀ x, x ≤ c → cn_c row' x = cn_c row x := fun x hx => cn_congr (fun j hj => by
    have e : ¬ j = c := by omega
    rw [hr j (by omega)]
    simp [e])
  refine ⟨h1, ?_, fun x hx hx2 => ?_⟩
  · rw [cn_s, h1 c (Nat.le_refl c), hr c hc, hz c (Nat.le_refl c) hc]
    simp
  · have e : ¬ x = c := by omega
    rw [hr x hx2, hz x (by omega) hx2]
    simp [e]
/-! digits of letters -/
def wt_p (v x : Nat) : Nat := x / 2 ^ (3 - v)
def wt_d (v x : Nat) : Nat := x / 2 ^ (2 - v) % 2
theorem wt_ps : ∀ v, v < 3 → ∀ x, x < 8 → wt_p (v + 1) x = 2 * wt_p v x + wt_d v x := by decide
theorem wt_p0 : ∀ x, x < 8 → wt_p 0 x = 0 := by decide
theorem wt_p3 (x : Nat) : wt_p 3 x = x := by simp [wt_p]
theorem wt_pl : ∀ v, v < 4 → ∀ x, x < 8 → wt_p v x < 2 ^ v := by decide
theorem wt_d2 (v x : Nat) : wt_d v x < 2 := Nat.mod_lt _ (by omega)
theorem wt_dI : ∀ v, v < 3 → ∀ x, x < 8 → (nI x >>> ((2 - nI v) &&& 31)) &&& 1 = nI (wt_d v x) := by decide +kernel
theorem wt_pI : ∀ v, v < 3 → ∀ x, x < 8 → nI x >>> ((3 - nI v) &&& 31) = nI (wt_p v x) := by decide +kernel
theorem wt_2I : ∀ v, v < 3 → (1 : Int32) <<< (nI v &&& 31) = nI (2 ^ v) := by decide +kernel
def wt_K (l : Nat → Nat) (v P m : Nat) : Nat := cn_c (fun j => decide (wt_p v (l j) = P)) m
def wt_B (l : Nat → Nat) (v P m : Nat) : Nat := cn_c (fun j => decide (wt_p v (l j) < P)) m
def wt_O (l : Nat → Nat) (v P m : Nat) : Nat := cn_c (fun j => decide (wt_p v (l j) < P) && decide (wt_d v (l j) = 1)) m
section
variable {l : Nat → Nat}
theorem wt_K3 (c m : Nat) : wt_K l 3 c m = lt_r l c m := cn_congr (fun j _ => by rw [wt_p3])
theorem wt_B3 (c m : Nat) : wt_B l 3 c m = lt_b l c m := cn_congr (fun j _ => by rw [wt_p3])
theorem wt_Kmono (v P : Nat) {i j : Nat} (h : i ≤ j) : wt_K l v P i ≤ wt_K l v P j := cn_mono _ h
theorem wt_Ks (v P i : Nat) : wt_K l v P (i + 1) = wt_K l v P i + (if wt_p v (l i) = P then 1 else 0) := by
  unfold wt_K
  rw [cn_s]
  by_cases h : wt_p v (l i) = P
  · simp [h]
  · simp [h]
theorem wt_Bs (v P m : Nat) : wt_B l v (P + 1) m = wt_B l v P m + wt_K l v P m := by
  refine cn_add (fun j _ => ?_)
  by_cases h1 : wt_p v (l j) < P
  · have h2 : wt_p v (l j) < P + 1 := by omega
    have h3 : ¬ wt_p v (l j) = P := by omega
    simp [h1, h2, h3]
  · by_cases h3 : wt_p v (l j) = P
    · have h2 : wt_p v (l j) < P + 1 := by omega
      simp [h2, h3]
    · have h2 : ¬ wt_p v (l j) < P + 1 := by omega
      simp [h1, h2, h3]
theorem wt_B0 (v m : Nat) : wt_B l v 0 m = 0 := cn_none (fun j _ => by simp)
theorem wt_O0 (v m : Nat) : wt_O l v 0 m = 0 := cn_none (fun j _ => by simp)
theorem wt_Bmono {P Q : Nat} (v m : Nat) (h : P ≤ Q) : wt_B l v P m ≤ wt_B l v Q m := cn_sub (fun j _ h1 => by
  have h2 := of_decide_eq_true h1
  exact decide_eq_true (by omega))
theorem wt_OB (v P m : Nat) : wt_O l v P m ≤ wt_B l v P m := cn_sub (fun j _ h1 => by
  simp only [Bool.and_eq_true] at h1
  exact h1.1)
theorem wt_SK (n v P : Nat) : wt_B l v P n + wt_K l v P n ≤ n := by
  rw [← wt_Bs]
  exact cn_le _ n
end
section
variable {l : Nat → Nat}
theorem wt_Kd {v : Nat} (hv : v < 3) (hl : ∀ j, l j < 8) (P m : Nat) : wt_K l v P m = wt_K l (v + 1) (2 * P) m + wt_K l (v + 1) (2 * P + 1) m := by
  refine cn_add (fun j _ => ?_)
  rw [wt_ps v hv (l j) (hl j)]
  have hd := wt_d2 v (l j)
  generalize wt_d v (l j) = d at *
  generalize wt_p v (l j) = q at *
  by_cases h1 : q = P
  · subst h1
    by_cases h2 : d = 0
    · subst h2
      have h3 : ¬ 2 * q + 0 = 2 * q + 1 := by omega
      simp [h3]
    · have h4 : d = 1 := by omega
      subst h4
      have h3 : ¬ 2 * q + 1 = 2 * q := by omega
      simp [h3]
  · have h2 : ¬ 2 * q + d = 2 * P := by omega
    have h3 : ¬ 2 * q + d = 2 * P + 1 := by omega
    simp [h1, h2, h3]
theorem wt_Bd {v : Nat} (hv : v < 3) (hl : ∀ j, l j < 8) (P m : Nat) : wt_B l (v + 1) (2 * P) m = wt_B l v P m := by
  refine cn_congr (fun j _ => ?_)
  rw [wt_ps v hv (l j) (hl j)]
  have hd := wt_d2 v (l j)
  exact decide_eq_decide.mpr (by omega)
theorem wt_Bd1 {v : Nat} (hv : v < 3) (hl : ∀ j, l j < 8) (P m : Nat) : wt_B l (v + 1) (2 * P + 1) m = wt_B l v P m + wt_K l (v + 1) (2 * P) m := by
  rw [wt_Bs, wt_Bd hv hl]
theorem wt_Os {v : Nat} (hv : v < 3) (hl : ∀ j, l j < 8) (P m : Nat) : wt_O l v (P + 1) m = wt_O l v P m + wt_K l (v + 1) (2 * P + 1) m := by
  refine cn_add (fun j _ => ?_)
  rw [wt_ps v hv (l j) (hl j)]
  have hd := wt_d2 v (l j)
  generalize wt_d v (l j) = d at *
  generalize wt_p v (l j) = q at *
  by_cases h2 : d = 1
  · subst h2
    by_cases h1 : q < P
    · have h3 : q < P + 1 := by omega
      have h4 : ¬ 2 * q + 1 = 2 * P + 1 := by omega
      rw [decide_eq_true h1, decide_eq_true h3, decide_eq_false h4]
      rfl
    · by_cases h5 : q = P
      · subst h5
        simp
      · have h3 : ¬ q < P + 1 := by omega
        have h4 : ¬ 2 * q + 1 = 2 * P + 1 := by omega
        rw [decide_eq_false h1, decide_eq_false h3, decide_eq_false h4]
        rfl
  · have h4 : ¬ 2 * q + d = 2 * P + 1 := by omega
    simp [h2, h4]
/-- the row of level v is written up to first digits P, place i -/
def wt_Ok (l : Nat → Nat) (n v : Nat) (row : Nat → Bool) (P i : Nat) : Prop :=
  (∀ x, wt_B l v P n + wt_K l v P i ≤ x → x < 224 → row x = false) ∧
  ∀ Q m, (Q < P ∧ m ≤ n ∨ Q = P ∧ m ≤ i) → cn_c row (wt_B l v Q n + wt_K l v Q m) = wt_O l v Q n + wt_K l (v + 1) (2 * Q + 1) m
def wt_Fin (l : Nat → Nat) (n v : Nat) (row : Nat → Bool) : Prop :=
  ∀ Q m, Q < 2 ^ v → m ≤ n → cn_c row (wt_B l v Q n + wt_K l v Q m) = wt_O l v Q n + wt_K l (v + 1) (2 * Q + 1) m
theorem wt_K0 (v P : Nat) : wt_K l v P 0 = 0 := rfl
theorem wt_ok0 {n v : Nat} {row : Nat → Bool} (h : ∀ x, x < 224 → row x = false) : wt_Ok l n v row 0 0 := by
  refine ⟨fun x _ hx => h x hx, fun Q m hQ => ?_⟩
  have e : Q = 0 ∧ m = 0 := by omega
  rw [e.1, e.2, wt_K0, wt_K0, wt_B0, wt_O0]
  rfl
theorem wt_okN {n v : Nat} {row : Nat → Bool} {P : Nat} (hv : v < 3) (hl : ∀ j, l j < 8) (h : wt_Ok l n v row P n) : wt_Ok l n v row (P + 1) 0 := by
  refine ⟨fun x hx hx2 => h.1 x (by rw [wt_Bs, wt_K0] at hx; omega) hx2, fun Q m hQ => ?_⟩
  by_cases e : Q = P + 1
  · have e2 : m = 0 := by omega
    rw [e, e2, wt_K0, wt_K0, wt_Bs, wt_Os hv hl]
    exact h.2 P n (Or.inr ⟨rfl, Nat.le_refl n⟩)
  · exact h.2 Q m (by omega)
theorem wt_skip {n v : Nat} {row : Nat → Bool} {P i : Nat} (hv : v < 3) (hl : ∀ j, l j < 8) (hp : ¬ wt_p v (l i) = P) (h : wt_Ok l n v row P i) : wt_Ok l n v row P (i + 1) := by
  have e1 : wt_K l v P (i + 1) = wt_K l v P i := by rw [wt_Ks, if_neg hp, Nat.add_zero]
  refine ⟨fun x hx hx2 => h.1 x (by rw [e1] at hx; exact hx) hx2, fun Q m hQ => ?_⟩
  by_cases e : Q = P ∧ m = i + 1
  · rw [e.1, e.2, e1, wt_Ks (v + 1), if_neg (by rw [wt_ps v hv (l i) (hl i)]; have hd := wt_d2 v (l i); omega), Nat.add_zero]
    exact h.2 P i (Or.inr ⟨rfl, Nat.le_refl i⟩)
  · exact h.2 Q m (by omega)
theorem wt_at {n v : Nat} {P i : Nat} (hp : wt_p v (l i) = P) (hi : i < n) : wt_B l v P n + wt_K l v P i < n := by
  have h1 := wt_SK (l := l) n v P
  have h2 := wt_Kmono (l := l) v P (show i + 1 ≤ n from hi)
  rw [wt_Ks, if_pos hp] at h2
  omega
theorem wt_take {n v : Nat} {row row' : Nat → Bool} {P i : Nat} {b : Bool} (hv : v < 3) (hl : ∀ j, l j < 8) (hn : n ≤ 200) (hi : i < n) (hp : wt_p v (l i) = P) (hb : b.toNat = wt_d v (l i))
    (hr : ∀ x, x < 224 → row' x = (row x || (b && decide (x = wt_B l v P n + wt_K l v P i)))) (h : wt_Ok l n v row P i) : wt_Ok l n v row' P (i + 1) := by
  have e1 : wt_K l v P (i + 1) = wt_K l v P i + 1 := by rw [wt_Ks, if_pos hp]
  have hat := wt_at hp hi
  obtain ⟨g1, g2, g3⟩ := cu_push h.1 hr (by omega)
  refine ⟨fun x hx hx2 => g3 x (by rw [e1] at hx; omega) hx2, fun Q m hQ => ?_⟩
  by_cases e : Q = P ∧ m = i + 1
  · have h3 := h.2 P i (Or.inr ⟨rfl, Nat.le_refl i⟩)
    rw [e.1, e.2, e1, ← Nat.add_assoc, g2, h3, wt_Ks (v + 1), wt_ps v hv (l i) (hl i), hb]
    have hd := wt_d2 v (l i)
    by_cases h4 : wt_d v (l i) = 1
    · rw [h4, if_pos (by omega)]
      omega
    · rw [if_neg (by omega)]
      omega
  · have h3 := h.2 Q m (by omega)
    rw [← h3]
    refine g1 _ ?_
    by_cases e5 : Q = P
    · rw [e5]
      have h6 := wt_Kmono (l := l) v P (show m ≤ i by omega)
      omega
    · have h6 := wt_Kmono (l := l) v Q (show m ≤ n by omega)
      have h7 := wt_Bs (l := l) v Q n
      have h8 := wt_Bmono (l := l) v n (show Q + 1 ≤ P by omega)
      omega
theorem wt_done {n v : Nat} {row : Nat → Bool} (h : wt_Ok l n v row (2 ^ v) 0) : wt_Fin l n v row := fun Q m hQ hm => h.2 Q m (Or.inl ⟨hQ, hm⟩)
theorem wt_Fcongr {n v : Nat} {row row' : Nat → Bool} (hn : n ≤ 200) (h : wt_Fin l n v row) (e : ∀ x, x < 224 → row' x = row x) : wt_Fin l n v row' := by
  intro Q m hQ hm
  rw [← h Q m hQ hm]
  have h1 := wt_SK (l := l) n v Q
  have h2 := wt_Kmono (l := l) v Q hm
  exact cn_congr (fun j hj => e j (by omega))
/-- what a level answers: zeros before the stretch, in it, before a place of it -/
theorem wt_level {n v : Nat} {row : Nat → Bool} (hv : v < 3) (hl : ∀ j, l j < 8) (h : wt_Fin l n v row) {P m : Nat} (hP : P < 2 ^ v) (hm : m ≤ n) :
    ∃ z, z + cn_c row (wt_B l v P n) = wt_B l v P n ∧ z + wt_K l (v + 1) (2 * P) n + cn_c row (wt_B l v P n + wt_K l v P n) = wt_B l v P n + wt_K l v P n ∧
      z + wt_K l (v + 1) (2 * P) m + cn_c row (wt_B l v P n + wt_K l v P m) = wt_B l v P n + wt_K l v P m ∧ wt_B l v P n + wt_K l v P n ≤ n ∧ wt_K l v P m ≤ wt_K l v P n ∧
      wt_K l v P m = wt_K l (v + 1) (2 * P) m + wt_K l (v + 1) (2 * P + 1) m ∧ wt_K l v P n = wt_K l (v + 1) (2 * P) n + wt_K l (v + 1) (2 * P + 1) n := by
  have h0 := h P 0 hP (by omega)
  have h1 := h P n hP (Nat.le_refl n)
  have h2 := h P m hP hm
  have k1 := wt_Kd hv hl P n
  have k2 := wt_Kd hv hl P m
  have k3 := wt_OB (l := l) v P n
  have k4 := wt_SK (l := l) n v P
  have k5 := wt_Kmono (l := l) v P hm
  rw [wt_K0, wt_K0, Nat.add_zero, Nat.add_zero] at h0
  exact ⟨wt_B l v P n - wt_O l v P n, by omega, by omega, by omega, by omega, by omega, by omega, by omega⟩
/-- the bit at the place of an element -/
theorem wt_bit {n v : Nat} {row : Nat → Bool} (hv : v < 3) (hl : ∀ j, l j < 8) (h : wt_Fin l n v row) {m : Nat} (hm : m < n) :
    row (wt_B l v (wt_p v (l m)) n + wt_K l v (wt_p v (l m)) m) = decide (wt_d v (l m) = 1) := by
  have hP := wt_pl v (by omega) (l m) (hl m)
  have h1 := h (wt_p v (l m)) m hP (by omega)
  have h2 := h (wt_p v (l m)) (m + 1) hP (by omega)
  rw [wt_Ks, if_pos rfl, wt_Ks, wt_ps v hv (l m) (hl m), ← Nat.add_assoc] at h2
  by_cases e : wt_d v (l m) = 1
  · rw [if_pos (by omega)] at h2
    rw [decide_eq_true e]
    exact cn_bit.mpr (by omega)
  · rw [if_neg (by omega)] at h2
    rw [decide_eq_false e]
    exact cn_bit0.mpr (by omega)
end
end
section
/-! the matrix of levels: on level v the letters with the first digits P stand in one stretch from B v P on, in their order -/
def wm_Lev (l : Nat → Nat) (n v : Nat) (row : Nat → Bool) (z : Nat) (Bv Bw : Nat → Nat) : Prop :=
  z + cn_c row n = n ∧ ∀ P, P < 2 ^ v → Bv P + wt_K l v P n ≤ n ∧ Bw (2 * P) + cn_c row (Bv P) = Bv P ∧ Bw (2 * P + 1) = z + cn_c row (Bv P) ∧
    ∀ m, m ≤ n → cn_c row (Bv P + wt_K l v P m) = cn_c row (Bv P) + wt_K l (v + 1) (2 * P + 1) m
/-- the order of the letters on level v -/
def wm_Ord (l : Nat → Nat) (n v : Nat) (s : Nat → Nat) (Bv : Nat → Nat) : Prop :=
  (∀ P, P < 2 ^ v → Bv P + wt_K l v P n ≤ n) ∧ ∀ j, j < n → s (Bv (wt_p v (l j)) + wt_K l v (wt_p v (l j)) j) = l j
/-- where a place goes -/
def wm_dn (row : Nat → Bool) (z i : Nat) (b : Bool) : Nat := if b then z + cn_c row i else i - cn_c row i
section
variable {l : Nat → Nat} {n v : Nat} {row : Nat → Bool} {z : Nat} {Bv Bw : Nat → Nat}
theorem wm_ord0 (hl : ∀ j, l j < 8) {s : Nat → Nat} (h : ∀ j, j < n → s j = l j) : wm_Ord l n 0 s (fun _ => 0) := by
  have hK : ∀ m, wt_K l 0 0 m = m := fun m => cn_all (fun j _ => decide_eq_true (wt_p0 (l j) (hl j)))
  refine ⟨fun P hP => ?_, fun j hj => ?_⟩
  · have e : P = 0 := by simpa using hP
    rw [e, hK]
    dsimp only
    omega
  · rw [wt_p0 (l j) (hl j), hK, Nat.zero_add]
    exact h j hj
/-- one level more -/
theorem wm_step {s s' : Nat → Nat} (hv : v < 3) (hl : ∀ j, l j < 8) (h : wm_Ord l n v s Bv) (hr : ∀ i, i < n → row i = decide (wt_d v (s i) = 1)) (hz : z + cn_c row n = n)
    (hp : ∀ i, i < n → s' (wm_dn row z i (row i)) = s i) (h0 : ∀ P, P < 2 ^ v → Bw (2 * P) = wm_dn row z (Bv P) false) (h1 : ∀ P, P < 2 ^ v → Bw (2 * P + 1) = wm_dn row z (Bv P) true) :
    wm_Lev l n v row z Bv Bw ∧ wm_Ord l n (v + 1) s' Bw := by
  have hlt : ∀ j, j < n → Bv (wt_p v (l j)) + wt_K l v (wt_p v (l j)) j < n := fun j hj => by
    have e1 := h.1 (wt_p v (l j)) (wt_pl v (by omega) (l j) (hl j))
    have e2 := wt_Kmono (l := l) v (wt_p v (l j)) (show j + 1 ≤ n from hj)
    rw [wt_Ks, if_pos rfl] at e2
    omega
  have hbit : ∀ j, j < n → row (Bv (wt_p v (l j)) + wt_K l v (wt_p v (l j)) j) = decide (wt_d v (l j) = 1) := fun j hj => by
    rw [hr _ (hlt j hj), h.2 j hj]
  have hcn : ∀ P, P < 2 ^ v → ∀ m, m ≤ n → cn_c row (Bv P + wt_K l v P m) = cn_c row (Bv P) + wt_K l (v + 1) (2 * P + 1) m := by
    intro P hP m
    induction m with
    | zero => intro _; rfl
    | succ m ih =>
      intro hm
      have e1 := ih (by omega)
      rw [wt_Ks, wt_Ks, wt_ps v hv (l m) (hl m)]
      have hd := wt_d2 v (l m)
      by_cases e : wt_p v (l m) = P
      · have e2 := hbit m (by omega)
        rw [e] at e2
        rw [if_pos e, ← Nat.add_assoc, cn_s, e1, e2, e]
        by_cases e3 : wt_d v (l m) = 1
        · rw [if_pos (by omega), decide_eq_true e3]
          rfl
        · rw [if_neg (by omega), decide_eq_false e3]
          rfl
      · rw [if_neg e, if_neg (by omega), Nat.add_zero, Nat.add_zero]
        exact e1
  have hle : ∀ x, cn_c row x ≤ x := fun x => cn_le row x
  have lev : wm_Lev l n v row z Bv Bw := by
    refine ⟨hz, fun P hP => ⟨h.1 P hP, ?_, ?_, hcn P hP⟩⟩
    · rw [h0 P hP]
      have e1 := hle (Bv P)
      simp only [wm_dn, Bool.false_eq_true, if_false]
      omega
    · rw [h1 P hP]
      simp only [wm_dn, if_true]
  refine ⟨lev, fun Q hQ => ?_, fun j hj => ?_⟩
  · have hP : Q / 2 < 2 ^ v := by
      rw [Nat.pow_succ] at hQ
      omega
    obtain ⟨g1, g2, g3, g4⟩ := lev.2 (Q / 2) hP
    have g5 := g4 n (Nat.le_refl n)
    have g6 := wt_Kd hv hl (Q / 2) n
    have g7 := cn_mono row g1
    have g8 := hle (Bv (Q / 2) + wt_K l v (Q / 2) n)
    by_cases e : Q % 2 = 0
    · have e1 : Q = 2 * (Q / 2) := by omega
      rw [← e1] at g2 g6
      omega
    · have e1 : Q = 2 * (Q / 2) + 1 := by omega
      rw [← e1] at g3 g5 g6
      omega
  · have e0 := hbit j hj
    have e1 := hp _ (hlt j hj)
    rw [h.2 j hj, e0] at e1
    have hP := wt_pl v (by omega) (l j) (hl j)
    obtain ⟨g1, g2, g3, g4⟩ := lev.2 (wt_p v (l j)) hP
    have g5 := g4 j (by omega)
    have g6 := wt_Kd hv hl (wt_p v (l j)) j
    have g8 := hle (Bv (wt_p v (l j)) + wt_K l v (wt_p v (l j)) j)
    rw [wt_ps v hv (l j) (hl j)]
    have hd := wt_d2 v (l j)
    by_cases e3 : wt_d v (l j) = 1
    · rw [decide_eq_true e3] at e1
      rw [e3]
      refine Eq.trans (congrArg s' ?_) e1
      simp only [wm_dn, if_true]
      omega
    · have e4 : wt_d v (l j) = 0 := by omega
      rw [decide_eq_false e3] at e1
      rw [e4, Nat.add_zero]
      refine Eq.trans (congrArg s' ?_) e1
      simp only [wm_dn, Bool.false_eq_true, if_false]
      omega
theorem wm_congr {row' : Nat → Bool} (hn : n ≤ 200) (h : wm_Lev l n v row z Bv Bw) (e : ∀ x, x < 224 → row' x = row x) : wm_Lev l n v row' z Bv Bw := by
  have hc : ∀ x, x ≤ n → cn_c row' x = cn_c row x := fun x hx => cn_congr (fun j hj => e j (by omega))
  refine ⟨by rw [hc n (Nat.le_refl n)]; exact h.1, fun P hP => ?_⟩
  obtain ⟨g1, g2, g3, g4⟩ := h.2 P hP
  refine ⟨g1, by rw [hc _ (by omega)]; exact g2, by rw [hc _ (by omega)]; exact g3, fun m hm => ?_⟩
  have h2 := wt_Kmono (l := l) v P hm
  rw [hc _ (by omega), hc _ (by omega)]
  exact g4 m hm
/-- a step down to the zeros, to the ones -/
theorem wm_down0 (hv : v < 3) (hl : ∀ j, l j < 8) (h : wm_Lev l n v row z Bv Bw) {P m : Nat} (hP : P < 2 ^ v) (hm : m ≤ n) :
    Bw (2 * P) + wt_K l (v + 1) (2 * P) m + cn_c row (Bv P + wt_K l v P m) = Bv P + wt_K l v P m := by
  obtain ⟨g1, g2, g3, g4⟩ := h.2 P hP
  have g5 := g4 m hm
  have g6 := wt_Kd hv hl P m
  omega
theorem wm_down1 (h : wm_Lev l n v row z Bv Bw) {P m : Nat} (hP : P < 2 ^ v) (hm : m ≤ n) :
    z + cn_c row (Bv P + wt_K l v P m) = Bw (2 * P + 1) + wt_K l (v + 1) (2 * P + 1) m := by
  obtain ⟨g1, g2, g3, g4⟩ := h.2 P hP
  have g5 := g4 m hm
  omega
theorem wm_le (h : wm_Lev l n v row z Bv Bw) {P m : Nat} (hP : P < 2 ^ v) (hm : m ≤ n) : Bv P + wt_K l v P m ≤ n := by
  obtain ⟨g1, g2, g3, g4⟩ := h.2 P hP
  have h2 := wt_Kmono (l := l) v P hm
  omega
theorem wm_lt (h : wm_Lev l n v row z Bv Bw) (hv : v < 3) (hl : ∀ j, l j < 8) {j : Nat} (hj : j < n) : Bv (wt_p v (l j)) + wt_K l v (wt_p v (l j)) j < n := by
  have hP := wt_pl v (by omega) (l j) (hl j)
  have h1 := wm_le h hP (show j + 1 ≤ n from hj)
  rw [wt_Ks, if_pos rfl] at h1
  omega
theorem wm_bit (h : wm_Lev l n v row z Bv Bw) (hv : v < 3) (hl : ∀ j, l j < 8) {j : Nat} (hj : j < n) :
    row (Bv (wt_p v (l j)) + wt_K l v (wt_p v (l j)) j) = decide (wt_d v (l j) = 1) := by
  have hP := wt_pl v (by omega) (l j) (hl j)
  obtain ⟨g1, g2, g3, g4⟩ := h.2 _ hP
  have h1 := g4 j (by omega)
  have h2 := g4 (j + 1) (by omega)
  rw [wt_Ks, if_pos rfl, wt_Ks, wt_ps v hv (l j) (hl j), ← Nat.add_assoc] at h2
  by_cases e : wt_d v (l j) = 1
  · rw [if_pos (by omega)] at h2
    rw [decide_eq_true e]
    exact cn_bit.mpr (by omega)
  · rw [if_neg (by omega)] at h2
    rw [decide_eq_false e]
    exact cn_bit0.mpr (by omega)
end
/-- all levels -/
def wm_All (l : Nat → Nat) (n : Nat) (R : Nat → Nat → Bool) (z : Nat → Nat) : Prop :=
  ∃ B : Nat → Nat → Nat, B 0 0 = 0 ∧ ∀ v, v < 3 → wm_Lev l n v (R v) (z v) (B v) (B (v + 1))
end
section
/-! high and low parts of the places of a letter c, w low bits -/
def ef_Ok (l : Nat → Nat) (c w : Nat) (h : Nat → Bool) (i : Nat) : Prop :=
  (∀ x, i / 2 ^ w + lt_r l c i ≤ x → x < 416 → h x = false) ∧ cn_c h (i / 2 ^ w + lt_r l c i) = lt_r l c i ∧
  ∀ j, j < i → l j = c → h (j / 2 ^ w + lt_r l c j) = true ∧ cn_c h (j / 2 ^ w + lt_r l c j) = lt_r l c j
section
variable {l : Nat → Nat} {c w : Nat} {h h' : Nat → Bool} {i : Nat}
theorem ef_pos (hi : i ≤ 200) : i / 2 ^ w + lt_r l c i < 416 := by
  have h1 := lt_r_le l c i
  have h2 := Nat.div_le_self i (2 ^ w)
  omega
theorem ef_0 (hz : ∀ x, x < 416 → h x = false) : ef_Ok l c w h 0 := by
  have e : lt_r l c 0 = 0 := rfl
  refine ⟨fun x _ hx => hz x hx, ?_, fun j hj => absurd hj (Nat.not_lt_zero j)⟩
  rw [e, Nat.zero_div]
  rfl
theorem ef_skip (hi : i < 200) (hc : ¬ l i = c) (H : ef_Ok l c w h i) : ef_Ok l c w h (i + 1) := by
  have e := lt_r_f hc
  have hd : i / 2 ^ w ≤ (i + 1) / 2 ^ w := Nat.div_le_div_right (by omega)
  have hp := ef_pos (l := l) (c := c) (w := w) (show i + 1 ≤ 200 by omega)
  rw [e] at hp
  refine ⟨fun x hx hx2 => H.1 x (by rw [e] at hx; omega) hx2, ?_, fun j hj hjc => ?_⟩
  · rw [e, cn_flat (show i / 2 ^ w + lt_r l c i ≤ (i + 1) / 2 ^ w + lt_r l c i by omega) (fun k h1 h2 => H.1 k h1 (by omega))]
    exact H.2.1
  · by_cases e2 : j = i
    · rw [e2] at hjc
      exact absurd hjc hc
    · exact H.2.2 j (by omega) hjc
theorem ef_take (hi : i < 200) (hc : l i = c) (hr : ∀ x, x < 416 → h' x = (h x || decide (x = i / 2 ^ w + lt_r l c i))) (H : ef_Ok l c w h i) : ef_Ok l c w h' (i + 1) := by
  have e := lt_r_t hc
  have hd : i / 2 ^ w ≤ (i + 1) / 2 ^ w := Nat.div_le_div_right (by omega)
  have hp := ef_pos (l := l) (c := c) (w := w) (show i + 1 ≤ 200 by omega)
  rw [e] at hp
  obtain ⟨g1, g2, g3⟩ := cu_push (row' := h') (b := true) H.1 (fun x hx => by rw [hr x hx, Bool.true_and]) (by omega)
  have t1 : Bool.toNat true = 1 := rfl
  refine ⟨fun x hx hx2 => g3 x (by rw [e] at hx; omega) hx2, ?_, fun j hj hjc => ?_⟩
  · rw [e, cn_flat (show i / 2 ^ w + lt_r l c i + 1 ≤ (i + 1) / 2 ^ w + (lt_r l c i + 1) by omega) (fun k h1 h2 => g3 k h1 (by omega)), g2, H.2.1, t1]
  · by_cases e2 : j = i
    · rw [e2]
      refine ⟨?_, ?_⟩
      · rw [hr _ (by omega)]
        simp
      · rw [g1 _ (Nat.le_refl _)]
        exact H.2.1
    · have h1 := H.2.2 j (by omega) hjc
      have h2 := lt_r_mono l c (show j + 1 ≤ i by omega)
      rw [lt_r_t hjc] at h2
      have h3 : j / 2 ^ w ≤ i / 2 ^ w := Nat.div_le_div_right (by omega)
      refine ⟨?_, ?_⟩
      · rw [hr _ (by omega), h1.1, Bool.true_or]
      · rw [g1 _ (by omega)]
        exact h1.2
end
/-- what stands for letter c -/
def ef_Fin (l : Nat → Nat) (n c w : Nat) (h : Nat → Bool) (lp : Nat → Nat) : Prop :=
  ∀ j, j < n → l j = c → h (j / 2 ^ w + lt_r l c j) = true ∧ cn_c h (j / 2 ^ w + lt_r l c j) = lt_r l c j ∧ lp (lt_b l c n + lt_r l c j) = j % 2 ^ w
theorem ef_or : ∀ w, w < 8 → ∀ j, j < 200 → (nI (j / 2 ^ w) <<< (nI w &&& 31)) ||| nI (j % 2 ^ w) = nI j := by decide +kernel
theorem ef_low : ∀ w, w < 8 → ∀ j, j < 200 → nI j &&& (((1 : Int32) <<< (nI w &&& 31)) - 1) = nI (j % 2 ^ w) := by decide +kernel
theorem ef_high : ∀ w, w < 8 → ∀ j, j < 200 → nI j >>> (nI w &&& 31) = nI (j / 2 ^ w) := by decide +kernel
theorem ef_shl : ∀ w, w < 9 → ∀ j, j < 201 → nI j <<< (nI w &&& 31) = nI (j * 2 ^ w) := by decide +kernel
/-! halving: the first place that isn't below -/
theorem hv_mid {a b : Nat} (h : a < b) : a ≤ (a + b) / 2 ∧ (a + b) / 2 < b := by omega
end
section
/-! blocks of seven bits: number of ones, number among those with as many -/
def rr_c : Nat → Nat → Nat
  | _, 0 => 1
  | 0, _ + 1 => 0
  | i + 1, k + 1 => rr_c i k + rr_c i (k + 1)
theorem rr_c_lt : ∀ i, i < 8 → ∀ k, k < 9 → rr_c i k < 36 := by decide +kernel
theorem rr_c_0 (i : Nat) : rr_c i 0 = 1 := by cases i <;> rfl
theorem rr_c_big : ∀ i, i < 8 → ∀ k, k < 8 → i < k → rr_c i k = 0 := by decide +kernel
/-- the number of a block: r places are left, the place is 6 - (r - 1) -/
def rr_nm (b : Nat) : Nat → Nat → Nat → Nat
  | 0, m, _ => m
  | r + 1, m, k => if k = 0 then m else if b.testBit (6 - r) then rr_nm b r (m + (if k ≤ r then rr_c r k else 0)) (k - 1) else rr_nm b r m k
/-- the block of a number -/
def rr_bo : Nat → Nat → Nat → Nat → Nat
  | 0, b, _, _ => b
  | r + 1, b, k, m => if k = 0 then b else if (if k ≤ r then rr_c r k else 0) ≤ m then rr_bo r (b ||| 2 ^ (6 - r)) (k - 1) (m - (if k ≤ r then rr_c r k else 0)) else rr_bo r b k m
theorem rr_back : ∀ b, b < 128 → rr_bo 7 0 (bw_pc b) (rr_nm b 7 0 (bw_pc b)) = b ∧ rr_nm b 7 0 (bw_pc b) < 128 ∧ bw_pc b < 8 := by decide +kernel
/-- the bits of a block -/
def rr_bb (q : Nat → Bool) : Nat → Nat
  | 0 => 0
  | i + 1 => rr_bb q i ||| (if q i then 2 ^ i else 0)
theorem rr_bb_lt (q : Nat → Bool) (i : Nat) : rr_bb q i < 2 ^ i := by
  induction i with
  | zero => exact Nat.one_pos
  | succ i ih =>
    have h1 : 2 ^ i < 2 ^ (i + 1) := Nat.pow_lt_pow_right (by omega) (by omega)
    have h2 : rr_bb q i < 2 ^ (i + 1) := by omega
    have h3 : (if q i then 2 ^ i else 0) < 2 ^ (i + 1) := by
      cases q i
      · simp only [Bool.false_eq_true, if_false]
        omega
      · simp only [if_true]
        exact h1
    exact Nat.or_lt_two_pow h2 h3
theorem rr_bb_bit (q : Nat → Bool) (i j : Nat) : (rr_bb q i).testBit j = (decide (j < i) && q j) := by
  induction i with
  | zero => simp [rr_bb]
  | succ i ih =>
    rw [rr_bb, Nat.testBit_or, ih]
    by_cases e : j = i
    · subst e
      cases hq : q j
      · simp
      · simp [Nat.testBit_two_pow_self]
    · have h1 : (if q i then 2 ^ i else 0).testBit j = false := by
        cases q i
        · simp
        · simp only [if_true]
          exact Nat.testBit_two_pow_of_ne (fun z => e z.symm)
      rw [h1, Bool.or_false]
      have h2 : decide (j < i) = decide (j < i + 1) := decide_eq_decide.mpr (by omega)
      rw [h2]
theorem rr_pcm (x : Nat) {r : Nat} (hr : r ≤ 8) : bw_pc (x % 2 ^ r) = cn_c (fun j => x.testBit j) r := by
  unfold bw_pc
  have e : 8 = r + (8 - r) := by omega
  rw [e, cn_shift]
  have h1 : cn_c (fun i => (x % 2 ^ r).testBit i) r = cn_c (fun j => x.testBit j) r := cn_congr (fun j hj => by
    rw [Nat.testBit_mod_two_pow]
    simp [hj])
  have h2 : cn_c (fun j => (x % 2 ^ r).testBit (r + j)) (8 - r) = 0 := cn_none (fun j _ => by
    rw [Nat.testBit_mod_two_pow, decide_eq_false (by omega), Bool.false_and])
  rw [h1, h2]
  rfl
theorem rr_pcb (q : Nat → Bool) {r : Nat} (hr : r ≤ 7) : bw_pc (rr_bb q 7 % 2 ^ r) = cn_c q r := by
  rw [rr_pcm _ (by omega)]
  exact cn_congr (fun j hj => by
    rw [rr_bb_bit]
    simp [show j < 7 by omega])
theorem rr_pc7 (q : Nat → Bool) : bw_pc (rr_bb q 7) = cn_c q 7 := by
  have h := rr_pcb q (Nat.le_refl 7)
  rw [Nat.mod_eq_of_lt (rr_bb_lt q 7)] at h
  exact h
theorem rr_tI : ∀ b, b < 128 → ∀ i, i < 7 → ((((nI b >>> (nI i &&& 31)) &&& 1) = 0) ↔ b.testBit i = false) := by decide +kernel
theorem rr_oI : ∀ b, b < 128 → ∀ i, i < 7 → nI b ||| ((1 : Int32) <<< (nI i &&& 31)) = nI (b ||| 2 ^ i) := by decide +kernel
theorem rr_o0 (x : Int32) : x ||| 0 = x := by
  apply bw_ext
  intro i _
  rw [bw_or, bw_0, Bool.or_false]
/-- the letters c before place n -/
def rr_q (l : Nat → Nat) (n c j : Nat) : Bool := decide (j < n) && decide (l j = c)
theorem rr_q_cn {l : Nat → Nat} {n c x : Nat} (hx : x ≤ n) : cn_c (rr_q l n c) x = lt_r l c x := cn_congr (fun j hj => by
  unfold rr_q
  simp [show j < n by omega])
theorem rr_q_le (l : Nat → Nat) (n c x : Nat) : cn_c (rr_q l n c) x ≤ n := by
  rcases Nat.lt_or_ge n x with h | h
  · have h1 : cn_c (rr_q l n c) x = cn_c (rr_q l n c) n := cn_flat (by omega) (fun k h2 h3 => by
      unfold rr_q
      simp [show ¬ k < n by omega])
    rw [h1]
    exact cn_le _ n
  · have h1 := cn_le (rr_q l n c) x
    omega
/-- block b of letter c -/
def rr_blk (l : Nat → Nat) (n c b : Nat) : Nat := rr_bb (fun i => rr_q l n c (7 * b + i)) 7
theorem rr_blk_lt (l : Nat → Nat) (n c b : Nat) : rr_blk l n c b < 128 := rr_bb_lt _ 7
theorem rr_blk_s (l : Nat → Nat) (n c b : Nat) : cn_c (rr_q l n c) (7 * (b + 1)) = cn_c (rr_q l n c) (7 * b) + bw_pc (rr_blk l n c b) := by
  unfold rr_blk
  rw [rr_pc7, ← cn_shift]
  rfl
theorem rr_blk_r (l : Nat → Nat) (n c b r : Nat) (hr : r ≤ 7) : cn_c (rr_q l n c) (7 * b + r) = cn_c (rr_q l n c) (7 * b) + bw_pc (rr_blk l n c b % 2 ^ r) := by
  unfold rr_blk
  rw [rr_pcb _ hr, ← cn_shift]
end
section
/-! runs -/
def rl_new (l : Nat → Nat) (j : Nat) : Bool := decide (j = 0 ∨ ¬ l j = l (j - 1))
def rl_Ok (l : Nat → Nat) (n i R : Nat) (st le be : Nat → Nat) (sm la : Nat → Int32) : Prop :=
  R = cn_c (rl_new l) i ∧ (0 < i → 0 < R) ∧ (0 < R → st 0 = 0 ∧ st R = n) ∧ (∀ r, r < R → st r < i ∧ (r + 1 < R → st r < st (r + 1))) ∧
  (∀ r, r < R → ∀ j, j < i → st r ≤ j → j < st (r + 1) → l j = le r) ∧ (∀ r, r < R → be r = lt_r l (le r) (st r)) ∧
  (∀ r, r < R → (sm r = -1 ∧ be r = 0) ∨ ∃ q, q < r ∧ sm r = nI q ∧ le q = le r ∧ be r + st q = be q + st (q + 1)) ∧
  (∀ c, c < 8 → (la c = -1 ∧ lt_r l c i = 0) ∨ ∃ r, r < R ∧ la c = nI r ∧ le r = c ∧ lt_r l c i + st r = be r + min (st (r + 1)) i) ∧
  (0 < R → la (le (R - 1)) = nI (R - 1))
theorem lt_r_all {l : Nat → Nat} {c a b : Nat} (h : a ≤ b) (hc : ∀ j, a ≤ j → j < b → l j = c) : lt_r l c b + a = lt_r l c a + b := by
  have e : a + (b - a) = b := by omega
  have h1 := cn_shift (fun j => decide (l j = c)) a (b - a)
  rw [e, cn_all (fun j hj => decide_eq_true (hc (a + j) (by omega) (by omega)))] at h1
  unfold lt_r
  omega
theorem lt_r_none {l : Nat → Nat} {c a b : Nat} (h : a ≤ b) (hc : ∀ j, a ≤ j → j < b → ¬ l j = c) : lt_r l c b = lt_r l c a :=
  cn_flat h (fun k h1 h2 => decide_eq_false (hc k h1 h2))
section
variable {l : Nat → Nat} {n i R : Nat} {st le be : Nat → Nat} {sm la : Nat → Int32}
theorem rl_0 (hla : ∀ c, c < 8 → la c = -1) : rl_Ok l n 0 0 st le be sm la :=
  ⟨rfl, fun h => h, fun h => absurd h (by omega), fun r h => absurd h (by omega), fun r h => absurd h (by omega), fun r h => absurd h (by omega), fun r h => absurd h (by omega), fun c hc => Or.inl ⟨hla c hc, rfl⟩, fun h => absurd h (by omega)⟩
theorem rl_Rle (h : rl_Ok l n i R st le be sm la) : R ≤ i := by
  rw [h.1]
  exact cn_le _ i
theorem rl_m1 {r : Nat} (h : r < 2 ^ 31) : ¬ nI r = -1 := by
  intro z
  have z1 : (nI r).toInt = (-1 : Int32).toInt := by rw [z]
  rw [nI_toInt h] at z1
  have z4 : (-1 : Int32).toInt = -1 := by decide
  omega
theorem rl_inj {r q : Nat} (hr : r < 2 ^ 31) (hq : q < 2 ^ 31) (h : nI r = nI q) : r = q := (nI_eq hr hq).mp h
theorem rl_same (hn : n ≤ 200) (hl : ∀ j, l j < 8) (h0 : 0 < i) (hi : i < n) (he : l i = l (i - 1)) (h : rl_Ok l n i R st le be sm la) : rl_Ok l n (i + 1) R st le be sm la := by
  have hRi := rl_Rle h
  obtain ⟨q1, q2, q3, q4, q5, q6, q7, q8, q9⟩ := h
  have hR := q2 h0
  have hlast : le (R - 1) = l i := by
    have e1 := q4 (R - 1) (by omega)
    have e2 := (q3 hR).2
    rw [he]
    refine (q5 (R - 1) (by omega) (i - 1) (by omega) (by omega) ?_).symm
    rw [show R - 1 + 1 = R by omega, e2]
    omega
  refine ⟨?_, fun _ => hR, q3, fun r hr => ⟨by have e1 := (q4 r hr).1; omega, (q4 r hr).2⟩, fun r hr j hj h1 h2 => ?_, q6, q7, fun c hc => ?_, q9⟩
  · rw [cn_f]
    · exact q1
    · exact decide_eq_false (by omega)
  · by_cases e : j = i
    · by_cases e2 : r + 1 < R
      · have e3 := (q4 (r + 1) e2).1
        omega
      · have e3 : r = R - 1 := by omega
        rw [e, e3, hlast]
    · exact q5 r hr j (by omega) h1 h2
  · by_cases e : l i = c
    · rcases q8 c hc with e1 | ⟨r, r1, r2, r3, r4⟩
      · have e2 := q9 hR
        rw [hlast, e, e1.1] at e2
        exact absurd e2.symm (rl_m1 (by omega))
      · have e2 := q9 hR
        rw [hlast, e, r2] at e2
        have e3 := rl_inj (by omega) (by omega) e2
        have e4 := (q3 hR).2
        have e5 : r + 1 = R := by omega
        refine Or.inr ⟨r, r1, r2, r3, ?_⟩
        rw [lt_r_t e]
        rw [e5, e4] at r4 ⊢
        omega
    · rcases q8 c hc with e1 | ⟨r, r1, r2, r3, r4⟩
      · exact Or.inl ⟨e1.1, by rw [lt_r_f e]; exact e1.2⟩
      · refine Or.inr ⟨r, r1, r2, r3, ?_⟩
        rw [lt_r_f e]
        by_cases e2 : r + 1 < R
        · have e3 := (q4 (r + 1) e2).1
          omega
        · have e3 : r = R - 1 := by omega
          rw [e3, hlast] at r3
          exact absurd r3 e
/-- what the run before says of the new run -/
theorem rl_bef (hn : n ≤ 200) (hi : i < n) (hl : ∀ j, l j < 8) (h : rl_Ok l n i R st le be sm la) :
    (la (l i) = -1 ∧ lt_r l (l i) i = 0) ∨ ∃ r, r < R ∧ la (l i) = nI r ∧ le r = l i ∧ lt_r l (l i) i + st r = be r + (if r + 1 = R then i else st (r + 1)) := by
  have hRi := rl_Rle h
  obtain ⟨q1, q2, q3, q4, q5, q6, q7, q8, q9⟩ := h
  rcases q8 (l i) (hl i) with e1 | ⟨r, r1, r2, r3, r4⟩
  · exact Or.inl e1
  · refine Or.inr ⟨r, r1, r2, r3, ?_⟩
    by_cases e : r + 1 = R
    · rw [if_pos e]
      have e2 := (q3 (by omega)).2
      rw [e, e2] at r4
      omega
    · rw [if_neg e]
      have e3 := (q4 (r + 1) (by omega)).1
      omega
theorem rl_add {st' le' be' : Nat → Nat} {sm' la' : Nat → Int32} (hn : n ≤ 200) (hl : ∀ j, l j < 8) (hi : i < n) (he : i = 0 ∨ ¬ l i = l (i - 1)) (h : rl_Ok l n i R st le be sm la)
    (s1 : st' (R + 1) = n) (s2 : st' R = i) (s3 : ∀ r, r < R → st' r = st r) (l1 : le' R = l i) (l2 : ∀ r, r < R → le' r = le r) (b1 : be' R = lt_r l (l i) i) (b2 : ∀ r, r < R → be' r = be r)
    (m1 : sm' R = la (l i)) (m2 : ∀ r, r < R → sm' r = sm r) (a1 : la' (l i) = nI R) (a2 : ∀ c, ¬ c = l i → la' c = la c) : rl_Ok l n (i + 1) (R + 1) st' le' be' sm' la' := by
  have hRi := rl_Rle h
  have hbef := rl_bef hn hi hl h
  obtain ⟨q1, q2, q3, q4, q5, q6, q7, q8, q9⟩ := h
  have s4 : ∀ r, r < R → st' (r + 1) = if r + 1 = R then i else st (r + 1) := fun r hr => by
    by_cases e : r + 1 = R
    · rw [if_pos e, e, s2]
    · rw [if_neg e, s3 (r + 1) (by omega)]
  have hst : ∀ r, r < R → st' (r + 1) ≤ i := fun r hr => by
    rw [s4 r hr]
    by_cases e : r + 1 = R
    · rw [if_pos e]
      omega
    · rw [if_neg e]
      have e1 := (q4 (r + 1) (by omega)).1
      omega
  refine ⟨?_, fun _ => by omega, fun _ => ⟨?_, s1⟩, fun r hr => ?_, fun r hr j hj h1 h2 => ?_, fun r hr => ?_, fun r hr => ?_, fun c hc => ?_, fun _ => ?_⟩
  · rw [cn_t]
    · rw [← q1]
    · exact decide_eq_true he
  · by_cases e : R = 0
    · have e2 : i = 0 := by
        rcases Nat.eq_zero_or_pos i with z | z
        · exact z
        · have z2 := q2 z
          omega
      rw [e] at s2
      rw [s2, e2]
    · rw [s3 0 (by omega)]
      exact (q3 (by omega)).1
  · by_cases e : r = R
    · rw [e, s2]
      exact ⟨by omega, fun z => absurd z (by omega)⟩
    · have e1 := q4 r (by omega)
      rw [s3 r (by omega)]
      refine ⟨by omega, fun z => ?_⟩
      rw [s4 r (by omega)]
      by_cases e2 : r + 1 = R
      · rw [if_pos e2]
        omega
      · rw [if_neg e2]
        exact e1.2 (by omega)
  · by_cases e : r = R
    · rw [e, s2] at h1
      have e2 : j = i := by omega
      rw [e, e2, l1]
    · have e1 := hst r (by omega)
      have e3 := s4 r (by omega)
      rw [s3 r (by omega)] at h1
      rw [l2 r (by omega)]
      refine q5 r (by omega) j (by omega) h1 ?_
      by_cases e2 : r + 1 = R
      · rw [e2, (q3 (by omega)).2]
        omega
      · rw [e3, if_neg e2] at h2
        exact h2
  · by_cases e : r = R
    · rw [e, l1, s2]
      exact b1
    · rw [b2 r (by omega), l2 r (by omega), s3 r (by omega)]
      exact q6 r (by omega)
  · by_cases e : r = R
    · rw [e, m1, b1]
      rcases hbef with e1 | ⟨q, q1', q2', q3', q4'⟩
      · exact Or.inl e1
      · refine Or.inr ⟨q, q1', q2', ?_, ?_⟩
        · rw [l1, l2 q q1']
          exact q3'
        · rw [s3 q q1', b2 q q1', s4 q q1']
          exact q4'
    · rw [m2 r (by omega), b2 r (by omega)]
      rcases q7 r (by omega) with e1 | ⟨q, q1', q2', q3', q4'⟩
      · exact Or.inl e1
      · refine Or.inr ⟨q, q1', q2', ?_, ?_⟩
        · rw [l2 q (by omega), l2 r (by omega)]
          exact q3'
        · rw [s3 q (by omega), b2 q (by omega), s3 (q + 1) (by omega)]
          exact q4'
  · by_cases e : c = l i
    · refine Or.inr ⟨R, by omega, ?_, ?_, ?_⟩
      · rw [e]
        exact a1
      · rw [e]
        exact l1
      · rw [e, lt_r_t rfl, s2, s1, b1]
        omega
    · rw [a2 c e, lt_r_f (fun z => e z.symm)]
      rcases q8 c hc with e1 | ⟨r, r1, r2, r3, r4⟩
      · exact Or.inl e1
      · refine Or.inr ⟨r, by omega, r2, ?_, ?_⟩
        · rw [l2 r r1]
          exact r3
        · have e1 := hst r r1
          rw [s3 r r1, b2 r r1, s4 r r1]
          by_cases e2 : r + 1 = R
          · rw [if_pos e2]
            rw [e2, (q3 (by omega)).2] at r4
            omega
          · rw [if_neg e2]
            rw [s4 r r1, if_neg e2] at e1
            omega
  · rw [show R + 1 - 1 = R by omega, l1]
    exact a1
/-! what the runs of the whole list answer -/
theorem rl_inc (h : rl_Ok l n n R st le be sm la) {r : Nat} (hr : r < R) : st r < st (r + 1) := by
  obtain ⟨q1, q2, q3, q4, q5, q6, q7, q8, q9⟩ := h
  by_cases e : r + 1 < R
  · exact (q4 r hr).2 e
  · have e1 : r + 1 = R := by omega
    rw [e1, (q3 (by omega)).2]
    exact (q4 r hr).1
theorem rl_mono (h : rl_Ok l n n R st le be sm la) {r q : Nat} (hrq : r ≤ q) (hq : q ≤ R) : st r ≤ st q := by
  induction q with
  | zero =>
    have e : r = 0 := by omega
    rw [e]
    exact Nat.le_refl _
  | succ q ih =>
    by_cases e : r = q + 1
    · rw [e]
      exact Nat.le_refl _
    · have e1 := ih (by omega) (by omega)
      have e2 := rl_inc h (show q < R by omega)
      omega
theorem rl_top (h : rl_Ok l n n R st le be sm la) {r : Nat} (hr : r ≤ R) (h0 : 0 < R) : st r ≤ n := by
  have h1 := rl_mono h hr (Nat.le_refl R)
  rw [(h.2.2.1 h0).2] at h1
  exact h1
theorem rl_find (h : rl_Ok l n n R st le be sm la) {j : Nat} (hj : j < n) : ∃ r, r < R ∧ st r ≤ j ∧ j < st (r + 1) := by
  have hR := h.2.1 (by omega)
  have h0 := h.2.2.1 hR
  have key : ∀ q, q ≤ R → j < st q → ∃ r, r < R ∧ st r ≤ j ∧ j < st (r + 1) := by
    intro q
    induction q with
    | zero =>
      intro _ hz
      rw [h0.1] at hz
      omega
    | succ q ih =>
      intro hq hz
      rcases Nat.lt_or_ge j (st q) with e | e
      · exact ih (by omega) e
      · exact ⟨q, by omega, e, hz⟩
  exact key R (Nat.le_refl R) (by rw [h0.2]; exact hj)
theorem rl_let (h : rl_Ok l n n R st le be sm la) {r j : Nat} (hr : r < R) (h1 : st r ≤ j) (h2 : j < st (r + 1)) : l j = le r := by
  have e1 := rl_top h (show r + 1 ≤ R by omega) (by omega)
  exact h.2.2.2.2.1 r hr j (by omega) h1 h2
theorem rl_rank (h : rl_Ok l n n R st le be sm la) {c r place : Nat} (hr : r < R) (hc : le r = c) (hp : st r < place) (hn : place ≤ n) (hno : ∀ q, r < q → q < R → st q < place → ¬ le q = c) :
    lt_r l c place + st r = be r + min (st (r + 1)) place := by
  have e1 := h.2.2.2.2.2.1 r hr
  rw [hc] at e1
  have e2 := rl_inc h hr
  have e3 := lt_r_all (l := l) (c := c) (a := st r) (b := min (st (r + 1)) place) (by omega) (fun j h1 h2 => by
    rw [rl_let h hr h1 (by omega), hc])
  have e4 : lt_r l c place = lt_r l c (min (st (r + 1)) place) := lt_r_none (by omega) (fun j h1 h2 => by
    obtain ⟨q, g1, g2, g3⟩ := rl_find h (show j < n by omega)
    rw [rl_let h g1 g2 g3]
    refine hno q ?_ g1 (by omega)
    rcases Nat.lt_or_ge r q with z | z
    · exact z
    · have z1 := rl_mono h (show q + 1 ≤ r + 1 by omega) (by omega)
      omega)
  omega
theorem rl_rank0 (h : rl_Ok l n n R st le be sm la) {c place : Nat} (hn : place ≤ n) (hno : ∀ q, q < R → st q < place → ¬ le q = c) : lt_r l c place = 0 := by
  have e := lt_r_none (l := l) (c := c) (a := 0) (b := place) (by omega) (fun j h1 h2 => by
    obtain ⟨q, g1, g2, g3⟩ := rl_find h (show j < n by omega)
    rw [rl_let h g1 g2 g3]
    exact hno q g1 (by omega))
  rw [e]
  rfl
/-- place k of a run's letter -/
theorem rl_sel (h : rl_Ok l n n R st le be sm la) {r k : Nat} (hr : r < R) (h1 : be r ≤ k) (h2 : k + st r < be r + st (r + 1)) :
    st r + (k - be r) < n ∧ l (st r + (k - be r)) = le r ∧ lt_r l (le r) (st r + (k - be r)) = k := by
  have e1 := rl_top h (show r + 1 ≤ R by omega) (by omega)
  have e2 := h.2.2.2.2.2.1 r hr
  have e3 := lt_r_all (l := l) (c := le r) (a := st r) (b := st r + (k - be r)) (by omega) (fun j g1 g2 => rl_let h hr g1 (by omega))
  exact ⟨by omega, rl_let h hr (by omega) (by omega), by omega⟩
end
end
section
/-! a tree of codes: letters are items 0 .. 7, nodes items 8 .. ; U y c: letter c is at or below item y -/
/-- how many places before p have a letter of y -/
def hc_C (l : Nat → Nat) (U : Nat → Nat → Bool) (y p : Nat) : Nat := cn_c (fun j => U y (l j)) p
def hc_p (w : Nat → Nat) (J : Nat → Bool) (y : Nat) : Bool := !J y && decide (0 < w y)
def hc_F (w : Nat → Nat) (J : Nat → Bool) (N : Nat) : Nat → Nat := fun t => cn_c (fun y => hc_p w J y && decide (t < w y)) N
/-- the tree so far: k nodes -/
def hc_T (l : Nat → Nat) (n k : Nat) (w : Nat → Nat) (J : Nat → Bool) (lf rt : Nat → Nat) (U : Nat → Nat → Bool) : Prop :=
  (∀ y, y < 8 + k → w y = hc_C l U y n) ∧ (∀ y, y < 8 → ∀ c, U y c = decide (y = c)) ∧
  (∀ m, m < k → lf m < 8 + m ∧ rt m < 8 + m ∧ ¬ lf m = rt m ∧ J (lf m) = true ∧ J (rt m) = true ∧ (∀ c, U (8 + m) c = (U (lf m) c || U (rt m) c)) ∧ (∀ c, U (lf m) c = true → U (rt m) c = true → False) ∧ 0 < w (8 + m)) ∧
  (∀ m m', m < m' → m' < k → ¬ lf m = lf m' ∧ ¬ lf m = rt m' ∧ ¬ rt m = lf m' ∧ ¬ rt m = rt m') ∧
  (∀ y, y < 8 + k → J y = true → (∃ m, m < k ∧ (y = lf m ∨ y = rt m)) ∧ 0 < w y) ∧
  (∀ y y' c, y < 8 + k → y' < 8 + k → J y = false → J y' = false → U y c = true → U y' c = true → y = y') ∧
  (∀ j, j < n → ∃ y, y < 8 + k ∧ J y = false ∧ U y (l j) = true) ∧ (∀ y, 8 + k ≤ y → J y = false)
/-- what the joins have cost -/
def hc_X (n P0 : Nat) (F0 : Nat → Nat) (k P : Nat) (F : Nat → Nat) (s : Nat) : Prop :=
  P + k = P0 ∧ P0 ≤ 8 ∧ ((2 ≤ P ∨ k = 0) → ∀ c, hf_E (P - 2) F c → hf_E (P0 - 2) F0 (s + c)) ∧ (0 < k → 0 < P ∧ (P = 1 → ∃ e, hf_E (P0 - 2) F0 e ∧ s = n + e)) ∧ s ≤ 200 * k
section
variable {l : Nat → Nat} {n k : Nat} {w w' : Nat → Nat} {J J' : Nat → Bool} {lf rt lf' rt' : Nat → Nat} {U U' : Nat → Nat → Bool}
theorem hc_wle (h : hc_T l n k w J lf rt U) {y : Nat} (hy : y < 8 + k) : w y ≤ n := by
  rw [h.1 y hy]
  exact cn_le _ n
theorem hc_0 (hl : ∀ j, l j < 8) (hw : ∀ y, y < 8 → w y = lt_r l y n) (hJ : ∀ y, J y = false) : hc_T l n 0 w J lf rt (fun y c => decide (y = c)) := by
  refine ⟨fun y hy => ?_, fun y _ c => rfl, fun m hm => absurd hm (by omega), fun m m' _ hm => absurd hm (by omega), fun y _ hy => ?_, fun y y' c _ _ _ _ h1 h2 => ?_, fun j hj => ?_, fun y _ => hJ y⟩
  · rw [hw y hy]
    exact cn_congr (fun j _ => decide_eq_decide.mpr ⟨fun z => z.symm, fun z => z.symm⟩)
  · rw [hJ y] at hy
    exact absurd hy (by decide)
  · have e1 := of_decide_eq_true h1
    have e2 := of_decide_eq_true h2
    omega
  · exact ⟨l j, hl j, hJ _, decide_eq_true rfl⟩
/-- a join -/
theorem hc_join {a b : Nat} (h : hc_T l n k w J lf rt U) (ha : a < 8 + k) (hb : b < 8 + k) (pa : hc_p w J a = true) (pb : hc_p w J b = true) (ab : ¬ b = a)
    (w1 : w' (8 + k) = w a + w b) (w2 : ∀ y, y < 8 + k → w' y = w y) (j1 : ∀ y, J' y = (J y || decide (y = a) || decide (y = b))) (f1 : lf' k = a) (f2 : ∀ m, m < k → lf' m = lf m) (r1 : rt' k = b) (r2 : ∀ m, m < k → rt' m = rt m) :
    hc_T l n (k + 1) w' J' lf' rt' (fun y c => if y = 8 + k then U a c || U b c else U y c) := by
  obtain ⟨q1, q2, q3, q4, q5, q6, q7, q8⟩ := h
  have pa1 : J a = false ∧ 0 < w a := by
    unfold hc_p at pa
    simpa using pa
  have pb1 : J b = false ∧ 0 < w b := by
    unfold hc_p at pb
    simpa using pb
  have hU : ∀ y, y < 8 + k → ∀ c, (if y = 8 + k then U a c || U b c else U y c) = U y c := fun y hy c => if_neg (by omega)
  have hJ : ∀ y, J' y = true ↔ (J y = true ∨ y = a ∨ y = b) := fun y => by
    rw [j1 y]
    simp only [Bool.or_eq_true, decide_eq_true_eq, or_assoc]
  have hJf : ∀ y, J' y = false ↔ (J y = false ∧ ¬ y = a ∧ ¬ y = b) := fun y => by
    rw [j1 y]
    simp only [Bool.or_eq_false_iff, decide_eq_false_iff_not, and_assoc]
  have hdis : ∀ c, U a c = true → U b c = true → False := fun c h1 h2 => ab (q6 a b c ha hb pa1.1 pb1.1 h1 h2).symm
  have hchild : ∀ m, m < k → ¬ lf m = a ∧ ¬ lf m = b ∧ ¬ rt m = a ∧ ¬ rt m = b := fun m hm => by
    obtain ⟨_, _, _, g4, g5, _⟩ := q3 m hm
    refine ⟨fun z => ?_, fun z => ?_, fun z => ?_, fun z => ?_⟩
    · rw [z, pa1.1] at g4
      exact absurd g4 (by decide)
    · rw [z, pb1.1] at g4
      exact absurd g4 (by decide)
    · rw [z, pa1.1] at g5
      exact absurd g5 (by decide)
    · rw [z, pb1.1] at g5
      exact absurd g5 (by decide)
  refine ⟨fun y hy => ?_, fun y hy c => ?_, fun m hm => ?_, fun m m' h1 h2 => ?_, fun y hy h1 => ?_, fun y y' c hy hy' h1 h2 h3 h4 => ?_, fun j hj => ?_, fun y hy => ?_⟩
  · by_cases e : y = 8 + k
    · rw [e, w1, q1 a ha, q1 b hb]
      unfold hc_C
      refine (cn_add (fun j _ => ?_)).symm
      dsimp only
      rw [if_pos rfl]
      have g := hdis (l j)
      cases h1 : U a (l j) <;> cases h2 : U b (l j)
      · rfl
      · rfl
      · rfl
      · exact (g h1 h2).elim
    · rw [w2 y (by omega), q1 y (by omega)]
      exact cn_congr (fun j _ => (hU y (by omega) (l j)).symm)
  · dsimp only
    rw [hU y (by omega) c]
    exact q2 y hy c
  · by_cases e : m = k
    · subst e
      rw [f1, r1]
      refine ⟨ha, hb, fun z => ab z.symm, (hJ a).mpr (Or.inr (Or.inl rfl)), (hJ b).mpr (Or.inr (Or.inr rfl)), fun c => ?_, fun c => ?_, by omega⟩
      · dsimp only
        rw [if_pos rfl, hU a ha, hU b hb]
      · dsimp only
        rw [hU a ha, hU b hb]
        exact hdis c
    · obtain ⟨g1, g2, g3, g4, g5, g6, g7, g8⟩ := q3 m (by omega)
      rw [f2 m (by omega), r2 m (by omega), w2 (8 + m) (by omega)]
      refine ⟨g1, g2, g3, (hJ _).mpr (Or.inl g4), (hJ _).mpr (Or.inl g5), fun c => ?_, fun c => ?_, g8⟩
      · dsimp only
        rw [hU (8 + m) (by omega), hU (lf m) (by omega), hU (rt m) (by omega)]
        exact g6 c
      · dsimp only
        rw [hU (lf m) (by omega), hU (rt m) (by omega)]
        exact g7 c
  · by_cases e : m' = k
    · subst e
      rw [f1, r1, f2 m h1, r2 m h1]
      obtain ⟨g1, g2, g3, g4⟩ := hchild m h1
      exact ⟨g1, g2, g3, g4⟩
    · rw [f2 m (by omega), r2 m (by omega), f2 m' (by omega), r2 m' (by omega)]
      exact q4 m m' h1 (by omega)
  · by_cases e : y = 8 + k
    · rw [e] at h1
      rcases (hJ _).mp h1 with z | z | z
      · rw [q8 (8 + k) (Nat.le_refl _)] at z
        exact absurd z (by decide)
      · omega
      · omega
    · rw [w2 y (by omega)]
      rcases (hJ _).mp h1 with z | z | z
      · obtain ⟨⟨m, g1, g2⟩, g3⟩ := q5 y (by omega) z
        exact ⟨⟨m, by omega, by rw [f2 m g1, r2 m g1]; exact g2⟩, g3⟩
      · exact ⟨⟨k, by omega, Or.inl (by rw [f1, z])⟩, by rw [z]; exact pa1.2⟩
      · exact ⟨⟨k, by omega, Or.inr (by rw [r1, z])⟩, by rw [z]; exact pb1.2⟩
  · have k1 := (hJf y).mp h1
    have k2 := (hJf y').mp h2
    dsimp only at h3 h4
    by_cases e : y = 8 + k
    · by_cases e' : y' = 8 + k
      · omega
      · rw [if_pos e] at h3
        rw [hU y' (by omega)] at h4
        rcases (Bool.or_eq_true _ _).mp h3 with z | z
        · exact absurd (q6 a y' c ha (by omega) pa1.1 k2.1 z h4).symm k2.2.1
        · exact absurd (q6 b y' c hb (by omega) pb1.1 k2.1 z h4).symm k2.2.2
    · rw [hU y (by omega)] at h3
      by_cases e' : y' = 8 + k
      · rw [if_pos e'] at h4
        rcases (Bool.or_eq_true _ _).mp h4 with z | z
        · exact absurd (q6 y a c (by omega) ha k1.1 pa1.1 h3 z) k1.2.1
        · exact absurd (q6 y b c (by omega) hb k1.1 pb1.1 h3 z) k1.2.2
      · rw [hU y' (by omega)] at h4
        exact q6 y y' c (by omega) (by omega) k1.1 k2.1 h3 h4
  · obtain ⟨y, g1, g2, g3⟩ := q7 j hj
    by_cases e : y = a ∨ y = b
    · refine ⟨8 + k, by omega, (hJf _).mpr ⟨q8 _ (Nat.le_refl _), by omega, by omega⟩, ?_⟩
      dsimp only
      rw [if_pos rfl]
      rcases e with e | e
      · rw [← e, g3, Bool.true_or]
      · rw [← e, g3, Bool.or_true]
    · refine ⟨y, by omega, (hJf _).mpr ⟨g2, fun z => e (Or.inl z), fun z => e (Or.inr z)⟩, ?_⟩
      dsimp only
      rw [hU y g1]
      exact g3
  · exact (hJf y).mpr ⟨q8 y (by omega), by omega, by omega⟩
/-- when two are free they hold every place -/
theorem hc_two {a b : Nat} (h : hc_T l n k w J lf rt U) (ha : a < 8 + k) (hb : b < 8 + k) (pa : hc_p w J a = true) (pb : hc_p w J b = true) (ab : ¬ b = a) (hP : cn_c (hc_p w J) (8 + k) = 2) : w a + w b = n := by
  obtain ⟨q1, q2, q3, q4, q5, q6, q7, q8⟩ := h
  have pa1 : J a = false ∧ 0 < w a := by
    unfold hc_p at pa
    simpa using pa
  have pb1 : J b = false ∧ 0 < w b := by
    unfold hc_p at pb
    simpa using pb
  have d1 := cn_del (hc_p w J) ha
  rw [pa] at d1
  have d2 := cn_del (fun y => hc_p w J y && !decide (y = a)) hb
  have d3 : (hc_p w J b && !decide (b = a)) = true := by simp [pb, ab]
  simp only [d3] at d2
  have t1 : Bool.toNat true = 1 := rfl
  rw [t1] at d1 d2
  have hno : ∀ y, y < 8 + k → J y = false → 0 < w y → y = a ∨ y = b := by
    intro y hy h1 h2
    rcases Classical.em (y = a ∨ y = b) with e | e
    · exact e
    · have e1 : ((hc_p w J y && !decide (y = a)) && !decide (y = b)) = true := by
        unfold hc_p
        have e2 : ¬ y = a := fun z => e (Or.inl z)
        have e3 : ¬ y = b := fun z => e (Or.inr z)
        simp [h1, h2, e2, e3]
      have e4 := cn_lt (p := fun y => (hc_p w J y && !decide (y = a)) && !decide (y = b)) hy e1
      omega
  rw [q1 a ha, q1 b hb]
  unfold hc_C
  rw [← cn_add (r := fun _ => true) (fun j hj => ?_)]
  · exact cn_all (fun _ _ => rfl)
  · obtain ⟨y, g1, g2, g3⟩ := q7 j hj
    have g4 : 0 < w y := by
      rw [q1 y g1]
      have g5 := cn_lt (p := fun j => U y (l j)) hj g3
      unfold hc_C
      omega
    have g6 := fun z1 z2 => ab (q6 a b (l j) ha hb pa1.1 pb1.1 z1 z2).symm
    rcases hno y g1 g2 g4 with e | e
    · rw [e] at g3
      cases h2 : U b (l j)
      · rw [g3]
        rfl
      · exact (g6 g3 h2).elim
    · rw [e] at g3
      cases h2 : U a (l j)
      · rw [g3]
        rfl
      · exact (g6 h2 g3).elim
end
end
section
section
variable {l : Nat → Nat} {n k : Nat} {w w' : Nat → Nat} {J J' : Nat → Bool} {lf rt : Nat → Nat} {U : Nat → Nat → Bool}
theorem hc_F0 (w : Nat → Nat) (J : Nat → Bool) (N t : Nat) : hc_F w J N t ≤ cn_c (hc_p w J) N := cn_sub (fun y _ h => by
  simp only [Bool.and_eq_true] at h
  exact h.1)
/-- what a join costs -/
theorem hc_cost {n P0 k P s a b : Nat} {F0 : Nat → Nat} (hn : w a + w b ≤ 200) (h2 : P = 2 → w a + w b = n) (ha : a < 8 + k) (hb : b < 8 + k) (pa : hc_p w J a = true) (pb : hc_p w J b = true) (ab : ¬ b = a) (J8 : J (8 + k) = false)
    (ma : ∀ y, y < 8 + k → hc_p w J y = true → w a ≤ w y) (mb : ∀ y, y < 8 + k → hc_p w J y = true → ¬ y = a → w b ≤ w y)
    (w1 : w' (8 + k) = w a + w b) (w2 : ∀ y, y < 8 + k → w' y = w y) (j1 : ∀ y, J' y = (J y || decide (y = a) || decide (y = b))) (hP : P = cn_c (hc_p w J) (8 + k)) (hX : hc_X n P0 F0 k P (hc_F w J (8 + k)) s) :
    2 ≤ P ∧ P - 1 = cn_c (hc_p w' J') (8 + (k + 1)) ∧ hc_X n P0 F0 (k + 1) (P - 1) (hc_F w' J' (8 + (k + 1))) (s + (w a + w b)) := by
  have pa1 : J a = false ∧ 0 < w a := by
    unfold hc_p at pa
    simpa using pa
  have d1 := cn_del (hc_p w J) ha
  rw [pa] at d1
  have d2 := cn_del (fun y => hc_p w J y && !decide (y = a)) hb
  have d3 : (hc_p w J b && !decide (b = a)) = true := by simp [pb, ab]
  simp only [d3] at d2
  have t1 : Bool.toNat true = 1 := rfl
  rw [t1] at d1 d2
  have hp : ∀ y, y < 8 + k → hc_p w' J' y = (hc_p w J y && !decide (y = a) && !decide (y = b)) := fun y hy => by
    unfold hc_p
    rw [j1 y, w2 y hy]
    cases J y <;> cases decide (y = a) <;> cases decide (y = b) <;> cases decide (0 < w y) <;> rfl
  have pN : hc_p w' J' (8 + k) = true := by
    unfold hc_p
    rw [j1, J8, w1]
    have e1 : ¬ 8 + k = a := by omega
    have e2 : ¬ 8 + k = b := by omega
    have e3 : 0 < w a + w b := by omega
    simp [e1, e2, e3]
  have c1 : cn_c (hc_p w' J') (8 + (k + 1)) = P - 1 := by
    rw [show 8 + (k + 1) = 8 + k + 1 by omega, cn_t pN, cn_congr hp]
    omega
  have hF : ∀ t, hc_F w' J' (8 + (k + 1)) t = hf_M (hc_F w J (8 + k)) (w a) (w b) t := fun t => hf_join ha hb pa pb ab hp w2 pN w1 t
  have hFe : hc_F w' J' (8 + (k + 1)) = hf_M (hc_F w J (8 + k)) (w a) (w b) := funext hF
  obtain ⟨x1, x2, x3, x4, x5⟩ := hX
  clear x4
  refine ⟨by omega, c1.symm, by omega, x2, fun hh c hc => ?_, fun _ => ⟨by omega, fun e => ?_⟩, by omega⟩
  · by_cases e3 : P = 2
    · omega
    · have e4 : P = (P - 3) + 3 := by omega
      have st := fun t => hf_step ha hb pa pb ab ma mb (fun y _ hy => by
        unfold hc_p at hy
        simp only [Bool.and_eq_true, decide_eq_true_eq] at hy
        exact hy.2) (show cn_c (hc_p w J) (8 + k) = (P - 3) + 3 by omega) t
      have h3 : hf_E (P - 3 + 1) (hc_F w J (8 + k)) (w a + w b + c) := by
        rw [hFe, show P - 1 - 2 = P - 3 by omega] at hc
        exact ⟨w a, w b, c, pa1.2, ma b hb pb, fun t => (st t).1, fun t => (st t).2.1, fun t => (st t).2.2.1, fun t => (st t).2.2.2, hc, rfl⟩
      rw [show P - 3 + 1 = P - 2 by omega] at h3
      have h4 := x3 (Or.inl (by omega)) _ h3
      rw [Nat.add_assoc]
      exact h4
  · have e3 : P = 2 := by omega
    have h3 := x3 (Or.inl (by omega)) 0 (by
      rw [e3]
      exact ⟨fun t => by have z := hc_F0 w J (8 + k) t; omega, rfl⟩)
    exact ⟨s, by rw [Nat.add_zero] at h3; exact h3, by have z := h2 e3; omega⟩
theorem cn_one {p : Nat → Bool} {N x y : Nat} (h : cn_c p N ≤ 1) (hx : x < N) (hy : y < N) (px : p x = true) (py : p y = true) : x = y := by
  rcases Nat.lt_trichotomy x y with e | e | e
  · have h1 := cn_lt e px
    have h2 := cn_lt hy py
    omega
  · exact e
  · have h1 := cn_lt e py
    have h2 := cn_lt hx px
    omega
theorem hc_free (h : hc_T l n k w J lf rt U) {j y : Nat} (hj : j < n) (hy : y < 8 + k) (h1 : J y = false) (h2 : U y (l j) = true) : hc_p w J y = true := by
  have g5 := cn_lt (p := fun j => U y (l j)) hj h2
  have e := h.1 y hy
  unfold hc_C at e
  unfold hc_p
  have e2 : 0 < w y := by omega
  simp [h1, e2]
theorem hc_end0 (h : hc_T l n 0 w J lf rt U) (hP : cn_c (hc_p w J) 8 ≤ 1) {i j : Nat} (hi : i < n) (hj : j < n) : l i = l j := by
  obtain ⟨y, g1, g2, g3⟩ := h.2.2.2.2.2.2.1 i hi
  obtain ⟨y', g1', g2', g3'⟩ := h.2.2.2.2.2.2.1 j hj
  have e := cn_one hP g1 g1' (hc_free h hi g1 g2 g3) (hc_free h hj g1' g2' g3')
  have e1 := h.2.1 y (by omega) (l i)
  have e2 := h.2.1 y' (by omega) (l j)
  rw [g3] at e1
  rw [g3'] at e2
  have e3 := of_decide_eq_true e1.symm
  have e4 := of_decide_eq_true e2.symm
  omega
theorem hc_endk (h : hc_T l n k w J lf rt U) (hk : 0 < k) (hP : cn_c (hc_p w J) (8 + k) ≤ 1) :
    (∀ j, j < n → U (8 + (k - 1)) (l j) = true) ∧ ∀ m, m + 1 < k → ∃ m', m < m' ∧ m' < k ∧ (8 + m = lf m' ∨ 8 + m = rt m') := by
  obtain ⟨q1, q2, q3, q4, q5, q6, q7, q8⟩ := h
  have node : ∀ m, m < k → J (8 + m) = false → hc_p w J (8 + m) = true := fun m hm hJ => by
    have e := (q3 m hm).2.2.2.2.2.2.2
    unfold hc_p
    simp [hJ, e]
  have child : ∀ m, m < k → J (8 + m) = true → ∃ m', m < m' ∧ m' < k ∧ (8 + m = lf m' ∨ 8 + m = rt m') := fun m hm hJ => by
    obtain ⟨⟨m', g1, g2⟩, _⟩ := q5 (8 + m) (by omega) hJ
    have g3 := q3 m' g1
    exact ⟨m', by omega, g1, g2⟩
  have top : J (8 + (k - 1)) = false := by
    cases e : J (8 + (k - 1)) with
    | false => rfl
    | true =>
      obtain ⟨m', g1, g2, _⟩ := child (k - 1) (by omega) e
      omega
  have pt := node (k - 1) (by omega) top
  refine ⟨fun j hj => ?_, fun m hm => ?_⟩
  · obtain ⟨y, g1, g2, g3⟩ := q7 j hj
    have e := cn_one hP g1 (show 8 + (k - 1) < 8 + k by omega) (hc_free ⟨q1, q2, q3, q4, q5, q6, q7, q8⟩ hj g1 g2 g3) pt
    rw [← e]
    exact g3
  · cases e : J (8 + m) with
    | false =>
      have e1 := cn_one hP (show 8 + m < 8 + k by omega) (show 8 + (k - 1) < 8 + k by omega) (node m (by omega) e) pt
      omega
    | true => exact child m (by omega) e
end
/-! codes -/
def hc_N (k x : Nat) (lf rt cl cb : Nat → Nat) : Prop :=
  (∀ m, x ≤ m → m < k → cl (lf m) = cl (8 + m) + 1 ∧ cb (lf m) = cb (8 + m) ∧ cl (rt m) = cl (8 + m) + 1 ∧ cb (rt m) = cb (8 + m) + 2 ^ cl (8 + m)) ∧
  (∀ m, m < k → cl (8 + m) + m + 1 ≤ k) ∧ (∀ y, cl y ≤ k) ∧ (∀ y, cb y < 2 ^ cl y) ∧ (0 < k → cl (8 + (k - 1)) = 0)
section
variable {l : Nat → Nat} {n k : Nat} {w : Nat → Nat} {J : Nat → Bool} {lf rt cl cb cl' cb' : Nat → Nat} {U : Nat → Nat → Bool}
theorem hc_n0 (h1 : ∀ y, cl y = 0) (h2 : ∀ y, cb y = 0) : hc_N k k lf rt cl cb := by
  refine ⟨fun m g1 g2 => absurd g1 (by omega), fun m hm => ?_, fun y => ?_, fun y => ?_, fun _ => h1 _⟩
  · rw [h1]
    omega
  · rw [h1]
    omega
  · rw [h1, h2]
    exact Nat.one_pos
theorem hc_name {x : Nat} (hT : hc_T l n k w J lf rt U) (hx : x < k) (h : hc_N k (x + 1) lf rt cl cb) (c1 : cl' (lf x) = cl (8 + x) + 1) (c2 : cl' (rt x) = cl (8 + x) + 1) (c3 : ∀ y, ¬ y = lf x → ¬ y = rt x → cl' y = cl y)
    (d1 : cb' (lf x) = cb (8 + x)) (d2 : cb' (rt x) = cb (8 + x) + 2 ^ cl (8 + x)) (d3 : ∀ y, ¬ y = lf x → ¬ y = rt x → cb' y = cb y) : hc_N k x lf rt cl' cb' := by
  obtain ⟨q1, q2, q3, q4, q5, q6, q7, q8⟩ := hT
  obtain ⟨n1, n2, n3, n4, n5⟩ := h
  have hx1 := q3 x hx
  have node : ∀ m, x ≤ m → cl' (8 + m) = cl (8 + m) ∧ cb' (8 + m) = cb (8 + m) := fun m hm => ⟨c3 _ (by omega) (by omega), d3 _ (by omega) (by omega)⟩
  have pw : 2 ^ (cl (8 + x) + 1) = 2 ^ cl (8 + x) + 2 ^ cl (8 + x) := by
    rw [Nat.pow_succ]
    omega
  refine ⟨fun m g1 g2 => ?_, fun m hm => ?_, fun y => ?_, fun y => ?_, fun hk => ?_⟩
  · rw [(node m g1).1, (node m g1).2]
    by_cases e : m = x
    · subst e
      exact ⟨c1, d1, c2, d2⟩
    · obtain ⟨k1, k2, k3, k4⟩ := q4 x m (by omega) g2
      rw [c3 (lf m) (fun z => k1 z.symm) (fun z => k3 z.symm), d3 (lf m) (fun z => k1 z.symm) (fun z => k3 z.symm), c3 (rt m) (fun z => k2 z.symm) (fun z => k4 z.symm), d3 (rt m) (fun z => k2 z.symm) (fun z => k4 z.symm)]
      exact n1 m (by omega) g2
  · have e0 := n2 x hx
    by_cases e1 : 8 + m = lf x
    · rw [e1, c1]
      omega
    · by_cases e2 : 8 + m = rt x
      · rw [e2, c2]
        omega
      · rw [c3 _ e1 e2]
        exact n2 m hm
  · have e0 := n2 x hx
    by_cases e1 : y = lf x
    · rw [e1, c1]
      omega
    · by_cases e2 : y = rt x
      · rw [e2, c2]
        omega
      · rw [c3 _ e1 e2]
        exact n3 y
  · have e0 := n4 (8 + x)
    by_cases e1 : y = lf x
    · rw [e1, c1, d1, pw]
      omega
    · by_cases e2 : y = rt x
      · rw [e2, c2, d2, pw]
        omega
      · rw [c3 _ e1 e2, d3 _ e1 e2]
        exact n4 y
  · rw [(node (k - 1) (by omega)).1]
    exact n5 hk
theorem hc_md0 {x L r : Nat} (h : x % 2 ^ (L + 1) = r) (hr : r < 2 ^ L) : x % 2 ^ L = r ∧ x.testBit L = false := by
  have e1 : x % 2 ^ L = x % 2 ^ (L + 1) % 2 ^ L := (Nat.mod_mod_of_dvd x (Nat.pow_dvd_pow 2 (by omega))).symm
  refine ⟨?_, ?_⟩
  · rw [e1, h]
    exact Nat.mod_eq_of_lt hr
  · have e2 := Nat.testBit_mod_two_pow x (L + 1) L
    rw [h, Nat.testBit_lt_two_pow hr] at e2
    simpa using e2.symm
theorem hc_md1 {x L r : Nat} (h : x % 2 ^ (L + 1) = r + 2 ^ L) (hr : r < 2 ^ L) : x % 2 ^ L = r ∧ x.testBit L = true := by
  have e1 : x % 2 ^ L = x % 2 ^ (L + 1) % 2 ^ L := (Nat.mod_mod_of_dvd x (Nat.pow_dvd_pow 2 (by omega))).symm
  refine ⟨?_, ?_⟩
  · rw [e1, h, Nat.add_mod_right]
    exact Nat.mod_eq_of_lt hr
  · have e2 := Nat.testBit_mod_two_pow x (L + 1) L
    rw [h, Nat.add_comm, Nat.testBit_two_pow_add_eq, Nat.testBit_lt_two_pow hr] at e2
    simpa using e2.symm
theorem hc_A (hT : hc_T l n k w J lf rt U) (h : hc_N k 0 lf rt cl cb) {c : Nat} : ∀ y, y < 8 + k → U y c = true → cl y ≤ cl c ∧ cb c % 2 ^ cl y = cb y := by
  obtain ⟨q1, q2, q3, q4, q5, q6, q7, q8⟩ := hT
  obtain ⟨n1, n2, n3, n4, n5⟩ := h
  intro y
  induction y using Nat.strongRecOn with
  | _ y ih =>
    intro hy hU
    rcases Nat.lt_or_ge y 8 with e | e
    · rw [q2 y e c] at hU
      have e1 := of_decide_eq_true hU
      rw [e1]
      exact ⟨Nat.le_refl _, Nat.mod_eq_of_lt (n4 c)⟩
    · obtain ⟨m, hm⟩ : ∃ m, y = 8 + m := ⟨y - 8, by omega⟩
      subst hm
      obtain ⟨g1, g2, g3, g4, g5, g6, g7, g8⟩ := q3 m (by omega)
      obtain ⟨k1, k2, k3, k4⟩ := n1 m (by omega) (by omega)
      have hr := n4 (8 + m)
      rw [g6 c] at hU
      rcases (Bool.or_eq_true _ _).mp hU with z | z
      · have e1 := ih (lf m) g1 (by omega) z
        rw [k1, k2] at e1
        exact ⟨by omega, (hc_md0 e1.2 hr).1⟩
      · have e1 := ih (rt m) g2 (by omega) z
        rw [k3, k4] at e1
        exact ⟨by omega, (hc_md1 e1.2 hr).1⟩
theorem hc_A0 (hT : hc_T l n k w J lf rt U) (h : hc_N k 0 lf rt cl cb) {c m : Nat} (hm : m < k) (hU : U (lf m) c = true) : cl (8 + m) < cl c ∧ cb c % 2 ^ cl (8 + m) = cb (8 + m) ∧ (cb c).testBit (cl (8 + m)) = false := by
  have g := hT.2.2.1 m hm
  have e1 := hc_A hT h (lf m) (by omega) hU
  obtain ⟨k1, k2, k3, k4⟩ := h.1 m (by omega) hm
  rw [k1, k2] at e1
  have e2 := hc_md0 e1.2 (h.2.2.2.1 (8 + m))
  exact ⟨by omega, e2.1, e2.2⟩
theorem hc_A1 (hT : hc_T l n k w J lf rt U) (h : hc_N k 0 lf rt cl cb) {c m : Nat} (hm : m < k) (hU : U (rt m) c = true) : cl (8 + m) < cl c ∧ cb c % 2 ^ cl (8 + m) = cb (8 + m) ∧ (cb c).testBit (cl (8 + m)) = true := by
  have g := hT.2.2.1 m hm
  have e1 := hc_A hT h (rt m) (by omega) hU
  obtain ⟨k1, k2, k3, k4⟩ := h.1 m (by omega) hm
  rw [k3, k4] at e1
  have e2 := hc_md1 e1.2 (h.2.2.2.1 (8 + m))
  exact ⟨by omega, e2.1, e2.2⟩
theorem hc_B (hT : hc_T l n k w J lf rt U) (h : hc_N k 0 lf rt cl cb) (hE : ∀ m, m + 1 < k → ∃ m', m < m' ∧ m' < k ∧ (8 + m = lf m' ∨ 8 + m = rt m')) {c : Nat} (htop : U (8 + (k - 1)) c = true) :
    ∀ d m, m + d + 1 = k → cl (8 + m) < cl c → cb c % 2 ^ cl (8 + m) = cb (8 + m) → U (8 + m) c = true := by
  intro d
  induction d using Nat.strongRecOn with
  | _ d ih =>
    intro m hm h1 h2
    rcases Nat.eq_zero_or_pos d with e | e
    · have e1 : m = k - 1 := by omega
      rw [e1]
      exact htop
    · obtain ⟨m', g1, g2, g3⟩ := hE m (by omega)
      obtain ⟨k1, k2, k3, k4⟩ := h.1 m' (by omega) g2
      have hr := h.2.2.2.1 (8 + m')
      have g := (hT.2.2.1 m' g2).2.2.2.2.2.1 c
      rcases g3 with z | z
      · rw [z, k1, k2] at h2
        rw [z, k1] at h1
        have e2 := hc_md0 h2 hr
        have e3 := ih (k - 1 - m') (by omega) m' (by omega) (by omega) e2.1
        rw [e3] at g
        rcases (Bool.or_eq_true _ _).mp g.symm with y | y
        · rw [z]
          exact y
        · have e4 := (hc_A1 hT h g2 y).2.2
          rw [e2.2] at e4
          exact absurd e4 (by decide)
      · rw [z, k3, k4] at h2
        rw [z, k3] at h1
        have e2 := hc_md1 h2 hr
        have e3 := ih (k - 1 - m') (by omega) m' (by omega) (by omega) e2.1
        rw [e3] at g
        rcases (Bool.or_eq_true _ _).mp g.symm with y | y
        · have e4 := (hc_A0 hT h g2 y).2.2
          rw [e2.2] at e4
          exact absurd e4 (by decide)
        · rw [z]
          exact y
end
/-! the row of a node: a bit for each place whose letter is below it -/
def hc_Row (l : Nat → Nat) (p q : Nat → Bool) (row : Nat → Bool) (i : Nat) : Prop :=
  (∀ x, cn_c (fun j => p (l j)) i ≤ x → x < 224 → row x = false) ∧ ∀ m, m ≤ i → cn_c row (cn_c (fun j => p (l j)) m) = cn_c (fun j => q (l j)) m
theorem hc_row0 {l : Nat → Nat} {p q row : Nat → Bool} (h : ∀ x, x < 224 → row x = false) : hc_Row l p q row 0 := by
  refine ⟨fun x _ hx => h x hx, fun m hm => ?_⟩
  have e : m = 0 := by omega
  subst e
  rfl
theorem hc_rowF {l : Nat → Nat} {p q row : Nat → Bool} {i : Nat} (hp : p (l i) = false) (hq : q (l i) = false) (h : hc_Row l p q row i) : hc_Row l p q row (i + 1) := by
  have e1 : cn_c (fun j => p (l j)) (i + 1) = cn_c (fun j => p (l j)) i := cn_f (p := fun j => p (l j)) hp
  refine ⟨fun x hx hx2 => h.1 x (by rw [e1] at hx; exact hx) hx2, fun m hm => ?_⟩
  by_cases e : m = i + 1
  · rw [e, e1, cn_f (p := fun j => q (l j)) hq]
    exact h.2 i (Nat.le_refl i)
  · exact h.2 m (by omega)
theorem hc_rowT {l : Nat → Nat} {p q row row' : Nat → Bool} {i : Nat} (hi : i < 200) (hp : p (l i) = true) (hr : ∀ x, x < 224 → row' x = (row x || (q (l i) && decide (x = cn_c (fun j => p (l j)) i)))) (h : hc_Row l p q row i) : hc_Row l p q row' (i + 1) := by
  have e1 : cn_c (fun j => p (l j)) (i + 1) = cn_c (fun j => p (l j)) i + 1 := cn_t (p := fun j => p (l j)) hp
  have e0 := cn_le (fun j => p (l j)) i
  obtain ⟨g1, g2, g3⟩ := cu_push h.1 hr (by omega)
  refine ⟨fun x hx hx2 => g3 x (by rw [e1] at hx; exact hx) hx2, fun m hm => ?_⟩
  by_cases e : m = i + 1
  · rw [e, e1, g2, h.2 i (Nat.le_refl i), cn_s]
  · rw [g1 _ (cn_mono _ (by omega))]
    exact h.2 m (by omega)
theorem hc_rowC {l : Nat → Nat} {p q row row' : Nat → Bool} {i : Nat} (hi : i ≤ 200) (hr : ∀ x, x < 224 → row' x = row x) (h : hc_Row l p q row i) : hc_Row l p q row' i := by
  refine ⟨fun x hx hx2 => by rw [hr x hx2]; exact h.1 x hx hx2, fun m hm => ?_⟩
  rw [← h.2 m hm]
  have e0 := cn_le (fun j => p (l j)) m
  exact cn_congr (fun j hj => hr j (by omega))
end
section
/-! walks: bits of rows, sums of rows -/
theorem ob_fill {f s : Nat → Int32} {i k : Nat} {x : Int32} (hk : k = i) (h : ∀ j, j < i → s j = f j) (hx : x = f i) : ∀ j, j < i + 1 → upd s k x j = f j := by
  intro j hj
  rw [hk]
  by_cases e : j = i
  · rw [e, pk_us, hx]
  · rw [pk_un e]
    exact h j (by omega)
section
variable {fn fp fr fd fc : Int32} {a1 a2 a3 a4 a5 a6 a7 a8 a9 a10 a11 a12 a13 a14 a15 a16 a17 a18 a19 a20 a21 a22 a23 a24 a25 a26 a27 : Nat → Int32}
theorem ob_setBit {post : St1 → Prop} {p0 p1 : Int32} {row i : Nat} (h0 : p0 = nI row) (h1 : p1 = nI i) (hr : row < 21) (hi : i < 224)
    (H : ∀ a5', (∀ r x, x < 224 → bw_r a5' 7 r x = (bw_r a5 7 r x || decide (r = row ∧ x = i))) → post (fn, fp, fr, fd, fc, a1, a2, a3, a4, a5', a6, a7, a8, a9, a10, a11, a12, a13, a14, a15, a16, a17, a18, a19, a20, a21, a22, a23, a24, a25, a26, a27)) : wpX_setBit post (fn, fp, fr, fd, fc, a1, a2, a3, a4, a5, a6, a7, a8, a9, a10, a11, a12, a13, a14, a15, a16, a17, a18, a19, a20, a21, a22, a23, a24, a25, a26, a27) p0 p1 := by
  subst h0 h1
  have e : (nI row * 7) + (nI i >>> ((5 : Int32) &&& 31)) = nI (row * 7 + i / 32) := bw_ix (by omega) row 7
  have hin : vp_in ((nI row * 7) + (nI i >>> ((5 : Int32) &&& 31))) 147 := by
    rw [e]
    exact vp_in_nI (by omega) (by omega)
  refine And.intro hin ⟨hin, fun x ex => ?_⟩
  rw [e, nI_clamp (by omega), bw_a31 (by omega)] at ex
  rw [ex]
  exact H _ (fun r x hx => bw_set bw_7 hi r x hx)
theorem ob_setHigh {post : St1 → Prop} {p0 p1 : Int32} {row i : Nat} (h0 : p0 = nI row) (h1 : p1 = nI i) (hr : row < 8) (hi : i < 416)
    (H : ∀ a12', (∀ r x, x < 416 → bw_r a12' 13 r x = (bw_r a12 13 r x || decide (r = row ∧ x = i))) → post (fn, fp, fr, fd, fc, a1, a2, a3, a4, a5, a6, a7, a8, a9, a10, a11, a12', a13, a14, a15, a16, a17, a18, a19, a20, a21, a22, a23, a24, a25, a26, a27)) : wpX_setHigh post (fn, fp, fr, fd, fc, a1, a2, a3, a4, a5, a6, a7, a8, a9, a10, a11, a12, a13, a14, a15, a16, a17, a18, a19, a20, a21, a22, a23, a24, a25, a26, a27) p0 p1 := by
  subst h0 h1
  have e : (nI row * 13) + (nI i >>> ((5 : Int32) &&& 31)) = nI (row * 13 + i / 32) := bw_ix (by omega) row 13
  have hin : vp_in ((nI row * 13) + (nI i >>> ((5 : Int32) &&& 31))) 104 := by
    rw [e]
    exact vp_in_nI (by omega) (by omega)
  refine And.intro hin ⟨hin, fun x ex => ?_⟩
  rw [e, nI_clamp (by omega), bw_a31 (by omega)] at ex
  rw [ex]
  exact H _ (fun r x hx => bw_set bw_13 hi r x hx)
theorem ob_bit {a : Nat → Int32} {k row i : Nat} : ((((a (row * k + i / 32)).toUInt32 >>> ((nI (i % 32)).toUInt32 &&& Int32.toUInt32 31)).toInt32) &&& 1) = 0 ↔ bw_r a k row i = false := by
  rw [bw_and1, bw_ushr (i % 32) (by omega)]
  exact Iff.rfl
theorem ob_bitAt {post : Int32 → Prop} {p0 p1 : Int32} {row i : Nat} (h0 : p0 = nI row) (h1 : p1 = nI i) (hr : row < 21) (hi : i < 224)
    (H : post (nI (bw_r a5 7 row i).toNat)) : wpX_bitAt post (fn, fp, fr, fd, fc, a1, a2, a3, a4, a5, a6, a7, a8, a9, a10, a11, a12, a13, a14, a15, a16, a17, a18, a19, a20, a21, a22, a23, a24, a25, a26, a27) p0 p1 := by
  subst h0 h1
  have e : (nI row * 7) + (nI i >>> ((5 : Int32) &&& 31)) = nI (row * 7 + i / 32) := bw_ix (by omega) row 7
  have hin : vp_in ((nI row * 7) + (nI i >>> ((5 : Int32) &&& 31))) 147 := by
    rw [e]
    exact vp_in_nI (by omega) (by omega)
  refine And.intro hin ?_
  rw [e, nI_clamp (by omega), bw_a31 (by omega)]
  refine ek_if ob_bit (fun h => ?_) (fun h => ?_)
  · rw [h] at H
    exact H
  · rw [cn_nt h] at H
    exact H
theorem ob_highAt {post : Int32 → Prop} {p0 p1 : Int32} {row i : Nat} (h0 : p0 = nI row) (h1 : p1 = nI i) (hr : row < 8) (hi : i < 416)
    (H : post (nI (bw_r a12 13 row i).toNat)) : wpX_highAt post (fn, fp, fr, fd, fc, a1, a2, a3, a4, a5, a6, a7, a8, a9, a10, a11, a12, a13, a14, a15, a16, a17, a18, a19, a20, a21, a22, a23, a24, a25, a26, a27) p0 p1 := by
  subst h0 h1
  have e : (nI row * 13) + (nI i >>> ((5 : Int32) &&& 31)) = nI (row * 13 + i / 32) := bw_ix (by omega) row 13
  have hin : vp_in ((nI row * 13) + (nI i >>> ((5 : Int32) &&& 31))) 104 := by
    rw [e]
    exact vp_in_nI (by omega) (by omega)
  refine And.intro hin ?_
  rw [e, nI_clamp (by omega), bw_a31 (by omega)]
  refine ek_if ob_bit (fun h => ?_) (fun h => ?_)
  · rw [h] at H
    exact H
  · rw [cn_nt h] at H
    exact H
end
/-! the sums -/
def bs_6 (a5 : Nat → Int32) (q : Nat) : Nat := cn_c (bw_r a5 7 (q / 8)) (32 * (q % 8))
def bs_7 (a5 : Nat → Int32) (q : Nat) : Nat := cn_c (bw_r a5 7 (q / 28)) (8 * (q % 28)) - cn_c (bw_r a5 7 (q / 28)) (32 * (q % 28 / 4))
theorem bs_byte (a5 : Nat → Int32) {row w b r : Nat} (hb : b < 4) (hr : r ≤ 8) : cn_c (bw_r a5 7 row) (32 * w + 8 * b + r) = cn_c (bw_r a5 7 row) (32 * w + 8 * b) + cn_c (fun j => bw_t (a5 (row * 7 + w)) (8 * b + j)) r := by
  rw [cn_shift]
  congr 1
  refine cn_congr (fun j hj => ?_)
  unfold bw_r
  rw [show (32 * w + 8 * b + j) / 32 = w by omega, show (32 * w + 8 * b + j) % 32 = 8 * b + j by omega]
theorem bs_ones (x : Int32) {b : Nat} (hb : b < 4) : (((x.toUInt32 >>> ((nI (8 * b)).toUInt32 &&& Int32.toUInt32 31)).toInt32) &&& 255) = nI (((x.toUInt32 >>> ((nI (8 * b)).toUInt32 &&& Int32.toUInt32 31)).toInt32).toBitVec.toNat % 2 ^ 8) ∧
    bw_pc (((x.toUInt32 >>> ((nI (8 * b)).toUInt32 &&& Int32.toUInt32 31)).toInt32).toBitVec.toNat % 2 ^ 8) = cn_c (fun j => bw_t x (8 * b + j)) 8 := by
  refine ⟨pk_and _ 8 (by decide), ?_⟩
  rw [bw_pcm _ (Nat.le_refl 8)]
  exact cn_congr (fun j _ => bw_ushr (8 * b) (by omega) x j)
section
variable {fn fp fr fd fc : Int32} {a1 a2 a3 a4 a5 a6 a7 a8 a9 a10 a11 a12 a13 a14 a15 a16 a17 a18 a19 a20 a21 a22 a23 a24 a25 a26 a27 : Nat → Int32}
theorem ob_sum29 {post : St1 → Prop} {J4 : Int32 → Int32 → (Nat → Int32) → (Nat → Int32) → (Nat → Int32) → (Nat → Int32) → (Nat → Int32) → (Nat → Int32) → (Nat → Int32) → (Nat → Int32) → (Nat → Int32) → (Nat → Int32) → (Nat → Int32) → (Nat → Int32) → (Nat → Int32) → (Nat → Int32) → (Nat → Int32) → (Nat → Int32) → (Nat → Int32) → (Nat → Int32) → (Nat → Int32) → (Nat → Int32) → (Nat → Int32) → (Nat → Int32) → (Nat → Int32) → (Nat → Int32) → (Nat → Int32) → (Nat → Int32) → (Nat → Int32) → Prop}
    {row w s : Nat} (hr : row < 21) (hw : w < 7) (h7 : ∀ q, q < row * 28 + 4 * w → a7 q = nI (bs_7 a5 q))
    (H : ∀ t a7', t + cn_c (bw_r a5 7 row) (32 * w) = cn_c (bw_r a5 7 row) (32 * w + 32) → (∀ q, q < row * 28 + 4 * w + 4 → a7' q = nI (bs_7 a5 q)) → J4 (nI (s + t)) (nI (w + 1)) a1 a2 a3 a4 a5 a6 a7' a8 a9 a10 a11 a12 a13 a14 a15 a16 a17 a18 a19 a20 a21 a22 a23 a24 a25 a26 a27) :
    ∃ n, wX_sumRow_29 post J4 (nI row) (nI s) (nI w) fn fp fr fd fc n 0 0 a1 a2 a3 a4 a5 a6 a7 a8 a9 a10 a11 a12 a13 a14 a15 a16 a17 a18 a19 a20 a21 a22 a23 a24 a25 a26 a27 := by
  refine pk_loop (fun n b (z : Nat × (Nat → Int32)) => wX_sumRow_29 post J4 (nI row) (nI s) (nI w) fn fp fr fd fc n (nI z.1) (nI b) a1 a2 a3 a4 a5 a6 z.2 a8 a9 a10 a11 a12 a13 a14 a15 a16 a17 a18 a19 a20 a21 a22 a23 a24 a25 a26 a27)
    (fun b z => z.1 + cn_c (bw_r a5 7 row) (32 * w) = cn_c (bw_r a5 7 row) (32 * w + 8 * b) ∧ ∀ q, q < row * 28 + 4 * w + b → z.2 q = nI (bs_7 a5 q)) 4 0 (0, a7) (by omega) ⟨by simp, h7⟩ ?_ ?_
  · intro n z hz
    exact pk_le 4 4 (fun _ => nm_r (nI_add s z.1) (nm_r (nI_1 w) (H z.1 z.2 hz.1 hz.2))) (fun e => absurd e (by omega))
  · intro n b z hb hz ih
    refine pk_le 4 b (fun e => absurd e (by omega)) (fun _ => ?_)
    have hle : z.1 ≤ 32 := by
      have h1 := cn_near (bw_r a5 7 row) (show 32 * w ≤ 32 * w + 8 * b by omega)
      have h2 := hz.1
      omega
    have ei : ((nI row * 28) + (4 * nI w)) + nI b = nI (row * 28 + 4 * w + b) := bw_add (bw_add (bw_mul rfl rfl rfl) (bw_mul rfl rfl rfl) rfl) rfl rfl
    have ej : (nI row * 7) + nI w = nI (row * 7 + w) := bw_add (bw_mul rfl rfl rfl) rfl rfl
    have e8 : 8 * nI b = nI (8 * b) := bw_mul rfl rfl rfl
    have ev : z.1 = bs_7 a5 (row * 28 + 4 * w + b) := by
      unfold bs_7
      rw [show (row * 28 + 4 * w + b) / 28 = row by omega, show (row * 28 + 4 * w + b) % 28 = 4 * w + b by omega, show (4 * w + b) / 4 = w by omega, show 8 * (4 * w + b) = 32 * w + 8 * b by omega]
      have h2 := hz.1
      omega
    obtain ⟨o1, o2⟩ := bs_ones (a5 (row * 7 + w)) hb
    refine ⟨pk_in (row * 28 + 4 * w + b) 588 (by omega) ei, fun x ex => ⟨pk_in (row * 7 + w) 147 (by omega) ej, ?_⟩⟩
    rw [ej, nI_clamp (by omega), e8]
    refine bw_ones o1 (Nat.mod_lt _ (by omega)) ?_
    rw [o2]
    refine nm_r (nI_add _ _) (nm_r (nI_1 b) ?_)
    rw [ei, nI_clamp (by omega), bw_n8 z.1 (by omega)] at ex
    rw [ex]
    refine ih (z.1 + cn_c (fun j => bw_t (a5 (row * 7 + w)) (8 * b + j)) 8, upd z.2 (row * 28 + 4 * w + b) (nI z.1)) ⟨?_, ?_⟩
    · have h1 := bs_byte a5 (row := row) (w := w) hb (Nat.le_refl 8)
      have h2 := hz.1
      rw [show 32 * w + 8 * (b + 1) = 32 * w + 8 * b + 8 by omega]
      dsimp only
      omega
    · exact ob_fill (i := row * 28 + 4 * w + b) rfl hz.2 (by rw [ev])
theorem ob_sumRow {post : St1 → Prop} {p0 : Int32} {row : Nat} (h0 : p0 = nI row) (hr : row < 21) (h6 : ∀ q, q < row * 8 → a6 q = nI (bs_6 a5 q)) (h7 : ∀ q, q < row * 28 → a7 q = nI (bs_7 a5 q))
    (H : ∀ a6' a7', (∀ q, q < (row + 1) * 8 → a6' q = nI (bs_6 a5 q)) → (∀ q, q < (row + 1) * 28 → a7' q = nI (bs_7 a5 q)) → post (fn, fp, fr, fd, fc, a1, a2, a3, a4, a5, a6', a7', a8, a9, a10, a11, a12, a13, a14, a15, a16, a17, a18, a19, a20, a21, a22, a23, a24, a25, a26, a27)) : wpX_sumRow post (fn, fp, fr, fd, fc, a1, a2, a3, a4, a5, a6, a7, a8, a9, a10, a11, a12, a13, a14, a15, a16, a17, a18, a19, a20, a21, a22, a23, a24, a25, a26, a27) p0 := by
  subst h0
  refine pk_loop (fun n w (z : Nat × (Nat → Int32) × (Nat → Int32)) => wX_sumRow_4 post (nI row) fn fp fr fd fc n (nI z.1) (nI w) a1 a2 a3 a4 a5 z.2.1 z.2.2 a8 a9 a10 a11 a12 a13 a14 a15 a16 a17 a18 a19 a20 a21 a22 a23 a24 a25 a26 a27)
    (fun w z => z.1 = cn_c (bw_r a5 7 row) (32 * w) ∧ (∀ q, q < row * 8 + w → z.2.1 q = nI (bs_6 a5 q)) ∧ ∀ q, q < row * 28 + 4 * w → z.2.2 q = nI (bs_7 a5 q)) 7 0 (0, a6, a7) (by omega) ⟨rfl, h6, h7⟩ ?_ ?_
  · intro n z hz
    have hle := cn_le (bw_r a5 7 row) (32 * 7)
    have ei : (nI row * 8) + 7 = nI (row * 8 + 7) := bw_add (bw_mul rfl rfl rfl) rfl rfl
    refine pk_le 7 7 (fun _ => ⟨pk_in (row * 8 + 7) 168 (by omega) ei, fun x ex => ?_⟩) (fun e => absurd e (by omega))
    rw [ei, nI_clamp (by omega), bw_n16 (by omega)] at ex
    rw [ex]
    refine H _ _ ?_ ?_
    · rw [show (row + 1) * 8 = row * 8 + 7 + 1 by omega]
      refine ob_fill rfl hz.2.1 ?_
      rw [hz.1]
      unfold bs_6
      rw [show (row * 8 + 7) / 8 = row by omega, show (row * 8 + 7) % 8 = 7 by omega]
    · intro q hq
      exact hz.2.2 q (by omega)
  · intro n w z hw hz ih
    have hle := cn_le (bw_r a5 7 row) (32 * w)
    have ei : (nI row * 8) + nI w = nI (row * 8 + w) := bw_add (bw_mul rfl rfl rfl) rfl rfl
    refine pk_le 7 w (fun e => absurd e (by omega)) (fun _ => ⟨pk_in (row * 8 + w) 168 (by omega) ei, fun x ex => ?_⟩)
    rw [ei, nI_clamp (by omega), bw_n16 (by omega)] at ex
    rw [ex]
    refine ob_sum29 hr hw hz.2.2 (fun t a7' ht h7' => ih (z.1 + t, upd z.2.1 (row * 8 + w) (nI z.1), a7') ⟨?_, ?_, ?_⟩)
    · have h1 := hz.1
      rw [show 32 * (w + 1) = 32 * w + 32 by omega]
      dsimp only
      omega
    · refine ob_fill (i := row * 8 + w) rfl hz.2.1 ?_
      rw [hz.1]
      unfold bs_6
      rw [show (row * 8 + w) / 8 = row by omega, show (row * 8 + w) % 8 = w by omega]
    · intro q hq
      exact h7' q (by omega)
/-- how many ones come before place i of a row -/
theorem ob_onesBefore {post : Int32 → Prop} {p0 p1 : Int32} {row i : Nat} (h6 : ∀ q, q < 168 → a6 q = nI (bs_6 a5 q)) (h7 : ∀ q, q < 588 → a7 q = nI (bs_7 a5 q)) (h0 : p0 = nI row) (h1 : p1 = nI i) (hr : row < 21) (hi : i < 224)
    (H : post (nI (cn_c (bw_r a5 7 row) i))) : wpX_onesBefore post (fn, fp, fr, fd, fc, a1, a2, a3, a4, a5, a6, a7, a8, a9, a10, a11, a12, a13, a14, a15, a16, a17, a18, a19, a20, a21, a22, a23, a24, a25, a26, a27) p0 p1 := by
  subst h0 h1
  have e5 : (nI row * 8) + (nI i >>> ((5 : Int32) &&& 31)) = nI (row * 8 + i / 32) := bw_ix (by omega) row 8
  have e3 : (nI row * 28) + (nI i >>> ((3 : Int32) &&& 31)) = nI (row * 28 + i / 8) := bw_ix3 (by omega) row 28
  have e7 : (nI row * 7) + (nI i >>> ((5 : Int32) &&& 31)) = nI (row * 7 + i / 32) := bw_ix (by omega) row 7
  have key : ∀ z, (∃ X, z = nI X ∧ X < 256 ∧ bw_pc X = cn_c (fun j => bw_t (a5 (row * 7 + i / 32)) (8 * (i / 8 % 4) + j)) (i % 8)) → wX_onesBefore_37 post (nI row) (nI i) z fn fp fr fd fc a1 a2 a3 a4 a5 a6 a7 a8 a9 a10 a11 a12 a13 a14 a15 a16 a17 a18 a19 a20 a21 a22 a23 a24 a25 a26 a27 := by
    intro z ⟨X, hX, hX2, hX3⟩
    refine And.intro (pk_in (row * 8 + i / 32) 168 (by omega) e5) ⟨pk_in (row * 28 + i / 8) 588 (by omega) e3, bw_ones hX hX2 ?_⟩
    rw [e5, e3, nI_clamp (by omega), nI_clamp (by omega), h6 _ (by omega), h7 _ (by omega), nI_add, nI_add]
    have v6 : bs_6 a5 (row * 8 + i / 32) = cn_c (bw_r a5 7 row) (32 * (i / 32)) := by
      unfold bs_6
      rw [show (row * 8 + i / 32) / 8 = row by omega, show (row * 8 + i / 32) % 8 = i / 32 by omega]
    have v7 : bs_7 a5 (row * 28 + i / 8) = cn_c (bw_r a5 7 row) (32 * (i / 32) + 8 * (i / 8 % 4)) - cn_c (bw_r a5 7 row) (32 * (i / 32)) := by
      unfold bs_7
      rw [show (row * 28 + i / 8) / 28 = row by omega, show (row * 28 + i / 8) % 28 = i / 8 by omega, show i / 8 / 4 = i / 32 by omega, show 8 * (i / 8) = 32 * (i / 32) + 8 * (i / 8 % 4) by omega]
    have v8 := bs_byte a5 (row := row) (w := i / 32) (b := i / 8 % 4) (r := i % 8) (by omega) (by omega)
    rw [show 32 * (i / 32) + 8 * (i / 8 % 4) + i % 8 = i by omega] at v8
    have v9 := cn_mono (bw_r a5 7 row) (show 32 * (i / 32) ≤ 32 * (i / 32) + 8 * (i / 8 % 4) by omega)
    rw [v6, v7, hX3]
    have v10 : cn_c (bw_r a5 7 row) (32 * (i / 32)) + (cn_c (bw_r a5 7 row) (32 * (i / 32) + 8 * (i / 8 % 4)) - cn_c (bw_r a5 7 row) (32 * (i / 32))) + cn_c (fun j => bw_t (a5 (row * 7 + i / 32)) (8 * (i / 8 % 4) + j)) (i % 8) = cn_c (bw_r a5 7 row) i := by omega
    rw [v10]
    exact H
  refine nm_r (bw_a7 (by omega)) (pk_eq (i % 8) 0 (fun h => key 0 ⟨0, rfl, by omega, ?_⟩) (fun h => ⟨pk_in (row * 7 + i / 32) 147 (by omega) e7, key _ ?_⟩))
  · rw [h]
    exact bw_pc0
  · rw [e7, nI_clamp (by omega), bw_a24 i (by omega), bw_m (i % 8) (by omega)]
    refine ⟨_, pk_and _ (i % 8) (bw_mt (i % 8) (by omega)), ?_, ?_⟩
    · have h2 : 2 ^ (i % 8) ≤ 2 ^ 8 := Nat.pow_le_pow_right (by omega) (by omega)
      have h3 := Nat.mod_lt ((((a5 (row * 7 + i / 32)).toUInt32 >>> ((nI (8 * (i / 8 % 4))).toUInt32 &&& Int32.toUInt32 31)).toInt32).toBitVec.toNat) (Nat.pow_pos (n := i % 8) (show 0 < 2 by omega))
      omega
    · rw [bw_pcm _ (by omega)]
      exact cn_congr (fun j _ => bw_ushr _ (by omega) _ j)
theorem ob_zerosBefore {post : Int32 → Prop} {p0 p1 : Int32} {row i : Nat} (h6 : ∀ q, q < 168 → a6 q = nI (bs_6 a5 q)) (h7 : ∀ q, q < 588 → a7 q = nI (bs_7 a5 q)) (h0 : p0 = nI row) (h1 : p1 = nI i) (hr : row < 21) (hi : i < 224)
    {z : Nat} (hz : z + cn_c (bw_r a5 7 row) i = i) (H : post (nI z)) : wpX_zerosBefore post (fn, fp, fr, fd, fc, a1, a2, a3, a4, a5, a6, a7, a8, a9, a10, a11, a12, a13, a14, a15, a16, a17, a18, a19, a20, a21, a22, a23, a24, a25, a26, a27) p0 p1 := by
  refine ob_onesBefore h6 h7 h0 h1 hr hi ?_
  rw [bw_sub h1 rfl hz]
  exact H
end
end
section
/-! walks: the rows of the tree, of the matrix, of the maps -/
theorem ob_digit {post : Int32 → Prop} {x v : Nat} {p0 p1 : Int32} (h0 : p0 = nI x) (h1 : p1 = nI v) (hx : x < 8) (hv : v < 3) (H : post (nI (wt_d v x))) : wpX_digitOf post () p0 p1 := by
  subst h0 h1
  unfold wpX_digitOf
  rw [wt_dI v hv x hx]
  exact H
section
variable {fn fp fr fd fc : Int32} {a1 a2 a3 a4 a5 a6 a7 a8 a9 a10 a11 a12 a13 a14 a15 a16 a17 a18 a19 a20 a21 a22 a23 a24 a25 a26 a27 : Nat → Int32} {l : Nat → Nat} {N : Nat}
theorem ob_pt21 {post : St1 → Prop} {J2 : Int32 → Int32 → Int32 → Int32 → Int32 → Int32 → (Nat → Int32) → (Nat → Int32) → (Nat → Int32) → (Nat → Int32) → (Nat → Int32) → (Nat → Int32) → (Nat → Int32) → (Nat → Int32) → (Nat → Int32) → (Nat → Int32) → (Nat → Int32) → (Nat → Int32) → (Nat → Int32) → (Nat → Int32) → (Nat → Int32) → (Nat → Int32) → (Nat → Int32) → (Nat → Int32) → (Nat → Int32) → (Nat → Int32) → (Nat → Int32) → (Nat → Int32) → (Nat → Int32) → (Nat → Int32) → (Nat → Int32) → (Nat → Int32) → (Nat → Int32) → Prop} {J11 : Int32 → Int32 → Int32 → Int32 → Int32 → Int32 → Int32 → (Nat → Int32) → (Nat → Int32) → (Nat → Int32) → (Nat → Int32) → (Nat → Int32) → (Nat → Int32) → (Nat → Int32) → (Nat → Int32) → (Nat → Int32) → (Nat → Int32) → (Nat → Int32) → (Nat → Int32) → (Nat → Int32) → (Nat → Int32) → (Nat → Int32) → (Nat → Int32) → (Nat → Int32) → (Nat → Int32) → (Nat → Int32) → (Nat → Int32) → (Nat → Int32) → (Nat → Int32) → (Nat → Int32) → (Nat → Int32) → (Nat → Int32) → (Nat → Int32) → (Nat → Int32) → Prop} {v P : Nat} (hv : v < 3) (hP : P < 2 ^ v) (hN : N ≤ 200) (hl : ∀ j, l j < 8) (ha : ∀ j, a1 j = nI (l j)) (h : wt_Ok l N v (bw_r a5 7 v) P 0)
    (H : ∀ a5', wt_Ok l N v (bw_r a5' 7 v) P N → (∀ r x, ¬ r = v → x < 224 → bw_r a5' 7 r x = bw_r a5 7 r x) → J11 (nI (wt_B l v (P + 1) N)) (nI (P + 1)) (nI N) fp fr fd fc a1 a2 a3 a4 a5' a6 a7 a8 a9 a10 a11 a12 a13 a14 a15 a16 a17 a18 a19 a20 a21 a22 a23 a24 a25 a26 a27) :
    ∃ n, wX_packTree_21 post J2 J11 (nI v) (nI P) n (nI (wt_B l v P N)) 0 (nI N) fp fr fd fc a1 a2 a3 a4 a5 a6 a7 a8 a9 a10 a11 a12 a13 a14 a15 a16 a17 a18 a19 a20 a21 a22 a23 a24 a25 a26 a27 := by
  refine pk_loop (fun n i (s : Nat → Int32) => wX_packTree_21 post J2 J11 (nI v) (nI P) n (nI (wt_B l v P N + wt_K l v P i)) (nI i) (nI N) fp fr fd fc a1 a2 a3 a4 s a6 a7 a8 a9 a10 a11 a12 a13 a14 a15 a16 a17 a18 a19 a20 a21 a22 a23 a24 a25 a26 a27)
    (fun i s => wt_Ok l N v (bw_r s 7 v) P i ∧ ∀ r x, ¬ r = v → x < 224 → bw_r s 7 r x = bw_r a5 7 r x) N 0 a5 (by omega) ⟨h, fun _ _ _ _ => rfl⟩ ?_ ?_
  · intro n s hs
    refine pk_le N N (fun _ => nm_r (nI_1 P) ?_) (fun e => absurd e (by omega))
    rw [← wt_Bs]
    exact H s hs.1 hs.2
  · intro n i s hi hs ih
    refine pk_le N i (fun e => absurd e (by omega)) (fun _ => ⟨pk_in i 200 (by omega), ?_⟩)
    rw [nI_clamp (by omega), ha i, wt_pI v hv (l i) (hl i)]
    have hw := wt_pl v (by omega) (l i) (hl i)
    have hv8 : 2 ^ v ≤ 2 ^ 3 := Nat.pow_le_pow_right (by omega) (by omega)
    by_cases hp : wt_p v (l i) = P
    · have hat := wt_at (n := N) hp hi
      have ek : nI (wt_B l v P N + wt_K l v P i) + 1 = nI (wt_B l v P N + wt_K l v P (i + 1)) := by rw [wt_Ks, if_pos hp, ← Nat.add_assoc, nI_1]
      refine br_t (by rw [hp]) ⟨pk_in i 200 (by omega), ob_digit rfl rfl (hl i) hv ?_⟩
      have hd := wt_d2 v (l i)
      refine pk_eq (wt_d v (l i)) 1 (fun hd1 => ?_) (fun hd1 => ?_)
      · refine ob_setBit (row := v) (i := wt_B l v P N + wt_K l v P i) (bw_z v) rfl (by omega) (by omega) (fun a5' h5 => nm_r ek (nm_r (nI_1 i) (ih a5' ⟨?_, ?_⟩)))
        · refine wt_take (b := true) hv hl hN hi hp (by rw [hd1]; rfl) (fun x hx => ?_) hs.1
          rw [h5 v x hx, Bool.true_and]
          congr 1
          exact decide_eq_decide.mpr ⟨fun z => z.2, fun z => ⟨rfl, z⟩⟩
        · intro r x hr hx
          rw [h5 r x hx, hs.2 r x hr hx]
          simp [hr]
      · refine nm_r ek (nm_r (nI_1 i) (ih s ⟨?_, hs.2⟩))
        exact wt_take (b := false) hv hl hN hi hp (by rw [show wt_d v (l i) = 0 by omega]; rfl) (fun x hx => by simp) hs.1
    · have ek : wt_K l v P (i + 1) = wt_K l v P i := by rw [wt_Ks, if_neg hp, Nat.add_zero]
      refine br_f (fun z => hp (rl_inj (by omega) (by omega) z)) (nm_r (nI_1 i) ?_)
      have t := ih s ⟨wt_skip hv hl hp hs.1, hs.2⟩
      try dsimp only at t
      rw [ek] at t
      exact t
theorem ob_packTree {post : St1 → Prop} (hN : N ≤ 200) (hl : ∀ j, l j < 8) (ha : ∀ j, a1 j = nI (l j)) (hz : ∀ r x, r < 3 → x < 224 → bw_r a5 7 r x = false)
    (H : ∀ a5', (∀ v, v < 3 → wt_Fin l N v (bw_r a5' 7 v)) → (∀ r x, 3 ≤ r → x < 224 → bw_r a5' 7 r x = bw_r a5 7 r x) → post (nI N, fp, fr, fd, fc, a1, a2, a3, a4, a5', a6, a7, a8, a9, a10, a11, a12, a13, a14, a15, a16, a17, a18, a19, a20, a21, a22, a23, a24, a25, a26, a27)) : wpX_packTree post (nI N, fp, fr, fd, fc, a1, a2, a3, a4, a5, a6, a7, a8, a9, a10, a11, a12, a13, a14, a15, a16, a17, a18, a19, a20, a21, a22, a23, a24, a25, a26, a27) := by
  refine pk_loop (fun n v (s : Nat → Int32) => wX_packTree_2 post n (nI v) (nI N) fp fr fd fc a1 a2 a3 a4 s a6 a7 a8 a9 a10 a11 a12 a13 a14 a15 a16 a17 a18 a19 a20 a21 a22 a23 a24 a25 a26 a27)
    (fun v s => (∀ v', v' < v → wt_Fin l N v' (bw_r s 7 v')) ∧ ∀ r x, v ≤ r → x < 224 → bw_r s 7 r x = bw_r a5 7 r x) 3 0 a5 (by omega) ⟨fun v' h => absurd h (by omega), fun _ _ _ _ => rfl⟩ ?_ ?_
  · intro n s hs
    exact pk_le 3 3 (fun _ => H s hs.1 hs.2) (fun e => absurd e (by omega))
  · intro n v s hv hs ih
    have hv8 : 2 ^ v ≤ 2 ^ 3 := Nat.pow_le_pow_right (by omega) (by omega)
    refine pk_le 3 v (fun e => absurd e (by omega)) (fun _ => ?_)
    refine Exists.elim (pk_loop (fun m P (t : Nat → Int32) => wX_packTree_11 post (wX_packTree_2 post n) (nI v) m (nI (wt_B l v P N)) (nI P) (nI N) fp fr fd fc a1 a2 a3 a4 t a6 a7 a8 a9 a10 a11 a12 a13 a14 a15 a16 a17 a18 a19 a20 a21 a22 a23 a24 a25 a26 a27)
      (fun P t => wt_Ok l N v (bw_r t 7 v) P 0 ∧ ∀ r x, ¬ r = v → x < 224 → bw_r t 7 r x = bw_r s 7 r x) (2 ^ v) 0 s (Nat.zero_le _) ⟨wt_ok0 (fun x hx => ?_), fun _ _ _ _ => rfl⟩ ?_ ?_) (fun m hm => ⟨m, ?_⟩)
    · rw [hs.2 v x (Nat.le_refl v) hx]
      exact hz v x hv hx
    · intro m t ht
      refine pk_le (2 ^ v) (2 ^ v) (fun _ => nm_r (nI_1 v) (ih t ⟨fun v' hv' => ?_, fun r x hr hx => ?_⟩)) (fun e => absurd e (by omega)) (wt_2I v hv)
      · by_cases e : v' = v
        · subst e
          exact wt_done ht.1
        · exact wt_Fcongr hN (hs.1 v' (by omega)) (fun x hx => ht.2 v' x e hx)
      · rw [ht.2 r x (by omega) hx]
        exact hs.2 r x (by omega) hx
    · intro m P t hP ht ih2
      refine pk_le (2 ^ v) P (fun e => absurd e (by omega)) (fun _ => ?_) (wt_2I v hv)
      refine ob_pt21 hv hP hN hl ha ht.1 (fun a5' g1 g2 => ih2 a5' ⟨wt_okN hv hl g1, fun r x hr hx => ?_⟩)
      rw [g2 r x hr hx]
      exact ht.2 r x hr hx
    · try dsimp only at hm
      rw [wt_B0] at hm
      exact hm
/-! maps -/
theorem ob_packMaps {post : St1 → Prop} (hN : N ≤ 200) (hl : ∀ j, l j < 8) (ha : ∀ j, a1 j = nI (l j)) (hz : ∀ c x, c < 8 → x < 224 → bw_r a5 7 (6 + c) x = false)
    (H : ∀ a5', (∀ c x, c < 8 → x < 224 → bw_r a5' 7 (6 + c) x = (decide (x < N) && decide (l x = c))) → (∀ r x, (r < 6 ∨ 14 ≤ r) → x < 224 → bw_r a5' 7 r x = bw_r a5 7 r x) → post (nI N, fp, fr, fd, fc, a1, a2, a3, a4, a5', a6, a7, a8, a9, a10, a11, a12, a13, a14, a15, a16, a17, a18, a19, a20, a21, a22, a23, a24, a25, a26, a27)) : wpX_packMaps post (nI N, fp, fr, fd, fc, a1, a2, a3, a4, a5, a6, a7, a8, a9, a10, a11, a12, a13, a14, a15, a16, a17, a18, a19, a20, a21, a22, a23, a24, a25, a26, a27) := by
  refine pk_loop (fun n i (s : Nat → Int32) => wX_packMaps_2 post n (nI i) (nI N) fp fr fd fc a1 a2 a3 a4 s a6 a7 a8 a9 a10 a11 a12 a13 a14 a15 a16 a17 a18 a19 a20 a21 a22 a23 a24 a25 a26 a27)
    (fun i s => (∀ c x, c < 8 → x < 224 → bw_r s 7 (6 + c) x = (decide (x < i) && decide (l x = c))) ∧ ∀ r x, (r < 6 ∨ 14 ≤ r) → x < 224 → bw_r s 7 r x = bw_r a5 7 r x) N 0 a5 (by omega) ⟨fun c x hc hx => by rw [hz c x hc hx]; simp, fun _ _ _ _ => rfl⟩ ?_ ?_
  · intro n s hs
    exact pk_le N N (fun _ => H s hs.1 hs.2) (fun e => absurd e (by omega))
  · intro n i s hi hs ih
    have hli := hl i
    refine pk_le N i (fun e => absurd e (by omega)) (fun _ => ⟨pk_in i 200 (by omega), ?_⟩)
    rw [nI_clamp (by omega), ha i]
    refine ob_setBit (row := 6 + l i) (i := i) (bw_add rfl rfl rfl) rfl (by omega) (by omega) (fun a5' h5 => nm_r (nI_1 i) (ih a5' ⟨fun c x hc hx => ?_, fun r x hr hx => ?_⟩))
    · rw [h5 (6 + c) x hx, hs.1 c x hc hx]
      by_cases e : x = i
      · subst e
        by_cases e2 : l x = c
        · have e3 : 6 + c = 6 + l x := by omega
          simp [e2]
        · have e3 : ¬ 6 + c = 6 + l x := by omega
          simp [e2]
          omega
      · have e4 : decide (x < i + 1) = decide (x < i) := decide_eq_decide.mpr (by omega)
        simp [e, e4]
    · rw [h5 r x hx, hs.2 r x hr hx]
      have e3 : ¬ (r = 6 + l i ∧ x = i) := by omega
      simp [e3]
end
end
section
/-! walks: the matrix -/
theorem wm_plt {D : Nat → Bool} {Z n i : Nat} (hz : Z + cn_c D n = n) (hi : i < n) : wm_dn D Z i (D i) < n ∧ (D i = false → wm_dn D Z i (D i) < Z) ∧ (D i = true → Z ≤ wm_dn D Z i (D i)) := by
  cases h : D i with
  | false =>
    have h1 := cn_lt (p := fun j => !D j) hi (by simp [h])
    rw [cn_not, cn_not] at h1
    have h2 := cn_le D i
    have h3 : wm_dn D Z i false = i - cn_c D i := rfl
    rw [h3]
    exact ⟨by omega, fun _ => by omega, fun z => absurd z (by decide)⟩
  | true =>
    have h1 := cn_lt hi h
    have h3 : wm_dn D Z i true = Z + cn_c D i := rfl
    rw [h3]
    exact ⟨by omega, fun z => absurd z (by decide), fun _ => by omega⟩
theorem wm_pinj {D : Nat → Bool} {Z n i k : Nat} (hz : Z + cn_c D n = n) (hk : k < i) (hi : i < n) : ¬ wm_dn D Z k (D k) = wm_dn D Z i (D i) := by
  obtain ⟨a1, a2, a3⟩ := wm_plt hz hi
  obtain ⟨b1, b2, b3⟩ := wm_plt hz (show k < n by omega)
  cases h : D i with
  | false =>
    cases h2 : D k with
    | false =>
      have h1 := cn_lt (p := fun j => !D j) hk (by simp [h2])
      rw [cn_not, cn_not] at h1
      have h3 : wm_dn D Z i false = i - cn_c D i := rfl
      have h4 : wm_dn D Z k false = k - cn_c D k := rfl
      omega
    | true =>
      rw [h] at a2
      rw [h2] at b3
      have c1 := a2 rfl
      have c2 := b3 rfl
      omega
  | true =>
    cases h2 : D k with
    | false =>
      rw [h] at a3
      rw [h2] at b2
      have c1 := a3 rfl
      have c2 := b2 rfl
      omega
    | true =>
      have h1 := cn_lt hk h2
      have h3 : wm_dn D Z i true = Z + cn_c D i := rfl
      have h4 : wm_dn D Z k true = Z + cn_c D k := rfl
      omega
section
variable {fn fp fr fd fc : Int32} {a1 a2 a3 a4 a5 a6 a7 a8 a9 a10 a11 a12 a13 a14 a15 a16 a17 a18 a19 a20 a21 a22 a23 a24 a25 a26 a27 : Nat → Int32} {l : Nat → Nat} {N : Nat}
theorem ob_pl86 {post : St1 → Prop} (hN : N ≤ 200) (H : ∀ a3', (∀ j, j < N → a3' j = vp_nar .byte (a4 j)) → post (nI N, fp, fr, fd, fc, a1, a2, a3', a4, a5, a6, a7, a8, a9, a10, a11, a12, a13, a14, a15, a16, a17, a18, a19, a20, a21, a22, a23, a24, a25, a26, a27)) : ∃ n, wX_partLevel_86 post (nI N) fp fr fd fc n 0 a1 a2 a3 a4 a5 a6 a7 a8 a9 a10 a11 a12 a13 a14 a15 a16 a17 a18 a19 a20 a21 a22 a23 a24 a25 a26 a27 := by
  refine pk_loop (fun n i (s : Nat → Int32) => wX_partLevel_86 post (nI N) fp fr fd fc n (nI i) a1 a2 s a4 a5 a6 a7 a8 a9 a10 a11 a12 a13 a14 a15 a16 a17 a18 a19 a20 a21 a22 a23 a24 a25 a26 a27) (fun i s => ∀ j, j < i → s j = vp_nar .byte (a4 j)) N 0 a3 (by omega) (fun j hj => absurd hj (by omega)) ?_ ?_
  · intro n s hs
    exact pk_le N N (fun _ => H s hs) (fun e => absurd e (by omega))
  · intro n i s hi hs ih
    exact pk_le N i (fun e => absurd e (by omega)) (fun _ => ⟨pk_in i 200 (by omega), pk_in i 200 (by omega), nm_e (nm_r (nI_1 i) (ih _ (ob_fill (f := fun j => vp_nar .byte (a4 j)) (nI_clamp (by omega)) hs (by rw [nI_clamp (by omega)]))))⟩)
theorem ob_partLevel {post : St1 → Prop} {p0 p1 : Int32} {v Z : Nat} {q : Nat → Nat} (h0 : p0 = nI v) (h1 : p1 = nI Z) (hv : v < 3) (hN : N ≤ 200) (hq : ∀ j, j < N → q j < 8 ∧ a3 j = nI (q j)) (h4 : ∀ j, ∃ c, c < 8 ∧ a4 j = nI c)
    (hz : ∀ x, x < 224 → bw_r a5 7 (3 + v) x = false) (hZ : Z + cn_c (fun j => decide (wt_d v (q j) = 1)) N = N)
    (H : ∀ a3' a4' a5', (∀ k, k < N → a4' (wm_dn (fun j => decide (wt_d v (q j) = 1)) Z k (decide (wt_d v (q k) = 1))) = nI (q k)) → (∀ j, ∃ c, c < 8 ∧ a4' j = nI c) → (∀ j, j < N → a3' j = vp_nar .byte (a4' j)) →
      (∀ x, x < 224 → bw_r a5' 7 (3 + v) x = (decide (x < N) && decide (wt_d v (q x) = 1))) → (∀ r x, ¬ r = 3 + v → x < 224 → bw_r a5' 7 r x = bw_r a5 7 r x) → post (nI N, fp, fr, fd, fc, a1, a2, a3', a4', a5', a6, a7, a8, a9, a10, a11, a12, a13, a14, a15, a16, a17, a18, a19, a20, a21, a22, a23, a24, a25, a26, a27)) :
    wpX_partLevel post (nI N, fp, fr, fd, fc, a1, a2, a3, a4, a5, a6, a7, a8, a9, a10, a11, a12, a13, a14, a15, a16, a17, a18, a19, a20, a21, a22, a23, a24, a25, a26, a27) p0 p1 := by
  subst h0 h1
  generalize hD : (fun j => decide (wt_d v (q j) = 1)) = D at *
  have hDx : ∀ x, decide (wt_d v (q x) = 1) = D x := fun x => by rw [← hD]
  simp only [hDx] at H
  refine pk_loop (fun n i (s : (Nat → Int32) × (Nat → Int32)) => wX_partLevel_8 post (nI v) n (nI (i - cn_c D i)) (nI (Z + cn_c D i)) (nI i) (nI N) fp fr fd fc a1 a2 a3 s.1 s.2 a6 a7 a8 a9 a10 a11 a12 a13 a14 a15 a16 a17 a18 a19 a20 a21 a22 a23 a24 a25 a26 a27)
    (fun i s => (∀ k, k < i → s.1 (wm_dn D Z k (D k)) = nI (q k)) ∧ (∀ j, ∃ c, c < 8 ∧ s.1 j = nI c) ∧ (∀ x, x < 224 → bw_r s.2 7 (3 + v) x = (decide (x < i) && D x)) ∧ ∀ r x, ¬ r = 3 + v → x < 224 → bw_r s.2 7 r x = bw_r a5 7 r x)
    N 0 (a4, a5) (by omega) ⟨fun k hk => absurd hk (by omega), h4, fun x hx => by rw [hz x hx]; simp, fun _ _ _ _ => rfl⟩ ?_ ?_
  · intro n s hs
    exact pk_le N N (fun _ => ob_pl86 hN (fun a3' h3 => H a3' s.1 s.2 hs.1 hs.2.1 h3 hs.2.2.1 hs.2.2.2)) (fun e => absurd e (by omega))
  · intro n i s hi hs ih
    obtain ⟨hq1, hq2⟩ := hq i hi
    have hcle := cn_le D i
    have hcle2 := cn_le D N
    have hpl := wm_plt hZ hi
    refine pk_le N i (fun e => absurd e (by omega)) (fun _ => ⟨pk_in i 200 (by omega), ?_⟩)
    rw [nI_clamp (show i < 2 ^ 31 by omega), hq2]
    refine ob_digit rfl rfl hq1 hv ?_
    have hd := wt_d2 v (q i)
    have store : ∀ p, p = wm_dn D Z i (D i) → (∀ k, k < i + 1 → upd s.1 p (vp_nar .byte (nI (q i))) (wm_dn D Z k (D k)) = nI (q k)) ∧ ∀ j, ∃ c, c < 8 ∧ upd s.1 p (vp_nar .byte (nI (q i))) j = nI c := by
      intro p hp
      rw [bw_v8 (by omega)]
      refine ⟨fun k hk => ?_, fun j => ?_⟩
      · by_cases e : k = i
        · rw [e, hp, pk_us]
        · rw [pk_un (by rw [hp]; exact wm_pinj hZ (by omega) hi)]
          exact hs.1 k (by omega)
      · by_cases e : j = p
        · rw [e, pk_us]
          exact ⟨q i, hq1, rfl⟩
        · rw [pk_un e]
          exact hs.2.1 j
    refine pk_eq (wt_d v (q i)) 1 (fun hd1 => ?_) (fun hd1 => ?_)
    · have hDi : D i = true := by
        rw [← hDx]
        exact decide_eq_true hd1
      have ep : Z + cn_c D i = wm_dn D Z i (D i) := by
        rw [hDi]
        rfl
      have e1 : (i + 1) - cn_c D (i + 1) = i - cn_c D i := by
        rw [cn_t hDi]
        omega
      refine ob_setBit (row := 3 + v) (i := i) (bw_add rfl rfl rfl) rfl (by omega) (by omega) (fun a5' h5 => ⟨pk_in i 200 (by omega), pk_in (Z + cn_c D i) 200 (by omega), ?_⟩)
      rw [nI_clamp (show Z + cn_c D i < 2 ^ 31 by omega), hq2]
      refine nm_e (nm_r (show nI (Z + cn_c D i) + 1 = nI (Z + cn_c D (i + 1)) by rw [nI_1, cn_t hDi]; rfl) (nm_r (nI_1 i) ?_))
      have t := ih (upd s.1 (Z + cn_c D i) (vp_nar .byte (nI (q i))), a5') ⟨(store _ ep).1, (store _ ep).2, fun x hx => ?_, fun r x hr hx => ?_⟩
      · try dsimp only at t
        rw [e1] at t
        exact t
      · rw [h5 (3 + v) x hx, hs.2.2.1 x hx]
        by_cases e : x = i
        · subst e
          simp [hDi]
        · have e4 : decide (x < i + 1) = decide (x < i) := decide_eq_decide.mpr (by omega)
          simp [e, e4]
      · rw [h5 r x hx, hs.2.2.2 r x hr hx]
        simp [hr]
    · have hDi : D i = false := by
        rw [← hDx]
        exact decide_eq_false hd1
      have ep : i - cn_c D i = wm_dn D Z i (D i) := by
        rw [hDi]
        rfl
      have e1 : nI (i - cn_c D i) + 1 = nI ((i + 1) - cn_c D (i + 1)) := by
        rw [nI_1, cn_f hDi]
        congr 1
        omega
      refine ⟨pk_in i 200 (by omega), pk_in (i - cn_c D i) 200 (by omega), ?_⟩
      rw [nI_clamp (show i - cn_c D i < 2 ^ 31 by omega)]
      refine nm_e (nm_r e1 (nm_r (nI_1 i) ?_))
      have t := ih (upd s.1 (i - cn_c D i) (vp_nar .byte (nI (q i))), s.2) ⟨(store _ ep).1, (store _ ep).2, fun x hx => ?_, hs.2.2.2⟩
      · try dsimp only at t
        rw [cn_f hDi] at t ⊢
        exact t
      · rw [hs.2.2.1 x hx]
        by_cases e : x = i
        · subst e
          simp [hDi]
        · have e4 : decide (x < i + 1) = decide (x < i) := decide_eq_decide.mpr (by omega)
          rw [e4]
end
end
section
section
variable {fn fp fr fd fc : Int32} {a1 a2 a3 a4 a5 a6 a7 a8 a9 a10 a11 a12 a13 a14 a15 a16 a17 a18 a19 a20 a21 a22 a23 a24 a25 a26 a27 : Nat → Int32} {l : Nat → Nat} {N : Nat}
/-- the order on level v, and what stands so far -/
def wm_St (l : Nat → Nat) (N v : Nat) (a3 a4 a5 a8 : Nat → Int32) : Prop :=
  ∃ (B : Nat → Nat → Nat) (q zf : Nat → Nat), B 0 0 = 0 ∧ (∀ v', v' < v → wm_Lev l N v' (bw_r a5 7 (3 + v')) (zf v') (B v') (B (v' + 1))) ∧ (∀ v', v' < v → a8 v' = nI (zf v')) ∧ wm_Ord l N v q (B v) ∧
    (∀ j, j < N → q j < 8 ∧ a3 j = nI (q j)) ∧ (∀ j, ∃ c, c < 8 ∧ a4 j = nI c)
theorem ob_pm39 {post : St1 → Prop} {J30 : Int32 → Int32 → Int32 → Int32 → Int32 → Int32 → (Nat → Int32) → (Nat → Int32) → (Nat → Int32) → (Nat → Int32) → (Nat → Int32) → (Nat → Int32) → (Nat → Int32) → (Nat → Int32) → (Nat → Int32) → (Nat → Int32) → (Nat → Int32) → (Nat → Int32) → (Nat → Int32) → (Nat → Int32) → (Nat → Int32) → (Nat → Int32) → (Nat → Int32) → (Nat → Int32) → (Nat → Int32) → (Nat → Int32) → (Nat → Int32) → (Nat → Int32) → (Nat → Int32) → (Nat → Int32) → (Nat → Int32) → (Nat → Int32) → (Nat → Int32) → Prop} {v : Nat} (hv : v < 3) (hN : N ≤ 200) (hl : ∀ j, l j < 8) (h : wm_St l N v a3 a4 a5 a8) (hz : ∀ x, x < 224 → bw_r a5 7 (3 + v) x = false)
    (H : ∀ a3' a4' a5' a8', wm_St l N (v + 1) a3' a4' a5' a8' → (∀ r x, ¬ r = 3 + v → x < 224 → bw_r a5' 7 r x = bw_r a5 7 r x) → J30 (nI (v + 1)) (nI N) fp fr fd fc a1 a2 a3' a4' a5' a6 a7 a8' a9 a10 a11 a12 a13 a14 a15 a16 a17 a18 a19 a20 a21 a22 a23 a24 a25 a26 a27) :
    ∃ n, wX_packMatrix_39 post J30 (nI v) (nI N) fp fr fd fc a1 a2 a3 a4 a5 a6 a7 a8 a9 a10 a11 a12 a13 a14 a15 a16 a17 a18 a19 a20 a21 a22 a23 a24 a25 a26 a27 n 0 0 := by
  obtain ⟨B, q, zf, B0, hLev, h8, hOrd, hq, h4⟩ := h
  have hcle := fun i => cn_le (fun j => decide (wt_d v (q j) = 1)) i
  refine pk_loop (fun n i (_ : Unit) => wX_packMatrix_39 post J30 (nI v) (nI N) fp fr fd fc a1 a2 a3 a4 a5 a6 a7 a8 a9 a10 a11 a12 a13 a14 a15 a16 a17 a18 a19 a20 a21 a22 a23 a24 a25 a26 a27 n (nI (i - cn_c (fun j => decide (wt_d v (q j) = 1)) i)) (nI i)) (fun _ _ => True) N 0 () (by omega) trivial ?_ ?_
  · intro n _ _
    have hc := hcle N
    refine pk_le N N (fun _ => ⟨pk_in v 3 hv, fun x ex => ?_⟩) (fun e => absurd e (by omega))
    rw [nI_clamp (by omega), bw_n16 (by omega)] at ex
    rw [ex]
    refine ob_partLevel rfl rfl hv hN hq h4 hz (by omega) (fun a3' a4' a5' k1 k2 k3 k4 k5 => nm_r (nI_1 v) (H _ _ _ _ ?_ k5))
    generalize hZ : N - cn_c (fun j => decide (wt_d v (q j) = 1)) N = Z at *
    have hrow : ∀ x, x < N → bw_r a5' 7 (3 + v) x = decide (wt_d v (q x) = 1) := fun x hx => by
      rw [k4 x (by omega)]
      simp [hx]
    have hcn : ∀ x, x ≤ N → cn_c (bw_r a5' 7 (3 + v)) x = cn_c (fun j => decide (wt_d v (q j) = 1)) x := fun x hx => cn_congr (fun j hj => hrow j (by omega))
    have hq' : ∀ j, (a4' j).toNatClampNeg < 8 ∧ a4' j = nI (a4' j).toNatClampNeg := fun j => by
      obtain ⟨c, c1, c2⟩ := k2 j
      rw [c2, nI_clamp (by omega)]
      exact ⟨c1, rfl⟩
    have st := wm_step (l := l) (n := N) (v := v) (row := bw_r a5' 7 (3 + v)) (z := Z) (Bv := B v) (Bw := fun Q => wm_dn (bw_r a5' 7 (3 + v)) Z (B v (Q / 2)) (decide (Q % 2 = 1))) (s := q) (s' := fun j => (a4' j).toNatClampNeg) hv hl hOrd hrow
      (by rw [hcn N (Nat.le_refl N)]; omega)
      (fun i hi => by
        have e : wm_dn (bw_r a5' 7 (3 + v)) Z i (bw_r a5' 7 (3 + v) i) = wm_dn (fun j => decide (wt_d v (q j) = 1)) Z i (decide (wt_d v (q i) = 1)) := by
          rw [hrow i hi]
          unfold wm_dn
          rw [hcn i (by omega)]
        have hqi := (hq i hi).1
        try dsimp only
        rw [e, k1 i hi, nI_clamp (by omega)])
      (fun P _ => by
        try dsimp only
        rw [show 2 * P / 2 = P by omega, show 2 * P % 2 = 0 by omega]
        rfl)
      (fun P _ => by
        try dsimp only
        rw [show (2 * P + 1) / 2 = P by omega, show (2 * P + 1) % 2 = 1 by omega]
        rfl)
    refine ⟨fun w => if w = v + 1 then (fun Q => wm_dn (bw_r a5' 7 (3 + v)) Z (B v (Q / 2)) (decide (Q % 2 = 1))) else B w, fun j => (a4' j).toNatClampNeg, fun w => if w = v then Z else zf w, ?_, ?_, ?_, ?_, ?_, k2⟩
    · dsimp only
      rw [if_neg (show ¬ 0 = v + 1 by omega)]
      exact B0
    · intro v' hv'
      by_cases e : v' = v
      · subst e
        dsimp only
        rw [if_pos rfl, if_pos rfl, if_neg (show ¬ v' = v' + 1 by omega)]
        exact st.1
      · dsimp only
        rw [if_neg e, if_neg (show ¬ v' = v + 1 by omega), if_neg (show ¬ v' + 1 = v + 1 by omega)]
        exact wm_congr hN (hLev v' (by omega)) (fun x hx => k5 (3 + v') x (by omega) hx)
    · intro v' hv'
      try dsimp only
      by_cases e : v' = v
      · subst e
        rw [pk_us, if_pos rfl]
      · rw [pk_un e, if_neg e]
        exact h8 v' (by omega)
    · dsimp only
      rw [if_pos rfl]
      exact st.2
    · intro j hj
      have e := hq' j
      refine ⟨e.1, ?_⟩
      rw [k3 j hj]
      try dsimp only
      rw [e.2, nI_clamp (by omega)]
      exact bw_v8 (by omega)
  · intro n i _ hi _ ih
    have hc := hcle i
    obtain ⟨hq1, hq2⟩ := hq i hi
    refine pk_le N i (fun e => absurd e (by omega)) (fun _ => ⟨pk_in i 200 (by omega), ?_⟩)
    rw [nI_clamp (by omega), hq2]
    refine ob_digit rfl rfl hq1 hv ?_
    have hd := wt_d2 v (q i)
    have t := ih () trivial
    try dsimp only at t
    refine pk_eq (wt_d v (q i)) 0 (fun hd1 => ?_) (fun hd1 => ?_)
    · have e1 : nI (i - cn_c (fun j => decide (wt_d v (q j) = 1)) i) + 1 = nI ((i + 1) - cn_c (fun j => decide (wt_d v (q j) = 1)) (i + 1)) := by
        rw [nI_1, cn_f (p := fun j => decide (wt_d v (q j) = 1)) (decide_eq_false (by omega))]
        congr 1
        omega
      exact nm_r e1 (nm_r (nI_1 i) t)
    · have e1 : nI (i - cn_c (fun j => decide (wt_d v (q j) = 1)) i) + 0 = nI ((i + 1) - cn_c (fun j => decide (wt_d v (q j) = 1)) (i + 1)) := by
        rw [bw_n0, cn_t (p := fun j => decide (wt_d v (q j) = 1)) (decide_eq_true (by omega))]
        congr 1
        omega
      exact nm_r e1 (nm_r (nI_1 i) t)
theorem ob_packMatrix {post : St1 → Prop} (hN : N ≤ 200) (hl : ∀ j, l j < 8) (ha : ∀ j, a1 j = nI (l j)) (h4 : ∀ j, ∃ c, c < 8 ∧ a4 j = nI c) (hz : ∀ v x, v < 3 → x < 224 → bw_r a5 7 (3 + v) x = false)
    (H : ∀ a3' a4' a5' a8', wm_St l N 3 a3' a4' a5' a8' → (∀ r x, (r < 3 ∨ 6 ≤ r) → x < 224 → bw_r a5' 7 r x = bw_r a5 7 r x) → post (nI N, fp, fr, fd, fc, a1, a2, a3', a4', a5', a6, a7, a8', a9, a10, a11, a12, a13, a14, a15, a16, a17, a18, a19, a20, a21, a22, a23, a24, a25, a26, a27)) : wpX_packMatrix post (nI N, fp, fr, fd, fc, a1, a2, a3, a4, a5, a6, a7, a8, a9, a10, a11, a12, a13, a14, a15, a16, a17, a18, a19, a20, a21, a22, a23, a24, a25, a26, a27) := by
  refine pk_loop (fun n i (s : Nat → Int32) => wX_packMatrix_2 post (nI N) fp fr fd fc n (nI i) a1 a2 s a4 a5 a6 a7 a8 a9 a10 a11 a12 a13 a14 a15 a16 a17 a18 a19 a20 a21 a22 a23 a24 a25 a26 a27) (fun i s => ∀ j, j < i → s j = nI (l j)) N 0 a3 (by omega) (fun j hj => absurd hj (by omega)) ?_ ?_
  · intro n s hs
    refine pk_le N N (fun _ => ?_) (fun e => absurd e (by omega))
    refine pk_loop (fun m v (t : (Nat → Int32) × (Nat → Int32) × (Nat → Int32) × (Nat → Int32)) => wX_packMatrix_30 post m (nI v) (nI N) fp fr fd fc a1 a2 t.1 t.2.1 t.2.2.1 a6 a7 t.2.2.2 a9 a10 a11 a12 a13 a14 a15 a16 a17 a18 a19 a20 a21 a22 a23 a24 a25 a26 a27)
      (fun v t => wm_St l N v t.1 t.2.1 t.2.2.1 t.2.2.2 ∧ ∀ r x, (r < 3 ∨ 3 + v ≤ r) → x < 224 → bw_r t.2.2.1 7 r x = bw_r a5 7 r x) 3 0 (s, a4, a5, a8) (by omega) ⟨?_, fun _ _ _ _ => rfl⟩ ?_ ?_
    · exact ⟨fun _ _ => 0, l, fun _ => 0, rfl, fun v' h => absurd h (by omega), fun v' h => absurd h (by omega), wm_ord0 hl (fun j _ => rfl), fun j hj => ⟨hl j, hs j hj⟩, h4⟩
    · intro m t ht
      exact pk_le 3 3 (fun _ => H t.1 t.2.1 t.2.2.1 t.2.2.2 ht.1 (fun r x hr hx => ht.2 r x (by omega) hx)) (fun e => absurd e (by omega))
    · intro m v t hv ht ih
      refine pk_le 3 v (fun e => absurd e (by omega)) (fun _ => ?_)
      refine ob_pm39 hv hN hl ht.1 (fun x hx => ?_) (fun a3' a4' a5' a8' k1 k2 => ih (a3', a4', a5', a8') ⟨k1, fun r x hr hx => ?_⟩)
      · rw [ht.2 (3 + v) x (by omega) hx]
        exact hz v x hv hx
      · try dsimp only
        rw [k2 r x (by omega) hx]
        exact ht.2 r x (by omega) hx
  · intro n i s hi hs ih
    have hli := hl i
    refine pk_le N i (fun e => absurd e (by omega)) (fun _ => ⟨pk_in i 200 (by omega), pk_in i 200 (by omega), nm_e (nm_r (nI_1 i) (ih _ (ob_fill (f := fun j => nI (l j)) (nI_clamp (by omega)) hs ?_)))⟩)
    rw [nI_clamp (by omega), ha i, bw_v8 (by omega)]
end
end
section
/-! walks: the two rarest are joined -/
section
variable {fn fp fr fd fc : Int32} {a1 a2 a3 a4 a5 a6 a7 a8 a9 a10 a11 a12 a13 a14 a15 a16 a17 a18 a19 a20 a21 a22 a23 a24 a25 a26 a27 : Nat → Int32} {l : Nat → Nat} {N : Nat}
theorem ob_rarest {post : Int32 → Prop} {k : Nat} {w : Nat → Nat} {J : Nat → Bool} (hk : k ≤ 7) (h24 : ∀ y, y < 8 + k → a24 y = nI (w y) ∧ w y ≤ 1000) (h25 : ∀ y, y < 8 + k → a25 y = nI (J y).toNat)
    (H0 : (∀ y, y < 8 + k → hc_p w J y = false) → post (-1)) (H1 : ∀ b, b < 8 + k → hc_p w J b = true → (∀ y, y < 8 + k → hc_p w J y = true → w b ≤ w y) → post (nI b)) : wpX_rarest post (fn, fp, fr, nI k, fc, a1, a2, a3, a4, a5, a6, a7, a8, a9, a10, a11, a12, a13, a14, a15, a16, a17, a18, a19, a20, a21, a22, a23, a24, a25, a26, a27) := by
  have e8 : 8 + nI k = nI (8 + k) := bw_add rfl rfl rfl
  refine pk_loop (fun n x (s : Int32) => wX_rarest_4 post fn fp fr (nI k) fc a1 a2 a3 a4 a5 a6 a7 a8 a9 a10 a11 a12 a13 a14 a15 a16 a17 a18 a19 a20 a21 a22 a23 a24 a25 a26 a27 n s (nI x))
    (fun x s => (s = -1 ∧ ∀ y, y < x → hc_p w J y = false) ∨ ∃ b, b < x ∧ s = nI b ∧ hc_p w J b = true ∧ ∀ y, y < x → hc_p w J y = true → w b ≤ w y) (8 + k) 0 (-1) (by omega) (Or.inl ⟨rfl, fun y hy => absurd hy (by omega)⟩) ?_ ?_
  · intro n s hs
    refine pk_le (8 + k) (8 + k) (fun _ => ?_) (fun e => absurd e (by omega)) e8
    rcases hs with ⟨e, h⟩ | ⟨b, hb, e, h1, h2⟩
    · rw [e]
      exact H0 h
    · rw [e]
      exact H1 b hb h1 h2
  · intro n x s hx hs ih
    obtain ⟨g1, g2⟩ := h24 x hx
    have g3 := h25 x hx
    have skip : hc_p w J x = false → wX_rarest_4 post fn fp fr (nI k) fc a1 a2 a3 a4 a5 a6 a7 a8 a9 a10 a11 a12 a13 a14 a15 a16 a17 a18 a19 a20 a21 a22 a23 a24 a25 a26 a27 n s (nI (x + 1)) := by
      intro hp
      refine ih s ?_
      rcases hs with ⟨e, h⟩ | ⟨b, hb, e, h1, h2⟩
      · refine Or.inl ⟨e, fun y hy => ?_⟩
        by_cases e2 : y = x
        · rw [e2]
          exact hp
        · exact h y (by omega)
      · refine Or.inr ⟨b, by omega, e, h1, fun y hy hpy => ?_⟩
        by_cases e2 : y = x
        · rw [e2, hp] at hpy
          exact absurd hpy (by decide)
        · exact h2 y (by omega) hpy
    refine pk_le (8 + k) x (fun e => absurd e (by omega)) (fun _ => ⟨pk_in x 16 (by omega), ?_⟩) e8
    rw [nI_clamp (by omega), g3]
    have hJ := Bool.toNat_le (J x)
    refine pk_eq (J x).toNat 0 (fun hJ0 => ⟨pk_in x 16 (by omega), ?_⟩) (fun hJ1 => br_t rfl (nm_r (nI_1 x) (skip ?_)))
    · have hJf : J x = false := by
        cases h : J x with
        | false => rfl
        | true =>
          rw [h] at hJ0
          exact absurd hJ0 (by decide)
      rw [g1]
      refine pk_le (w x) 0 (fun hw => br_t rfl (nm_r (nI_1 x) (skip ?_))) (fun hw => br_f (by decide) ?_)
      · unfold hc_p
        simp [show ¬ 0 < w x by omega]
      · have hp : hc_p w J x = true := by
          unfold hc_p
          simp [hJf, hw]
        rcases hs with ⟨e, h⟩ | ⟨b, hb, e, h1, h2⟩
        · rw [e]
          refine br_t (by decide) (nm_r (nI_1 x) (ih _ (Or.inr ⟨x, by omega, rfl, hp, fun y hy hpy => ?_⟩)))
          by_cases e2 : y = x
          · rw [e2]
            exact Nat.le_refl _
          · rw [h y (by omega)] at hpy
            exact absurd hpy (by decide)
        · rw [e]
          obtain ⟨k1, k2⟩ := h24 b (by omega)
          refine br_f (nI_pos (by omega)) ⟨pk_in x 16 (by omega), pk_in b 16 (by omega), ?_⟩
          rw [nI_clamp (by omega), nI_clamp (by omega), g1, k1]
          refine pk_le (w b) (w x) (fun hle => nm_r (nI_1 x) (ih _ (Or.inr ⟨b, by omega, rfl, h1, fun y hy hpy => ?_⟩))) (fun hlt => nm_r (nI_1 x) (ih _ (Or.inr ⟨x, by omega, rfl, hp, fun y hy hpy => ?_⟩)))
          · by_cases e2 : y = x
            · rw [e2]
              exact hle
            · exact h2 y (by omega) hpy
          · by_cases e2 : y = x
            · rw [e2]
              exact Nat.le_refl _
            · have z := h2 y (by omega) hpy
              omega
    · have hJt : J x = true := by
        cases h : J x with
        | true => rfl
        | false =>
          rw [h] at hJ1
          exact absurd rfl hJ1
      unfold hc_p
      simp [hJt]
/-- the tree as it stands in the arrays, with what it has cost -/
def hc_Arr (l : Nat → Nat) (N k s : Nat) (w : Nat → Nat) (J : Nat → Bool) (lf rt : Nat → Nat) (U : Nat → Nat → Bool) (a22 a23 a24 a25 : Nat → Int32) : Prop :=
  k ≤ 7 ∧ hc_T l N k w J lf rt U ∧ hc_X N (cn_c (fun y => decide (0 < lt_r l y N)) 8) (fun t => cn_c (fun y => decide (t < lt_r l y N)) 8) k (cn_c (hc_p w J) (8 + k)) (hc_F w J (8 + k)) s ∧
  (∀ m, m < k → a22 m = nI (lf m) ∧ a23 m = nI (rt m)) ∧ (∀ y, y < 16 → a24 y = nI (w y)) ∧ (∀ y, y < 16 → a25 y = nI (J y).toNat)
/-- at the end -/
def hc_End (l : Nat → Nat) (N k s : Nat) (lf rt : Nat → Nat) (U : Nat → Nat → Bool) (w : Nat → Nat) (J : Nat → Bool) (a22 a23 : Nat → Int32) : Prop :=
  k ≤ 7 ∧ hc_T l N k w J lf rt U ∧ cn_c (hc_p w J) (8 + k) ≤ 1 ∧ (∃ M e, hf_E M (fun t => cn_c (fun y => decide (t < lt_r l y N)) 8) e ∧ (if k = 0 then N else s) = N + e) ∧ s ≤ 2000 ∧
  (∀ m, m < k → a22 m = nI (lf m) ∧ a23 m = nI (rt m))
theorem hc_start {w : Nat → Nat} {J : Nat → Bool} {lf rt : Nat → Nat} (hl : ∀ j, l j < 8) (hw : ∀ y, y < 8 → w y = lt_r l y N) (hJ : ∀ y, J y = false) (h24 : ∀ y, y < 16 → a24 y = nI (w y)) (h25 : ∀ y, y < 16 → a25 y = nI (J y).toNat) :
    hc_Arr l N 0 0 w J lf rt (fun y c => decide (y = c)) a22 a23 a24 a25 := by
  have hp : ∀ y, y < 8 → hc_p w J y = decide (0 < lt_r l y N) := fun y hy => by
    unfold hc_p
    rw [hJ y, hw y hy]
    rfl
  have hc : cn_c (hc_p w J) (8 + 0) = cn_c (fun y => decide (0 < lt_r l y N)) 8 := cn_congr hp
  have hF : hc_F w J (8 + 0) = fun t => cn_c (fun y => decide (t < lt_r l y N)) 8 := by
    funext t
    refine cn_congr (fun y hy => ?_)
    rw [hp y hy, hw y hy]
    by_cases e : t < lt_r l y N
    · simp [e, show 0 < lt_r l y N by omega]
    · simp [e]
  refine ⟨by omega, hc_0 hl hw hJ, ⟨?_, cn_le _ 8, fun _ c hE => ?_, fun z => absurd z (by omega), by omega⟩, fun m hm => absurd hm (by omega), h24, h25⟩
  · rw [hc]
    omega
  · rw [Nat.zero_add, ← hF, ← hc]
    exact hE
end
end
section
/-! walks: codes from the top down; the rows of the nodes -/
theorem hc_orI : ∀ L, L < 7 → ∀ b, b < 2 ^ L → (nI b ||| ((1 : Int32) <<< (nI L &&& 31))).toInt8.toInt32 = nI (b + 2 ^ L) := by decide +kernel
section
variable {fn fp fr fd fc : Int32} {a1 a2 a3 a4 a5 a6 a7 a8 a9 a10 a11 a12 a13 a14 a15 a16 a17 a18 a19 a20 a21 a22 a23 a24 a25 a26 a27 : Nat → Int32} {l : Nat → Nat} {N k : Nat} {w : Nat → Nat} {J : Nat → Bool} {lf rt : Nat → Nat} {U : Nat → Nat → Bool}
theorem ob_nameCodes {post : St1 → Prop} (hk : k ≤ 7) (hT : hc_T l N k w J lf rt U) (h22 : ∀ m, m < k → a22 m = nI (lf m) ∧ a23 m = nI (rt m)) (h26 : ∀ y, y < 16 → a26 y = 0) (h27 : ∀ y, y < 16 → a27 y = 0)
    (H : ∀ cl cb a26' a27', hc_N k 0 lf rt cl cb → (k = 0 → ∀ y, cl y = 0) → (∀ y, y < 16 → a26' y = nI (cl y) ∧ a27' y = nI (cb y)) → post (fn, fp, fr, nI k, fc, a1, a2, a3, a4, a5, a6, a7, a8, a9, a10, a11, a12, a13, a14, a15, a16, a17, a18, a19, a20, a21, a22, a23, a24, a25, a26', a27')) : wpX_nameCodes post (fn, fp, fr, nI k, fc, a1, a2, a3, a4, a5, a6, a7, a8, a9, a10, a11, a12, a13, a14, a15, a16, a17, a18, a19, a20, a21, a22, a23, a24, a25, a26, a27) := by
  refine nm_e ⟨k + 1, pk_loopD (fun n x (s : (Nat → Int32) × (Nat → Int32)) => wX_nameCodes_7 post fn fp fr (nI k) fc n (nI x - 1) a1 a2 a3 a4 a5 a6 a7 a8 a9 a10 a11 a12 a13 a14 a15 a16 a17 a18 a19 a20 a21 a22 a23 a24 a25 s.1 s.2)
    (fun x s => x ≤ k ∧ ∃ cl cb, hc_N k x lf rt cl cb ∧ (k = 0 → ∀ y, cl y = 0) ∧ ∀ y, y < 16 → s.1 y = nI (cl y) ∧ s.2 y = nI (cb y)) ?_ ?_ k (a26, a27) ⟨Nat.le_refl k, fun _ => 0, fun _ => 0, hc_n0 (fun _ => rfl) (fun _ => rfl), fun _ _ => rfl, fun y hy => ⟨h26 y hy, h27 y hy⟩⟩⟩
  · intro n s ⟨_, cl, cb, g1, g0, g2⟩
    exact br_t (by decide) (H cl cb s.1 s.2 g1 g0 g2)
  · intro n y s ⟨hy, cl, cb, g1, g0, g2⟩ ih
    have hyk : y < k := by omega
    obtain ⟨q1, q2, q3, _⟩ := hT.2.2.1 y hyk
    obtain ⟨f1, f2⟩ := h22 y hyk
    have hL := g1.2.1 y hyk
    have hB := g1.2.2.2.1 (8 + y)
    have ey : nI (y + 1) - 1 = nI y := nI_pred y
    have e8 : 8 + nI y = nI (8 + y) := bw_add rfl rfl rfl
    obtain ⟨k1, k2⟩ := g2 (8 + y) (by omega)
    have pw : 2 ^ cl (8 + y) ≤ 2 ^ 6 := Nat.pow_le_pow_right (by omega) (by omega)
    try dsimp only
    rw [ey]
    refine br_f (nI_pos (by omega)) ?_
    rw [e8, nI_clamp (show 8 + y < 2 ^ 31 by omega), nI_clamp (show y < 2 ^ 31 by omega), f1, f2, nI_clamp (show lf y < 2 ^ 31 by omega), nI_clamp (show rt y < 2 ^ 31 by omega), k1, k2]
    have n8 : (nI (cl (8 + y)) + 1).toInt8.toInt32 = nI (cl (8 + y) + 1) := by rw [nI_1, bw_n8 _ (by omega)]
    have m8 : (nI (cb (8 + y))).toInt8.toInt32 = nI (cb (8 + y)) := bw_n8 _ (by omega)
    have o8 := hc_orI (cl (8 + y)) (by omega) (cb (8 + y)) hB
    refine ⟨pk_in (8 + y) 16 (by omega), nm_e ⟨pk_in (8 + y) 16 (by omega), nm_e ⟨pk_in y 8 (by omega), pk_in (lf y) 16 (by omega), nm_e ⟨pk_in y 8 (by omega), pk_in (lf y) 16 (by omega), nm_e ⟨pk_in y 8 (by omega), pk_in (rt y) 16 (by omega), nm_e ⟨pk_in y 8 (by omega), pk_in (rt y) 16 (by omega), nm_e (nm_r (Int32.sub_eq_add_neg _ _).symm ?_)⟩⟩⟩⟩⟩⟩
    rw [n8, m8, o8]
    refine ih (upd (upd s.1 (lf y) (nI (cl (8 + y) + 1))) (rt y) (nI (cl (8 + y) + 1)), upd (upd s.2 (lf y) (nI (cb (8 + y)))) (rt y) (nI (cb (8 + y) + 2 ^ cl (8 + y)))) ⟨by omega, fun z => if z = rt y then cl (8 + y) + 1 else if z = lf y then cl (8 + y) + 1 else cl z, fun z => if z = rt y then cb (8 + y) + 2 ^ cl (8 + y) else if z = lf y then cb (8 + y) else cb z, hc_name hT hyk g1 ?_ ?_ ?_ ?_ ?_ ?_, fun z => absurd z (by omega), fun z hz => ?_⟩
    · rw [if_neg q3, if_pos rfl]
    · rw [if_pos rfl]
    · intro z z1 z2
      rw [if_neg z2, if_neg z1]
    · rw [if_neg q3, if_pos rfl]
    · rw [if_pos rfl]
    · intro z z1 z2
      rw [if_neg z2, if_neg z1]
    · obtain ⟨r1, r2⟩ := g2 z hz
      try dsimp only
      by_cases e1 : z = rt y
      · rw [if_pos e1, if_pos e1, e1, pk_us, pk_us]
        exact ⟨rfl, rfl⟩
      · rw [if_neg e1, if_neg e1, pk_un e1, pk_un e1]
        by_cases e2 : z = lf y
        · rw [if_pos e2, if_pos e2, e2, pk_us, pk_us]
          exact ⟨rfl, rfl⟩
        · rw [if_neg e2, if_neg e2, pk_un e2, pk_un e2]
          exact ⟨r1, r2⟩
theorem ob_packNode {post : St1 → Prop} {p0 : Int32} {m L b : Nat} {cl cb : Nat → Nat} {p q : Nat → Bool} (h0 : p0 = nI m) (hm : m < 7) (hN : N ≤ 200) (hl : ∀ j, l j < 8) (ha : ∀ j, a1 j = nI (l j))
    (h26 : ∀ y, y < 16 → a26 y = nI (cl y) ∧ a27 y = nI (cb y)) (hcl : ∀ y, cl y ≤ 7) (hcb : ∀ y, cb y < 128) (hL : cl (8 + m) = L) (hb : cb (8 + m) = b) (hL7 : L < 7)
    (hU : ∀ i, i < N → (p (l i) = true ↔ (L < cl (l i) ∧ cb (l i) % 2 ^ L = b))) (hQ : ∀ i, i < N → p (l i) = true → q (l i) = (cb (l i)).testBit L) (hQ0 : ∀ i, i < N → p (l i) = false → q (l i) = false)
    (hz : ∀ x, x < 224 → bw_r a5 7 (14 + m) x = false)
    (H : ∀ a5', hc_Row l p q (bw_r a5' 7 (14 + m)) N → (∀ r x, ¬ r = 14 + m → x < 224 → bw_r a5' 7 r x = bw_r a5 7 r x) → post (nI N, fp, fr, fd, fc, a1, a2, a3, a4, a5', a6, a7, a8, a9, a10, a11, a12, a13, a14, a15, a16, a17, a18, a19, a20, a21, a22, a23, a24, a25, a26, a27)) : wpX_packNode post (nI N, fp, fr, fd, fc, a1, a2, a3, a4, a5, a6, a7, a8, a9, a10, a11, a12, a13, a14, a15, a16, a17, a18, a19, a20, a21, a22, a23, a24, a25, a26, a27) p0 := by
  subst h0
  have e8 : 8 + nI m = nI (8 + m) := bw_add rfl rfl rfl
  obtain ⟨k1, k2⟩ := h26 (8 + m) (by omega)
  rw [hL] at k1
  rw [hb] at k2
  have hb7 : b < 128 := by
    rw [← hb]
    exact hcb _
  refine And.intro (pk_in (8 + m) 16 (by omega) e8) (nm_r (show a26 (8 + nI m).toNatClampNeg = nI L by rw [e8, nI_clamp (by omega), k1]) ⟨pk_in (8 + m) 16 (by omega) e8, nm_r (show a27 (8 + nI m).toNatClampNeg = nI b by rw [e8, nI_clamp (by omega), k2]) ?_⟩)
  refine pk_loop (fun n i (s : Nat → Int32) => wX_packNode_26 post (nI m) (nI L) (nI b) n (nI (cn_c (fun j => p (l j)) i)) (nI i) (nI N) fp fr fd fc a1 a2 a3 a4 s a6 a7 a8 a9 a10 a11 a12 a13 a14 a15 a16 a17 a18 a19 a20 a21 a22 a23 a24 a25 a26 a27)
    (fun i s => hc_Row l p q (bw_r s 7 (14 + m)) i ∧ ∀ r x, ¬ r = 14 + m → x < 224 → bw_r s 7 r x = bw_r a5 7 r x) N 0 a5 (by omega) ⟨hc_row0 hz, fun _ _ _ _ => rfl⟩ ?_ ?_
  · intro n s hs
    exact pk_le N N (fun _ => H s hs.1 hs.2) (fun e => absurd e (by omega))
  · intro n i s hi hs ih
    have hli := hl i
    have hcn := cn_le (fun j => p (l j)) i
    obtain ⟨r1, r2⟩ := h26 (l i) (by omega)
    have hcli := hcl (l i)
    have hcbi := hcb (l i)
    have skip : p (l i) = false → wX_packNode_26 post (nI m) (nI L) (nI b) n (nI (cn_c (fun j => p (l j)) i)) (nI (i + 1)) (nI N) fp fr fd fc a1 a2 a3 a4 s a6 a7 a8 a9 a10 a11 a12 a13 a14 a15 a16 a17 a18 a19 a20 a21 a22 a23 a24 a25 a26 a27 := by
      intro hp
      have t := ih s ⟨hc_rowF hp (hQ0 i hi hp) hs.1, hs.2⟩
      try dsimp only at t
      rw [cn_f (p := fun j => p (l j)) hp] at t
      exact t
    refine pk_le N i (fun e => absurd e (by omega)) (fun _ => ⟨pk_in i 200 (by omega), nm_r (show a1 (nI i).toNatClampNeg = nI (l i) by rw [nI_clamp (by omega), ha]) ⟨pk_in (l i) 16 (by omega), ?_⟩⟩)
    rw [nI_clamp (by omega), r1, r2, bw_m L (by omega), pk_andN (show cb (l i) < 2 ^ 32 by omega) L (bw_mt L (by omega))]
    refine pk_le (cl (l i)) L (fun h => br_t rfl (nm_r (nI_1 i) (skip ?_))) (fun h => ⟨pk_in (l i) 16 (by omega), ?_⟩)
    · exact cn_nf (fun z => by have z1 := (hU i hi).mp z; omega)
    · have hmod : cb (l i) % 2 ^ L < 2 ^ 31 := by
        have z := Nat.mod_le (cb (l i)) (2 ^ L)
        omega
      refine pk_eq (cb (l i) % 2 ^ L) b (fun h2 => br_f (by decide) ⟨pk_in (l i) 16 (by omega), ?_⟩) (fun h2 => br_t rfl (nm_r (nI_1 i) (skip ?_)))
      · have hp : p (l i) = true := (hU i hi).mpr ⟨h, h2⟩
        have hq := hQ i hi hp
        have ec : nI (cn_c (fun j => p (l j)) i) + 1 = nI (cn_c (fun j => p (l j)) (i + 1)) := by rw [nI_1, cn_t (p := fun j => p (l j)) hp]
        rw [nI_clamp (by omega), r2]
        refine ek_if (rr_tI (cb (l i)) hcbi L hL7) (fun hf => nm_r ec (nm_r (nI_1 i) (ih s ⟨?_, hs.2⟩))) (fun hf => ?_)
        · refine hc_rowT (by omega) hp (fun x hx => ?_) hs.1
          rw [hq, hf]
          simp
        · refine ob_setBit (row := 14 + m) (i := cn_c (fun j => p (l j)) i) (bw_add rfl rfl rfl) rfl (by omega) (by omega) (fun a5' h5 => nm_r ec (nm_r (nI_1 i) (ih a5' ⟨?_, fun r x hr hx => ?_⟩)))
          · refine hc_rowT (by omega) hp (fun x hx => ?_) hs.1
            rw [h5 (14 + m) x hx, hq, cn_nt hf, Bool.true_and]
            congr 1
            exact decide_eq_decide.mpr ⟨fun z => z.2, fun z => ⟨rfl, z⟩⟩
          · rw [h5 r x hx, hs.2 r x hr hx]
            simp [hr]
      · exact cn_nf (fun z => h2 ((hU i hi).mp z).2)
end
end
section
section
variable {fn fp fr fd fc : Int32} {a1 a2 a3 a4 a5 a6 a7 a8 a9 a10 a11 a12 a13 a14 a15 a16 a17 a18 a19 a20 a21 a22 a23 a24 a25 a26 a27 : Nat → Int32} {l : Nat → Nat} {N : Nat}
/-- what packCodes leaves -/
def hc_Fin (l : Nat → Nat) (N k s : Nat) (a5 a22 a23 a26 a27 : Nat → Int32) : Prop :=
  ∃ (w : Nat → Nat) (J : Nat → Bool) (lf rt cl cb : Nat → Nat) (U : Nat → Nat → Bool), hc_End l N k s lf rt U w J a22 a23 ∧ hc_N k 0 lf rt cl cb ∧ (k = 0 → ∀ y, cl y = 0) ∧ (∀ y, y < 16 → a26 y = nI (cl y) ∧ a27 y = nI (cb y)) ∧
    ∀ m, m < k → hc_Row l (U (8 + m)) (U (rt m)) (bw_r a5 7 (14 + m)) N
theorem ob_pc204 {post : St1 → Prop} {k s : Nat} {w : Nat → Nat} {J : Nat → Bool} {lf rt cl cb : Nat → Nat} {U : Nat → Nat → Bool} (hN : N ≤ 200) (hl : ∀ j, l j < 8) (ha : ∀ j, a1 j = nI (l j)) (hE : hc_End l N k s lf rt U w J a22 a23) (hC : hc_N k 0 lf rt cl cb)
    (h0 : k = 0 → ∀ y, cl y = 0) (h26 : ∀ y, y < 16 → a26 y = nI (cl y) ∧ a27 y = nI (cb y)) (hz : ∀ m x, m < 7 → x < 224 → bw_r a5 7 (14 + m) x = false)
    (H : ∀ a5', hc_Fin l N k s a5' a22 a23 a26 a27 → (∀ r x, r < 14 → x < 224 → bw_r a5' 7 r x = bw_r a5 7 r x) → post (nI N, fp, fr, nI k, nI s, a1, a2, a3, a4, a5', a6, a7, a8, a9, a10, a11, a12, a13, a14, a15, a16, a17, a18, a19, a20, a21, a22, a23, a24, a25, a26, a27)) :
    ∃ n, wX_packCodes_204 post n 0 (nI N) fp fr (nI k) (nI s) a1 a2 a3 a4 a5 a6 a7 a8 a9 a10 a11 a12 a13 a14 a15 a16 a17 a18 a19 a20 a21 a22 a23 a24 a25 a26 a27 := by
  obtain ⟨hk, hT, hP, hX, hs, h22⟩ := hE
  have hcb : ∀ y, cb y < 128 := fun y => by
    have z1 := hC.2.2.2.1 y
    have z2 : 2 ^ cl y ≤ 2 ^ 7 := Nat.pow_le_pow_right (by omega) (by have z3 := hC.2.2.1 y; omega)
    omega
  refine pk_loop (fun n m (t : Nat → Int32) => wX_packCodes_204 post n (nI m) (nI N) fp fr (nI k) (nI s) a1 a2 a3 a4 t a6 a7 a8 a9 a10 a11 a12 a13 a14 a15 a16 a17 a18 a19 a20 a21 a22 a23 a24 a25 a26 a27)
    (fun m t => (∀ m', m' < m → hc_Row l (U (8 + m')) (U (rt m')) (bw_r t 7 (14 + m')) N) ∧ ∀ r x, (r < 14 ∨ 14 + m ≤ r) → x < 224 → bw_r t 7 r x = bw_r a5 7 r x) k 0 a5 (by omega) ⟨fun m' h => absurd h (by omega), fun _ _ _ _ => rfl⟩ ?_ ?_
  · intro n t ht
    exact pk_le k k (fun _ => H t ⟨w, J, lf, rt, cl, cb, U, ⟨hk, hT, hP, hX, hs, h22⟩, hC, h0, h26, ht.1⟩ (fun r x hr hx => ht.2 r x (Or.inl hr) hx)) (fun e => absurd e (by omega))
  · intro n m t hm ht ih
    refine pk_le k m (fun e => absurd e (by omega)) (fun _ => ?_)
    have hk0 : 0 < k := by omega
    obtain ⟨e1, e2⟩ := hc_endk hT hk0 hP
    obtain ⟨g1, g2, g3, g4, g5, g6, g7, g8⟩ := hT.2.2.1 m hm
    have hL := hC.2.1 m hm
    refine ob_packNode (l := l) (N := N) (m := m) (L := cl (8 + m)) (b := cb (8 + m)) (cl := cl) (cb := cb) (p := U (8 + m)) (q := U (rt m)) rfl (by omega) hN hl ha h26 (fun y => by have z3 := hC.2.2.1 y; omega) hcb rfl rfl (by omega) (fun i hi => ?_) (fun i hi hp => ?_) (fun i hi hp => ?_) (fun x hx => ?_)
      (fun a5' k1 k2 => nm_r (nI_1 m) (ih a5' ⟨fun m' hm' => ?_, fun r x hr hx => ?_⟩))
    · constructor
      · intro hp
        rw [g6] at hp
        rcases (Bool.or_eq_true _ _).mp hp with z | z
        · have z2 := hc_A0 hT hC hm z
          exact ⟨z2.1, z2.2.1⟩
        · have z2 := hc_A1 hT hC hm z
          exact ⟨z2.1, z2.2.1⟩
      · intro ⟨z1, z2⟩
        exact hc_B hT hC e2 (e1 i hi) (k - 1 - m) m (by omega) z1 z2
    · rw [g6] at hp
      rcases (Bool.or_eq_true _ _).mp hp with z | z
      · rw [(hc_A0 hT hC hm z).2.2]
        exact cn_nf (fun y => g7 _ z y)
      · rw [(hc_A1 hT hC hm z).2.2, z]
    · rw [g6] at hp
      exact ((Bool.or_eq_false_iff).mp hp).2
    · rw [ht.2 (14 + m) x (Or.inr (Nat.le_refl _)) hx]
      exact hz m x (by omega) hx
    · by_cases e : m' = m
      · subst e
        exact k1
      · exact hc_rowC hN (fun x hx => k2 (14 + m') x (by omega) hx) (ht.1 m' (by omega))
    · rw [k2 r x (by omega) hx]
      exact ht.2 r x (by omega) hx
theorem ob_packCodes {post : St1 → Prop} (hN : N ≤ 200) (hl : ∀ j, l j < 8) (ha : ∀ j, a1 j = nI (l j)) (h2 : ∀ c, c < 8 → a2 c = nI (lt_r l c N)) (hz : ∀ m x, m < 7 → x < 224 → bw_r a5 7 (14 + m) x = false)
    (H : ∀ k s a5' a22' a23' a24' a25' a26' a27', hc_Fin l N k s a5' a22' a23' a26' a27' → (∀ r x, r < 14 → x < 224 → bw_r a5' 7 r x = bw_r a5 7 r x) → post (nI N, fp, fr, nI k, nI s, a1, a2, a3, a4, a5', a6, a7, a8, a9, a10, a11, a12, a13, a14, a15, a16, a17, a18, a19, a20, a21, a22', a23', a24', a25', a26', a27')) :
    wpX_packCodes post (nI N, fp, fr, fd, fc, a1, a2, a3, a4, a5, a6, a7, a8, a9, a10, a11, a12, a13, a14, a15, a16, a17, a18, a19, a20, a21, a22, a23, a24, a25, a26, a27) := by
  refine pk_loop (fun n x (s : (Nat → Int32) × (Nat → Int32) × (Nat → Int32) × (Nat → Int32)) => wX_packCodes_12 post (nI N) fp fr (nI 0) (nI 0) n (nI x) a1 a2 a3 a4 a5 a6 a7 a8 a9 a10 a11 a12 a13 a14 a15 a16 a17 a18 a19 a20 a21 a22 a23 s.1 s.2.1 s.2.2.1 s.2.2.2)
    (fun x s => ∀ y, y < x → s.1 y = nI (if y < 8 then lt_r l y N else 0) ∧ s.2.1 y = 0 ∧ s.2.2.1 y = 0 ∧ s.2.2.2 y = 0) 16 0 (a24, a25, a26, a27) (by omega) (fun y hy => absurd hy (by omega)) ?_ ?_
  · intro n s hs
    refine pk_le 16 16 (fun _ => ?_) (fun e => absurd e (by omega))
    refine loop_m (fun m (t : Int32 × Nat × Nat × (Nat → Int32) × (Nat → Int32) × (Nat → Int32) × (Nat → Int32)) => wX_packCodes_69 post (nI N) fp fr m t.1 (nI t.2.1) (nI t.2.2.1) a1 a2 a3 a4 a5 a6 a7 a8 a9 a10 a11 a12 a13 a14 a15 a16 a17 a18 a19 a20 a21 t.2.2.2.1 t.2.2.2.2.1 t.2.2.2.2.2.1 t.2.2.2.2.2.2 s.2.2.1 s.2.2.2)
      (fun t => (t.1 = 1 ∧ ∃ w J lf rt U, hc_Arr l N t.2.1 t.2.2.1 w J lf rt U t.2.2.2.1 t.2.2.2.2.1 t.2.2.2.2.2.1 t.2.2.2.2.2.2) ∨ (t.1 = 0 ∧ ∃ lf rt U w J, hc_End l N t.2.1 t.2.2.1 lf rt U w J t.2.2.2.1 t.2.2.2.2.1))
      (fun t => if t.1 = 0 then 0 else 10 - t.2.1) ?_ (1, 0, 0, a22, a23, s.1, s.2.1) ?_
    · intro m ⟨g, k, c, b22, b23, b24, b25⟩ ht ih
      try dsimp only at ht ih ⊢
      rcases ht with ⟨hg, w, J, lf, rt, U, hA⟩ | ⟨hg, lf, rt, U, w, J, hE⟩
      · subst hg
        obtain ⟨hk, hT, hX, h22, h24, h25⟩ := hA
        have hw : ∀ y, y < 8 + k → w y ≤ 200 := fun y hy => by
          have z := hc_wle hT hy
          omega
        have hend : cn_c (hc_p w J) (8 + k) ≤ 1 → hc_End l N k c lf rt U w J b22 b23 := by
          intro hP
          obtain ⟨x1, x2, x3, x4, x5⟩ := hX
          refine ⟨hk, hT, hP, ?_, by omega, h22⟩
          by_cases e : k = 0
          · subst e
            have z := x3 (Or.inr rfl) 0 (by
              rw [show cn_c (hc_p w J) (8 + 0) - 2 = 0 by omega]
              exact ⟨fun t => by have z := hc_F0 w J (8 + 0) t; omega, rfl⟩)
            refine ⟨cn_c (fun y => decide (0 < lt_r l y N)) 8 - 2, 0, ?_, rfl⟩
            have hc0 : c = 0 := by omega
            rw [hc0] at z
            exact z
          · obtain ⟨y1, y2⟩ := x4 (by omega)
            obtain ⟨e', z1, z2⟩ := y2 (by omega)
            exact ⟨_, e', z1, by rw [if_neg e]; exact z2⟩
        refine br_f (show ¬ (1 : Int32) = 0 by decide) ?_
        refine ob_rarest (w := w) (J := J) hk (fun y hy => ⟨h24 y (by omega), by have z := hw y hy; omega⟩) (fun y hy => h25 y (by omega)) (fun hno => br_t (by decide) ?_) (fun a ha8 pa ma => br_f (nI_pos (by omega)) ⟨pk_in a 16 (by omega), ?_⟩)
        · refine ob_rarest (w := w) (J := J) hk (fun y hy => ⟨h24 y (by omega), by have z := hw y hy; omega⟩) (fun y hy => h25 y (by omega)) (fun _ => br_t (by decide) (br_t rfl (ih (0, k, c, b22, b23, b24, b25) (Or.inr ⟨rfl, lf, rt, U, w, J, hend ?_⟩) ?_))) (fun b hb pb _ => absurd pb (by rw [hno b hb]; decide))
          · rw [cn_none hno]
            omega
          · rw [if_pos rfl, if_neg (by decide)]
            omega
        · rw [nI_clamp (by omega)]
          refine nm_e ?_
          have h25' : ∀ y, y < 16 → upd b25 a 1 y = nI (J y || decide (y = a)).toNat := fun y hy => by
            by_cases e : y = a
            · rw [e, pk_us]
              simp
              rfl
            · rw [pk_un e, h25 y hy]
              simp [e]
          have hp1 : ∀ y, hc_p w (fun y => J y || decide (y = a)) y = (hc_p w J y && !decide (y = a)) := fun y => by
            unfold hc_p
            dsimp only
            cases J y <;> cases decide (y = a) <;> cases decide (0 < w y) <;> rfl
          have hpa : J a = false ∧ 0 < w a := by
            unfold hc_p at pa
            simpa using pa
          refine ob_rarest (w := w) (J := fun y => J y || decide (y = a)) hk (fun y hy => ⟨h24 y (by omega), by have z := hw y hy; omega⟩) (fun y hy => h25' y (by omega)) (fun hno => br_t (by decide) (br_t rfl (ih (0, k, c, b22, b23, b24, upd b25 a 1) (Or.inr ⟨rfl, lf, rt, U, w, J, hend ?_⟩) ?_))) (fun b hb pb mb => br_f (nI_pos (by omega)) (br_f (show ¬ (1 : Int32) = 0 by decide) ⟨pk_in b 16 (by omega), ?_⟩))
          · have d1 := cn_del (hc_p w J) ha8
            rw [pa, cn_none (fun y hy => by rw [← hp1]; exact hno y hy)] at d1
            have t1 : Bool.toNat true = 1 := rfl
            omega
          · rw [if_pos rfl, if_neg (by decide)]
            omega
          · have pb1 : hc_p w J b = true ∧ ¬ b = a := by
              rw [hp1] at pb
              simpa using pb
            have hpb : J b = false ∧ 0 < w b := by
              have z := pb1.1
              unfold hc_p at z
              simpa using z
            have mb' : ∀ y, y < 8 + k → hc_p w J y = true → ¬ y = a → w b ≤ w y := fun y hy z1 z2 => mb y hy (by rw [hp1, z1]; simp [z2])
            have wa := hw a ha8
            have wb := hw b hb
            have hab : w a + w b ≤ 200 := by
              have z := hc_join (w' := fun y => if y = 8 + k then w a + w b else w y) (J' := fun y => J y || decide (y = a) || decide (y = b)) (lf' := fun m => if m = k then a else lf m) (rt' := fun m => if m = k then b else rt m) hT ha8 hb pa pb1.1 pb1.2 (if_pos rfl) (fun y hy => if_neg (by omega)) (fun _ => rfl) (if_pos rfl) (fun m hm => if_neg (by omega)) (if_pos rfl) (fun m hm => if_neg (by omega))
              have z2 := hc_wle z (show 8 + k < 8 + (k + 1) by omega)
              rw [if_pos rfl] at z2
              omega
            have hcost := hc_cost (n := N) (P0 := cn_c (fun y => decide (0 < lt_r l y N)) 8) (F0 := fun t => cn_c (fun y => decide (t < lt_r l y N)) 8) (w := w) (J := J) (w' := fun y => if y = 8 + k then w a + w b else w y) (J' := fun y => J y || decide (y = a) || decide (y = b)) hab (fun e => hc_two hT ha8 hb pa pb1.1 pb1.2 e) ha8 hb pa pb1.1 pb1.2 (hT.2.2.2.2.2.2.2 _ (Nat.le_refl _)) ma mb' (if_pos rfl) (fun y hy => if_neg (by omega)) (fun _ => rfl) rfl hX
            obtain ⟨c1, c2, c3⟩ := hcost
            have hk6 : k ≤ 6 := by
              have z1 := hX.1
              have z2 := hX.2.1
              omega
            have e8 : 8 + nI k = nI (8 + k) := bw_add rfl rfl rfl
            have ne1 : ¬ a = 8 + k := by omega
            have ne2 : ¬ b = 8 + k := by omega
            rw [nI_clamp (show b < 2 ^ 31 by omega), nI_clamp (show k < 2 ^ 31 by omega), nI_clamp (show a < 2 ^ 31 by omega), e8, nI_clamp (show 8 + k < 2 ^ 31 by omega), h24 a (by omega), h24 b (by omega), nI_add, bw_n16 (by omega), bw_n8 a (by omega), bw_n8 b (by omega)]
            refine nm_e ⟨pk_in k 8 (by omega), nm_e ⟨pk_in k 8 (by omega), nm_e ⟨pk_in a 16 (by omega), pk_in b 16 (by omega), pk_in (8 + k) 16 (by omega), nm_e ⟨pk_in a 16 (by omega), pk_in b 16 (by omega), ?_⟩⟩⟩⟩
            rw [pk_un ne1, pk_un ne2, h24 a (by omega), h24 b (by omega), nI_add, nI_add]
            refine nm_e (nm_r (nI_1 k) (ih (1, k + 1, c + (w a + w b), upd b22 k (nI a), upd b23 k (nI b), upd b24 (8 + k) (nI (w a + w b)), upd (upd b25 a 1) b 1) (Or.inl ⟨rfl, fun y => if y = 8 + k then w a + w b else w y, fun y => J y || decide (y = a) || decide (y = b), fun m => if m = k then a else lf m, fun m => if m = k then b else rt m, _, (show k + 1 ≤ 7 by omega), hc_join hT ha8 hb pa pb1.1 pb1.2 (if_pos rfl) (fun y hy => if_neg (by omega)) (fun _ => rfl) (if_pos rfl) (fun m hm => if_neg (by omega)) (if_pos rfl) (fun m hm => if_neg (by omega)), ?_, ?_, ?_, ?_⟩) ?_))
            · rw [← c2]
              exact c3
            · intro m hm
              try dsimp only at hm
              try dsimp only
              by_cases e : m = k
              · rw [if_pos e, if_pos e, e, pk_us, pk_us]
                exact ⟨rfl, rfl⟩
              · rw [if_neg e, if_neg e, pk_un e, pk_un e]
                exact h22 m (by omega)
            · intro y hy
              try dsimp only
              by_cases e : y = 8 + k
              · rw [if_pos e, e, pk_us]
              · rw [if_neg e, pk_un e]
                exact h24 y hy
            · intro y hy
              try dsimp only
              by_cases e : y = b
              · rw [e, pk_us]
                simp
                rfl
              · rw [pk_un e, h25' y hy]
                simp [e]
            · show (if (1 : Int32) = 0 then 0 else 10 - (k + 1)) < if (1 : Int32) = 0 then 0 else 10 - k
              rw [if_neg (by decide), if_neg (by decide)]
              omega
      · subst hg
        have hE' := hE
        obtain ⟨hk, hT, hP, hX, hs2, h22⟩ := hE'
        refine br_t rfl ?_
        refine ob_nameCodes hk hT h22 (fun y hy => (hs y hy).2.2.1) (fun y hy => (hs y hy).2.2.2) (fun cl cb a26' a27' n1 n2 n3 => ?_)
        exact ob_pc204 hN hl ha hE n1 n2 n3 hz (fun a5' f1 f2 => H _ _ _ _ _ _ _ _ _ f1 f2)
    · refine Or.inl ⟨rfl, fun y => if y < 8 then lt_r l y N else 0, fun _ => false, fun _ => 0, fun _ => 0, _, hc_start (fun j => hl j) (fun y hy => if_pos hy) (fun _ => rfl) (fun y hy => (hs y hy).1) (fun y hy => (hs y hy).2.1)⟩
  · intro n x s hx hs ih
    refine pk_le 16 x (fun e => absurd e (by omega)) (fun _ => ?_)
    have fin : ∀ z, z = nI (if x < 8 then lt_r l x N else 0) → wX_packCodes_39 post (wX_packCodes_12 post (nI N) fp fr (nI 0) (nI 0) n) (nI x) z (nI x) (nI N) fp fr (nI 0) (nI 0) a1 a2 a3 a4 a5 a6 a7 a8 a9 a10 a11 a12 a13 a14 a15 a16 a17 a18 a19 a20 a21 a22 a23 s.1 s.2.1 s.2.2.1 s.2.2.2 := by
      intro z hz
      subst hz
      have hv : (if x < 8 then lt_r l x N else 0) < 32768 := by
        have z := lt_r_le l x N
        by_cases e : x < 8
        · rw [if_pos e]
          omega
        · rw [if_neg e]
          omega
      unfold wX_packCodes_39
      rw [nI_clamp (by omega), bw_v16 hv]
      refine ⟨pk_in x 16 (by omega), nm_e ⟨pk_in x 16 (by omega), nm_e ⟨pk_in x 16 (by omega), nm_e ⟨pk_in x 16 (by omega), nm_e (nm_r (nI_1 x) (ih (upd s.1 x (nI (if x < 8 then lt_r l x N else 0)), upd s.2.1 x 0, upd s.2.2.1 x 0, upd s.2.2.2 x 0) ?_))⟩⟩⟩⟩
      intro y hy
      try dsimp only
      by_cases e : y = x
      · rw [e, pk_us, pk_us, pk_us, pk_us]
        exact ⟨rfl, rfl, rfl, rfl⟩
      · rw [pk_un e, pk_un e, pk_un e, pk_un e]
        exact hs y (by omega)
    refine pk_le 8 x (fun e => fin 0 ?_) (fun e => ⟨pk_in x 8 (by omega), fin _ ?_⟩)
    · rw [if_neg (by omega)]
      rfl
    · rw [nI_clamp (by omega), h2 x (by omega), if_pos (by omega)]
end
end
section
/-! walks: high and low parts -/
def ef_F (l : Nat → Nat) (N c w : Nat) (h : Nat → Bool) (lp : Nat → Int32) : Prop :=
  ∀ j, j < N → l j = c → h (j / 2 ^ w + lt_r l c j) = true ∧ cn_c h (j / 2 ^ w + lt_r l c j) = lt_r l c j ∧ lp (lt_b l c N + lt_r l c j) = nI (j % 2 ^ w)
theorem ef_Fc {l : Nat → Nat} {N c w : Nat} {h h' : Nat → Bool} {lp lp' : Nat → Int32} (hN : N ≤ 200) (H : ef_F l N c w h lp) (e1 : ∀ x, x < 416 → h' x = h x) (e2 : ∀ p, p < lt_b l (c + 1) N → lp' p = lp p) : ef_F l N c w h' lp' := by
  intro j hj hc
  obtain ⟨g1, g2, g3⟩ := H j hj hc
  have hp := ef_pos (l := l) (c := c) (w := w) (show j ≤ 200 by omega)
  refine ⟨by rw [e1 _ hp]; exact g1, ?_, ?_⟩
  · exact Eq.trans (cn_congr (fun x hx => e1 x (by omega))) g2
  · rw [e2 _ ?_]
    · exact g3
    · have z := lt_r_mono l c (show j + 1 ≤ N from hj)
      rw [lt_r_t hc] at z
      rw [lt_bs]
      omega
section
variable {fn fp fr fd fc : Int32} {a1 a2 a3 a4 a5 a6 a7 a8 a9 a10 a11 a12 a13 a14 a15 a16 a17 a18 a19 a20 a21 a22 a23 a24 a25 a26 a27 : Nat → Int32} {l : Nat → Nat} {N : Nat}
theorem ob_pp84 {post : St1 → Prop} {J25 : Int32 → Int32 → Int32 → Int32 → Int32 → Int32 → Int32 → (Nat → Int32) → (Nat → Int32) → (Nat → Int32) → (Nat → Int32) → (Nat → Int32) → (Nat → Int32) → (Nat → Int32) → (Nat → Int32) → (Nat → Int32) → (Nat → Int32) → (Nat → Int32) → (Nat → Int32) → (Nat → Int32) → (Nat → Int32) → (Nat → Int32) → (Nat → Int32) → (Nat → Int32) → (Nat → Int32) → (Nat → Int32) → (Nat → Int32) → (Nat → Int32) → (Nat → Int32) → (Nat → Int32) → (Nat → Int32) → (Nat → Int32) → (Nat → Int32) → (Nat → Int32) → Prop} {c w : Nat} (hc : c < 8) (hw : w ≤ 7) (hN : N ≤ 200) (hl : ∀ j, l j < 8) (ha : ∀ j, a1 j = nI (l j)) (h10 : a10 c = nI (lt_b l c N)) (hz : ∀ x, x < 416 → bw_r a12 13 c x = false)
    (H : ∀ a11' a12', ef_F l N c w (bw_r a12' 13 c) a11' → (∀ p, p < lt_b l c N → a11' p = a11 p) → (∀ r x, ¬ r = c → x < 416 → bw_r a12' 13 r x = bw_r a12 13 r x) → J25 (nI (lt_b l (c + 1) N)) (nI (c + 1)) (nI N) fp fr fd fc a1 a2 a3 a4 a5 a6 a7 a8 a9 a10 a11' a12' a13 a14 a15 a16 a17 a18 a19 a20 a21 a22 a23 a24 a25 a26 a27) :
    ∃ n, wX_packParts_84 post J25 (nI c) (nI w) n (nI (lt_b l c N)) 0 (nI N) fp fr fd fc a1 a2 a3 a4 a5 a6 a7 a8 a9 a10 a11 a12 a13 a14 a15 a16 a17 a18 a19 a20 a21 a22 a23 a24 a25 a26 a27 := by
  have hbN : lt_b l c N + lt_r l c N ≤ N := by
    rw [← lt_bs]
    exact lt_b_le _ _ _
  refine pk_loop (fun n i (s : (Nat → Int32) × (Nat → Int32)) => wX_packParts_84 post J25 (nI c) (nI w) n (nI (lt_b l c N + lt_r l c i)) (nI i) (nI N) fp fr fd fc a1 a2 a3 a4 a5 a6 a7 a8 a9 a10 s.1 s.2 a13 a14 a15 a16 a17 a18 a19 a20 a21 a22 a23 a24 a25 a26 a27)
    (fun i s => ef_Ok l c w (bw_r s.2 13 c) i ∧ (∀ j, j < i → l j = c → s.1 (lt_b l c N + lt_r l c j) = nI (j % 2 ^ w)) ∧ (∀ p, p < lt_b l c N → s.1 p = a11 p) ∧ ∀ r x, ¬ r = c → x < 416 → bw_r s.2 13 r x = bw_r a12 13 r x)
    N 0 (a11, a12) (by omega) ⟨ef_0 hz, fun j hj => absurd hj (by omega), fun _ _ => rfl, fun _ _ _ _ => rfl⟩ ?_ ?_
  · intro n s hs
    refine pk_le N N (fun _ => nm_r (nI_1 c) ?_) (fun e => absurd e (by omega))
    rw [← lt_bs]
    exact H s.1 s.2 (fun j hj hjc => ⟨(hs.1.2.2 j hj hjc).1, (hs.1.2.2 j hj hjc).2, hs.2.1 j hj hjc⟩) hs.2.2.1 hs.2.2.2
  · intro n i s hi hs ih
    have hli := hl i
    refine pk_le N i (fun e => absurd e (by omega)) (fun _ => ⟨pk_in i 200 (by omega), ?_⟩)
    rw [nI_clamp (by omega), ha i]
    refine pk_eq (l i) c (fun e => ?_) (fun e => nm_r (nI_1 i) ?_)
    · have hrk := lt_r_mono l c (show i + 1 ≤ N from hi)
      rw [lt_r_t e] at hrk
      have hp := ef_pos (l := l) (c := c) (w := w) (show i ≤ 200 by omega)
      have hmod : i % 2 ^ w < 200 := by
        have z := Nat.mod_le i (2 ^ w)
        omega
      have e1 : nI (lt_b l c N + lt_r l c i) + 1 = nI (lt_b l c N + lt_r l c (i + 1)) := by
        rw [nI_1, lt_r_t e]
        rfl
      refine ⟨pk_in (lt_b l c N + lt_r l c i) 200 (by omega), ?_⟩
      rw [nI_clamp (by omega), nI_clamp (by omega), ef_low w (by omega) i (by omega), bw_n16 (by omega), ef_high w (by omega) i (by omega), h10]
      refine nm_e ⟨pk_in c 9 (by omega), ob_setHigh (row := c) (i := i / 2 ^ w + lt_r l c i) rfl (bw_sub (bw_add rfl rfl rfl) rfl (by omega)) hc hp (fun a12' h12 => nm_r e1 (nm_r (nI_1 i) (ih (upd s.1 (lt_b l c N + lt_r l c i) (nI (i % 2 ^ w)), a12') ⟨?_, ?_, ?_, ?_⟩)))⟩
      · refine ef_take (by omega) e (fun x hx => ?_) hs.1
        try dsimp only
        rw [h12 c x hx]
        congr 1
        exact decide_eq_decide.mpr ⟨fun z => z.2, fun z => ⟨rfl, z⟩⟩
      · intro j hj hjc
        try dsimp only
        by_cases e2 : j = i
        · rw [e2, pk_us]
        · have z := lt_r_mono l c (show j + 1 ≤ i by omega)
          rw [lt_r_t hjc] at z
          rw [pk_un (by omega)]
          exact hs.2.1 j (by omega) hjc
      · intro p hp2
        try dsimp only
        rw [pk_un (by omega)]
        exact hs.2.2.1 p hp2
      · intro r x hr hx
        try dsimp only
        rw [h12 r x hx, hs.2.2.2 r x hr hx]
        simp [hr]
    · have t := ih s ⟨ef_skip (by omega) e hs.1, fun j hj hjc => hs.2.1 j (by
        by_cases e2 : j = i
        · rw [e2] at hjc
          exact absurd hjc e
        · omega) hjc, hs.2.2.1, hs.2.2.2⟩
      try dsimp only at t
      rw [lt_r_f e] at t
      exact t
/-- what stands for the letters below c -/
def ef_St (l : Nat → Nat) (N c : Nat) (a9 a10 a11 a12 : Nat → Int32) : Prop :=
  ∃ wd : Nat → Nat, ∀ d, d < c → wd d ≤ 7 ∧ a9 d = nI (wd d) ∧ a10 d = nI (lt_b l d N) ∧ ef_F l N d (wd d) (bw_r a12 13 d) a11
theorem ob_packParts {post : St1 → Prop} (hN : N ≤ 200) (hl : ∀ j, l j < 8) (ha : ∀ j, a1 j = nI (l j)) (h2 : ∀ c, c < 8 → a2 c = nI (lt_r l c N))
    (H : ∀ a9' a10' a11' a12', ef_St l N 8 a9' a10' a11' a12' → post (nI N, fp, fr, fd, fc, a1, a2, a3, a4, a5, a6, a7, a8, a9', a10', a11', a12', a13, a14, a15, a16, a17, a18, a19, a20, a21, a22, a23, a24, a25, a26, a27)) : wpX_packParts post (nI N, fp, fr, fd, fc, a1, a2, a3, a4, a5, a6, a7, a8, a9, a10, a11, a12, a13, a14, a15, a16, a17, a18, a19, a20, a21, a22, a23, a24, a25, a26, a27) := by
  refine pk_loop (fun n x (s : Nat → Int32) => wX_packParts_2 post (nI N) fp fr fd fc n (nI x) a1 a2 a3 a4 a5 a6 a7 a8 a9 a10 a11 s a13 a14 a15 a16 a17 a18 a19 a20 a21 a22 a23 a24 a25 a26 a27) (fun x s => ∀ q, q < x → s q = 0) 104 0 a12 (by omega) (fun q hq => absurd hq (by omega)) ?_ ?_
  · intro n s hs
    refine pk_le 104 104 (fun _ => ?_) (fun e => absurd e (by omega))
    refine Exists.elim (pk_loop (fun m c (t : (Nat → Int32) × (Nat → Int32) × (Nat → Int32) × (Nat → Int32)) => wX_packParts_25 post m (nI (lt_b l c N)) (nI c) (nI N) fp fr fd fc a1 a2 a3 a4 a5 a6 a7 a8 t.1 t.2.1 t.2.2.1 t.2.2.2 a13 a14 a15 a16 a17 a18 a19 a20 a21 a22 a23 a24 a25 a26 a27)
      (fun c t => ef_St l N c t.1 t.2.1 t.2.2.1 t.2.2.2 ∧ ∀ r x, c ≤ r → r < 8 → x < 416 → bw_r t.2.2.2 13 r x = false) 8 0 (a9, a10, a11, s) (by omega) ⟨⟨fun _ => 0, fun d hd => absurd hd (by omega)⟩, fun r x _ hr hx => ?_⟩ ?_ ?_) (fun m hm => ⟨m, ?_⟩)
    · unfold bw_r
      try dsimp only
      rw [hs _ (by omega)]
      exact bw_0 _
    · intro m t ht
      refine pk_le 8 8 (fun _ => nm_e (H _ _ _ _ ?_)) (fun e => absurd e (by omega))
      obtain ⟨wd, hwd⟩ := ht.1
      refine ⟨wd, fun d hd => ?_⟩
      obtain ⟨g1, g2, g3, g4⟩ := hwd d hd
      refine ⟨g1, g2, ?_, g4⟩
      rw [pk_un (by omega)]
      exact g3
    · intro m c t hc ht ih
      obtain ⟨wd, hwd⟩ := ht.1
      have hbN := lt_b_le l c N
      have hcnt := lt_r_le l c N
      refine pk_le 8 c (fun e => absurd e (by omega)) (fun _ => ⟨pk_in c 9 (by omega), ?_⟩)
      rw [nI_clamp (by omega), bw_n16 (by omega)]
      refine nm_e ?_
      have fin : ∀ w, w ≤ 7 → wX_packParts_73 post (wX_packParts_25 post m) (nI (lt_b l c N)) (nI c) (nI w) (nI N) fp fr fd fc a1 a2 a3 a4 a5 a6 a7 a8 t.1 (upd t.2.1 c (nI (lt_b l c N))) t.2.2.1 t.2.2.2 a13 a14 a15 a16 a17 a18 a19 a20 a21 a22 a23 a24 a25 a26 a27 := by
        intro w hw
        refine And.intro (pk_in c 8 (by omega)) ?_
        rw [nI_clamp (by omega), bw_n8 w (by omega)]
        refine nm_e (ob_pp84 hc hw hN hl ha pk_us (fun x hx => ht.2 c x (Nat.le_refl c) hc hx) (fun a11' a12' k1 k2 k3 => ih (upd t.1 c (nI w), upd t.2.1 c (nI (lt_b l c N)), a11', a12') ⟨⟨fun d => if d = c then w else wd d, fun d hd => ?_⟩, fun r x hr hr8 hx => ?_⟩))
        · try dsimp only
          by_cases e : d = c
          · rw [if_pos e, e, pk_us, pk_us]
            exact ⟨hw, rfl, rfl, k1⟩
          · obtain ⟨g1, g2, g3, g4⟩ := hwd d (by omega)
            rw [if_neg e, pk_un e, pk_un e]
            refine ⟨g1, g2, g3, ef_Fc hN g4 (fun x hx => k3 d x e hx) (fun p hp => k2 p ?_)⟩
            have z : lt_b l (d + 1) N ≤ lt_b l c N := cn_sub (fun j _ z1 => by
              have z2 := of_decide_eq_true z1
              exact decide_eq_true (by omega))
            omega
        · try dsimp only
          rw [k3 r x (by omega) hx]
          exact ht.2 r x (by omega) hr8 hx
      have go : ∀ d w, w + d = 7 → wX_packParts_41 post (wX_packParts_25 post m) (nI (lt_b l c N)) (nI c) (nI N) fp fr fd fc a1 a2 a3 a4 a5 a6 a7 a8 t.1 (upd t.2.1 c (nI (lt_b l c N))) t.2.2.1 t.2.2.2 a13 a14 a15 a16 a17 a18 a19 a20 a21 a22 a23 a24 a25 a26 a27 (d + 1) (nI w) := by
        intro d
        induction d with
        | zero =>
          intro w hw
          have e7 : w = 7 := by omega
          subst e7
          refine And.intro (pk_in c 8 (by omega)) ?_
          rw [nI_clamp (by omega), h2 c hc, nI_1, ef_shl (7 + 1) (by omega) (lt_r l c N) (by omega)]
          refine pk_le (lt_r l c N) 0 (fun _ => fin 7 (by omega)) (fun h => ⟨pk_in c 8 (by omega), pk_lt N (lt_r l c N * 2 ^ (7 + 1)) (fun _ => fin 7 (by omega)) (fun h2 => absurd h2 (by omega))⟩)
        | succ d ihd =>
          intro w hw
          have hpw : 2 ^ (w + 1) ≤ 2 ^ 8 := Nat.pow_le_pow_right (by omega) (by omega)
          have hmul : lt_r l c N * 2 ^ (w + 1) ≤ 200 * 2 ^ 8 := Nat.mul_le_mul (by omega) hpw
          refine And.intro (pk_in c 8 (by omega)) ?_
          rw [nI_clamp (by omega), h2 c hc, nI_1, ef_shl (w + 1) (by omega) (lt_r l c N) (by omega)]
          refine pk_le (lt_r l c N) 0 (fun _ => fin w (by omega)) (fun h => ⟨pk_in c 8 (by omega), pk_lt N (lt_r l c N * 2 ^ (w + 1)) (fun _ => fin w (by omega)) (fun h2 => nm_e (ihd (w + 1) (by omega)))⟩)
      exact ⟨8, go 7 0 rfl⟩
    · try dsimp only at hm
      rw [lt_b0] at hm
      exact hm
  · intro n x s hx hs ih
    refine pk_le 104 x (fun e => absurd e (by omega)) (fun _ => ⟨pk_in x 104 (by omega), nm_e (nm_r (nI_1 x) (ih _ (ob_fill (f := fun _ => 0) (nI_clamp (by omega)) hs rfl)))⟩)
end
end
section
/-! walks: blocks -/
section
variable {fn fp fr fd fc : Int32} {a1 a2 a3 a4 a5 a6 a7 a8 a9 a10 a11 a12 a13 a14 a15 a16 a17 a18 a19 a20 a21 a22 a23 a24 a25 a26 a27 : Nat → Int32} {l : Nat → Nat} {N : Nat}
theorem ob_blockBits {post : Int32 → Prop} {p0 p1 : Int32} {c b : Nat} (h0 : p0 = nI c) (h1 : p1 = nI b) (hc : c < 8) (hb : b < 30) (hN : N ≤ 200) (hl : ∀ j, l j < 8) (ha : ∀ j, a1 j = nI (l j)) (H : post (nI (rr_blk l N c b))) : wpX_blockBits post (nI N, fp, fr, fd, fc, a1, a2, a3, a4, a5, a6, a7, a8, a9, a10, a11, a12, a13, a14, a15, a16, a17, a18, a19, a20, a21, a22, a23, a24, a25, a26, a27) p0 p1 := by
  subst h0 h1
  refine pk_loop (fun n i (_ : Unit) => wX_blockBits_5 post (nI c) (nI b) (nI N) fp fr fd fc a1 a2 a3 a4 a5 a6 a7 a8 a9 a10 a11 a12 a13 a14 a15 a16 a17 a18 a19 a20 a21 a22 a23 a24 a25 a26 a27 n (nI (rr_bb (fun i => rr_q l N c (7 * b + i)) i)) (nI i)) (fun _ _ => True) 7 0 () (by omega) trivial ?_ ?_
  · intro n _ _
    exact pk_le 7 7 (fun _ => H) (fun e => absurd e (by omega))
  · intro n i _ hi _ ih
    have hlt := rr_bb_lt (fun i => rr_q l N c (7 * b + i)) i
    have hpw : 2 ^ i ≤ 2 ^ 6 := Nat.pow_le_pow_right (by omega) (by omega)
    have e5 : (nI b * 7) + nI i = nI (7 * b + i) := bw_add (bw_mul (b := 7) (c := 7 * b) rfl rfl (Nat.mul_comm _ _)) rfl rfl
    have hlj := hl (7 * b + i)
    have t := ih () trivial
    try dsimp only at t
    have no : rr_q l N c (7 * b + i) = false → wX_blockBits_5 post (nI c) (nI b) (nI N) fp fr fd fc a1 a2 a3 a4 a5 a6 a7 a8 a9 a10 a11 a12 a13 a14 a15 a16 a17 a18 a19 a20 a21 a22 a23 a24 a25 a26 a27 n (nI (rr_bb (fun i => rr_q l N c (7 * b + i)) i)) (nI (i + 1)) := by
      intro hq
      have e : rr_bb (fun i => rr_q l N c (7 * b + i)) (i + 1) = rr_bb (fun i => rr_q l N c (7 * b + i)) i := by
        rw [rr_bb, hq]
        simp
      rw [e] at t
      exact t
    refine pk_le 7 i (fun e => absurd e (by omega)) (fun _ => nm_r e5 ?_)
    refine pk_le N (7 * b + i) (fun h => nm_r (rr_o0 _) (nm_r (nI_1 i) (no ?_))) (fun h => ⟨pk_in (7 * b + i) 200 (by omega), ?_⟩)
    · unfold rr_q
      simp [show ¬ 7 * b + i < N by omega]
    · rw [nI_clamp (by omega), ha]
      refine pk_eq (l (7 * b + i)) c (fun e => ?_) (fun e => nm_r (rr_o0 _) (nm_r (nI_1 i) (no ?_)))
      · have hq : rr_q l N c (7 * b + i) = true := by
          unfold rr_q
          simp [h, e]
        have e2 : rr_bb (fun i => rr_q l N c (7 * b + i)) (i + 1) = rr_bb (fun i => rr_q l N c (7 * b + i)) i ||| 2 ^ i := by
          rw [rr_bb, hq]
          simp
        rw [e2] at t
        exact nm_r (rr_oI _ (by omega) i hi) (nm_r (nI_1 i) t)
      · unfold rr_q
        simp [e]
theorem ob_nm {post : Int32 → Prop} {b : Nat} (h16 : ∀ i k, i < 8 → k < 8 → a16 (i * 8 + k) = nI (rr_c i k)) (hb : b < 128) : ∀ r m k, r ≤ 7 → k ≤ 7 → m + 36 * r ≤ 1000 → post (nI (rr_nm b r m k)) → wX_numberOf_8 post (nI b) fn fp fr fd fc a1 a2 a3 a4 a5 a6 a7 a8 a9 a10 a11 a12 a13 a14 a15 a16 a17 a18 a19 a20 a21 a22 a23 a24 a25 a26 a27 (r + 1) (nI m) (nI k) (nI (7 - r)) := by
  intro r
  induction r with
  | zero =>
    intro m k _ _ _ h
    exact pk_le 7 7 (fun _ => h) (fun e => absurd e (by omega))
  | succ r ih =>
    intro m k hr hk hm h
    rw [rr_nm] at h
    refine pk_le 7 (7 - (r + 1)) (fun e => absurd e (by omega)) (fun _ => pk_le k 0 (fun e => ?_) (fun e => nm_r (bw_sub (a := 6) (c := r) rfl rfl (by omega)) ?_))
    · rw [if_pos (by omega)] at h
      exact h
    · rw [if_neg (by omega)] at h
      have e6 : 7 - (r + 1) = 6 - r := by omega
      have e7 : nI (7 - (r + 1)) + 1 = nI (7 - r) := by
        rw [nI_1]
        congr 1
        omega
      have ek : nI k + (-1) = nI (k - 1) := sb_m1 (by omega)
      have hcr := rr_c_lt r (by omega) k (by omega)
      refine ek_if (rr_tI b hb (7 - (r + 1)) (by omega)) (fun hf => nm_r e7 (ih m k (by omega) hk (by omega) ?_)) (fun hf => ?_)
      · rw [e6] at hf
        rw [hf] at h
        exact h
      · rw [e6] at hf
        rw [cn_nt hf, if_pos rfl] at h
        refine pk_lt r k (fun hlt => nm_r (bw_n0 m) (nm_r ek (nm_r e7 (ih m (k - 1) (by omega) (by omega) (by omega) ?_)))) (fun hge => ⟨pk_in (r * 8 + k) 64 (by omega) (bw_add (bw_mul rfl rfl rfl) rfl rfl), ?_⟩)
        · rw [if_neg (by omega), Nat.add_zero] at h
          exact h
        · have ei : (nI r * 8) + nI k = nI (r * 8 + k) := bw_add (bw_mul rfl rfl rfl) rfl rfl
          rw [ei, nI_clamp (by omega), h16 r k (by omega) (by omega)]
          refine nm_r (nI_add _ _) (nm_r ek (nm_r e7 (ih _ (k - 1) (by omega) (by omega) (by omega) ?_)))
          rw [if_pos hge] at h
          exact h
theorem ob_numberOf {post : Int32 → Prop} {p0 p1 : Int32} {b k : Nat} (h16 : ∀ i k, i < 8 → k < 8 → a16 (i * 8 + k) = nI (rr_c i k)) (h0 : p0 = nI b) (h1 : p1 = nI k) (hb : b < 128) (hk : k ≤ 7) (H : post (nI (rr_nm b 7 0 k))) : wpX_numberOf post (fn, fp, fr, fd, fc, a1, a2, a3, a4, a5, a6, a7, a8, a9, a10, a11, a12, a13, a14, a15, a16, a17, a18, a19, a20, a21, a22, a23, a24, a25, a26, a27) p0 p1 := by
  subst h0 h1
  exact ⟨8, ob_nm h16 hb 7 0 k (by omega) hk (by omega) H⟩
theorem ob_bo {post : Int32 → Prop} (h16 : ∀ i k, i < 8 → k < 8 → a16 (i * 8 + k) = nI (rr_c i k)) : ∀ r b k m, r ≤ 7 → k ≤ 7 → b < 128 → m ≤ 1000 → post (nI (rr_bo r b k m)) → wX_bitsOf_11 post fn fp fr fd fc a1 a2 a3 a4 a5 a6 a7 a8 a9 a10 a11 a12 a13 a14 a15 a16 a17 a18 a19 a20 a21 a22 a23 a24 a25 a26 a27 (r + 1) (nI b) (nI k) (nI m) (nI (7 - r)) := by
  intro r
  induction r with
  | zero =>
    intro b k m _ _ _ _ h
    exact pk_le 7 7 (fun _ => h) (fun e => absurd e (by omega))
  | succ r ih =>
    intro b k m hr hk hb hm h
    rw [rr_bo] at h
    refine pk_le 7 (7 - (r + 1)) (fun e => absurd e (by omega)) (fun _ => pk_le k 0 (fun e => ?_) (fun e => nm_r (bw_sub (a := 6) (c := r) rfl rfl (by omega)) ?_))
    · rw [if_pos (by omega)] at h
      exact h
    · rw [if_neg (by omega)] at h
      have e6 : 7 - (r + 1) = 6 - r := by omega
      have e7 : nI (7 - (r + 1)) + 1 = nI (7 - r) := by
        rw [nI_1]
        congr 1
        omega
      have ek : nI k + (-1) = nI (k - 1) := sb_m1 (by omega)
      have hcr := rr_c_lt r (by omega) k (by omega)
      have hbo : b ||| 2 ^ (7 - (r + 1)) < 128 := by
        have z : 2 ^ (7 - (r + 1)) < 2 ^ 7 := Nat.pow_lt_pow_right (by omega) (by omega)
        exact Nat.or_lt_two_pow (n := 7) hb z
      have fin : ∀ z, z = nI (if k ≤ r then rr_c r k else 0) → wX_bitsOf_54 post (wX_bitsOf_11 post fn fp fr fd fc a1 a2 a3 a4 a5 a6 a7 a8 a9 a10 a11 a12 a13 a14 a15 a16 a17 a18 a19 a20 a21 a22 a23 a24 a25 a26 a27 (r + 1)) (nI b) (nI k) (nI m) (nI (7 - (r + 1))) z fn fp fr fd fc a1 a2 a3 a4 a5 a6 a7 a8 a9 a10 a11 a12 a13 a14 a15 a16 a17 a18 a19 a20 a21 a22 a23 a24 a25 a26 a27 := by
        intro z hz
        subst hz
        have hle : (if k ≤ r then rr_c r k else 0) ≤ 1000 := by
          by_cases e : k ≤ r
          · rw [if_pos e]
            omega
          · rw [if_neg e]
            omega
        refine pk_lt m (if k ≤ r then rr_c r k else 0) (fun hlt => nm_r e7 (ih b k m (by omega) hk hb hm ?_)) (fun hge => nm_r (pk_sub hge) (nm_r (rr_oI b hb (7 - (r + 1)) (by omega)) (nm_r ek (nm_r e7 (ih _ _ _ (by omega) (by omega) hbo (by omega) ?_)))))
        · rw [if_neg (by omega)] at h
          exact h
        · rw [if_pos hge] at h
          rw [e6]
          exact h
      refine pk_lt r k (fun hlt => fin 0 ?_) (fun hge => ⟨pk_in (r * 8 + k) 64 (by omega) (bw_add (bw_mul rfl rfl rfl) rfl rfl), fin _ ?_⟩)
      · rw [if_neg (by omega)]
        rfl
      · have ei : (nI r * 8) + nI k = nI (r * 8 + k) := bw_add (bw_mul rfl rfl rfl) rfl rfl
        rw [ei, nI_clamp (by omega), h16 r k (by omega) (by omega), if_pos hge]
theorem ob_bitsOf {post : Int32 → Prop} {p0 p1 : Int32} {m k : Nat} (h16 : ∀ i k, i < 8 → k < 8 → a16 (i * 8 + k) = nI (rr_c i k)) (h0 : p0 = nI m) (h1 : p1 = nI k) (hm : m ≤ 1000) (hk : k ≤ 7) (H : post (nI (rr_bo 7 0 k m))) : wpX_bitsOf post (fn, fp, fr, fd, fc, a1, a2, a3, a4, a5, a6, a7, a8, a9, a10, a11, a12, a13, a14, a15, a16, a17, a18, a19, a20, a21, a22, a23, a24, a25, a26, a27) p0 p1 := by
  subst h0 h1
  exact ⟨8, ob_bo h16 7 0 k m (by omega) hk (by omega) hm H⟩
/-- what stands for the blocks -/
def rr_13 (l : Nat → Nat) (N q : Nat) : Nat := bw_pc (rr_blk l N (q / 30) (q % 30))
def rr_14 (l : Nat → Nat) (N q : Nat) : Nat := rr_nm (rr_blk l N (q / 30) (q % 30)) 7 0 (bw_pc (rr_blk l N (q / 30) (q % 30)))
def rr_15 (l : Nat → Nat) (N q : Nat) : Nat := cn_c (rr_q l N (q / 31)) (7 * (q % 31))
theorem ob_packBlocks {post : St1 → Prop} (hN : N ≤ 200) (hl : ∀ j, l j < 8) (ha : ∀ j, a1 j = nI (l j)) (h16 : ∀ i k, i < 8 → k < 8 → a16 (i * 8 + k) = nI (rr_c i k))
    (H : ∀ a13' a14' a15', (∀ q, q < 240 → a13' q = nI (rr_13 l N q)) → (∀ q, q < 240 → a14' q = nI (rr_14 l N q)) → (∀ q, q < 248 → a15' q = nI (rr_15 l N q)) → post (nI N, fp, fr, fd, fc, a1, a2, a3, a4, a5, a6, a7, a8, a9, a10, a11, a12, a13', a14', a15', a16, a17, a18, a19, a20, a21, a22, a23, a24, a25, a26, a27)) : wpX_packBlocks post (nI N, fp, fr, fd, fc, a1, a2, a3, a4, a5, a6, a7, a8, a9, a10, a11, a12, a13, a14, a15, a16, a17, a18, a19, a20, a21, a22, a23, a24, a25, a26, a27) := by
  refine pk_loop (fun n c (s : (Nat → Int32) × (Nat → Int32) × (Nat → Int32)) => wX_packBlocks_2 post (nI N) fp fr fd fc n (nI c) a1 a2 a3 a4 a5 a6 a7 a8 a9 a10 a11 a12 s.1 s.2.1 s.2.2 a16 a17 a18 a19 a20 a21 a22 a23 a24 a25 a26 a27)
    (fun c s => (∀ q, q < c * 30 → s.1 q = nI (rr_13 l N q)) ∧ (∀ q, q < c * 30 → s.2.1 q = nI (rr_14 l N q)) ∧ ∀ q, q < c * 31 → s.2.2 q = nI (rr_15 l N q)) 8 0 (a13, a14, a15) (by omega) ⟨fun q hq => absurd hq (by omega), fun q hq => absurd hq (by omega), fun q hq => absurd hq (by omega)⟩ ?_ ?_
  · intro n s hs
    exact pk_le 8 8 (fun _ => H s.1 s.2.1 s.2.2 hs.1 hs.2.1 hs.2.2) (fun e => absurd e (by omega))
  · intro n c s hc hs ih
    refine pk_le 8 c (fun e => absurd e (by omega)) (fun _ => ?_)
    refine pk_loop (fun m b (t : (Nat → Int32) × (Nat → Int32) × (Nat → Int32)) => wX_packBlocks_12 post (wX_packBlocks_2 post (nI N) fp fr fd fc n) (nI c) (nI N) fp fr fd fc m (nI (cn_c (rr_q l N c) (7 * b))) (nI b) a1 a2 a3 a4 a5 a6 a7 a8 a9 a10 a11 a12 t.1 t.2.1 t.2.2 a16 a17 a18 a19 a20 a21 a22 a23 a24 a25 a26 a27)
      (fun b t => (∀ q, q < c * 30 + b → t.1 q = nI (rr_13 l N q)) ∧ (∀ q, q < c * 30 + b → t.2.1 q = nI (rr_14 l N q)) ∧ ∀ q, q < c * 31 + b → t.2.2 q = nI (rr_15 l N q)) 30 0 s (by omega) hs ?_ ?_
    · intro m t ht
      have hle := rr_q_le l N c (7 * 30)
      have ei : (nI c * 31) + 30 = nI (c * 31 + 30) := bw_add (bw_mul rfl rfl rfl) rfl rfl
      refine pk_le 30 30 (fun _ => ⟨pk_in (c * 31 + 30) 248 (by omega) ei, ?_⟩) (fun e => absurd e (by omega))
      rw [ei, nI_clamp (by omega), bw_n16 (by omega)]
      refine nm_e (nm_r (nI_1 c) (ih (t.1, t.2.1, upd t.2.2 (c * 31 + 30) (nI (cn_c (rr_q l N c) (7 * 30)))) ⟨fun q hq => ht.1 q (by omega), fun q hq => ht.2.1 q (by omega), ?_⟩))
      rw [show (c + 1) * 31 = c * 31 + 30 + 1 by omega]
      refine ob_fill (f := fun q => nI (rr_15 l N q)) rfl ht.2.2 ?_
      unfold rr_15
      rw [show (c * 31 + 30) / 31 = c by omega, show (c * 31 + 30) % 31 = 30 by omega]
    · intro m b t hb ht ih2
      have hle := rr_q_le l N c (7 * b)
      have hblk := rr_blk_lt l N c b
      obtain ⟨k1, k2, k3⟩ := rr_back _ hblk
      have ei : (nI c * 31) + nI b = nI (c * 31 + b) := bw_add (bw_mul rfl rfl rfl) rfl rfl
      have ej : (nI c * 30) + nI b = nI (c * 30 + b) := bw_add (bw_mul rfl rfl rfl) rfl rfl
      refine pk_le 30 b (fun e => absurd e (by omega)) (fun _ => ob_blockBits rfl rfl hc hb hN hl ha (bw_ones rfl (by omega) ?_))
      rw [ei, nI_clamp (show c * 31 + b < 2 ^ 31 by omega), ej, nI_clamp (show c * 30 + b < 2 ^ 31 by omega), bw_n16 (show cn_c (rr_q l N c) (7 * b) < 32768 by omega), bw_n8 _ (show bw_pc (rr_blk l N c b) < 128 by omega)]
      refine ⟨pk_in (c * 31 + b) 248 (by omega), nm_e ⟨pk_in (c * 30 + b) 240 (by omega), nm_e (ob_numberOf h16 rfl rfl hblk (by omega) ⟨pk_in (c * 30 + b) 240 (by omega), ?_⟩)⟩⟩
      rw [bw_n8 _ k2]
      refine nm_e (nm_r (nI_add _ _) (nm_r (nI_1 b) ?_))
      rw [← rr_blk_s]
      refine ih2 (upd t.1 (c * 30 + b) (nI (bw_pc (rr_blk l N c b))), upd t.2.1 (c * 30 + b) (nI (rr_nm (rr_blk l N c b) 7 0 (bw_pc (rr_blk l N c b)))), upd t.2.2 (c * 31 + b) (nI (cn_c (rr_q l N c) (7 * b)))) ⟨?_, ?_, ?_⟩
      · refine ob_fill (i := c * 30 + b) (f := fun q => nI (rr_13 l N q)) rfl ht.1 ?_
        unfold rr_13
        rw [show (c * 30 + b) / 30 = c by omega, show (c * 30 + b) % 30 = b by omega]
      · refine ob_fill (i := c * 30 + b) (f := fun q => nI (rr_14 l N q)) rfl ht.2.1 ?_
        unfold rr_14
        rw [show (c * 30 + b) / 30 = c by omega, show (c * 30 + b) % 30 = b by omega]
      · refine ob_fill (i := c * 31 + b) (f := fun q => nI (rr_15 l N q)) rfl ht.2.2 ?_
        unfold rr_15
        rw [show (c * 31 + b) / 31 = c by omega, show (c * 31 + b) % 31 = b by omega]
end
end
section
/-! walks: runs -/
def rl_St (l : Nat → Nat) (N i R : Nat) (a17 a18 a19 a20 a21 : Nat → Int32) : Prop :=
  ∃ st le be : Nat → Nat, rl_Ok l N i R st le be a20 a21 ∧ (0 < R → ∀ r, r ≤ R → a17 r = nI (st r)) ∧ ∀ r, r < R → a18 r = nI (le r) ∧ a19 r = nI (be r)
section
variable {fn fp fr fd fc : Int32} {a1 a2 a3 a4 a5 a6 a7 a8 a9 a10 a11 a12 a13 a14 a15 a16 a17 a18 a19 a20 a21 a22 a23 a24 a25 a26 a27 : Nat → Int32} {l : Nat → Nat} {N : Nat}
theorem ob_pr57 {post : St1 → Prop} {J28 : Int32 → Int32 → (Nat → Int32) → (Nat → Int32) → (Nat → Int32) → (Nat → Int32) → (Nat → Int32) → (Nat → Int32) → (Nat → Int32) → (Nat → Int32) → (Nat → Int32) → (Nat → Int32) → (Nat → Int32) → (Nat → Int32) → (Nat → Int32) → (Nat → Int32) → (Nat → Int32) → (Nat → Int32) → (Nat → Int32) → (Nat → Int32) → (Nat → Int32) → (Nat → Int32) → (Nat → Int32) → (Nat → Int32) → (Nat → Int32) → (Nat → Int32) → (Nat → Int32) → (Nat → Int32) → (Nat → Int32) → Prop} {i R : Nat} (hN : N ≤ 200) (hl : ∀ j, l j < 8) (ha : ∀ j, a1 j = nI (l j)) (hi : i < N) (he : i = 0 ∨ ¬ l i = l (i - 1)) (h : rl_St l N i R a17 a18 a19 a20 a21)
    (H : ∀ a17' a18' a19' a20' a21', rl_St l N (i + 1) (R + 1) a17' a18' a19' a20' a21' → J28 (nI (i + 1)) (nI (R + 1)) a1 a2 a3 a4 a5 a6 a7 a8 a9 a10 a11 a12 a13 a14 a15 a16 a17' a18' a19' a20' a21' a22 a23 a24 a25 a26 a27) :
    wX_packRuns_57 post J28 (nI i) (nI N) fp (nI R) fd fc a1 a2 a3 a4 a5 a6 a7 a8 a9 a10 a11 a12 a13 a14 a15 a16 a17 a18 a19 a20 a21 a22 a23 a24 a25 a26 a27 := by
  obtain ⟨st, le, be, hO, h17, h18⟩ := h
  have hR := rl_Rle hO
  have hli := hl i
  have hrk := lt_r_le l (l i) i
  have fin : ∀ z0 x3, z0 = nI (lt_r l (l i) i) → x3 = a21 (l i) → wX_packRuns_142 post J28 (nI i) (nI (l i)) z0 (nI R) (nI N) fp (nI R) fd fc a1 a2 a3 a4 a5 a6 a7 a8 a9 a10 a11 a12 a13 a14 a15 a16 (upd a17 R (nI i)) (upd a18 R (nI (l i))) a19 (upd a20 R x3) a21 a22 a23 a24 a25 a26 a27 := by
    intro z0 x3 hz hx3
    subst hz hx3
    refine And.intro (pk_in R 200 (by omega)) ?_
    rw [nI_clamp (show R < 2 ^ 31 by omega), nI_clamp (show l i < 2 ^ 31 by omega), bw_n16 (show lt_r l (l i) i < 32768 by omega), bw_n16 (show R < 32768 by omega), bw_n16 (show N < 32768 by omega)]
    refine nm_e ⟨pk_in (l i) 8 (by omega), nm_e (nm_r (nI_1 R) ⟨pk_in (R + 1) 201 (by omega), ?_⟩)⟩
    rw [nI_clamp (show R + 1 < 2 ^ 31 by omega)]
    refine nm_e (nm_r (nI_1 i) (H _ _ _ _ _ ?_))
    refine ⟨fun r => if r = R + 1 then N else if r = R then i else st r, fun r => if r = R then l i else le r, fun r => if r = R then lt_r l (l i) i else be r, rl_add hN hl hi he hO ?_ ?_ ?_ ?_ ?_ ?_ ?_ ?_ ?_ ?_ ?_, fun _ r hr => ?_, fun r hr => ?_⟩
    · exact if_pos rfl
    · rw [if_neg (by omega), if_pos rfl]
    · intro r hr
      rw [if_neg (by omega), if_neg (by omega)]
    · exact if_pos rfl
    · intro r hr
      exact if_neg (by omega)
    · exact if_pos rfl
    · intro r hr
      exact if_neg (by omega)
    · exact pk_us
    · intro r hr
      exact pk_un (by omega)
    · exact pk_us
    · intro c hc
      exact pk_un hc
    · try dsimp only
      by_cases e1 : r = R + 1
      · rw [if_pos e1, e1, pk_us]
      · rw [if_neg e1, pk_un e1]
        by_cases e2 : r = R
        · rw [if_pos e2, e2, pk_us]
        · rw [if_neg e2, pk_un e2]
          exact h17 (by omega) r (by omega)
    · try dsimp only
      by_cases e2 : r = R
      · rw [if_pos e2, if_pos e2, e2, pk_us, pk_us]
        exact ⟨rfl, rfl⟩
      · rw [if_neg e2, if_neg e2, pk_un e2, pk_un e2]
        exact h18 r (by omega)
  refine And.intro (pk_in i 200 (by omega)) (nm_r (show a1 (nI i).toNatClampNeg = nI (l i) by rw [nI_clamp (by omega), ha]) ⟨pk_in (l i) 8 (by omega), ?_⟩)
  rw [nI_clamp (show R < 2 ^ 31 by omega), nI_clamp (show l i < 2 ^ 31 by omega), bw_n16 (show i < 32768 by omega), bw_n8 (l i) (by omega)]
  rcases rl_bef hN hi hl hO with ⟨b1, b2⟩ | ⟨r, r1, r2, r3, r4⟩
  · refine nm_e ⟨pk_in R 201 (by omega), nm_e ⟨pk_in R 200 (by omega), nm_e ⟨pk_in R 200 (by omega), ?_⟩⟩⟩
    rw [b1]
    refine nm_e (br_f (by decide) (fin 0 _ ?_ ?_))
    · rw [b2]
      rfl
    · rw [b1]
      decide
  · have hst := h17 (by omega)
    have hr200 : r < 200 := by omega
    have hb := (h18 r r1).2
    have sr := (hO.2.2.2.1 r r1).1
    have hbe : be r ≤ 200 := by
      rw [hO.2.2.2.2.2.1 r r1]
      have z := lt_r_le l (le r) (st r)
      omega
    refine nm_e ⟨pk_in R 201 (by omega), nm_e ⟨pk_in R 200 (by omega), nm_e ⟨pk_in R 200 (by omega), ?_⟩⟩⟩
    rw [r2, nI_1, nI_clamp (show r < 2 ^ 31 by omega), nI_clamp (show r + 1 < 2 ^ 31 by omega), bw_n16 (show r < 32768 by omega)]
    refine nm_e (br_t (nI_pos' (by omega)) ⟨pk_in r 200 (by omega), pk_in (r + 1) 201 (by omega), pk_in r 201 (by omega), fin _ _ ?_ r2.symm⟩)
    rw [pk_un (show ¬ r = R by omega), hst r (by omega), hb]
    by_cases e : r + 1 = R
    · rw [e, pk_us]
      rw [if_pos e] at r4
      exact bw_sub (bw_add rfl rfl rfl) rfl r4
    · rw [pk_un e, hst (r + 1) (by omega)]
      rw [if_neg e] at r4
      exact bw_sub (bw_add rfl rfl rfl) rfl r4
theorem ob_packRuns {post : St1 → Prop} (hN : N ≤ 200) (hl : ∀ j, l j < 8) (ha : ∀ j, a1 j = nI (l j))
    (H : ∀ R a17' a18' a19' a20' a21', rl_St l N N R a17' a18' a19' a20' a21' → post (nI N, fp, nI R, fd, fc, a1, a2, a3, a4, a5, a6, a7, a8, a9, a10, a11, a12, a13, a14, a15, a16, a17', a18', a19', a20', a21', a22, a23, a24, a25, a26, a27)) : wpX_packRuns post (nI N, fp, fr, fd, fc, a1, a2, a3, a4, a5, a6, a7, a8, a9, a10, a11, a12, a13, a14, a15, a16, a17, a18, a19, a20, a21, a22, a23, a24, a25, a26, a27) := by
  refine pk_loop (fun n c (s : Nat → Int32) => wX_packRuns_7 post (nI N) fp (nI 0) fd fc n (nI c) a1 a2 a3 a4 a5 a6 a7 a8 a9 a10 a11 a12 a13 a14 a15 a16 a17 a18 a19 a20 s a22 a23 a24 a25 a26 a27) (fun c s => ∀ d, d < c → s d = -1) 8 0 a21 (by omega) (fun d hd => absurd hd (by omega)) ?_ ?_
  · intro n s hs
    refine pk_le 8 8 (fun _ => ?_) (fun e => absurd e (by omega))
    refine pk_loop (fun m i (t : Nat × (Nat → Int32) × (Nat → Int32) × (Nat → Int32) × (Nat → Int32) × (Nat → Int32)) => wX_packRuns_28 post (nI N) fp fd fc m (nI i) (nI t.1) a1 a2 a3 a4 a5 a6 a7 a8 a9 a10 a11 a12 a13 a14 a15 a16 t.2.1 t.2.2.1 t.2.2.2.1 t.2.2.2.2.1 t.2.2.2.2.2 a22 a23 a24 a25 a26 a27)
      (fun i t => rl_St l N i t.1 t.2.1 t.2.2.1 t.2.2.2.1 t.2.2.2.2.1 t.2.2.2.2.2) N 0 (0, a17, a18, a19, a20, s) (by omega) ⟨fun _ => 0, fun _ => 0, fun _ => 0, rl_0 hs, fun z => absurd z (by omega), fun r hr => absurd hr (by omega)⟩ ?_ ?_
    · intro m t ht
      exact pk_le N N (fun _ => H _ _ _ _ _ _ ht) (fun e => absurd e (by omega))
    · intro m i t hi ht ih
      have hli := hl i
      have hli2 := hl (i - 1)
      refine pk_le N i (fun e => absurd e (by omega)) (fun _ => ?_)
      refine pk_eq i 0 (fun e => ob_pr57 hN hl ha hi (Or.inl e) ht (fun b17 b18 b19 b20 b21 k => ih (t.1 + 1, b17, b18, b19, b20, b21) k)) (fun e => ⟨pk_in i 200 (by omega), pk_in (i - 1) 200 (by omega) (bw_sub (b := 1) rfl rfl (by omega)), ?_⟩)
      have ei : nI i - 1 = nI (i - 1) := bw_sub (b := 1) rfl rfl (by omega)
      rw [ei, nI_clamp (by omega), nI_clamp (by omega), ha, ha]
      refine pk_eq (l i) (l (i - 1)) (fun e2 => nm_r (nI_1 i) (ih t ?_)) (fun e2 => ob_pr57 hN hl ha hi (Or.inr e2) ht (fun b17 b18 b19 b20 b21 k => ih (t.1 + 1, b17, b18, b19, b20, b21) k))
      obtain ⟨st, le, be, hO, h17, h18⟩ := ht
      exact ⟨st, le, be, rl_same hN hl (by omega) hi e2 hO, h17, h18⟩
  · intro n c s hc hs ih
    exact pk_le 8 c (fun e => absurd e (by omega)) (fun _ => ⟨pk_in c 8 (by omega), nm_e (nm_r (nI_1 c) (ih _ (ob_fill (f := fun _ => -1) (nI_clamp (by omega)) hs rfl)))⟩)
end
end
section
/-! the object: what is packed, what always holds -/
def ob_Pk (l : Nat → Nat) (N : Nat) : St1 → Prop
  | (fn, fp, fr, fd, fc, a1, a2, a3, a4, a5, a6, a7, a8, a9, a10, a11, a12, a13, a14, a15, a16, a17, a18, a19, a20, a21, a22, a23, a24, a25, a26, a27) => ∃ R k s : Nat, fr = nI R ∧ fd = nI k ∧ fc = nI s ∧ (∀ c, c < 8 → a2 c = nI (lt_r l c N)) ∧ (∀ q, q < 168 → a6 q = nI (bs_6 a5 q)) ∧ (∀ q, q < 588 → a7 q = nI (bs_7 a5 q)) ∧
    (∀ v, v < 3 → wt_Fin l N v (bw_r a5 7 v)) ∧ (∃ z : Nat → Nat, wm_All l N (fun v => bw_r a5 7 (3 + v)) z ∧ ∀ v, v < 3 → a8 v = nI (z v)) ∧
    (∀ c x, c < 8 → x < 224 → bw_r a5 7 (6 + c) x = (decide (x < N) && decide (l x = c))) ∧ hc_Fin l N k s a5 a22 a23 a26 a27 ∧ ef_St l N 8 a9 a10 a11 a12 ∧
    (∀ q, q < 240 → a13 q = nI (rr_13 l N q)) ∧ (∀ q, q < 240 → a14 q = nI (rr_14 l N q)) ∧ (∀ q, q < 248 → a15 q = nI (rr_15 l N q)) ∧ rl_St l N N R a17 a18 a19 a20 a21
def ob_I (l : Nat → Nat) (N : Nat) : St1 → Prop
  | (fn, fp, fr, fd, fc, a1, a2, a3, a4, a5, a6, a7, a8, a9, a10, a11, a12, a13, a14, a15, a16, a17, a18, a19, a20, a21, a22, a23, a24, a25, a26, a27) => N ≤ 200 ∧ (∀ j, l j < 8) ∧ fn = nI N ∧ (∀ j, a1 j = nI (l j)) ∧ (∀ j, ∃ c, c < 8 ∧ a4 j = nI c) ∧ (∀ i k, i < 8 → k < 8 → a16 (i * 8 + k) = nI (rr_c i k)) ∧ (fp = 0 ∨ (fp = 1 ∧ ob_Pk l N (fn, fp, fr, fd, fc, a1, a2, a3, a4, a5, a6, a7, a8, a9, a10, a11, a12, a13, a14, a15, a16, a17, a18, a19, a20, a21, a22, a23, a24, a25, a26, a27)))
section
variable {fn fp fr fd fc : Int32} {a1 a2 a3 a4 a5 a6 a7 a8 a9 a10 a11 a12 a13 a14 a15 a16 a17 a18 a19 a20 a21 a22 a23 a24 a25 a26 a27 : Nat → Int32} {l : Nat → Nat} {N : Nat}
theorem ob_p101 {post : St1 → Prop} (hN : N ≤ 200) (hl : ∀ j, l j < 8) (ha : ∀ j, a1 j = nI (l j)) (h2 : ∀ c, c < 8 → a2 c = nI (lt_r l c N)) (h16 : ∀ i k, i < 8 → k < 8 → a16 (i * 8 + k) = nI (rr_c i k))
    (H : ∀ R a6' a7' a9' a10' a11' a12' a13' a14' a15' a17' a18' a19' a20' a21', (∀ q, q < 168 → a6' q = nI (bs_6 a5 q)) → (∀ q, q < 588 → a7' q = nI (bs_7 a5 q)) → ef_St l N 8 a9' a10' a11' a12' →
      (∀ q, q < 240 → a13' q = nI (rr_13 l N q)) → (∀ q, q < 240 → a14' q = nI (rr_14 l N q)) → (∀ q, q < 248 → a15' q = nI (rr_15 l N q)) → rl_St l N N R a17' a18' a19' a20' a21' →
      post (nI N, 1, nI R, fd, fc, a1, a2, a3, a4, a5, a6', a7', a8, a9', a10', a11', a12', a13', a14', a15', a16, a17', a18', a19', a20', a21', a22, a23, a24, a25, a26, a27)) :
    ∃ n, wX_pack_101 post n 0 (nI N) fp fr fd fc a1 a2 a3 a4 a5 a6 a7 a8 a9 a10 a11 a12 a13 a14 a15 a16 a17 a18 a19 a20 a21 a22 a23 a24 a25 a26 a27 := by
  refine pk_loop (fun n row (s : (Nat → Int32) × (Nat → Int32)) => wX_pack_101 post n (nI row) (nI N) fp fr fd fc a1 a2 a3 a4 a5 s.1 s.2 a8 a9 a10 a11 a12 a13 a14 a15 a16 a17 a18 a19 a20 a21 a22 a23 a24 a25 a26 a27)
    (fun row s => (∀ q, q < row * 8 → s.1 q = nI (bs_6 a5 q)) ∧ ∀ q, q < row * 28 → s.2 q = nI (bs_7 a5 q)) 21 0 (a6, a7) (by omega) ⟨fun q hq => absurd hq (by omega), fun q hq => absurd hq (by omega)⟩ ?_ ?_
  · intro n s hs
    refine pk_le 21 21 (fun _ => ?_) (fun e => absurd e (by omega))
    refine ob_packParts hN hl ha h2 (fun b9 b10 b11 b12 k1 => ?_)
    refine ob_packBlocks hN hl ha h16 (fun b13 b14 b15 k2 k3 k4 => ?_)
    refine ob_packRuns hN hl ha (fun R b17 b18 b19 b20 b21 k5 => ?_)
    exact H R s.1 s.2 b9 b10 b11 b12 b13 b14 b15 b17 b18 b19 b20 b21 hs.1 hs.2 k1 k2 k3 k4 k5
  · intro n row s hr hs ih
    exact pk_le 21 row (fun e => absurd e (by omega)) (fun _ => ob_sumRow rfl hr hs.1 hs.2 (fun b6 b7 k1 k2 => nm_r (nI_1 row) (ih (b6, b7) ⟨k1, k2⟩)))
theorem ob_p53 {post : St1 → Prop} (hN : N ≤ 200) (hl : ∀ j, l j < 8) (ha : ∀ j, a1 j = nI (l j)) (h4 : ∀ j, ∃ c, c < 8 ∧ a4 j = nI c) (h16 : ∀ i k, i < 8 → k < 8 → a16 (i * 8 + k) = nI (rr_c i k)) (h2 : ∀ c, c < 8 → a2 c = 0)
    (h5 : ∀ q, q < 147 → a5 q = 0) (H : ∀ u, ob_I l N u → ob_Pk l N u → post u) : ∃ n, wX_pack_53 post (nI N) fp fr fd fc n 0 a1 a2 a3 a4 a5 a6 a7 a8 a9 a10 a11 a12 a13 a14 a15 a16 a17 a18 a19 a20 a21 a22 a23 a24 a25 a26 a27 := by
  refine pk_loop (fun n i (s : Nat → Int32) => wX_pack_53 post (nI N) fp fr fd fc n (nI i) a1 s a3 a4 a5 a6 a7 a8 a9 a10 a11 a12 a13 a14 a15 a16 a17 a18 a19 a20 a21 a22 a23 a24 a25 a26 a27) (fun i s => ∀ c, c < 8 → s c = nI (lt_r l c i)) N 0 a2 (by omega) (fun c hc => h2 c hc) ?_ ?_
  · intro n s hs
    refine pk_le N N (fun _ => ?_) (fun e => absurd e (by omega))
    have hz : ∀ r x, r < 21 → x < 224 → bw_r a5 7 r x = false := fun r x hr hx => by
      unfold bw_r
      rw [h5 _ (by omega)]
      exact bw_0 _
    refine ob_packTree hN hl ha (fun r x hr hx => hz r x (by omega) hx) (fun a5' t1 t2 => ?_)
    refine ob_packMatrix hN hl ha h4 (fun v x hv hx => ?_) (fun b3 b4 b5 b8 m1 m2 => ?_)
    · rw [t2 (3 + v) x (by omega) hx]
      exact hz _ x (by omega) hx
    refine ob_packMaps hN hl ha (fun c x hc hx => ?_) (fun c5 p1 p2 => ?_)
    · rw [m2 (6 + c) x (by omega) hx, t2 (6 + c) x (by omega) hx]
      exact hz _ x (by omega) hx
    refine ob_packCodes hN hl ha hs (fun m x hm hx => ?_) (fun k s2 d5 b22 b23 b24 b25 b26 b27 q1 q2 => ?_)
    · rw [p2 (14 + m) x (by omega) hx, m2 (14 + m) x (by omega) hx, t2 (14 + m) x (by omega) hx]
      exact hz _ x (by omega) hx
    refine ob_p101 hN hl ha hs h16 (fun R b6 b7 b9 b10 b11 b12 b13 b14 b15 b17 b18 b19 b20 b21 k1 k2 k3 k4 k5 k6 k7 => ?_)
    obtain ⟨B, qq, zf, B0, hLev, h8, hOrd, hq, h4'⟩ := m1
    have pkd : ob_Pk l N (nI N, 1, nI R, nI k, nI s2, a1, s, b3, b4, d5, b6, b7, b8, b9, b10, b11, b12, b13, b14, b15, a16, b17, b18, b19, b20, b21, b22, b23, b24, b25, b26, b27) := by
      refine ⟨R, k, s2, rfl, rfl, rfl, hs, k1, k2, fun v hv => wt_Fcongr hN (t1 v hv) (fun x hx => ?_), ⟨zf, ⟨B, B0, fun v hv => wm_congr hN (hLev v hv) (fun x hx => ?_)⟩, h8⟩, fun c x hc hx => ?_, q1, k3, k4, k5, k6, k7⟩
      · rw [q2 v x (by omega) hx, p2 v x (by omega) hx, m2 v x (by omega) hx]
      · dsimp only
        rw [q2 (3 + v) x (by omega) hx, p2 (3 + v) x (by omega) hx]
      · rw [q2 (6 + c) x (by omega) hx]
        exact p1 c x hc hx
    exact H _ ⟨hN, hl, rfl, ha, h4', h16, Or.inr ⟨rfl, pkd⟩⟩ pkd
  · intro n i s hi hs ih
    have hli := hl i
    have hrk := lt_r_le l (l i) i
    refine pk_le N i (fun e => absurd e (by omega)) (fun _ => ⟨pk_in i 200 (by omega), ?_⟩)
    rw [nI_clamp (show i < 2 ^ 31 by omega), ha i, nI_clamp (show l i < 2 ^ 31 by omega), hs (l i) hli, nI_1, bw_n16 (by omega)]
    refine ⟨pk_in (l i) 8 hli, pk_in (l i) 8 hli, nm_e (nm_r (nI_1 i) (ih _ (fun c hc => ?_)))⟩
    by_cases e : c = l i
    · rw [e, pk_us, lt_r_t rfl]
    · rw [pk_un e, lt_r_f (fun z => e z.symm)]
      exact hs c hc
end
theorem ob_pack {post : St1 → Prop} {u : St1} {l : Nat → Nat} {N : Nat} (h : ob_I l N u) (H : ∀ u', ob_I l N u' → ob_Pk l N u' → post u') : wpX_pack post u := by
  obtain ⟨fn, fp, fr, fd, fc, a1, a2, a3, a4, a5, a6, a7, a8, a9, a10, a11, a12, a13, a14, a15, a16, a17, a18, a19, a20, a21, a22, a23, a24, a25, a26, a27⟩ := u
  have h' := h
  obtain ⟨hN, hl, hn, ha, h4, h16, hp⟩ := h'
  subst hn
  rcases hp with hp | ⟨hp, hP⟩
  · subst hp
    refine br_t rfl ?_
    refine pk_loop (fun n x (s : Nat → Int32) => wX_pack_10 post (nI N) 0 fr fd fc n (nI x) a1 a2 a3 a4 s a6 a7 a8 a9 a10 a11 a12 a13 a14 a15 a16 a17 a18 a19 a20 a21 a22 a23 a24 a25 a26 a27) (fun x s => ∀ q, q < x → s q = 0) 147 0 a5 (by omega) (fun q hq => absurd hq (by omega)) ?_ ?_
    · intro n s hs
      refine pk_le 147 147 (fun _ => ?_) (fun e => absurd e (by omega))
      refine pk_loop (fun m c (t : Nat → Int32) => wX_pack_32 post (nI N) 0 fr fd fc m (nI c) a1 t a3 a4 s a6 a7 a8 a9 a10 a11 a12 a13 a14 a15 a16 a17 a18 a19 a20 a21 a22 a23 a24 a25 a26 a27) (fun c t => ∀ d, d < c → t d = 0) 8 0 a2 (by omega) (fun q hq => absurd hq (by omega)) ?_ ?_
      · intro m t ht
        exact pk_le 8 8 (fun _ => ob_p53 hN hl ha h4 h16 ht hs H) (fun e => absurd e (by omega))
      · intro m c t hc ht ih
        exact pk_le 8 c (fun e => absurd e (by omega)) (fun _ => ⟨pk_in c 8 (by omega), nm_e (nm_r (nI_1 c) (ih _ (ob_fill (f := fun _ => 0) (nI_clamp (by omega)) ht rfl)))⟩)
    · intro n x s hx hs ih
      exact pk_le 147 x (fun e => absurd e (by omega)) (fun _ => ⟨pk_in x 147 (by omega), nm_e (nm_r (nI_1 x) (ih _ (ob_fill (f := fun _ => 0) (nI_clamp (by omega)) hs rfl)))⟩)
  · subst hp
    exact br_f (by decide) (H _ h hP)
end
section
/-! questions: the tree of halves -/
theorem wt_K00 {l : Nat → Nat} (hl : ∀ j, l j < 8) (m : Nat) : wt_K l 0 0 m = m := cn_all (fun j _ => decide_eq_true (wt_p0 (l j) (hl j)))
section
variable {fn fp fr fd fc : Int32} {a1 a2 a3 a4 a5 a6 a7 a8 a9 a10 a11 a12 a13 a14 a15 a16 a17 a18 a19 a20 a21 a22 a23 a24 a25 a26 a27 : Nat → Int32} {l : Nat → Nat} {N : Nat}
theorem ob_rankInTree {post : Int32 → Prop} {p0 p1 : Int32} {c i : Nat} (h : ob_I l N (fn, fp, fr, fd, fc, a1, a2, a3, a4, a5, a6, a7, a8, a9, a10, a11, a12, a13, a14, a15, a16, a17, a18, a19, a20, a21, a22, a23, a24, a25, a26, a27)) (hP : ob_Pk l N (fn, fp, fr, fd, fc, a1, a2, a3, a4, a5, a6, a7, a8, a9, a10, a11, a12, a13, a14, a15, a16, a17, a18, a19, a20, a21, a22, a23, a24, a25, a26, a27)) (h0 : p0 = nI c) (h1 : p1 = nI i) (hc : c < 8) (hi : i ≤ N) (H : post (nI (lt_r l c i))) : wpX_rankInTree post (fn, fp, fr, fd, fc, a1, a2, a3, a4, a5, a6, a7, a8, a9, a10, a11, a12, a13, a14, a15, a16, a17, a18, a19, a20, a21, a22, a23, a24, a25, a26, a27) p0 p1 := by
  subst h0 h1
  obtain ⟨hN, hl, hn, _⟩ := h
  obtain ⟨R, k, s, _, _, _, _, h6, h7, hT, _⟩ := hP
  subst hn
  refine Exists.elim (pk_loop (fun n v (_ : Unit) => wX_rankInTree_14 post (nI c) (nI N) fp fr fd fc a1 a2 a3 a4 a5 a6 a7 a8 a9 a10 a11 a12 a13 a14 a15 a16 a17 a18 a19 a20 a21 a22 a23 a24 a25 a26 a27 n (nI (wt_B l v (wt_p v c) N)) (nI (wt_B l v (wt_p v c) N + wt_K l v (wt_p v c) N)) (nI (wt_K l v (wt_p v c) i)) (nI v)) (fun _ _ => True) 3 0 () (by omega) trivial ?_ ?_) (fun m hm => ⟨m, ?_⟩)
  · intro n _ _
    refine pk_le 3 3 (fun _ => ?_) (fun e => absurd e (by omega))
    rw [wt_p3, wt_K3]
    exact H
  · intro n v _ hv _ ih
    have t := ih () trivial
    try dsimp only at t
    rw [wt_ps v hv c hc] at t
    have hPl := wt_pl v (by omega) c hc
    obtain ⟨z, z1, z2, z3, z4, z5, z6, z7⟩ := wt_level hv hl (hT v hv) hPl hi
    have b0 := wt_Bd hv hl (wt_p v c) N
    have b1 := wt_Bd1 hv hl (wt_p v c) N
    generalize wt_p v c = P at *
    have go : ∀ x3 x4 x5 x6, x3 = nI (wt_B l (v + 1) (2 * P + wt_d v c) N) → x4 = nI (wt_B l (v + 1) (2 * P + wt_d v c) N + wt_K l (v + 1) (2 * P + wt_d v c) N) → x5 = nI (wt_K l (v + 1) (2 * P + wt_d v c) i) → x6 = nI (v + 1) → wX_rankInTree_14 post (nI c) (nI N) fp fr fd fc a1 a2 a3 a4 a5 a6 a7 a8 a9 a10 a11 a12 a13 a14 a15 a16 a17 a18 a19 a20 a21 a22 a23 a24 a25 a26 a27 n x3 x4 x5 x6 := by
      intro x3 x4 x5 x6 e3 e4 e5 e6
      rw [e3, e4, e5, e6]
      exact t
    have hd := wt_d2 v c
    refine pk_le 3 v (fun e => absurd e (by omega)) (fun _ => nm_r (bw_z v) ?_)
    refine ob_zerosBefore h6 h7 rfl rfl (by omega) (by omega) z1 (ob_zerosBefore h6 h7 rfl rfl (by omega) (by omega) z2 (nm_r (bw_sub (c := wt_K l (v + 1) (2 * P) N) rfl rfl (by omega)) ?_))
    refine ob_zerosBefore h6 h7 rfl (nI_add _ _) (by omega) (by omega) z3 (nm_r (bw_sub (c := wt_K l (v + 1) (2 * P) i) rfl rfl (by omega)) (ob_digit rfl rfl hc hv ?_))
    refine pk_eq (wt_d v c) 1 (fun d1 => ?_) (fun d1 => ?_)
    · refine br_f (show ¬ (1 : Int32) = 0 by decide) (br_f (show ¬ (1 : Int32) = 0 by decide) (br_f (show ¬ (1 : Int32) = 0 by decide) (nm_e (go _ _ _ _ ?_ ?_ ?_ (nI_1 v)))))
      · rw [d1]
        exact bw_add rfl rfl b1.symm
      · rw [d1]
        congr 1
        omega
      · rw [d1]
        exact bw_sub rfl rfl (by omega)
    · have d0 : 2 * P + wt_d v c = 2 * P := by omega
      refine br_t rfl (br_t rfl (br_t rfl (nm_e (nm_e (go _ _ _ _ ?_ ?_ ?_ (nI_1 v))))))
      · rw [d0, b0]
      · rw [d0, b0]
        exact bw_add rfl rfl rfl
      · rw [d0]
  · try dsimp only at hm
    rw [wt_p0 c hc, wt_B0, wt_K00 hl, wt_K00 hl, Nat.zero_add] at hm
    exact hm
theorem ob_belowInTree {post : Int32 → Prop} {p0 p1 : Int32} {c i : Nat} (h : ob_I l N (fn, fp, fr, fd, fc, a1, a2, a3, a4, a5, a6, a7, a8, a9, a10, a11, a12, a13, a14, a15, a16, a17, a18, a19, a20, a21, a22, a23, a24, a25, a26, a27)) (hP : ob_Pk l N (fn, fp, fr, fd, fc, a1, a2, a3, a4, a5, a6, a7, a8, a9, a10, a11, a12, a13, a14, a15, a16, a17, a18, a19, a20, a21, a22, a23, a24, a25, a26, a27)) (h0 : p0 = nI c) (h1 : p1 = nI i) (hc : c < 8) (hi : i ≤ N) (H : post (nI (lt_b l c i))) : wpX_belowInTree post (fn, fp, fr, fd, fc, a1, a2, a3, a4, a5, a6, a7, a8, a9, a10, a11, a12, a13, a14, a15, a16, a17, a18, a19, a20, a21, a22, a23, a24, a25, a26, a27) p0 p1 := by
  subst h0 h1
  obtain ⟨hN, hl, hn, _⟩ := h
  obtain ⟨R, k, s, _, _, _, _, h6, h7, hT, _⟩ := hP
  subst hn
  refine Exists.elim (pk_loop (fun n v (_ : Unit) => wX_belowInTree_17 post (nI c) (nI N) fp fr fd fc a1 a2 a3 a4 a5 a6 a7 a8 a9 a10 a11 a12 a13 a14 a15 a16 a17 a18 a19 a20 a21 a22 a23 a24 a25 a26 a27 n (nI (wt_B l v (wt_p v c) N)) (nI (wt_B l v (wt_p v c) N + wt_K l v (wt_p v c) N)) (nI (wt_K l v (wt_p v c) i)) (nI (wt_B l v (wt_p v c) i)) (nI v)) (fun _ _ => True) 3 0 () (by omega) trivial ?_ ?_) (fun m hm => ⟨m, ?_⟩)
  · intro n _ _
    refine pk_le 3 3 (fun _ => ?_) (fun e => absurd e (by omega))
    rw [wt_p3, wt_B3]
    exact H
  · intro n v _ hv _ ih
    have t := ih () trivial
    try dsimp only at t
    rw [wt_ps v hv c hc] at t
    have hPl := wt_pl v (by omega) c hc
    obtain ⟨z, z1, z2, z3, z4, z5, z6, z7⟩ := wt_level hv hl (hT v hv) hPl hi
    have b0 := wt_Bd hv hl (wt_p v c) N
    have b1 := wt_Bd1 hv hl (wt_p v c) N
    have c0 := wt_Bd hv hl (wt_p v c) i
    have c1 := wt_Bd1 hv hl (wt_p v c) i
    generalize wt_p v c = P at *
    have go : ∀ x3 x4 x5 x6 x7, x3 = nI (wt_B l (v + 1) (2 * P + wt_d v c) N) → x4 = nI (wt_B l (v + 1) (2 * P + wt_d v c) N + wt_K l (v + 1) (2 * P + wt_d v c) N) → x5 = nI (wt_K l (v + 1) (2 * P + wt_d v c) i) → x6 = nI (wt_B l (v + 1) (2 * P + wt_d v c) i) → x7 = nI (v + 1) → wX_belowInTree_17 post (nI c) (nI N) fp fr fd fc a1 a2 a3 a4 a5 a6 a7 a8 a9 a10 a11 a12 a13 a14 a15 a16 a17 a18 a19 a20 a21 a22 a23 a24 a25 a26 a27 n x3 x4 x5 x6 x7 := by
      intro x3 x4 x5 x6 x7 e3 e4 e5 e6 e7
      rw [e3, e4, e5, e6, e7]
      exact t
    have hd := wt_d2 v c
    refine pk_le 3 v (fun e => absurd e (by omega)) (fun _ => nm_r (bw_z v) ?_)
    refine ob_zerosBefore h6 h7 rfl rfl (by omega) (by omega) z1 (ob_zerosBefore h6 h7 rfl rfl (by omega) (by omega) z2 (nm_r (bw_sub (c := wt_K l (v + 1) (2 * P) N) rfl rfl (by omega)) ?_))
    refine ob_zerosBefore h6 h7 rfl (nI_add _ _) (by omega) (by omega) z3 (nm_r (bw_sub (c := wt_K l (v + 1) (2 * P) i) rfl rfl (by omega)) (ob_digit rfl rfl hc hv ?_))
    refine pk_eq (wt_d v c) 1 (fun d1 => ?_) (fun d1 => ?_)
    · refine br_f (show ¬ (1 : Int32) = 0 by decide) (nm_e (br_f (show ¬ (1 : Int32) = 0 by decide) (br_f (show ¬ (1 : Int32) = 0 by decide) (br_f (show ¬ (1 : Int32) = 0 by decide) (nm_e (go _ _ _ _ _ ?_ ?_ ?_ ?_ (nI_1 v)))))))
      · rw [d1]
        exact bw_add rfl rfl b1.symm
      · rw [d1]
        congr 1
        omega
      · rw [d1]
        exact bw_sub rfl rfl (by omega)
      · rw [d1]
        exact bw_add rfl rfl c1.symm
    · have d0 : 2 * P + wt_d v c = 2 * P := by omega
      refine br_t rfl (nm_e (br_t rfl (br_t rfl (br_t rfl (nm_e (nm_e (go _ _ _ _ _ ?_ ?_ ?_ ?_ (nI_1 v))))))))
      · rw [d0, b0]
      · rw [d0, b0]
        exact bw_add rfl rfl rfl
      · rw [d0]
      · rw [d0, c0]
        exact bw_n0 _
  · try dsimp only at hm
    rw [wt_p0 c hc, wt_B0, wt_B0, wt_K00 hl, wt_K00 hl, Nat.zero_add] at hm
    exact hm
theorem ob_atInTree {post : Int32 → Prop} {p0 : Int32} {i : Nat} (h : ob_I l N (fn, fp, fr, fd, fc, a1, a2, a3, a4, a5, a6, a7, a8, a9, a10, a11, a12, a13, a14, a15, a16, a17, a18, a19, a20, a21, a22, a23, a24, a25, a26, a27)) (hP : ob_Pk l N (fn, fp, fr, fd, fc, a1, a2, a3, a4, a5, a6, a7, a8, a9, a10, a11, a12, a13, a14, a15, a16, a17, a18, a19, a20, a21, a22, a23, a24, a25, a26, a27)) (h0 : p0 = nI i) (hi : i < N) (H : post (nI (l i))) : wpX_atInTree post (fn, fp, fr, fd, fc, a1, a2, a3, a4, a5, a6, a7, a8, a9, a10, a11, a12, a13, a14, a15, a16, a17, a18, a19, a20, a21, a22, a23, a24, a25, a26, a27) p0 := by
  subst h0
  obtain ⟨hN, hl, hn, _⟩ := h
  obtain ⟨R, k, s, _, _, _, _, h6, h7, hT, _⟩ := hP
  subst hn
  have hc := hl i
  refine Exists.elim (pk_loop (fun n v (_ : Unit) => wX_atInTree_16 post (nI N) fp fr fd fc a1 a2 a3 a4 a5 a6 a7 a8 a9 a10 a11 a12 a13 a14 a15 a16 a17 a18 a19 a20 a21 a22 a23 a24 a25 a26 a27 n (nI (wt_p v (l i))) (nI (wt_B l v (wt_p v (l i)) N)) (nI (wt_B l v (wt_p v (l i)) N + wt_K l v (wt_p v (l i)) N)) (nI (wt_K l v (wt_p v (l i)) i)) (nI v)) (fun _ _ => True) 3 0 () (by omega) trivial ?_ ?_) (fun m hm => ⟨m, ?_⟩)
  · intro n _ _
    refine pk_le 3 3 (fun _ => ?_) (fun e => absurd e (by omega))
    rw [wt_p3]
    exact H
  · intro n v _ hv _ ih
    have t := ih () trivial
    try dsimp only at t
    rw [wt_ps v hv (l i) hc] at t
    have hPl := wt_pl v (by omega) (l i) hc
    have hbit := wt_bit hv hl (hT v hv) hi
    obtain ⟨z, z1, z2, z3, z4, z5, z6, z7⟩ := wt_level hv hl (hT v hv) hPl (show i ≤ N by omega)
    have b0 := wt_Bd hv hl (wt_p v (l i)) N
    have b1 := wt_Bd1 hv hl (wt_p v (l i)) N
    generalize wt_p v (l i) = P at *
    have go : ∀ x2 x3 x4 x5 x6, x2 = nI (2 * P + wt_d v (l i)) → x3 = nI (wt_B l (v + 1) (2 * P + wt_d v (l i)) N) → x4 = nI (wt_B l (v + 1) (2 * P + wt_d v (l i)) N + wt_K l (v + 1) (2 * P + wt_d v (l i)) N) → x5 = nI (wt_K l (v + 1) (2 * P + wt_d v (l i)) i) → x6 = nI (v + 1) → wX_atInTree_16 post (nI N) fp fr fd fc a1 a2 a3 a4 a5 a6 a7 a8 a9 a10 a11 a12 a13 a14 a15 a16 a17 a18 a19 a20 a21 a22 a23 a24 a25 a26 a27 n x2 x3 x4 x5 x6 := by
      intro x2 x3 x4 x5 x6 e2 e3 e4 e5 e6
      rw [e2, e3, e4, e5, e6]
      exact t
    have hd := wt_d2 v (l i)
    refine pk_le 3 v (fun e => absurd e (by omega)) (fun _ => nm_r (bw_z v) ?_)
    refine ob_zerosBefore h6 h7 rfl rfl (by omega) (by omega) z1 (ob_zerosBefore h6 h7 rfl rfl (by omega) (by omega) z2 (nm_r (bw_sub (c := wt_K l (v + 1) (2 * P) N) rfl rfl (by omega)) ?_))
    refine ob_zerosBefore h6 h7 rfl (nI_add _ _) (by omega) (by omega) z3 (nm_r (bw_sub (c := wt_K l (v + 1) (2 * P) i) rfl rfl (by omega)) (ob_bitAt rfl (nI_add _ _) (by omega) (by omega) ?_))
    rw [hbit]
    by_cases d1 : wt_d v (l i) = 1
    · rw [decide_eq_true d1]
      refine br_f (show ¬ (1 : Int32) = 0 by decide) (nm_e (br_f (show ¬ (1 : Int32) = 0 by decide) (br_f (show ¬ (1 : Int32) = 0 by decide) (br_f (show ¬ (1 : Int32) = 0 by decide) (nm_e (go _ _ _ _ _ ?_ ?_ ?_ ?_ (nI_1 v)))))))
      · rw [d1]
        exact bw_add (bw_mul rfl rfl rfl) rfl rfl
      · rw [d1]
        exact bw_add rfl rfl b1.symm
      · rw [d1]
        congr 1
        omega
      · rw [d1]
        exact bw_sub rfl rfl (by omega)
    · have d0 : 2 * P + wt_d v (l i) = 2 * P := by omega
      rw [decide_eq_false d1]
      refine br_t rfl (nm_e (br_t rfl (br_t rfl (br_t rfl (nm_e (nm_e (go _ _ _ _ _ ?_ ?_ ?_ ?_ (nI_1 v))))))))
      · rw [d0]
        exact bw_add (bw_mul rfl rfl rfl) rfl rfl
      · rw [d0, b0]
      · rw [d0, b0]
        exact bw_add rfl rfl rfl
      · rw [d0]
  · try dsimp only at hm
    rw [wt_p0 (l i) hc, wt_B0, wt_K00 hl, wt_K00 hl, Nat.zero_add] at hm
    exact hm
end
end
section
/-! questions: the matrix, places of bits -/
theorem hv_div {a b : Nat} (h : a + b < 2 ^ 31) : (nI a + nI b) / 2 = nI ((a + b) / 2) := by
  rw [nI_add]
  exact pk_div (d := 2) h (by omega) (by omega)
theorem hv_b {b : Bool} : (nI b.toNat = 0) ↔ b = false := by
  cases b with
  | false => exact ⟨fun _ => rfl, fun _ => rfl⟩
  | true => exact ⟨fun z => absurd z (by decide), fun z => absurd z (by decide)⟩
section
variable {fn fp fr fd fc : Int32} {a1 a2 a3 a4 a5 a6 a7 a8 a9 a10 a11 a12 a13 a14 a15 a16 a17 a18 a19 a20 a21 a22 a23 a24 a25 a26 a27 : Nat → Int32} {l : Nat → Nat} {N : Nat}
theorem ob_place {post : Int32 → Prop} {p0 p1 p2 : Int32} {row x k : Nat} {one : Bool} (hN : N ≤ 200) (h6 : ∀ q, q < 168 → a6 q = nI (bs_6 a5 q)) (h7 : ∀ q, q < 588 → a7 q = nI (bs_7 a5 q)) (h0 : p0 = nI row) (h1 : p1 = nI one.toNat) (h2 : p2 = nI k) (hr : row < 21) (hx : x < N)
    (hb : bw_r a5 7 row x = one) (hk : cn_c (fun j => bw_r a5 7 row j == one) x = k) (H : post (nI x)) : wpX_placeOfBit post (nI N, fp, fr, fd, fc, a1, a2, a3, a4, a5, a6, a7, a8, a9, a10, a11, a12, a13, a14, a15, a16, a17, a18, a19, a20, a21, a22, a23, a24, a25, a26, a27) p0 p1 p2 := by
  subst h0 h1 h2
  have hkx : k ≤ x := by
    rw [← hk]
    exact cn_le _ x
  have hs1 : cn_c (fun j => bw_r a5 7 row j == one) (x + 1) = k + 1 := by
    rw [cn_t, hk]
    rw [hb]
    simp
  refine loop_m (fun n (s : Nat × Nat) => wX_placeOfBit_9 post (nI row) (nI one.toNat) (nI k) (nI N) fp fr fd fc a1 a2 a3 a4 a5 a6 a7 a8 a9 a10 a11 a12 a13 a14 a15 a16 a17 a18 a19 a20 a21 a22 a23 a24 a25 a26 a27 n (nI s.1) (nI s.2)) (fun s => s.1 ≤ x ∧ x ≤ s.2 ∧ s.2 ≤ N) (fun s => s.2 - s.1) ?_ (0, N) ⟨by omega, by omega, by omega⟩
  intro n ⟨lo, hi⟩ ⟨g1, g2, g3⟩ ih
  try dsimp only at g1 g2 g3 ih
  refine pk_le hi lo (fun e => ?_) (fun e => ⟨by decide, nm_r (hv_div (by omega)) ?_⟩)
  · have e2 : lo = x := by omega
    rw [e2]
    exact H
  · obtain ⟨m1, m2⟩ := hv_mid e
    generalize (lo + hi) / 2 = mid at *
    have fin : ∀ z, z = nI (cn_c (fun j => bw_r a5 7 row j == one) (mid + 1)) → wX_placeOfBit_50 post (wX_placeOfBit_9 post (nI row) (nI one.toNat) (nI k) (nI N) fp fr fd fc a1 a2 a3 a4 a5 a6 a7 a8 a9 a10 a11 a12 a13 a14 a15 a16 a17 a18 a19 a20 a21 a22 a23 a24 a25 a26 a27 n) (nI row) (nI one.toNat) (nI k) (nI lo) (nI hi) (nI mid) z (nI N) fp fr fd fc a1 a2 a3 a4 a5 a6 a7 a8 a9 a10 a11 a12 a13 a14 a15 a16 a17 a18 a19 a20 a21 a22 a23 a24 a25 a26 a27 := by
      intro z hz
      subst hz
      have hle := cn_le (fun j => bw_r a5 7 row j == one) (mid + 1)
      refine pk_lt k (cn_c (fun j => bw_r a5 7 row j == one) (mid + 1)) (fun h => br_t rfl (br_t rfl (ih (lo, mid) ⟨g1, ?_, by (try dsimp only); omega⟩ (by (try dsimp only); omega)))) (fun h => br_f (show ¬ (1 : Int32) = 0 by decide) (br_f (show ¬ (1 : Int32) = 0 by decide) ?_))
      · try dsimp only
        rcases Nat.lt_or_ge mid x with z | z
        · have z2 := cn_mono (fun j => bw_r a5 7 row j == one) (show mid + 1 ≤ x from z)
          omega
        · exact z
      · rw [nI_1]
        refine ih (mid + 1, hi) ⟨?_, g2, g3⟩ (by (try dsimp only); omega)
        try dsimp only
        rcases Nat.lt_or_ge mid x with z | z
        · exact z
        · have z2 := cn_mono (fun j => bw_r a5 7 row j == one) (show x + 1 ≤ mid + 1 by omega)
          omega
    refine ek_if hv_b (fun ho => ?_) (fun ho => ?_)
    · have hc := cn_le (bw_r a5 7 row) (mid + 1)
      have e0 : cn_c (fun j => bw_r a5 7 row j == one) (mid + 1) + cn_c (bw_r a5 7 row) (mid + 1) = mid + 1 := by
        have e1 : cn_c (fun j => bw_r a5 7 row j == one) (mid + 1) = cn_c (fun j => !bw_r a5 7 row j) (mid + 1) := cn_congr (fun j _ => by
          rw [ho]
          cases bw_r a5 7 row j <;> rfl)
        rw [e1, cn_not]
        omega
      exact ob_zerosBefore h6 h7 rfl (nI_1 mid) hr (by omega) e0 (fin _ rfl)
    · have e1 : cn_c (fun j => bw_r a5 7 row j == one) (mid + 1) = cn_c (bw_r a5 7 row) (mid + 1) := cn_congr (fun j _ => by
        rw [cn_nt ho]
        cases bw_r a5 7 row j <;> rfl)
      exact ob_onesBefore h6 h7 rfl (nI_1 mid) hr (by omega) (fin _ (by rw [e1]))
theorem ob_down0 {post : Int32 → Prop} {p0 p1 : Int32} {v x y : Nat} (h6 : ∀ q, q < 168 → a6 q = nI (bs_6 a5 q)) (h7 : ∀ q, q < 588 → a7 q = nI (bs_7 a5 q)) (h0 : p0 = nI v) (h1 : p1 = nI x) (hv : v < 3) (hx : x ≤ 200) (hy : y + cn_c (bw_r a5 7 (3 + v)) x = x) (H : post (nI y)) : wpX_downInMatrix post (fn, fp, fr, fd, fc, a1, a2, a3, a4, a5, a6, a7, a8, a9, a10, a11, a12, a13, a14, a15, a16, a17, a18, a19, a20, a21, a22, a23, a24, a25, a26, a27) p0 p1 0 := by
  subst h0 h1
  refine ob_onesBefore (row := 3 + v) (i := x) h6 h7 (bw_add rfl rfl rfl) rfl (by omega) (by omega) (br_t rfl ?_)
  rw [bw_sub rfl rfl hy]
  exact H
theorem ob_down1 {post : Int32 → Prop} {p0 p1 : Int32} {v x Z y : Nat} (h6 : ∀ q, q < 168 → a6 q = nI (bs_6 a5 q)) (h7 : ∀ q, q < 588 → a7 q = nI (bs_7 a5 q)) (h8 : a8 v = nI Z) (h0 : p0 = nI v) (h1 : p1 = nI x) (hv : v < 3) (hx : x ≤ 200) (hy : Z + cn_c (bw_r a5 7 (3 + v)) x = y) (H : post (nI y)) : wpX_downInMatrix post (fn, fp, fr, fd, fc, a1, a2, a3, a4, a5, a6, a7, a8, a9, a10, a11, a12, a13, a14, a15, a16, a17, a18, a19, a20, a21, a22, a23, a24, a25, a26, a27) p0 p1 1 := by
  subst h0 h1
  refine ob_onesBefore (row := 3 + v) (i := x) h6 h7 (bw_add rfl rfl rfl) rfl (by omega) (by omega) (br_f (show ¬ (1 : Int32) = 0 by decide) ⟨pk_in v 3 hv, ?_⟩)
  rw [nI_clamp (by omega), h8, nI_add, hy]
  exact H
theorem ob_rankInMatrix {post : Int32 → Prop} {p0 p1 : Int32} {c i : Nat} (h : ob_I l N (fn, fp, fr, fd, fc, a1, a2, a3, a4, a5, a6, a7, a8, a9, a10, a11, a12, a13, a14, a15, a16, a17, a18, a19, a20, a21, a22, a23, a24, a25, a26, a27)) (hP : ob_Pk l N (fn, fp, fr, fd, fc, a1, a2, a3, a4, a5, a6, a7, a8, a9, a10, a11, a12, a13, a14, a15, a16, a17, a18, a19, a20, a21, a22, a23, a24, a25, a26, a27)) (h0 : p0 = nI c) (h1 : p1 = nI i) (hc : c < 8) (hi : i ≤ N) (H : post (nI (lt_r l c i))) : wpX_rankInMatrix post (fn, fp, fr, fd, fc, a1, a2, a3, a4, a5, a6, a7, a8, a9, a10, a11, a12, a13, a14, a15, a16, a17, a18, a19, a20, a21, a22, a23, a24, a25, a26, a27) p0 p1 := by
  subst h0 h1
  obtain ⟨hN, hl, hn, _⟩ := h
  obtain ⟨R, k, s, _, _, _, _, h6, h7, _, ⟨z, ⟨B, B0, hLev⟩, h8⟩, _⟩ := hP
  subst hn
  refine Exists.elim (pk_loop (fun n v (_ : Unit) => wX_rankInMatrix_8 post (nI c) (nI N) fp fr fd fc a1 a2 a3 a4 a5 a6 a7 a8 a9 a10 a11 a12 a13 a14 a15 a16 a17 a18 a19 a20 a21 a22 a23 a24 a25 a26 a27 n (nI (B v (wt_p v c))) (nI (B v (wt_p v c) + wt_K l v (wt_p v c) i)) (nI v)) (fun _ _ => True) 3 0 () (by omega) trivial ?_ ?_) (fun m hm => ⟨m, ?_⟩)
  · intro n _ _
    refine pk_le 3 3 (fun _ => ?_) (fun e => absurd e (by omega))
    rw [bw_sub (c := lt_r l c i) rfl rfl (by rw [wt_p3, wt_K3]; omega)]
    exact H
  · intro n v _ hv _ ih
    have t := ih () trivial
    try dsimp only at t
    rw [wt_ps v hv c hc] at t
    have hPl := wt_pl v (by omega) c hc
    have lev : wm_Lev l N v (bw_r a5 7 (3 + v)) (z v) (B v) (B (v + 1)) := hLev v hv
    have d0a := wm_down0 hv hl lev hPl (Nat.zero_le N)
    have d0b := wm_down0 hv hl lev hPl hi
    have d1a := wm_down1 lev hPl (Nat.zero_le N)
    have d1b := wm_down1 lev hPl hi
    have la := wm_le lev hPl (Nat.zero_le N)
    have lb := wm_le lev hPl hi
    simp only [wt_K0, Nat.add_zero] at d0a d1a la
    generalize wt_p v c = P at *
    have hd := wt_d2 v c
    refine pk_le 3 v (fun e => absurd e (by omega)) (fun _ => ob_digit rfl rfl hc hv ?_)
    refine pk_eq (wt_d v c) 1 (fun d1 => ?_) (fun d1 => ?_)
    · rw [d1] at t
      exact ob_down1 h6 h7 (h8 v hv) rfl rfl hv (by omega) d1a (ob_down1 h6 h7 (h8 v hv) rfl rfl hv (by omega) d1b (nm_r (nI_1 v) t))
    · rw [show 2 * P + wt_d v c = 2 * P by omega] at t
      exact ob_down0 h6 h7 rfl rfl hv (by omega) d0a (ob_down0 h6 h7 rfl rfl hv (by omega) d0b (nm_r (nI_1 v) t))
  · try dsimp only at hm
    rw [wt_p0 c hc, wt_K00 hl, B0, Nat.zero_add] at hm
    exact hm
theorem ob_atInMatrix {post : Int32 → Prop} {p0 : Int32} {i : Nat} (h : ob_I l N (fn, fp, fr, fd, fc, a1, a2, a3, a4, a5, a6, a7, a8, a9, a10, a11, a12, a13, a14, a15, a16, a17, a18, a19, a20, a21, a22, a23, a24, a25, a26, a27)) (hP : ob_Pk l N (fn, fp, fr, fd, fc, a1, a2, a3, a4, a5, a6, a7, a8, a9, a10, a11, a12, a13, a14, a15, a16, a17, a18, a19, a20, a21, a22, a23, a24, a25, a26, a27)) (h0 : p0 = nI i) (hi : i < N) (H : post (nI (l i))) : wpX_atInMatrix post (fn, fp, fr, fd, fc, a1, a2, a3, a4, a5, a6, a7, a8, a9, a10, a11, a12, a13, a14, a15, a16, a17, a18, a19, a20, a21, a22, a23, a24, a25, a26, a27) p0 := by
  subst h0
  obtain ⟨hN, hl, hn, _⟩ := h
  obtain ⟨R, k, s, _, _, _, _, h6, h7, _, ⟨z, ⟨B, B0, hLev⟩, h8⟩, _⟩ := hP
  subst hn
  have hc := hl i
  refine Exists.elim (pk_loop (fun n v (_ : Unit) => wX_atInMatrix_7 post (nI N) fp fr fd fc a1 a2 a3 a4 a5 a6 a7 a8 a9 a10 a11 a12 a13 a14 a15 a16 a17 a18 a19 a20 a21 a22 a23 a24 a25 a26 a27 n (nI (wt_p v (l i))) (nI (B v (wt_p v (l i)) + wt_K l v (wt_p v (l i)) i)) (nI v)) (fun _ _ => True) 3 0 () (by omega) trivial ?_ ?_) (fun m hm => ⟨m, ?_⟩)
  · intro n _ _
    refine pk_le 3 3 (fun _ => ?_) (fun e => absurd e (by omega))
    rw [wt_p3]
    exact H
  · intro n v _ hv _ ih
    have t := ih () trivial
    try dsimp only at t
    rw [wt_ps v hv (l i) hc] at t
    have hPl := wt_pl v (by omega) (l i) hc
    have lev : wm_Lev l N v (bw_r a5 7 (3 + v)) (z v) (B v) (B (v + 1)) := hLev v hv
    have hbit := wm_bit lev hv hl hi
    have d0b := wm_down0 hv hl lev hPl (show i ≤ N by omega)
    have d1b := wm_down1 lev hPl (show i ≤ N by omega)
    have lb := wm_le lev hPl (show i ≤ N by omega)
    generalize wt_p v (l i) = P at *
    have hd := wt_d2 v (l i)
    refine pk_le 3 v (fun e => absurd e (by omega)) (fun _ => ob_bitAt (row := 3 + v) (bw_add rfl rfl rfl) rfl (by omega) (by omega) ?_)
    rw [hbit]
    by_cases d1 : wt_d v (l i) = 1
    · rw [decide_eq_true d1]
      rw [d1] at t
      refine br_f (show ¬ (1 : Int32) = 0 by decide) (nm_r (bw_add (bw_mul rfl rfl rfl) rfl rfl) (ob_onesBefore (row := 3 + v) h6 h7 (bw_add rfl rfl rfl) rfl (by omega) (by omega) (br_f (show ¬ (1 : Int32) = 0 by decide) ⟨pk_in v 3 hv, nm_r ?_ (nm_r (nI_1 v) t)⟩)))
      rw [nI_clamp (by omega), h8 v hv]
      exact bw_add rfl rfl d1b
    · rw [decide_eq_false d1]
      rw [show 2 * P + wt_d v (l i) = 2 * P by omega] at t
      refine br_t rfl (nm_r (bw_add (bw_mul rfl rfl rfl) rfl rfl) (ob_onesBefore (row := 3 + v) h6 h7 (bw_add rfl rfl rfl) rfl (by omega) (by omega) (br_t rfl (nm_r (bw_sub rfl rfl d0b) (nm_r (nI_1 v) t)))))
  · try dsimp only at hm
    rw [wt_p0 (l i) hc, wt_K00 hl, B0, Nat.zero_add] at hm
    exact hm
theorem ob_selectInMatrix {post : Int32 → Prop} {p0 p1 : Int32} {c j : Nat} (h : ob_I l N (fn, fp, fr, fd, fc, a1, a2, a3, a4, a5, a6, a7, a8, a9, a10, a11, a12, a13, a14, a15, a16, a17, a18, a19, a20, a21, a22, a23, a24, a25, a26, a27)) (hP : ob_Pk l N (fn, fp, fr, fd, fc, a1, a2, a3, a4, a5, a6, a7, a8, a9, a10, a11, a12, a13, a14, a15, a16, a17, a18, a19, a20, a21, a22, a23, a24, a25, a26, a27)) (h0 : p0 = nI c) (h1 : p1 = nI (lt_r l c j)) (hc : c < 8) (hj : j < N) (hjc : l j = c) (H : post (nI j)) : wpX_selectInMatrix post (fn, fp, fr, fd, fc, a1, a2, a3, a4, a5, a6, a7, a8, a9, a10, a11, a12, a13, a14, a15, a16, a17, a18, a19, a20, a21, a22, a23, a24, a25, a26, a27) p0 p1 := by
  subst h0 h1
  obtain ⟨hN, hl, hn, _⟩ := h
  obtain ⟨R, k, s, _, _, _, _, h6, h7, _, ⟨z, ⟨B, B0, hLev⟩, h8⟩, _⟩ := hP
  subst hn
  refine Exists.elim (pk_loop (fun n v (_ : Unit) => wX_selectInMatrix_5 post (nI c) (nI (lt_r l c j)) (nI N) fp fr fd fc a1 a2 a3 a4 a5 a6 a7 a8 a9 a10 a11 a12 a13 a14 a15 a16 a17 a18 a19 a20 a21 a22 a23 a24 a25 a26 a27 n (nI (B v (wt_p v c))) (nI v)) (fun _ _ => True) 3 0 () (by omega) trivial ?_ ?_) (fun m hm => ⟨m, ?_⟩)
  · intro n _ _
    refine pk_le 3 3 (fun _ => ?_) (fun e => absurd e (by omega))
    refine nm_r (nI_add _ _) ⟨4, ?_⟩
    have t := pk_loopD (fun n v (_ : Unit) => wX_selectInMatrix_51 post (nI c) (nI N) fp fr fd fc a1 a2 a3 a4 a5 a6 a7 a8 a9 a10 a11 a12 a13 a14 a15 a16 a17 a18 a19 a20 a21 a22 a23 a24 a25 a26 a27 n (nI (B v (wt_p v c) + wt_K l v (wt_p v c) j)) (nI v - 1)) (fun v _ => v ≤ 3) (fun n _ _ => br_t (by decide) ?_) (fun n v _ hv ih => ?_) 3 () (by omega)
    · try dsimp only at t
      rw [wt_p3, wt_K3] at t
      rw [wt_p3]
      exact t
    · rw [wt_p0 c hc, wt_K00 hl, B0, Nat.zero_add]
      exact H
    · have t := ih () (by omega)
      try dsimp only at t ⊢
      have hv3 : v < 3 := by omega
      have hPl := wt_pl v (by omega) c hc
      have lev : wm_Lev l N v (bw_r a5 7 (3 + v)) (z v) (B v) (B (v + 1)) := hLev v hv3
      have hbit := wm_bit lev hv3 hl hj
      have hlt := wm_lt lev hv3 hl hj
      rw [hjc] at hbit hlt
      have d0b := wm_down0 hv3 hl lev hPl (show j ≤ N by omega)
      have d1b := wm_down1 lev hPl (show j ≤ N by omega)
      have hd := wt_d2 v c
      rw [wt_ps v hv3 c hc, nI_pred]
      generalize wt_p v c = P at *
      refine br_f (nI_pos (by omega)) (ob_digit rfl rfl hc hv3 ?_)
      refine pk_eq (wt_d v c) 1 (fun d1 => br_f (show ¬ (1 : Int32) = 0 by decide) ⟨pk_in v 3 hv3, ?_⟩) (fun d1 => br_t rfl ?_)
      · rw [decide_eq_true d1] at hbit
        refine ob_place (row := 3 + v) (one := true) (x := B v P + wt_K l v P j) (k := cn_c (bw_r a5 7 (3 + v)) (B v P + wt_K l v P j)) hN h6 h7 (bw_add rfl rfl rfl) rfl ?_ (by omega) hlt hbit (cn_congr (fun j _ => by cases bw_r a5 7 (3 + v) j <;> rfl)) (nm_r (Int32.sub_eq_add_neg _ _).symm t)
        rw [nI_clamp (by omega), h8 v hv3, d1]
        exact bw_sub rfl rfl (by omega)
      · rw [decide_eq_false d1] at hbit
        have e0 : 2 * P + wt_d v c = 2 * P := by omega
        rw [e0]
        refine ob_place (row := 3 + v) (one := false) (x := B v P + wt_K l v P j) (k := B (v + 1) (2 * P) + wt_K l (v + 1) (2 * P) j) hN h6 h7 (bw_add rfl rfl rfl) rfl rfl (by omega) hlt hbit ?_ (nm_r (Int32.sub_eq_add_neg _ _).symm t)
        have e1 : cn_c (fun i => bw_r a5 7 (3 + v) i == false) (B v P + wt_K l v P j) = cn_c (fun i => !bw_r a5 7 (3 + v) i) (B v P + wt_K l v P j) := cn_congr (fun j _ => by cases bw_r a5 7 (3 + v) j <;> rfl)
        rw [e1, cn_not]
        omega
  · intro n v _ hv _ ih
    have t := ih () trivial
    try dsimp only at t
    rw [wt_ps v hv c hc] at t
    have hPl := wt_pl v (by omega) c hc
    have lev : wm_Lev l N v (bw_r a5 7 (3 + v)) (z v) (B v) (B (v + 1)) := hLev v hv
    have d0a := wm_down0 hv hl lev hPl (Nat.zero_le N)
    have d1a := wm_down1 lev hPl (Nat.zero_le N)
    have la := wm_le lev hPl (Nat.zero_le N)
    simp only [wt_K0, Nat.add_zero] at d0a d1a la
    generalize wt_p v c = P at *
    have hd := wt_d2 v c
    refine pk_le 3 v (fun e => absurd e (by omega)) (fun _ => ob_digit rfl rfl hc hv ?_)
    refine pk_eq (wt_d v c) 1 (fun d1 => ?_) (fun d1 => ?_)
    · rw [d1] at t
      exact ob_down1 h6 h7 (h8 v hv) rfl rfl hv (by omega) d1a (nm_r (nI_1 v) t)
    · rw [show 2 * P + wt_d v c = 2 * P by omega] at t
      exact ob_down0 h6 h7 rfl rfl hv (by omega) d0a (nm_r (nI_1 v) t)
  · try dsimp only at hm
    rw [wt_p0 c hc, B0] at hm
    exact hm
theorem ob_orderedInMatrix {post : Int32 → Prop} {p0 p1 p2 : Int32} {i j k : Nat} (h : ob_I l N (fn, fp, fr, fd, fc, a1, a2, a3, a4, a5, a6, a7, a8, a9, a10, a11, a12, a13, a14, a15, a16, a17, a18, a19, a20, a21, a22, a23, a24, a25, a26, a27)) (hP : ob_Pk l N (fn, fp, fr, fd, fc, a1, a2, a3, a4, a5, a6, a7, a8, a9, a10, a11, a12, a13, a14, a15, a16, a17, a18, a19, a20, a21, a22, a23, a24, a25, a26, a27)) (h0 : p0 = nI i) (h1 : p1 = nI j) (h2 : p2 = nI k) (hij : i ≤ j) (hj : j ≤ N) (hk : k < j - i)
    (H : ∀ c, c < 8 → lt_b l c j - lt_b l c i ≤ k → k < lt_b l (c + 1) j - lt_b l (c + 1) i → post (nI c)) : wpX_orderedInMatrix post (fn, fp, fr, fd, fc, a1, a2, a3, a4, a5, a6, a7, a8, a9, a10, a11, a12, a13, a14, a15, a16, a17, a18, a19, a20, a21, a22, a23, a24, a25, a26, a27) p0 p1 p2 := by
  subst h0 h1 h2
  obtain ⟨hN, hl, hn, _⟩ := h
  obtain ⟨R, _, s, _, _, _, _, h6, h7, _, ⟨z, ⟨B, B0, hLev⟩, h8⟩, _⟩ := hP
  subst hn
  refine Exists.elim (pk_loop (fun n v (s : Nat × Nat) => wX_orderedInMatrix_15 post (nI N) fp fr fd fc a1 a2 a3 a4 a5 a6 a7 a8 a9 a10 a11 a12 a13 a14 a15 a16 a17 a18 a19 a20 a21 a22 a23 a24 a25 a26 a27 n (nI s.1) (nI (B v s.1 + wt_K l v s.1 i)) (nI (B v s.1 + wt_K l v s.1 j)) (nI s.2) (nI v))
    (fun v s => s.1 < 2 ^ v ∧ s.2 + wt_B l v s.1 j = k + wt_B l v s.1 i ∧ s.2 + wt_K l v s.1 i < wt_K l v s.1 j) 3 0 (0, k) (by omega) ⟨show 0 < 2 ^ 0 by decide, ?_, ?_⟩ ?_ ?_) (fun m hm => ⟨m, ?_⟩)
  · try dsimp only
    rw [wt_B0, wt_B0]
  · try dsimp only
    rw [wt_K00 hl, wt_K00 hl]
    omega
  · intro n ⟨P, left⟩ ⟨g1, g2, g3⟩
    try dsimp only at g1 g2 g3
    rw [wt_B3, wt_B3] at g2
    rw [wt_K3, wt_K3] at g3
    have m1 := lt_b_mono l P hij
    have m2 := lt_r_mono l P hij
    refine pk_le 3 3 (fun _ => H P (by omega) (by omega) ?_) (fun e => absurd e (by omega))
    rw [lt_bs, lt_bs]
    omega
  · intro n v ⟨P, left⟩ hv ⟨g1, g2, g3⟩ ih
    try dsimp only at g1 g2 g3 ih ⊢
    have lev : wm_Lev l N v (bw_r a5 7 (3 + v)) (z v) (B v) (B (v + 1)) := hLev v hv
    have d0a := wm_down0 hv hl lev g1 (show i ≤ N by omega)
    have d0b := wm_down0 hv hl lev g1 hj
    have d1a := wm_down1 lev g1 (show i ≤ N by omega)
    have d1b := wm_down1 lev g1 hj
    have la := wm_le lev g1 (show i ≤ N by omega)
    have lb := wm_le lev g1 hj
    have kmi := wt_Kmono (l := l) (v + 1) (2 * P) hij
    have kdi := wt_Kd hv hl P i
    have kdj := wt_Kd hv hl P j
    have bdi := wt_Bd hv hl P i
    have bdj := wt_Bd hv hl P j
    have b1i := wt_Bd1 hv hl P i
    have b1j := wt_Bd1 hv hl P j
    have hP8 : 2 ^ v ≤ 2 ^ 3 := Nat.pow_le_pow_right (by omega) (by omega)
    have hpw : 2 ^ (v + 1) = 2 * 2 ^ v := by
      rw [Nat.pow_succ]
      omega
    have bmono := wt_Bmono (l := l) v i (Nat.zero_le P)
    have hKj : wt_K l v P j ≤ j := cn_le _ j
    refine pk_le 3 v (fun e => absurd e (by omega)) (fun _ => ob_down0 h6 h7 rfl rfl hv (by omega) d0a (ob_down0 h6 h7 rfl rfl hv (by omega) d0b ?_))
    have ed : nI (B (v + 1) (2 * P) + wt_K l (v + 1) (2 * P) j) - nI (B (v + 1) (2 * P) + wt_K l (v + 1) (2 * P) i) = nI (wt_K l (v + 1) (2 * P) j - wt_K l (v + 1) (2 * P) i) := bw_sub rfl rfl (by omega)
    rw [ed]
    refine pk_lt left (wt_K l (v + 1) (2 * P) j - wt_K l (v + 1) (2 * P) i) (fun hlt => br_t rfl (nm_r (bw_sub (b := 0) (c := left) rfl rfl rfl) (br_t rfl (nm_r (bw_add (b := 0) (c := 2 * P) (bw_mul rfl rfl rfl) rfl rfl) (br_t rfl (br_t rfl (nm_r (nI_1 v) (ih (2 * P, left) ⟨?_, ?_, ?_⟩)))))))) (fun hge => br_f (show ¬ (1 : Int32) = 0 by decide) (nm_r (bw_sub (c := left - (wt_K l (v + 1) (2 * P) j - wt_K l (v + 1) (2 * P) i)) rfl ed (by omega)) (br_f (show ¬ (1 : Int32) = 0 by decide) (nm_r (bw_add (b := 1) (c := 2 * P + 1) (bw_mul rfl rfl rfl) rfl rfl) (br_f (show ¬ (1 : Int32) = 0 by decide) ?_)))))
    · try dsimp only
      omega
    · try dsimp only
      omega
    · try dsimp only
      omega
    · refine ob_down1 h6 h7 (h8 v hv) rfl rfl hv (by omega) d1a (br_f (show ¬ (1 : Int32) = 0 by decide) (ob_down1 h6 h7 (h8 v hv) rfl rfl hv (by omega) d1b (nm_r (nI_1 v) (ih (2 * P + 1, left - (wt_K l (v + 1) (2 * P) j - wt_K l (v + 1) (2 * P) i)) ⟨?_, ?_, ?_⟩))))
      · try dsimp only
        omega
      · try dsimp only
        omega
      · try dsimp only
        omega
  · try dsimp only at hm
    rw [B0, wt_K00 hl, wt_K00 hl, Nat.zero_add, Nat.zero_add] at hm
    exact hm
end
end
section
/-! questions: parts, blocks, runs, codes -/
section
variable {fn fp fr fd fc : Int32} {a1 a2 a3 a4 a5 a6 a7 a8 a9 a10 a11 a12 a13 a14 a15 a16 a17 a18 a19 a20 a21 a22 a23 a24 a25 a26 a27 : Nat → Int32} {l : Nat → Nat} {N : Nat}
theorem ob_selectInParts {post : Int32 → Prop} {p0 p1 : Int32} {c j : Nat} (h : ob_I l N (fn, fp, fr, fd, fc, a1, a2, a3, a4, a5, a6, a7, a8, a9, a10, a11, a12, a13, a14, a15, a16, a17, a18, a19, a20, a21, a22, a23, a24, a25, a26, a27)) (hP : ob_Pk l N (fn, fp, fr, fd, fc, a1, a2, a3, a4, a5, a6, a7, a8, a9, a10, a11, a12, a13, a14, a15, a16, a17, a18, a19, a20, a21, a22, a23, a24, a25, a26, a27)) (h0 : p0 = nI c) (h1 : p1 = nI (lt_r l c j)) (hc : c < 8) (hj : j < N) (hjc : l j = c) (H : post (nI j)) : wpX_selectInParts post (fn, fp, fr, fd, fc, a1, a2, a3, a4, a5, a6, a7, a8, a9, a10, a11, a12, a13, a14, a15, a16, a17, a18, a19, a20, a21, a22, a23, a24, a25, a26, a27) p0 p1 := by
  subst h0 h1
  obtain ⟨hN, hl, hn, _⟩ := h
  obtain ⟨R, k, s, _, _, _, _, _, _, _, _, _, _, ⟨wd, hwd⟩, _⟩ := hP
  obtain ⟨w7, h9, h10, hF⟩ := hwd c hc
  obtain ⟨f1, f2, f3⟩ := hF j hj hjc
  have hp := ef_pos (l := l) (c := c) (w := wd c) (show j ≤ 200 by omega)
  have hrk := lt_r_mono l c (show j + 1 ≤ N from hj)
  rw [lt_r_t hjc] at hrk
  have hbN : lt_b l c N + lt_r l c N ≤ N := by
    rw [← lt_bs]
    exact lt_b_le _ _ _
  have last : ∀ n, wX_selectInParts_8 post (nI c) (nI (lt_r l c j)) fn fp fr fd fc a1 a2 a3 a4 a5 a6 a7 a8 a9 a10 a11 a12 a13 a14 a15 a16 a17 a18 a19 a20 a21 a22 a23 a24 a25 a26 a27 (n + 1) (nI (j / 2 ^ wd c + lt_r l c j)) (nI (lt_r l c j + 1)) 0 := by
    intro n
    have ei : a10 (nI c).toNatClampNeg + nI (lt_r l c j) = nI (lt_b l c N + lt_r l c j) := by rw [nI_clamp (by omega), h10, nI_add]
    refine br_t rfl ⟨pk_in c 8 hc, pk_in c 9 (by omega), pk_in (lt_b l c N + lt_r l c j) 200 (by omega) ei, ?_⟩
    rw [ei, nI_clamp (by omega), nI_clamp (by omega), h9, f3, bw_sub (c := j / 2 ^ wd c) rfl rfl rfl, ef_or (wd c) (by omega) j (by omega)]
    exact H
  generalize hpos : j / 2 ^ wd c + lt_r l c j = pos at *
  have go : ∀ d x, x + d = pos → wX_selectInParts_8 post (nI c) (nI (lt_r l c j)) fn fp fr fd fc a1 a2 a3 a4 a5 a6 a7 a8 a9 a10 a11 a12 a13 a14 a15 a16 a17 a18 a19 a20 a21 a22 a23 a24 a25 a26 a27 (d + 2) (nI x) (nI (cn_c (bw_r a12 13 c) x)) 1 := by
    intro d
    induction d with
    | zero =>
      intro x hx
      have ex : x = pos := by omega
      subst ex
      refine br_f (show ¬ (1 : Int32) = 0 by decide) (ob_highAt rfl rfl hc (by omega) ?_)
      rw [f1, f2]
      refine br_f (show ¬ (1 : Int32) = 0 by decide) (br_t rfl (br_f (show ¬ (1 : Int32) = 0 by decide) (nm_r (nI_1 _) (br_t rfl (nm_r (bw_n0 _) (last 0))))))
    | succ d ih =>
      intro x hx
      have hcle := cn_le (bw_r a12 13 c) x
      have t := ih (x + 1) (by omega)
      rw [cn_s] at t
      refine br_f (show ¬ (1 : Int32) = 0 by decide) (ob_highAt rfl rfl hc (by omega) ?_)
      cases hb : bw_r a12 13 c x with
      | false =>
        rw [hb] at t
        exact br_t rfl (br_t rfl (nm_r (bw_n0 _) (br_f (show ¬ (1 : Int32) = 0 by decide) (nm_r (nI_1 x) t))))
      | true =>
        rw [hb] at t
        refine br_f (show ¬ (1 : Int32) = 0 by decide) (pk_eq (cn_c (bw_r a12 13 c) x) (lt_r l c j) (fun e => ?_) (fun e => br_f (show ¬ (1 : Int32) = 0 by decide) (nm_r (nI_1 _) (br_f (show ¬ (1 : Int32) = 0 by decide) (nm_r (nI_1 x) t)))))
        have e2 := cn_inj hb f1 (by rw [e, f2])
        omega
  exact ⟨pos + 2, go pos 0 (by omega)⟩
theorem ob_rankInParts {post : Int32 → Prop} {p0 p1 : Int32} {c i : Nat} (h : ob_I l N (fn, fp, fr, fd, fc, a1, a2, a3, a4, a5, a6, a7, a8, a9, a10, a11, a12, a13, a14, a15, a16, a17, a18, a19, a20, a21, a22, a23, a24, a25, a26, a27)) (hP : ob_Pk l N (fn, fp, fr, fd, fc, a1, a2, a3, a4, a5, a6, a7, a8, a9, a10, a11, a12, a13, a14, a15, a16, a17, a18, a19, a20, a21, a22, a23, a24, a25, a26, a27)) (h0 : p0 = nI c) (h1 : p1 = nI i) (hc : c < 8) (hi : i ≤ N) (H : post (nI (lt_r l c i))) : wpX_rankInParts post (fn, fp, fr, fd, fc, a1, a2, a3, a4, a5, a6, a7, a8, a9, a10, a11, a12, a13, a14, a15, a16, a17, a18, a19, a20, a21, a22, a23, a24, a25, a26, a27) p0 p1 := by
  subst h0 h1
  have h' := h
  have hP' := hP
  obtain ⟨hN, hl, hn, _⟩ := h'
  obtain ⟨R, k, s, _, _, _, h2, _⟩ := hP'
  have hcN := lt_r_le l c N
  have hcm := lt_r_mono l c hi
  refine And.intro (pk_in c 8 hc) (nm_r (show a2 (nI c).toNatClampNeg = nI (lt_r l c N) by rw [nI_clamp (by omega), h2 c hc]) ?_)
  refine loop_m (fun n (s : Nat × Nat) => wX_rankInParts_10 post (nI c) (nI i) fn fp fr fd fc a1 a2 a3 a4 a5 a6 a7 a8 a9 a10 a11 a12 a13 a14 a15 a16 a17 a18 a19 a20 a21 a22 a23 a24 a25 a26 a27 n (nI s.1) (nI s.2)) (fun s => s.1 ≤ lt_r l c i ∧ lt_r l c i ≤ s.2 ∧ s.2 ≤ lt_r l c N) (fun s => s.2 - s.1) ?_ (0, lt_r l c N) ⟨by omega, by omega, by omega⟩
  intro n ⟨lo, hh⟩ ⟨g1, g2, g3⟩ ih
  try dsimp only at g1 g2 g3 ih
  refine pk_le hh lo (fun e => ?_) (fun e => ⟨by decide, nm_r (hv_div (by omega)) ?_⟩)
  · have e2 : lo = lt_r l c i := by omega
    rw [e2]
    exact H
  · obtain ⟨m1, m2⟩ := hv_mid e
    generalize (lo + hh) / 2 = mid at *
    obtain ⟨j, j1, j2, j3⟩ := cn_sel (p := fun j => decide (l j = c)) (show mid < cn_c (fun j => decide (l j = c)) N from by unfold lt_r at g3; omega)
    have jc := of_decide_eq_true j2
    have jr : lt_r l c j = mid := j3
    refine ob_selectInParts h hP rfl (by rw [jr]) hc j1 jc ?_
    refine pk_le i j (fun e2 => br_t rfl (br_t rfl (ih (lo, mid) ⟨g1, ?_, by (try dsimp only); omega⟩ (by (try dsimp only); omega)))) (fun e2 => br_f (show ¬ (1 : Int32) = 0 by decide) (br_f (show ¬ (1 : Int32) = 0 by decide) ?_))
    · have z := lt_r_mono l c e2
      try dsimp only
      omega
    · rw [nI_1]
      refine ih (mid + 1, hh) ⟨?_, g2, g3⟩ (by (try dsimp only); omega)
      have z := lt_r_mono l c (show j + 1 ≤ i from e2)
      rw [lt_r_t jc] at z
      try dsimp only
      omega
theorem ob_rankInBlocks {post : Int32 → Prop} {p0 p1 : Int32} {c i : Nat} (h : ob_I l N (fn, fp, fr, fd, fc, a1, a2, a3, a4, a5, a6, a7, a8, a9, a10, a11, a12, a13, a14, a15, a16, a17, a18, a19, a20, a21, a22, a23, a24, a25, a26, a27)) (hP : ob_Pk l N (fn, fp, fr, fd, fc, a1, a2, a3, a4, a5, a6, a7, a8, a9, a10, a11, a12, a13, a14, a15, a16, a17, a18, a19, a20, a21, a22, a23, a24, a25, a26, a27)) (h0 : p0 = nI c) (h1 : p1 = nI i) (hc : c < 8) (hi : i ≤ N) (H : post (nI (lt_r l c i))) : wpX_rankInBlocks post (fn, fp, fr, fd, fc, a1, a2, a3, a4, a5, a6, a7, a8, a9, a10, a11, a12, a13, a14, a15, a16, a17, a18, a19, a20, a21, a22, a23, a24, a25, a26, a27) p0 p1 := by
  subst h0 h1
  obtain ⟨hN, hl, hn, _, _, h16, _⟩ := h
  obtain ⟨R, k, s, _, _, _, _, _, _, _, _, _, _, _, h13, h14, h15, _⟩ := hP
  have e1 : nI i / 7 = nI (i / 7) := pk_div (d := 7) (by omega) (by omega) (by omega)
  have e2 : nI i - nI i / 7 * 7 = nI (i % 7) := pk_rem (d := 7) (by omega) (by omega) (by omega)
  have ej : (nI c * 30) + nI (i / 7) = nI (c * 30 + i / 7) := bw_add (bw_mul rfl rfl rfl) rfl rfl
  have ei : (nI c * 31) + nI (i / 7) = nI (c * 31 + i / 7) := bw_add (bw_mul rfl rfl rfl) rfl rfl
  have hblk := rr_blk_lt l N c (i / 7)
  obtain ⟨k1, k2, k3⟩ := rr_back _ hblk
  refine And.intro (by decide) (nm_r e1 ⟨by decide, nm_r e2 ⟨pk_in (c * 30 + i / 7) 240 (by omega) ej, pk_in (c * 30 + i / 7) 240 (by omega) ej, ?_⟩⟩)
  rw [ej, ei, nI_clamp (show c * 30 + i / 7 < 2 ^ 31 by omega), nI_clamp (show c * 31 + i / 7 < 2 ^ 31 by omega), h13 _ (by omega), h14 _ (by omega), h15 _ (by omega)]
  have v13 : rr_13 l N (c * 30 + i / 7) = bw_pc (rr_blk l N c (i / 7)) := by
    unfold rr_13
    rw [show (c * 30 + i / 7) / 30 = c by omega, show (c * 30 + i / 7) % 30 = i / 7 by omega]
  have v14 : rr_14 l N (c * 30 + i / 7) = rr_nm (rr_blk l N c (i / 7)) 7 0 (bw_pc (rr_blk l N c (i / 7))) := by
    unfold rr_14
    rw [show (c * 30 + i / 7) / 30 = c by omega, show (c * 30 + i / 7) % 30 = i / 7 by omega]
  have v15 : rr_15 l N (c * 31 + i / 7) = cn_c (rr_q l N c) (7 * (i / 7)) := by
    unfold rr_15
    rw [show (c * 31 + i / 7) / 31 = c by omega, show (c * 31 + i / 7) % 31 = i / 7 by omega]
  rw [v13, v14, v15]
  refine ob_bitsOf h16 rfl rfl (by omega) (by omega) ⟨pk_in (c * 31 + i / 7) 248 (by omega), ?_⟩
  rw [k1, bw_m (i % 7) (by omega), pk_andN (show rr_blk l N c (i / 7) < 2 ^ 32 by omega) (i % 7) (bw_mt (i % 7) (by omega))]
  refine bw_ones rfl ?_ ?_
  · have z := Nat.mod_le (rr_blk l N c (i / 7)) (2 ^ (i % 7))
    omega
  · rw [nI_add, ← rr_blk_r l N c (i / 7) (i % 7) (by omega), show 7 * (i / 7) + i % 7 = i by omega, rr_q_cn hi]
    exact H
/-- the number of runs that begin before a place -/
theorem ob_runBefore {post : Int32 → Prop} {p0 : Int32} {R place : Nat} {st le be : Nat → Nat} (hN : N ≤ 200) (hO : rl_Ok l N N R st le be a20 a21) (h17 : 0 < R → ∀ r, r ≤ R → a17 r = nI (st r)) (h0 : p0 = nI place) (hp : place ≤ N)
    (H : ∀ x, x ≤ R → (∀ r, r < x → st r < place) → (∀ r, x ≤ r → r < R → place ≤ st r) → post (nI x - 1)) : wpX_runBeforePlace post (fn, fp, nI R, fd, fc, a1, a2, a3, a4, a5, a6, a7, a8, a9, a10, a11, a12, a13, a14, a15, a16, a17, a18, a19, a20, a21, a22, a23, a24, a25, a26, a27) p0 := by
  subst h0
  have hR := rl_Rle hO
  refine loop_m (fun n (s : Nat × Nat) => wX_runBeforePlace_7 post (nI place) fn fp (nI R) fd fc a1 a2 a3 a4 a5 a6 a7 a8 a9 a10 a11 a12 a13 a14 a15 a16 a17 a18 a19 a20 a21 a22 a23 a24 a25 a26 a27 n (nI s.1) (nI s.2)) (fun s => s.1 ≤ s.2 ∧ s.2 ≤ R ∧ (∀ r, r < s.1 → st r < place) ∧ ∀ r, s.2 ≤ r → r < R → place ≤ st r) (fun s => s.2 - s.1) ?_ (0, R) ⟨by omega, by omega, fun r hr => absurd hr (by omega), fun r hr hr2 => absurd hr (by omega)⟩
  intro n ⟨lo, hi⟩ ⟨g1, g2, g3, g4⟩ ih
  try dsimp only at g1 g2 g3 g4 ih
  refine pk_le hi lo (fun e => ?_) (fun e => ⟨by decide, nm_r (hv_div (by omega)) ?_⟩)
  · have e2 : hi = lo := by omega
    rw [e2] at g4
    exact H lo (by omega) g3 g4
  · obtain ⟨m1, m2⟩ := hv_mid e
    generalize (lo + hi) / 2 = mid at *
    have hst := rl_top hO (show mid ≤ R by omega) (by omega)
    refine ⟨pk_in mid 201 (by omega), ?_⟩
    rw [nI_clamp (by omega), h17 (by omega) mid (by omega)]
    refine pk_le place (st mid) (fun e2 => br_t rfl (br_t rfl (ih (lo, mid) ⟨m1, by (try dsimp only); omega, g3, ?_⟩ (by (try dsimp only); omega)))) (fun e2 => br_f (show ¬ (1 : Int32) = 0 by decide) (br_f (show ¬ (1 : Int32) = 0 by decide) ?_))
    · intro r hr hr2
      have z := rl_mono hO hr (by omega)
      try dsimp only at z
      omega
    · rw [nI_1]
      refine ih (mid + 1, hi) ⟨by (try dsimp only); omega, g2, ?_, g4⟩ (by (try dsimp only); omega)
      intro r hr
      have z := rl_mono hO (show r ≤ mid by (try dsimp only at hr); omega) (by omega)
      omega
theorem ob_rankInRuns {post : Int32 → Prop} {p0 p1 : Int32} {c i : Nat} (h : ob_I l N (fn, fp, fr, fd, fc, a1, a2, a3, a4, a5, a6, a7, a8, a9, a10, a11, a12, a13, a14, a15, a16, a17, a18, a19, a20, a21, a22, a23, a24, a25, a26, a27)) (hP : ob_Pk l N (fn, fp, fr, fd, fc, a1, a2, a3, a4, a5, a6, a7, a8, a9, a10, a11, a12, a13, a14, a15, a16, a17, a18, a19, a20, a21, a22, a23, a24, a25, a26, a27)) (h0 : p0 = nI c) (h1 : p1 = nI i) (hc : c < 8) (hi : i ≤ N) (H : post (nI (lt_r l c i))) : wpX_rankInRuns post (fn, fp, fr, fd, fc, a1, a2, a3, a4, a5, a6, a7, a8, a9, a10, a11, a12, a13, a14, a15, a16, a17, a18, a19, a20, a21, a22, a23, a24, a25, a26, a27) p0 p1 := by
  subst h0 h1
  obtain ⟨hN, hl, hn, _⟩ := h
  obtain ⟨R, k, s, hr, _, _, _, _, _, _, _, _, _, _, _, _, _, ⟨st, le, be, hO, h17, h18⟩⟩ := hP
  subst hr
  have hR := rl_Rle hO
  refine ob_runBefore hN hO h17 rfl hi (fun x hx g1 g2 => ⟨x + 1, ?_⟩)
  refine pk_loopD (fun n y (_ : Unit) => wX_rankInRuns_6 post (nI c) (nI i) fn fp (nI R) fd fc a1 a2 a3 a4 a5 a6 a7 a8 a9 a10 a11 a12 a13 a14 a15 a16 a17 a18 a19 a20 a21 a22 a23 a24 a25 a26 a27 n (nI y - 1)) (fun y _ => y ≤ x ∧ ∀ q, y ≤ q → q < x → ¬ le q = c) ?_ ?_ x () ⟨Nat.le_refl x, fun q h1 h2 => absurd h1 (by omega)⟩
  · intro n _ hy
    refine br_t (by decide) (br_f (by decide) ?_)
    have z := rl_rank0 hO hi (c := c) (fun q hq hs => by
      rcases Nat.lt_or_ge q x with z | z
      · exact hy.2 q (by omega) z
      · have z2 := g2 q z hq
        omega)
    rw [z] at H
    exact H
  · intro n y _ hy ih
    have hyR : y < R := by omega
    obtain ⟨l1, l2⟩ := h18 y hyR
    have hs1 := h17 (by omega) y (by omega)
    have hs2 := h17 (by omega) (y + 1) (by omega)
    have t1 := rl_top hO (show y + 1 ≤ R by omega) (by omega)
    have t2 := rl_inc hO hyR
    have hbe : be y ≤ 200 := by
      rw [hO.2.2.2.2.2.1 y hyR]
      have z := lt_r_le l (le y) (st y)
      omega
    have hle : le y < 8 := by
      rw [← rl_let hO hyR (Nat.le_refl (st y)) t2]
      exact hl _
    try dsimp only
    rw [nI_pred]
    refine br_f (nI_pos (by omega)) ⟨pk_in y 200 (by omega), ?_⟩
    rw [nI_clamp (by omega), l1]
    refine pk_eq (le y) c (fun e => br_t (nI_pos' (by omega)) ?_) (fun e => nm_r (Int32.sub_eq_add_neg _ _).symm (ih () ⟨by omega, fun q h1 h2 => ?_⟩))
    · have z := rl_rank hO hyR e (g1 y (by omega)) hi (fun q h1 h2 h3 => by
        rcases Nat.lt_or_ge q x with z | z
        · exact hy.2 q (by omega) z
        · have z2 := g2 q z h2
          omega)
      rw [nI_1, nI_clamp (by omega), hs2]
      refine ⟨pk_in (y + 1) 201 (by omega), pk_le i (st (y + 1)) (fun e2 => ?_) (fun e2 => ⟨pk_in (y + 1) 201 (by omega), ?_⟩)⟩
      · refine And.intro (pk_in y 200 (by omega)) ⟨pk_in y 201 (by omega), ?_⟩
        rw [nI_clamp (by omega), l2, hs1, bw_sub (c := lt_r l c i) (bw_add rfl rfl rfl) rfl (by omega)]
        exact H
      · refine And.intro (pk_in y 200 (by omega)) ⟨pk_in y 201 (by omega), ?_⟩
        rw [nI_clamp (by omega), l2, hs1, bw_sub (c := lt_r l c i) (bw_add rfl rfl rfl) rfl (by omega)]
        exact H
    · by_cases e3 : q = y
      · rw [e3]
        exact e
      · exact hy.2 q (by omega) h2
theorem ob_selectInRuns {post : Int32 → Prop} {p0 p1 : Int32} {c k : Nat} (h : ob_I l N (fn, fp, fr, fd, fc, a1, a2, a3, a4, a5, a6, a7, a8, a9, a10, a11, a12, a13, a14, a15, a16, a17, a18, a19, a20, a21, a22, a23, a24, a25, a26, a27)) (hP : ob_Pk l N (fn, fp, fr, fd, fc, a1, a2, a3, a4, a5, a6, a7, a8, a9, a10, a11, a12, a13, a14, a15, a16, a17, a18, a19, a20, a21, a22, a23, a24, a25, a26, a27)) (h0 : p0 = nI c) (h1 : p1 = nI k) (hc : c < 8) (hk : k < lt_r l c N) (H : ∀ j, j < N → l j = c → lt_r l c j = k → post (nI j)) : wpX_selectInRuns post (fn, fp, fr, fd, fc, a1, a2, a3, a4, a5, a6, a7, a8, a9, a10, a11, a12, a13, a14, a15, a16, a17, a18, a19, a20, a21, a22, a23, a24, a25, a26, a27) p0 p1 := by
  subst h0 h1
  obtain ⟨hN, hl, hn, _⟩ := h
  obtain ⟨R, _, s, hr, _, _, _, _, _, _, _, _, _, _, _, _, _, ⟨st, le, be, hO, h17, h18⟩⟩ := hP
  subst hr
  have hR := rl_Rle hO
  have hcN := lt_r_le l c N
  rcases hO.2.2.2.2.2.2.2.1 c hc with ⟨_, z⟩ | ⟨r, r1, r2, r3, r4⟩
  · omega
  · have t1 := rl_top hO (show r + 1 ≤ R by omega) (by omega)
    refine And.intro (pk_in c 8 hc) (nm_r (show a21 (nI c).toNatClampNeg = nI r by rw [nI_clamp (by omega), r2]) ?_)
    refine loop_m (fun n (y : Nat) => wX_selectInRuns_7 post (nI k) fn fp (nI R) fd fc a1 a2 a3 a4 a5 a6 a7 a8 a9 a10 a11 a12 a13 a14 a15 a16 a17 a18 a19 a20 a21 a22 a23 a24 a25 a26 a27 n (nI y)) (fun y => y < R ∧ le y = c ∧ k + st y < be y + st (y + 1)) (fun y => y) ?_ r ⟨r1, r3, by omega⟩
    intro n y ⟨g1, g2, g3⟩ ih
    obtain ⟨l1, l2⟩ := h18 y g1
    have hs1 := h17 (by omega) y (by omega)
    have t2 := rl_top hO (show y + 1 ≤ R by omega) (by omega)
    have t3 := rl_inc hO g1
    have hbe : be y ≤ 200 := by
      rw [hO.2.2.2.2.2.1 y g1]
      have z := lt_r_le l (le y) (st y)
      omega
    refine And.intro (pk_in y 200 (by omega)) ?_
    rw [nI_clamp (by omega), l2]
    refine pk_le (be y) k (fun e => ⟨pk_in y 201 (by omega), pk_in y 200 (by omega), ?_⟩) (fun e => ⟨pk_in y 200 (by omega), ?_⟩)
    · obtain ⟨s1, s2, s3⟩ := rl_sel hO g1 e g3
      rw [hs1, bw_sub (c := st y + (k - be y)) (bw_add rfl rfl rfl) rfl (by omega)]
      rw [g2] at s2 s3
      exact H _ s1 s2 s3
    · rcases hO.2.2.2.2.2.2.1 y g1 with ⟨_, z⟩ | ⟨q, q1, q2, q3, q4⟩
      · omega
      · rw [q2]
        exact nm_e (ih q ⟨by omega, by omega, by omega⟩ q1)
/-- engine 6 -/
theorem hc_bitrow {p q row : Nat → Bool} {i : Nat} (hsub : q (l i) = true → p (l i) = true) (hr : hc_Row l p q row N) (hi : i < N) (hp : p (l i) = true) : row (cn_c (fun j => p (l j)) i) = q (l i) := by
  have e1 := hr.2 i (by omega)
  have e2 := hr.2 (i + 1) (by omega)
  rw [cn_t (p := fun j => p (l j)) hp] at e2
  cases hq : q (l i) with
  | false =>
    rw [cn_f (p := fun j => q (l j)) hq] at e2
    exact cn_bit0.mpr (by omega)
  | true =>
    rw [cn_t (p := fun j => q (l j)) hq] at e2
    exact cn_bit.mpr (by omega)
theorem ob_rankInCodes {post : Int32 → Prop} {p0 p1 : Int32} {c i : Nat} (h : ob_I l N (fn, fp, fr, fd, fc, a1, a2, a3, a4, a5, a6, a7, a8, a9, a10, a11, a12, a13, a14, a15, a16, a17, a18, a19, a20, a21, a22, a23, a24, a25, a26, a27)) (hP : ob_Pk l N (fn, fp, fr, fd, fc, a1, a2, a3, a4, a5, a6, a7, a8, a9, a10, a11, a12, a13, a14, a15, a16, a17, a18, a19, a20, a21, a22, a23, a24, a25, a26, a27)) (h0 : p0 = nI c) (h1 : p1 = nI i) (hc : c < 8) (hi : i ≤ N) (H : post (nI (lt_r l c i))) : wpX_rankInCodes post (fn, fp, fr, fd, fc, a1, a2, a3, a4, a5, a6, a7, a8, a9, a10, a11, a12, a13, a14, a15, a16, a17, a18, a19, a20, a21, a22, a23, a24, a25, a26, a27) p0 p1 := by
  subst h0 h1
  obtain ⟨hN, hl, hn, _⟩ := h
  obtain ⟨R, k, s, _, hk', _, h2, h6, h7, _, _, _, ⟨w, J, lf, rt, cl, cb, U, ⟨hk, hT, hP1, _, _, h22⟩, hC, hC0, h26, hRow⟩, _⟩ := hP
  subst hk'
  have hcN := lt_r_le l c N
  have hcm := lt_r_mono l c hi
  refine And.intro (pk_in c 8 hc) ?_
  rw [nI_clamp (by omega), h2 c hc]
  refine pk_eq (lt_r l c N) 0 (fun e => ?_) (fun e => nm_e ?_)
  · have z : lt_r l c i = 0 := by omega
    rw [z] at H
    exact H
  · obtain ⟨j0, j1, j2⟩ := cn_pos (show 0 < cn_c (fun j => decide (l j = c)) N from by unfold lt_r at e; omega)
    have jc := of_decide_eq_true j2
    obtain ⟨c26, c27⟩ := h26 c (by omega)
    have hcl7 : ∀ y, cl y ≤ 7 := fun y => by have z := hC.2.2.1 y; omega
    have hcb : ∀ y, cb y < 128 := fun y => by
      have z1 := hC.2.2.2.1 y
      have z2 : 2 ^ cl y ≤ 2 ^ 7 := Nat.pow_le_pow_right (by omega) (hcl7 y)
      omega
    have hcl := hcl7 c
    by_cases hk0 : k = 0
    · subst hk0
      have z := hC0 rfl c
      refine ⟨1, And.intro (pk_in c 16 (by omega)) ?_⟩
      rw [nI_clamp (by omega), c26, z]
      refine br_t (by decide) ?_
      have z2 : lt_r l c i = i := cn_all (fun j hj => decide_eq_true (by rw [← jc]; exact hc_end0 hT hP1 (by omega) j1))
      rw [z2] at H
      exact H
    · obtain ⟨e1, e2⟩ := hc_endk hT (by omega) hP1
      have hitem : ∀ y, U y c = true → y < 8 + k → cl c ≤ cl y → y = c := by
        intro y hy hyk hle
        rcases Nat.lt_or_ge y 8 with z | z
        · rw [hT.2.1 y z c] at hy
          exact of_decide_eq_true hy
        · have g := (hT.2.2.1 (y - 8) (by omega)).2.2.2.2.2.1 c
          rw [show 8 + (y - 8) = y by omega, hy] at g
          rcases (Bool.or_eq_true _ _).mp g.symm with z2 | z2
          · have z3 := (hc_A0 hT hC (show y - 8 < k by omega) z2).1
            rw [show 8 + (y - 8) = y by omega] at z3
            omega
          · have z3 := (hc_A1 hT hC (show y - 8 < k by omega) z2).1
            rw [show 8 + (y - 8) = y by omega] at z3
            omega
      have go : ∀ d y, y < 8 + k → U y c = true → cl y + d = cl c → wX_rankInCodes_24 post (nI c) fn fp fr (nI k) fc a1 a2 a3 a4 a5 a6 a7 a8 a9 a10 a11 a12 a13 a14 a15 a16 a17 a18 a19 a20 a21 a22 a23 a24 a25 a26 a27 (d + 1) (nI y - 8) (nI (hc_C l U y i)) (nI (cl y)) := by
        intro d
        induction d with
        | zero =>
          intro y hy hU hd
          have ey := hitem y hU hy (by omega)
          refine And.intro (pk_in c 16 (by omega)) ?_
          rw [nI_clamp (by omega), c26, ey]
          refine br_t (nI_le (Nat.le_refl _) (by omega)) ?_
          have z : hc_C l U c i = lt_r l c i := cn_congr (fun j _ => by
            rw [hT.2.1 c hc]
            exact decide_eq_decide.mpr ⟨fun z => z.symm, fun z => z.symm⟩)
          rw [z]
          exact H
        | succ d ih =>
          intro y hy hU hd
          have hy8 : 8 ≤ y := by
            rcases Nat.lt_or_ge y 8 with z | z
            · rw [hT.2.1 y z c] at hU
              have z2 := of_decide_eq_true hU
              rw [z2] at hd
              omega
            · exact z
          obtain ⟨m, hm⟩ : ∃ m, y = 8 + m := ⟨y - 8, by omega⟩
          subst hm
          have hmk : m < k := by omega
          obtain ⟨f1, f2, f3, f4, f5, f6, f7, f8⟩ := hT.2.2.1 m hmk
          obtain ⟨n1, n2, n3, n4⟩ := hC.1 m (by omega) hmk
          obtain ⟨s1, s2⟩ := h22 m hmk
          have hrow := hRow m hmk
          have hle : hc_C l U (8 + m) i ≤ i := cn_le _ i
          have em : nI (8 + m) - 8 = nI m := bw_sub (b := 8) rfl rfl (by omega)
          have hones : cn_c (bw_r a5 7 (14 + m)) (hc_C l U (8 + m) i) = hc_C l U (rt m) i := hrow.2 i hi
          have hsum : hc_C l U (8 + m) i = hc_C l U (lf m) i + hc_C l U (rt m) i := cn_add (fun j _ => by
            have g := f7 (l j)
            rw [f6]
            cases h1 : U (lf m) (l j) <;> cases h2 : U (rt m) (l j)
            · rfl
            · rfl
            · rfl
            · exact (g h1 h2).elim)
          rw [em]
          refine And.intro (pk_in c 16 (by omega)) ?_
          rw [nI_clamp (by omega), c26, c27]
          refine br_f (nI_ge (by omega) (by omega)) ⟨pk_in c 16 (by omega), ?_⟩
          have hU' := hU
          rw [f6] at hU'
          rcases (Bool.or_eq_true _ _).mp hU' with z | z
          · have bt := (hc_A0 hT hC hmk z).2.2
            refine br_t ((rr_tI (cb c) (hcb c) (cl (8 + m)) (by omega)).mpr bt) (ob_onesBefore (row := 14 + m) h6 h7 (bw_add rfl rfl rfl) rfl (by omega) (by omega) ?_)
            rw [hones]
            refine br_t rfl (br_t rfl ⟨pk_in m 8 (by omega), ?_⟩)
            rw [nI_clamp (by omega), s1, nI_1, bw_sub (c := hc_C l U (lf m) i) rfl rfl (by omega), ← n1]
            exact nm_e (nm_e (ih (lf m) (by omega) z (by omega)))
          · have bt := (hc_A1 hT hC hmk z).2.2
            refine br_f (fun z2 => by
              have z3 := (rr_tI (cb c) (hcb c) (cl (8 + m)) (by omega)).mp z2
              rw [bt] at z3
              exact absurd z3 (by decide)) (ob_onesBefore (row := 14 + m) h6 h7 (bw_add rfl rfl rfl) rfl (by omega) (by omega) ?_)
            rw [hones]
            refine br_f (show ¬ (1 : Int32) = 0 by decide) (br_f (show ¬ (1 : Int32) = 0 by decide) ⟨pk_in m 8 (by omega), ?_⟩)
            rw [nI_clamp (by omega), s2, nI_1, ← n3]
            exact nm_e (nm_e (ih (rt m) (by omega) z (by omega)))
      have htop : hc_C l U (8 + (k - 1)) i = i := cn_all (fun j hj => e1 j (by omega))
      have hU0 := e1 j0 j1
      rw [jc] at hU0
      have hz := hC.2.2.2.2 (by omega)
      have t := go (cl c) (8 + (k - 1)) (by omega) hU0 (by omega)
      rw [htop, hz, show nI (8 + (k - 1)) - 8 = nI (k - 1) from bw_sub (b := 8) rfl rfl (by omega)] at t
      refine ⟨cl c + 1, ?_⟩
      rw [show nI k - 1 = nI (k - 1) from bw_sub (b := 1) rfl rfl (by omega)]
      exact t
theorem ob_atInCodes {post : Int32 → Prop} {p0 : Int32} {i : Nat} (h : ob_I l N (fn, fp, fr, fd, fc, a1, a2, a3, a4, a5, a6, a7, a8, a9, a10, a11, a12, a13, a14, a15, a16, a17, a18, a19, a20, a21, a22, a23, a24, a25, a26, a27)) (hP : ob_Pk l N (fn, fp, fr, fd, fc, a1, a2, a3, a4, a5, a6, a7, a8, a9, a10, a11, a12, a13, a14, a15, a16, a17, a18, a19, a20, a21, a22, a23, a24, a25, a26, a27)) (h0 : p0 = nI i) (hi : i < N) (H : post (nI (l i))) : wpX_atInCodes post (fn, fp, fr, fd, fc, a1, a2, a3, a4, a5, a6, a7, a8, a9, a10, a11, a12, a13, a14, a15, a16, a17, a18, a19, a20, a21, a22, a23, a24, a25, a26, a27) p0 := by
  subst h0
  obtain ⟨hN, hl, hn, ha, _⟩ := h
  obtain ⟨R, k, s, _, hk', _, h2, h6, h7, _, _, _, ⟨w, J, lf, rt, cl, cb, U, ⟨hk, hT, hP1, _, _, h22⟩, hC, hC0, h26, hRow⟩, _⟩ := hP
  subst hk'
  have hli := hl i
  have last : ∀ x y n, wX_atInCodes_28 post fn fp fr (nI k) fc a1 a2 a3 a4 a5 a6 a7 a8 a9 a10 a11 a12 a13 a14 a15 a16 a17 a18 a19 a20 a21 a22 a23 a24 a25 a26 a27 (n + 1) x y (nI (l i)) := fun x y n => br_t (nI_pos' (by omega)) H
  refine nm_e (pk_eq k 0 (fun e => ⟨pk_in i 200 (by omega), ?_⟩) (fun e => ?_))
  · rw [nI_clamp (by omega), ha]
    exact nm_e ⟨1, last _ _ 0⟩
  · obtain ⟨e1, e2⟩ := hc_endk hT (by omega) hP1
    have htop : hc_C l U (8 + (k - 1)) i = i := cn_all (fun j hj => e1 j (by omega))
    have go : ∀ f m, m + 2 ≤ f → m < k → U (8 + m) (l i) = true → wX_atInCodes_28 post fn fp fr (nI k) fc a1 a2 a3 a4 a5 a6 a7 a8 a9 a10 a11 a12 a13 a14 a15 a16 a17 a18 a19 a20 a21 a22 a23 a24 a25 a26 a27 f (nI m) (nI (hc_C l U (8 + m) i)) (-1) := by
      intro f
      induction f with
      | zero =>
        intro m hf
        omega
      | succ f ih =>
        intro m hf hmk hU
        obtain ⟨f1, f2, f3, f4, f5, f6, f7, f8⟩ := hT.2.2.1 m hmk
        obtain ⟨s1, s2⟩ := h22 m hmk
        have hrow := hRow m hmk
        have hle : hc_C l U (8 + m) i ≤ i := cn_le _ i
        have hones : cn_c (bw_r a5 7 (14 + m)) (hc_C l U (8 + m) i) = hc_C l U (rt m) i := hrow.2 i (by omega)
        have hbit : bw_r a5 7 (14 + m) (hc_C l U (8 + m) i) = U (rt m) (l i) := hc_bitrow (fun z => by rw [f6, z, Bool.or_true]) hrow hi hU
        have hsum : hc_C l U (8 + m) i = hc_C l U (lf m) i + hc_C l U (rt m) i := cn_add (fun j _ => by
          have g := f7 (l j)
          rw [f6]
          cases h1 : U (lf m) (l j) <;> cases h2 : U (rt m) (l j)
          · rfl
          · rfl
          · rfl
          · exact (g h1 h2).elim)
        have fin : ∀ y z, y < 8 + m → U y (l i) = true → z = nI (hc_C l U y i) → wX_atInCodes_91 post (wX_atInCodes_28 post fn fp fr (nI k) fc a1 a2 a3 a4 a5 a6 a7 a8 a9 a10 a11 a12 a13 a14 a15 a16 a17 a18 a19 a20 a21 a22 a23 a24 a25 a26 a27 f) (nI y) z fn fp fr (nI k) fc a1 a2 a3 a4 a5 a6 a7 a8 a9 a10 a11 a12 a13 a14 a15 a16 a17 a18 a19 a20 a21 a22 a23 a24 a25 a26 a27 := by
          intro y z hy hUy hz
          subst hz
          refine pk_le 8 y (fun e8 => ?_) (fun e8 => ?_)
          · obtain ⟨m', hm'⟩ : ∃ m', y = 8 + m' := ⟨y - 8, by omega⟩
            subst hm'
            refine nm_r (bw_sub (b := 8) (c := m') rfl rfl (by omega)) ?_
            exact ih m' (by omega) (by omega) hUy
          · have ey : y = l i := by
              rw [hT.2.1 y e8] at hUy
              exact of_decide_eq_true hUy
            obtain ⟨g, hg⟩ : ∃ g, f = g + 1 := ⟨f - 1, by omega⟩
            rw [ey, hg]
            exact nm_e (last _ _ g)
        refine br_f (by decide) (ob_bitAt (row := 14 + m) (bw_add rfl rfl rfl) rfl (by omega) (by omega) (ob_onesBefore (row := 14 + m) h6 h7 (bw_add rfl rfl rfl) rfl (by omega) (by omega) ?_))
        rw [hbit, hones]
        cases hr : U (rt m) (l i) with
        | false =>
          have hlU : U (lf m) (l i) = true := by
            rw [f6, hr, Bool.or_false] at hU
            exact hU
          refine br_t rfl ⟨pk_in m 8 (by omega), ?_⟩
          rw [nI_clamp (by omega), s1]
          exact br_t rfl (fin (lf m) _ f1 hlU (bw_sub rfl rfl (by omega)))
        | true =>
          refine br_f (show ¬ (1 : Int32) = 0 by decide) ⟨pk_in m 8 (by omega), ?_⟩
          rw [nI_clamp (by omega), s2]
          exact br_f (show ¬ (1 : Int32) = 0 by decide) (fin (rt m) _ f2 hr rfl)
    have t := go (k + 1) (k - 1) (by omega) (by omega) (e1 i hi)
    rw [htop] at t
    rw [show nI k - 1 = nI (k - 1) from bw_sub (b := 1) rfl rfl (by omega)]
    exact ⟨_, t⟩
end
end
section
/-! questions by engine -/
section
variable {fn fp fr fd fc : Int32} {a1 a2 a3 a4 a5 a6 a7 a8 a9 a10 a11 a12 a13 a14 a15 a16 a17 a18 a19 a20 a21 a22 a23 a24 a25 a26 a27 : Nat → Int32} {l : Nat → Nat} {N : Nat}
theorem ob_rankBy {post : Int32 → Prop} {p0 p1 p2 : Int32} {e c i : Nat} (h : ob_I l N (fn, fp, fr, fd, fc, a1, a2, a3, a4, a5, a6, a7, a8, a9, a10, a11, a12, a13, a14, a15, a16, a17, a18, a19, a20, a21, a22, a23, a24, a25, a26, a27)) (hP : ob_Pk l N (fn, fp, fr, fd, fc, a1, a2, a3, a4, a5, a6, a7, a8, a9, a10, a11, a12, a13, a14, a15, a16, a17, a18, a19, a20, a21, a22, a23, a24, a25, a26, a27)) (h0 : p0 = nI e) (h1 : p1 = nI c) (h2 : p2 = nI i) (he : e < 7) (hc : c < 8) (hi : i ≤ N) (H : post (nI (lt_r l c i))) : wpX_rankBy post (fn, fp, fr, fd, fc, a1, a2, a3, a4, a5, a6, a7, a8, a9, a10, a11, a12, a13, a14, a15, a16, a17, a18, a19, a20, a21, a22, a23, a24, a25, a26, a27) p0 p1 p2 := by
  subst h0 h1 h2
  have h' := h
  have hP' := hP
  obtain ⟨hN, hl, hn, _⟩ := h'
  obtain ⟨R, k, s, _, _, _, _, h6, h7, _, _, hM, _⟩ := hP'
  refine br_f (nI_pos (by omega)) (pk_lt 5 e (fun _ => ob_rankInCodes h hP rfl rfl hc hi H) (fun _ => pk_eq e 0 (fun _ => ob_rankInTree h hP rfl rfl hc hi H) (fun _ => pk_eq e 1 (fun _ => ob_rankInMatrix h hP rfl rfl hc hi H) (fun _ => pk_eq e 2 (fun _ => ?_) (fun _ => pk_eq e 3 (fun _ => ob_rankInParts h hP rfl rfl hc hi H) (fun _ => pk_eq e 4 (fun _ => ob_rankInBlocks h hP rfl rfl hc hi H) (fun _ => pk_eq e 5 (fun _ => ob_rankInRuns h hP rfl rfl hc hi H) (fun _ => trivial))))))))
  refine ob_onesBefore (row := 6 + c) h6 h7 (bw_add rfl rfl rfl) rfl (by omega) (by omega) ?_
  have z : cn_c (bw_r a5 7 (6 + c)) i = lt_r l c i := cn_congr (fun j hj => by
    rw [hM c j hc (by omega)]
    simp [show j < N by omega])
  rw [z]
  exact H
theorem ob_inRange {post : Int32 → Prop} {p0 p1 p2 p3 : Int32} {e c i j : Nat} (h : ob_I l N (fn, fp, fr, fd, fc, a1, a2, a3, a4, a5, a6, a7, a8, a9, a10, a11, a12, a13, a14, a15, a16, a17, a18, a19, a20, a21, a22, a23, a24, a25, a26, a27)) (hP : ob_Pk l N (fn, fp, fr, fd, fc, a1, a2, a3, a4, a5, a6, a7, a8, a9, a10, a11, a12, a13, a14, a15, a16, a17, a18, a19, a20, a21, a22, a23, a24, a25, a26, a27)) (h0 : p0 = nI e) (h1 : p1 = nI c) (h2 : p2 = nI i) (h3 : p3 = nI j) (he : e < 7) (hc : c < 8) (hij : i ≤ j) (hj : j ≤ N) (H : post (nI (lt_r l c j - lt_r l c i))) : wpX_inRange post (fn, fp, fr, fd, fc, a1, a2, a3, a4, a5, a6, a7, a8, a9, a10, a11, a12, a13, a14, a15, a16, a17, a18, a19, a20, a21, a22, a23, a24, a25, a26, a27) p0 p1 p2 p3 := by
  refine ob_rankBy h hP h0 h1 h2 he hc (by omega) (ob_rankBy h hP h0 h1 h3 he hc hj ?_)
  rw [pk_sub (lt_r_mono l c hij)]
  exact H
theorem ob_belowBy {post : Int32 → Prop} {p0 p1 p2 p3 : Int32} {e c i j : Nat} (h : ob_I l N (fn, fp, fr, fd, fc, a1, a2, a3, a4, a5, a6, a7, a8, a9, a10, a11, a12, a13, a14, a15, a16, a17, a18, a19, a20, a21, a22, a23, a24, a25, a26, a27)) (hP : ob_Pk l N (fn, fp, fr, fd, fc, a1, a2, a3, a4, a5, a6, a7, a8, a9, a10, a11, a12, a13, a14, a15, a16, a17, a18, a19, a20, a21, a22, a23, a24, a25, a26, a27)) (h0 : p0 = nI e) (h1 : p1 = nI i) (h2 : p2 = nI j) (h3 : p3 = nI c) (he : e < 7) (hc : c ≤ 8) (hij : i ≤ j) (hj : j ≤ N) (H : post (nI (lt_b l c j - lt_b l c i))) : wpX_belowBy post (fn, fp, fr, fd, fc, a1, a2, a3, a4, a5, a6, a7, a8, a9, a10, a11, a12, a13, a14, a15, a16, a17, a18, a19, a20, a21, a22, a23, a24, a25, a26, a27) p0 p1 p2 p3 := by
  subst h0 h1 h2 h3
  have h' := h
  obtain ⟨hN, hl, hn, _⟩ := h'
  refine pk_eq c 8 (fun e8 => ?_) (fun e8 => pk_eq e 0 (fun e0 => ?_) (fun e0 => ?_))
  · rw [e8, lt_b8 hl, lt_b8 hl] at H
    rw [pk_sub hij]
    exact H
  · refine ob_belowInTree h hP rfl rfl (by omega) (by omega) (ob_belowInTree h hP rfl rfl (by omega) hj ?_)
    rw [pk_sub (lt_b_mono l c hij)]
    exact H
  · refine Exists.elim (pk_loop (fun n x (_ : Unit) => wX_belowBy_41 post (nI e) (nI i) (nI j) (nI c) fn fp fr fd fc a1 a2 a3 a4 a5 a6 a7 a8 a9 a10 a11 a12 a13 a14 a15 a16 a17 a18 a19 a20 a21 a22 a23 a24 a25 a26 a27 n (nI (lt_b l x j - lt_b l x i)) (nI x)) (fun _ _ => True) c 0 () (by omega) trivial ?_ ?_) (fun m hm => ⟨m, ?_⟩)
    · intro n _ _
      exact pk_le c c (fun _ => H) (fun e => absurd e (by omega))
    · intro n x _ hx _ ih
      have t := ih () trivial
      try dsimp only at t
      have m1 := lt_b_mono l x hij
      have m2 := lt_r_mono l x hij
      refine pk_le c x (fun e => absurd e (by omega)) (fun _ => ob_inRange h hP rfl rfl rfl rfl he (by omega) hij hj (nm_r ?_ (nm_r (nI_1 x) t)))
      rw [lt_bs, lt_bs]
      exact bw_add rfl rfl (by omega)
    · try dsimp only at hm
      rw [lt_b0, lt_b0] at hm
      exact hm
theorem ob_atByRanks {post : Int32 → Prop} {p0 p1 : Int32} {e i : Nat} (h : ob_I l N (fn, fp, fr, fd, fc, a1, a2, a3, a4, a5, a6, a7, a8, a9, a10, a11, a12, a13, a14, a15, a16, a17, a18, a19, a20, a21, a22, a23, a24, a25, a26, a27)) (hP : ob_Pk l N (fn, fp, fr, fd, fc, a1, a2, a3, a4, a5, a6, a7, a8, a9, a10, a11, a12, a13, a14, a15, a16, a17, a18, a19, a20, a21, a22, a23, a24, a25, a26, a27)) (h0 : p0 = nI e) (h1 : p1 = nI i) (he : e < 7) (hi : i < N) (H : post (nI (l i))) : wpX_atByRanks post (fn, fp, fr, fd, fc, a1, a2, a3, a4, a5, a6, a7, a8, a9, a10, a11, a12, a13, a14, a15, a16, a17, a18, a19, a20, a21, a22, a23, a24, a25, a26, a27) p0 p1 := by
  subst h0 h1
  have h' := h
  obtain ⟨hN, hl, hn, _⟩ := h'
  have hli := hl i
  refine Exists.elim (pk_loop (fun n x (_ : Unit) => wX_atByRanks_5 post (nI e) (nI i) fn fp fr fd fc a1 a2 a3 a4 a5 a6 a7 a8 a9 a10 a11 a12 a13 a14 a15 a16 a17 a18 a19 a20 a21 a22 a23 a24 a25 a26 a27 n (nI (if l i < x then l i else 0)) (nI x)) (fun _ _ => True) 8 0 () (by omega) trivial ?_ ?_) (fun m hm => ⟨m, ?_⟩)
  · intro n _ _
    refine pk_le 8 8 (fun _ => ?_) (fun e => absurd e (by omega))
    rw [if_pos hli]
    exact H
  · intro n x _ hx _ ih
    have t := ih () trivial
    try dsimp only at t
    have z1 := lt_r_le l x i
    have z2 := lt_r_le l x (i + 1)
    refine pk_le 8 x (fun e => absurd e (by omega)) (fun _ => ob_rankBy h hP rfl rfl rfl he hx (by omega) (ob_rankBy h hP rfl rfl (nI_1 i) he hx (by omega) ?_))
    refine pk_le (lt_r l x (i + 1)) (lt_r l x i) (fun e2 => nm_r (nI_1 x) ?_) (fun e2 => nm_r (nI_1 x) ?_)
    · have e3 : ¬ l i = x := fun z => by
        rw [lt_r_t z] at e2
        omega
      have e4 : (if l i < x + 1 then l i else 0) = if l i < x then l i else 0 := by
        by_cases e5 : l i < x
        · rw [if_pos e5, if_pos (by omega)]
        · rw [if_neg e5, if_neg (by omega)]
      rw [e4] at t
      exact t
    · have e3 : l i = x := by
        rcases Classical.em (l i = x) with z | z
        · exact z
        · rw [lt_r_f z] at e2
          omega
      rw [if_pos (by omega), e3] at t
      exact t
  · try dsimp only at hm
    rw [if_neg (by omega)] at hm
    exact hm
theorem ob_atBy {post : Int32 → Prop} {p0 p1 : Int32} {e i : Nat} (h : ob_I l N (fn, fp, fr, fd, fc, a1, a2, a3, a4, a5, a6, a7, a8, a9, a10, a11, a12, a13, a14, a15, a16, a17, a18, a19, a20, a21, a22, a23, a24, a25, a26, a27)) (hP : ob_Pk l N (fn, fp, fr, fd, fc, a1, a2, a3, a4, a5, a6, a7, a8, a9, a10, a11, a12, a13, a14, a15, a16, a17, a18, a19, a20, a21, a22, a23, a24, a25, a26, a27)) (h0 : p0 = nI e) (h1 : p1 = nI i) (he : e < 7) (hi : i < N) (H : post (nI (l i))) : wpX_atBy post (fn, fp, fr, fd, fc, a1, a2, a3, a4, a5, a6, a7, a8, a9, a10, a11, a12, a13, a14, a15, a16, a17, a18, a19, a20, a21, a22, a23, a24, a25, a26, a27) p0 p1 := by
  subst h0 h1
  refine pk_eq e 0 (fun _ => ob_atInTree h hP rfl hi H) (fun _ => pk_eq e 1 (fun _ => ob_atInMatrix h hP rfl hi H) (fun _ => pk_eq e 6 (fun _ => ob_atInCodes h hP rfl hi H) (fun _ => pk_eq e 5 (fun _ => ?_) (fun _ => ob_atByRanks h hP rfl rfl he hi H))))
  obtain ⟨hN, hl, hn, _⟩ := h
  obtain ⟨R, k, s, hr, _, _, _, _, _, _, _, _, _, _, _, _, _, ⟨st, le, be, hO, h17, h18⟩⟩ := hP
  subst hr
  have hR := rl_Rle hO
  have hR0 := hO.2.1 (show 0 < N by omega)
  have hz := hO.2.2.1 hR0
  refine ob_runBefore hN hO h17 (nI_1 i) (by omega) (fun x hx g1 g2 => ?_)
  have hx0 : 0 < x := by
    rcases Nat.eq_zero_or_pos x with z | z
    · have z2 := g2 0 (by omega) hR0
      omega
    · exact z
  have ex : nI x - 1 = nI (x - 1) := bw_sub (b := 1) rfl rfl (by omega)
  have w1 := g1 (x - 1) (by omega)
  have w2 : i < st (x - 1 + 1) := by
    rw [show x - 1 + 1 = x by omega]
    by_cases e5 : x = R
    · rw [e5, hz.2]
      exact hi
    · have z := g2 x (Nat.le_refl x) (by omega)
      omega
  have w3 := rl_let hO (show x - 1 < R by omega) (show st (x - 1) ≤ i by omega) w2
  rw [ex]
  refine ⟨pk_in (x - 1) 200 (by omega), ?_⟩
  rw [nI_clamp (by omega), (h18 (x - 1) (by omega)).1, ← w3]
  exact H
theorem ob_selectByRanks {post : Int32 → Prop} {p0 p1 p2 : Int32} {e c j : Nat} (h : ob_I l N (fn, fp, fr, fd, fc, a1, a2, a3, a4, a5, a6, a7, a8, a9, a10, a11, a12, a13, a14, a15, a16, a17, a18, a19, a20, a21, a22, a23, a24, a25, a26, a27)) (hP : ob_Pk l N (fn, fp, fr, fd, fc, a1, a2, a3, a4, a5, a6, a7, a8, a9, a10, a11, a12, a13, a14, a15, a16, a17, a18, a19, a20, a21, a22, a23, a24, a25, a26, a27)) (h0 : p0 = nI e) (h1 : p1 = nI c) (h2 : p2 = nI (lt_r l c j)) (he : e < 7) (hc : c < 8) (hj : j < N) (hjc : l j = c) (H : post (nI j)) : wpX_selectByRanks post (fn, fp, fr, fd, fc, a1, a2, a3, a4, a5, a6, a7, a8, a9, a10, a11, a12, a13, a14, a15, a16, a17, a18, a19, a20, a21, a22, a23, a24, a25, a26, a27) p0 p1 p2 := by
  subst h0 h1 h2
  have h' := h
  obtain ⟨hN, hl, hn, _⟩ := h'
  subst hn
  have hrj := lt_r_le l c j
  refine loop_m (fun n (s : Nat × Nat) => wX_selectByRanks_9 post (nI e) (nI c) (nI (lt_r l c j)) (nI N) fp fr fd fc a1 a2 a3 a4 a5 a6 a7 a8 a9 a10 a11 a12 a13 a14 a15 a16 a17 a18 a19 a20 a21 a22 a23 a24 a25 a26 a27 n (nI s.1) (nI s.2)) (fun s => s.1 ≤ j ∧ j ≤ s.2 ∧ s.2 ≤ N) (fun s => s.2 - s.1) ?_ (0, N) ⟨by omega, by omega, by omega⟩
  intro n ⟨lo, hi⟩ ⟨g1, g2, g3⟩ ih
  try dsimp only at g1 g2 g3 ih
  refine pk_le hi lo (fun e => ?_) (fun e => ⟨by decide, nm_r (hv_div (by omega)) ?_⟩)
  · have e2 : lo = j := by omega
    rw [e2]
    exact H
  · obtain ⟨m1, m2⟩ := hv_mid e
    generalize (lo + hi) / 2 = mid at *
    have hle := lt_r_le l c (mid + 1)
    refine ob_rankBy h hP rfl rfl (nI_1 mid) he hc (by omega) ?_
    refine pk_lt (lt_r l c j) (lt_r l c (mid + 1)) (fun h => br_t rfl (br_t rfl (ih (lo, mid) ⟨g1, ?_, by (try dsimp only); omega⟩ (by (try dsimp only); omega)))) (fun h => br_f (show ¬ (1 : Int32) = 0 by decide) (br_f (show ¬ (1 : Int32) = 0 by decide) ?_))
    · try dsimp only
      rcases Nat.lt_or_ge mid j with z | z
      · have z2 := lt_r_mono l c (show mid + 1 ≤ j from z)
        omega
      · exact z
    · rw [nI_1]
      refine ih (mid + 1, hi) ⟨?_, g2, g3⟩ (by (try dsimp only); omega)
      try dsimp only
      rcases Nat.lt_or_ge mid j with z | z
      · exact z
      · have z2 := lt_r_mono l c (show j + 1 ≤ mid + 1 by omega)
        rw [lt_r_t hjc] at z2
        omega
end
end
section
/-! the methods -/
theorem ob_isEngine {post : Int32 → Prop} {p0 : Int32} {e : Nat} (h0 : p0 = nI e) (he : e < 7) (H : post 1) : wpX_isEngine post () p0 := by
  subst h0
  exact br_f (nI_pos (by omega)) (pk_le 7 e (fun z => absurd z (by omega)) (fun _ => H))
theorem ob_isLetter {post : Int32 → Prop} {p0 : Int32} {c : Nat} (h0 : p0 = nI c) (hc : c < 8) (H : post 1) : wpX_isLetter post () p0 := by
  subst h0
  exact br_f (nI_pos (by omega)) (pk_le 8 c (fun z => absurd z (by omega)) (fun _ => H))
theorem ob_10 : ¬ (1 : Int32) = 0 := by decide
/-- the place of letter c number k, or -1 -/
def se_R (l : Nat → Nat) (N c k : Nat) (r : Int32) : Prop := (∃ j, j < N ∧ l j = c ∧ lt_r l c j = k ∧ r = nI j) ∨ (lt_r l c N ≤ k ∧ r = -1)
/-- letter c is number k in order -/
def or_R (l : Nat → Nat) (i j k c : Nat) : Prop := c < 8 ∧ lt_b l c j - lt_b l c i ≤ k ∧ k < lt_b l (c + 1) j - lt_b l (c + 1) i
section
variable {fn fp fr fd fc : Int32} {a1 a2 a3 a4 a5 a6 a7 a8 a9 a10 a11 a12 a13 a14 a15 a16 a17 a18 a19 a20 a21 a22 a23 a24 a25 a26 a27 : Nat → Int32} {l : Nat → Nat} {N : Nat}
theorem ob_isRange {post : Int32 → Prop} {p0 p1 : Int32} {i j : Nat} (h : ob_I l N (fn, fp, fr, fd, fc, a1, a2, a3, a4, a5, a6, a7, a8, a9, a10, a11, a12, a13, a14, a15, a16, a17, a18, a19, a20, a21, a22, a23, a24, a25, a26, a27)) (h0 : p0 = nI i) (h1 : p1 = nI j) (hij : i ≤ j) (hj : j ≤ N) (H : post 1) : wpX_isRange post (fn, fp, fr, fd, fc, a1, a2, a3, a4, a5, a6, a7, a8, a9, a10, a11, a12, a13, a14, a15, a16, a17, a18, a19, a20, a21, a22, a23, a24, a25, a26, a27) p0 p1 := by
  subst h0 h1
  obtain ⟨hN, hl, hn, _⟩ := h
  subst hn
  exact br_f (nI_pos (by omega)) (pk_lt j i (fun z => absurd z (by omega)) (fun _ => pk_lt N j (fun z => absurd z (by omega)) (fun _ => H)))
end
section
variable {l : Nat → Nat} {N : Nat} {u : St1}
theorem ob_at {post : Int32 → St1 → Prop} {p0 p1 : Int32} {e i : Nat} (h : ob_I l N u) (h0 : p0 = nI e) (h1 : p1 = nI i) (he : e < 7) (hi : i < N) (H : ∀ u', ob_I l N u' → post (nI (l i)) u') : wpX_at post u p0 p1 := by
  subst h0 h1
  obtain ⟨fn, fp, fr, fd, fc, a1, a2, a3, a4, a5, a6, a7, a8, a9, a10, a11, a12, a13, a14, a15, a16, a17, a18, a19, a20, a21, a22, a23, a24, a25, a26, a27⟩ := u
  have h' := h
  obtain ⟨hN, hl, hn, _⟩ := h'
  subst hn
  unfold wpX_at
  refine ob_isEngine rfl he (br_f ob_10 (br_f (nI_pos (by omega)) (br_t (nI_lt hi (by omega)) (ob_pack h ?_))))
  rintro ⟨fn, fp, fr, fd, fc, a1, a2, a3, a4, a5, a6, a7, a8, a9, a10, a11, a12, a13, a14, a15, a16, a17, a18, a19, a20, a21, a22, a23, a24, a25, a26, a27⟩ h1 h2
  exact ob_atBy h1 h2 rfl rfl he hi (H _ h1)
theorem ob_rank {post : Int32 → St1 → Prop} {p0 p1 p2 : Int32} {e c i : Nat} (h : ob_I l N u) (h0 : p0 = nI e) (h1 : p1 = nI c) (h2 : p2 = nI i) (he : e < 7) (hc : c < 8) (hi : i ≤ N) (H : ∀ u', ob_I l N u' → post (nI (lt_r l c i)) u') : wpX_rank post u p0 p1 p2 := by
  subst h0 h1 h2
  obtain ⟨fn, fp, fr, fd, fc, a1, a2, a3, a4, a5, a6, a7, a8, a9, a10, a11, a12, a13, a14, a15, a16, a17, a18, a19, a20, a21, a22, a23, a24, a25, a26, a27⟩ := u
  have h' := h
  obtain ⟨hN, hl, hn, _⟩ := h'
  subst hn
  unfold wpX_rank
  refine ob_isEngine rfl he (br_f ob_10 (ob_isLetter rfl hc (br_f ob_10 (br_f (nI_pos (by omega)) (br_t (nI_le hi (by omega)) (ob_pack h ?_))))))
  rintro ⟨fn, fp, fr, fd, fc, a1, a2, a3, a4, a5, a6, a7, a8, a9, a10, a11, a12, a13, a14, a15, a16, a17, a18, a19, a20, a21, a22, a23, a24, a25, a26, a27⟩ h1 h2
  exact ob_rankBy h1 h2 rfl rfl rfl he hc hi (H _ h1)
theorem ob_select {post : Int32 → St1 → Prop} {p0 p1 p2 : Int32} {e c k : Nat} (h : ob_I l N u) (h0 : p0 = nI e) (h1 : p1 = nI c) (h2 : p2 = nI k) (he : e < 7) (hc : c < 8) (hk : k < 1000) (H : ∀ r u', se_R l N c k r → ob_I l N u' → post r u') : wpX_select post u p0 p1 p2 := by
  subst h0 h1 h2
  obtain ⟨fn, fp, fr, fd, fc, a1, a2, a3, a4, a5, a6, a7, a8, a9, a10, a11, a12, a13, a14, a15, a16, a17, a18, a19, a20, a21, a22, a23, a24, a25, a26, a27⟩ := u
  refine ob_pack h ?_
  rintro ⟨fn, fp, fr, fd, fc, a1, a2, a3, a4, a5, a6, a7, a8, a9, a10, a11, a12, a13, a14, a15, a16, a17, a18, a19, a20, a21, a22, a23, a24, a25, a26, a27⟩ h1 h2
  have h1' := h1
  have h2' := h2
  obtain ⟨hN, hl, hn, _⟩ := h1'
  obtain ⟨R, k', s, _, _, _, g2, h6, h7, _, _, hM, _⟩ := h2'
  have hcN := lt_r_le l c N
  refine ob_isEngine rfl he (br_f ob_10 (ob_isLetter rfl hc (br_f ob_10 (br_f (nI_pos (by omega)) ⟨pk_in c 8 hc, ?_⟩))))
  rw [nI_clamp (by omega), g2 c hc]
  refine pk_lt k (lt_r l c N) (fun hlt => ?_) (fun hge => H _ _ (Or.inr ⟨hge, rfl⟩) h1)
  obtain ⟨j, j1, j2, j3⟩ := cn_sel (p := fun j => decide (l j = c)) hlt
  have jc := of_decide_eq_true j2
  have jr : lt_r l c j = k := j3
  have fin : ∀ x, lt_r l c x = k → x < N → l x = c → post (nI x) (fn, fp, fr, fd, fc, a1, a2, a3, a4, a5, a6, a7, a8, a9, a10, a11, a12, a13, a14, a15, a16, a17, a18, a19, a20, a21, a22, a23, a24, a25, a26, a27) := fun x g1 g2 g3 => H _ _ (Or.inl ⟨x, g2, g3, g1, rfl⟩) h1
  have fj := fin j jr j1 jc
  rw [← jr]
  refine pk_eq e 1 (fun _ => ob_selectInMatrix h1 h2 rfl rfl hc j1 jc fj) (fun _ => pk_eq e 2 (fun _ => ?_) (fun _ => pk_eq e 3 (fun _ => ob_selectInParts h1 h2 rfl rfl hc j1 jc fj) (fun _ => pk_eq e 5 (fun _ => ob_selectInRuns h1 h2 rfl rfl hc (by omega) (fun x g1 g2 g3 => fin x (by omega) g1 g2)) (fun _ => ob_selectByRanks h1 h2 rfl rfl rfl he hc j1 jc fj))))
  subst hn
  refine ob_place (row := 6 + c) (one := true) (x := j) (k := lt_r l c j) hN h6 h7 (bw_add rfl rfl rfl) rfl rfl (by omega) j1 ?_ ?_ fj
  · rw [hM c j hc (by omega)]
    simp [j1, jc]
  · refine cn_congr (fun x hx => ?_)
    rw [hM c x hc (by omega)]
    simp [show x < N by omega]
theorem ob_below {post : Int32 → St1 → Prop} {p0 p1 p2 p3 : Int32} {e c i j : Nat} (h : ob_I l N u) (h0 : p0 = nI e) (h1 : p1 = nI i) (h2 : p2 = nI j) (h3 : p3 = nI c) (he : e < 7) (hc : c ≤ 8) (hij : i ≤ j) (hj : j ≤ N) (H : ∀ u', ob_I l N u' → post (nI (lt_b l c j - lt_b l c i)) u') : wpX_below post u p0 p1 p2 p3 := by
  subst h0 h1 h2 h3
  obtain ⟨fn, fp, fr, fd, fc, a1, a2, a3, a4, a5, a6, a7, a8, a9, a10, a11, a12, a13, a14, a15, a16, a17, a18, a19, a20, a21, a22, a23, a24, a25, a26, a27⟩ := u
  unfold wpX_below
  refine ob_isEngine rfl he (br_f ob_10 (ob_isRange h rfl rfl hij hj (br_f ob_10 (br_f (nI_pos (by omega)) (br_t (nI_le (b := 8) hc (by omega)) (ob_pack h ?_))))))
  rintro ⟨fn, fp, fr, fd, fc, a1, a2, a3, a4, a5, a6, a7, a8, a9, a10, a11, a12, a13, a14, a15, a16, a17, a18, a19, a20, a21, a22, a23, a24, a25, a26, a27⟩ h1 h2
  exact ob_belowBy h1 h2 rfl rfl rfl rfl he hc hij hj (H _ h1)
theorem ob_ordered {post : Int32 → St1 → Prop} {p0 p1 p2 p3 : Int32} {e i j k : Nat} (h : ob_I l N u) (h0 : p0 = nI e) (h1 : p1 = nI i) (h2 : p2 = nI j) (h3 : p3 = nI k) (he : e < 7) (hij : i ≤ j) (hj : j ≤ N) (hk : k < j - i) (H : ∀ c u', or_R l i j k c → ob_I l N u' → post (nI c) u') : wpX_ordered post u p0 p1 p2 p3 := by
  subst h0 h1 h2 h3
  obtain ⟨fn, fp, fr, fd, fc, a1, a2, a3, a4, a5, a6, a7, a8, a9, a10, a11, a12, a13, a14, a15, a16, a17, a18, a19, a20, a21, a22, a23, a24, a25, a26, a27⟩ := u
  have h' := h
  obtain ⟨hN, hl, hn, _⟩ := h'
  unfold wpX_ordered
  refine ob_isEngine rfl he (br_f ob_10 (ob_isRange h rfl rfl hij hj (br_f ob_10 (br_f (nI_pos (by omega)) (br_t ?_ (ob_pack h ?_))))))
  · rw [pk_sub hij]
    exact nI_lt hk (by omega)
  rintro ⟨fn, fp, fr, fd, fc, a1, a2, a3, a4, a5, a6, a7, a8, a9, a10, a11, a12, a13, a14, a15, a16, a17, a18, a19, a20, a21, a22, a23, a24, a25, a26, a27⟩ h1 h2
  refine pk_eq e 1 (fun _ => ob_orderedInMatrix h1 h2 rfl rfl rfl hij hj hk (fun c g1 g2 g3 => H c _ ⟨g1, g2, g3⟩ h1)) (fun _ => ?_)
  have go : ∀ d c, c + d = 7 → lt_b l c j - lt_b l c i ≤ k → wX_ordered_52 post (nI e) (nI i) (nI j) (nI k) fn fp fr fd fc a1 a2 a3 a4 a5 a6 a7 a8 a9 a10 a11 a12 a13 a14 a15 a16 a17 a18 a19 a20 a21 a22 a23 a24 a25 a26 a27 (d + 1) (nI c) := by
    intro d
    induction d with
    | zero =>
      intro c hc hle
      have e7 : c = 7 := by omega
      subst e7
      refine pk_le 7 7 (fun _ => H 7 _ ⟨by omega, hle, ?_⟩ h1) (fun z => absurd z (by omega))
      rw [lt_b8 hl, lt_b8 hl]
      exact hk
    | succ d ih =>
      intro c hc hle
      have hb := lt_b_le l (c + 1) j
      refine pk_le 7 c (fun z => absurd z (by omega)) (fun _ => ob_belowBy h1 h2 rfl rfl rfl (nI_1 c) he (by omega) hij hj ?_)
      exact pk_lt k (lt_b l (c + 1) j - lt_b l (c + 1) i) (fun z => H c _ ⟨by omega, hle, z⟩ h1) (fun z => nm_r (nI_1 c) (ih (c + 1) (by omega) z))
  exact ⟨8, go 7 0 rfl (by rw [lt_b0]; omega)⟩
theorem ob_next {post : Int32 → St1 → Prop} {p0 p1 : Int32} {c i : Nat} (h : ob_I l N u) (h0 : p0 = nI c) (h1 : p1 = nI i) (hc : c < 8) (hi : i ≤ N) (H : ∀ r u', se_R l N c (lt_r l c i) r → ob_I l N u' → post r u') : wpX_next post u p0 p1 := by
  subst h0 h1
  obtain ⟨fn, fp, fr, fd, fc, a1, a2, a3, a4, a5, a6, a7, a8, a9, a10, a11, a12, a13, a14, a15, a16, a17, a18, a19, a20, a21, a22, a23, a24, a25, a26, a27⟩ := u
  have h' := h
  obtain ⟨hN, hl, hn, _⟩ := h'
  subst hn
  unfold wpX_next
  refine ob_isLetter rfl hc (br_f ob_10 (pk_lt i N (fun hlt => ob_pack h ?_) (fun hge => H _ _ (Or.inr ⟨lt_r_mono l c hge, rfl⟩) h)))
  rintro ⟨fn, fp, fr, fd, fc, a1, a2, a3, a4, a5, a6, a7, a8, a9, a10, a11, a12, a13, a14, a15, a16, a17, a18, a19, a20, a21, a22, a23, a24, a25, a26, a27⟩ h1 h2
  have h1' := h1
  have h2' := h2
  obtain ⟨_, _, hn, _⟩ := h1'
  obtain ⟨R, k', s, _, _, _, g2, h6, h7, _, _, hM, _⟩ := h2'
  have hcN := lt_r_le l c N
  have hcm := lt_r_mono l c hi
  refine br_t (nI_pos' (by omega)) (ob_rankBy (e := 2) h1 h2 rfl rfl rfl (by omega) hc hi ⟨pk_in c 8 hc, ?_⟩)
  rw [nI_clamp (by omega), g2 c hc]
  refine pk_le (lt_r l c N) (lt_r l c i) (fun hge => H _ _ (Or.inr ⟨hge, rfl⟩) h1) (fun hlt2 => ?_)
  obtain ⟨j, j1, j2, j3⟩ := cn_sel (p := fun j => decide (l j = c)) hlt2
  have jc := of_decide_eq_true j2
  have jr : lt_r l c j = lt_r l c i := j3
  subst hn
  refine ob_place (row := 6 + c) (one := true) (x := j) (k := lt_r l c i) hN h6 h7 (bw_add rfl rfl rfl) rfl rfl (by omega) j1 ?_ ?_ (H _ _ (Or.inl ⟨j, j1, jc, jr, rfl⟩) h1)
  · rw [hM c j hc (by omega)]
    simp [j1, jc]
  · rw [← jr]
    refine cn_congr (fun x hx => ?_)
    rw [hM c x hc (by omega)]
    simp [show x < N by omega]
theorem ob_runs {post : Int32 → St1 → Prop} (h : ob_I l N u) (H : ∀ u', ob_I l N u' → post (nI (cn_c (rl_new l) N)) u') : wpX_runs post u := by
  obtain ⟨fn, fp, fr, fd, fc, a1, a2, a3, a4, a5, a6, a7, a8, a9, a10, a11, a12, a13, a14, a15, a16, a17, a18, a19, a20, a21, a22, a23, a24, a25, a26, a27⟩ := u
  refine ob_pack h ?_
  rintro ⟨fn, fp, fr, fd, fc, a1, a2, a3, a4, a5, a6, a7, a8, a9, a10, a11, a12, a13, a14, a15, a16, a17, a18, a19, a20, a21, a22, a23, a24, a25, a26, a27⟩ h1 h2
  have h2' := h2
  obtain ⟨R, k', s, hr, _, _, _, _, _, _, _, _, _, _, _, _, _, ⟨st, le, be, hO, _⟩⟩ := h2'
  have z := H _ h1
  rw [← hO.1, ← hr] at z
  exact z
theorem ob_bits {post : Int32 → St1 → Prop} (h : ob_I l N u) (H : ∀ M e u', hf_E M (fun t => cn_c (fun y => decide (t < lt_r l y N)) 8) e → e ≤ 2000 → ob_I l N u' → post (nI (N + e)) u') : wpX_bits post u := by
  obtain ⟨fn, fp, fr, fd, fc, a1, a2, a3, a4, a5, a6, a7, a8, a9, a10, a11, a12, a13, a14, a15, a16, a17, a18, a19, a20, a21, a22, a23, a24, a25, a26, a27⟩ := u
  refine ob_pack h ?_
  rintro ⟨fn, fp, fr, fd, fc, a1, a2, a3, a4, a5, a6, a7, a8, a9, a10, a11, a12, a13, a14, a15, a16, a17, a18, a19, a20, a21, a22, a23, a24, a25, a26, a27⟩ h1 h2
  have h1' := h1
  have h2' := h2
  obtain ⟨hN, _, hn, _⟩ := h1'
  obtain ⟨R, k, s, _, hk, hs, _, _, _, _, _, _, ⟨w, J, lf, rt, cl, cb, U, ⟨hk7, hT, hP1, ⟨M, e, hE, hsum⟩, hs2, h22⟩, _⟩, _⟩ := h2'
  have he : e ≤ 2000 := by
    by_cases z : k = 0
    · rw [if_pos z] at hsum
      omega
    · rw [if_neg z] at hsum
      omega
  have z := H M e _ hE he h1
  refine pk_eq k 0 (fun e0 => ?_) (fun e0 => ?_) hk
  · rw [if_pos e0] at hsum
    rw [← hsum, ← hn] at z
    exact z
  · rw [if_neg e0] at hsum
    rw [← hsum, ← hs] at z
    exact z
end
end
section
/-- how many letters stand between -/
def df_n (l : Nat → Nat) (i j : Nat) : Nat := cn_c (fun c => decide (lt_r l c i < lt_r l c j)) 8
section
variable {l : Nat → Nat} {N : Nat} {u : St1}
theorem ob_different {post : Int32 → St1 → Prop} {p0 p1 : Int32} {i j : Nat} (h : ob_I l N u) (h0 : p0 = nI i) (h1 : p1 = nI j) (hij : i ≤ j) (hj : j ≤ N) (H : ∀ u', ob_I l N u' → post (nI (df_n l i j)) u') : wpX_different post u p0 p1 := by
  subst h0 h1
  obtain ⟨fn, fp, fr, fd, fc, a1, a2, a3, a4, a5, a6, a7, a8, a9, a10, a11, a12, a13, a14, a15, a16, a17, a18, a19, a20, a21, a22, a23, a24, a25, a26, a27⟩ := u
  unfold wpX_different
  refine ob_isRange h rfl rfl hij hj (br_f ob_10 (ob_pack h ?_))
  rintro ⟨fn, fp, fr, fd, fc, a1, a2, a3, a4, a5, a6, a7, a8, a9, a10, a11, a12, a13, a14, a15, a16, a17, a18, a19, a20, a21, a22, a23, a24, a25, a26, a27⟩ h1 h2
  refine pk_loop (fun n x (_ : Unit) => wX_different_20 post (nI i) (nI j) fn fp fr fd fc a1 a2 a3 a4 a5 a6 a7 a8 a9 a10 a11 a12 a13 a14 a15 a16 a17 a18 a19 a20 a21 a22 a23 a24 a25 a26 a27 n (nI (cn_c (fun c => decide (lt_r l c i < lt_r l c j)) x)) (nI x)) (fun _ _ => True) 8 0 () (by omega) trivial ?_ ?_
  · intro n _ _
    exact pk_le 8 8 (fun _ => H _ h1) (fun z => absurd z (by omega))
  · intro n x _ hx _ ih
    have t := ih () trivial
    try dsimp only at t
    have hN : N ≤ 200 := h1.1
    have hle := lt_r_le l x j
    refine pk_le 8 x (fun z => absurd z (by omega)) (fun _ => ob_inRange (e := 4) h1 h2 rfl rfl rfl rfl (by omega) hx hij hj ?_)
    refine pk_le (lt_r l x j - lt_r l x i) 0 (fun z => nm_r (bw_n0 _) (nm_r (nI_1 x) ?_)) (fun z => nm_r (nI_1 _) (nm_r (nI_1 x) ?_))
    · rw [cn_f (p := fun c => decide (lt_r l c i < lt_r l c j)) (decide_eq_false (by omega))] at t
      exact t
    · rw [cn_t (p := fun c => decide (lt_r l c i < lt_r l c j)) (decide_eq_true (by omega))] at t
      exact t
theorem ob_most {post : Int32 → St1 → Prop} {p0 p1 p2 : Int32} {e i j : Nat} (h : ob_I l N u) (h0 : p0 = nI e) (h1 : p1 = nI i) (h2 : p2 = nI j) (he : e < 7) (hij : i < j) (hj : j ≤ N) (H : ∀ b u', b < 8 → (∀ c, c < 8 → lt_r l c j - lt_r l c i ≤ lt_r l b j - lt_r l b i) → ob_I l N u' → post (nI b) u') : wpX_most post u p0 p1 p2 := by
  subst h0 h1 h2
  obtain ⟨fn, fp, fr, fd, fc, a1, a2, a3, a4, a5, a6, a7, a8, a9, a10, a11, a12, a13, a14, a15, a16, a17, a18, a19, a20, a21, a22, a23, a24, a25, a26, a27⟩ := u
  have h' := h
  obtain ⟨hN, _⟩ := h'
  unfold wpX_most
  refine ob_isEngine rfl he (br_f ob_10 (ob_isRange h rfl rfl (by omega) hj (br_f ob_10 (br_f (fun z => ?_) (ob_pack h ?_)))))
  · have z2 := rl_inj (by omega) (by omega) z
    omega
  rintro ⟨fn, fp, fr, fd, fc, a1, a2, a3, a4, a5, a6, a7, a8, a9, a10, a11, a12, a13, a14, a15, a16, a17, a18, a19, a20, a21, a22, a23, a24, a25, a26, a27⟩ h1 h2
  refine pk_loop (fun n x (s : Nat × Nat) => wX_most_36 post (nI e) (nI i) (nI j) fn fp fr fd fc a1 a2 a3 a4 a5 a6 a7 a8 a9 a10 a11 a12 a13 a14 a15 a16 a17 a18 a19 a20 a21 a22 a23 a24 a25 a26 a27 n (nI s.1) (nI s.2) (nI x))
    (fun x s => s.1 < 8 ∧ (s.2 = 0 ∨ s.2 = lt_r l s.1 j - lt_r l s.1 i) ∧ s.2 ≤ 200 ∧ ∀ c, c < x → lt_r l c j - lt_r l c i ≤ s.2) 8 0 (0, 0) (by omega) ⟨by decide, Or.inl rfl, by decide, fun c hc => absurd hc (by omega)⟩ ?_ ?_
  · intro n ⟨b, m⟩ ⟨g1, g2, g3, g4⟩
    try dsimp only at g1 g2 g3 g4
    refine pk_le 8 8 (fun _ => H b _ g1 (fun c hc => ?_) h1) (fun z => absurd z (by omega))
    have z := g4 c hc
    omega
  · intro n x ⟨b, m⟩ hx ⟨g1, g2, g3, g4⟩ ih
    try dsimp only at g1 g2 g3 g4 ih
    have hle := lt_r_le l x j
    refine pk_le 8 x (fun z => absurd z (by omega)) (fun _ => ob_inRange h1 h2 rfl rfl rfl rfl he hx (by omega) hj ?_)
    refine pk_le (lt_r l x j - lt_r l x i) m (fun z => ?_) (fun z => ?_)
    · refine br_t (nI_le z (by omega)) (nm_r (nI_1 x) (ih (b, m) ⟨g1, g2, g3, fun c hc => ?_⟩))
      try dsimp only
      by_cases e2 : c = x
      · rw [e2]
        exact z
      · exact g4 c (by omega)
    · refine br_f (nI_ge z (by omega)) (nm_r (nI_1 x) (ih (x, lt_r l x j - lt_r l x i) ⟨hx, Or.inr rfl, by (try dsimp only); omega, fun c hc => ?_⟩))
      try dsimp only
      by_cases e2 : c = x
      · rw [e2]
        exact Nat.le_refl _
      · have z2 := g4 c (by omega)
        omega
/-! the list changes -/
theorem ob_append {post : Int32 → St1 → Prop} {p0 p1 : Int32} {c m : Nat} (h : ob_I l N u) (h0 : p0 = nI c) (h1 : p1 = nI m) (hc : c < 8) (hm0 : 0 < m) (hm : m ≤ 200)
    (H1 : N + m ≤ 200 → ∀ l' u', (∀ j, j < N → l' j = l j) → (∀ j, N ≤ j → j < N + m → l' j = c) → ob_I l' (N + m) u' → post (nI (N + m)) u') (H2 : 200 < N + m → post (-2) u) : wpX_append post u p0 p1 := by
  subst h0 h1
  obtain ⟨fn, fp, fr, fd, fc, a1, a2, a3, a4, a5, a6, a7, a8, a9, a10, a11, a12, a13, a14, a15, a16, a17, a18, a19, a20, a21, a22, a23, a24, a25, a26, a27⟩ := u
  obtain ⟨hN, hl, hn, ha, h4, h16, hp⟩ := h
  subst hn
  unfold wpX_append
  refine ob_isLetter rfl hc (br_f ob_10 (pk_lt m 1 (fun z => absurd z (by omega)) (fun _ => pk_le m 200 (fun _ => ?_) (fun z => absurd z (by omega)))))
  rw [nI_add]
  refine pk_le (N + m) 200 (fun hle => ?_) (fun hgt => H2 hgt)
  refine pk_loop (fun n t (s : Nat → Int32) => wX_append_38 post (nI c) (nI m) fp fr fd fc n (nI t) (nI (N + t)) s a2 a3 a4 a5 a6 a7 a8 a9 a10 a11 a12 a13 a14 a15 a16 a17 a18 a19 a20 a21 a22 a23 a24 a25 a26 a27)
    (fun t s => ∃ l' : Nat → Nat, (∀ j, l' j < 8) ∧ (∀ j, s j = nI (l' j)) ∧ (∀ j, j < N → l' j = l j) ∧ ∀ j, N ≤ j → j < N + t → l' j = c) m 0 a1 (by omega) ⟨l, hl, ha, fun _ _ => rfl, fun j h1 h2 => absurd h1 (by omega)⟩ ?_ ?_
  · intro n s ⟨l', g1, g2, g3, g4⟩
    exact pk_le m m (fun _ => H1 hle l' _ g3 g4 ⟨by omega, g1, rfl, g2, h4, h16, Or.inl rfl⟩) (fun z => absurd z (by omega))
  · intro n t s ht ⟨l', g1, g2, g3, g4⟩ ih
    refine pk_le m t (fun z => absurd z (by omega)) (fun _ => ⟨pk_in (N + t) 200 (by omega), ?_⟩)
    rw [nI_clamp (by omega), bw_n8 c (by omega)]
    refine nm_e (nm_r (nI_1 (N + t)) (nm_r (nI_1 t) (ih _ ⟨fun j => if j = N + t then c else l' j, fun j => ?_, fun j => ?_, fun j hj => ?_, fun j hj1 hj2 => ?_⟩)))
    · try dsimp only
      by_cases e : j = N + t
      · rw [if_pos e]
        exact hc
      · rw [if_neg e]
        exact g1 j
    · try dsimp only
      by_cases e : j = N + t
      · rw [if_pos e, e, pk_us]
      · rw [if_neg e, pk_un e]
        exact g2 j
    · try dsimp only
      rw [if_neg (by omega)]
      exact g3 j hj
    · try dsimp only
      by_cases e : j = N + t
      · rw [if_pos e]
      · rw [if_neg e]
        exact g4 j hj1 (by omega)
theorem ob_again {post : Int32 → St1 → Prop} {p0 p1 : Int32} {b m : Nat} (h : ob_I l N u) (h0 : p0 = nI b) (h1 : p1 = nI m) (hb0 : 0 < b) (hb : b ≤ 200) (hm0 : 0 < m) (hm : m ≤ 200)
    (H1 : b ≤ N → N + m ≤ 200 → ∀ l' u', (∀ j, j < N → l' j = l j) → (∀ j, N ≤ j → j < N + m → l' j = l' (j - b)) → ob_I l' (N + m) u' → post (nI (N + m)) u') (H2 : b ≤ N → 200 < N + m → post (-2) u) (H3 : N < b → post (-1) u) : wpX_again post u p0 p1 := by
  subst h0 h1
  obtain ⟨fn, fp, fr, fd, fc, a1, a2, a3, a4, a5, a6, a7, a8, a9, a10, a11, a12, a13, a14, a15, a16, a17, a18, a19, a20, a21, a22, a23, a24, a25, a26, a27⟩ := u
  obtain ⟨hN, hl, hn, ha, h4, h16, hp⟩ := h
  subst hn
  refine pk_lt b 1 (fun z => absurd z (by omega)) (fun _ => pk_lt N b (fun z => H3 z) (fun hbN => pk_lt m 1 (fun z => absurd z (by omega)) (fun _ => pk_le m 200 (fun _ => ?_) (fun z => absurd z (by omega)))))
  rw [nI_add]
  refine pk_le (N + m) 200 (fun hle => ?_) (fun hgt => H2 hbN hgt)
  refine pk_loop (fun n t (s : Nat → Int32) => wX_again_44 post (nI b) (nI m) fp fr fd fc n (nI t) (nI (N + t)) s a2 a3 a4 a5 a6 a7 a8 a9 a10 a11 a12 a13 a14 a15 a16 a17 a18 a19 a20 a21 a22 a23 a24 a25 a26 a27)
    (fun t s => ∃ l' : Nat → Nat, (∀ j, l' j < 8) ∧ (∀ j, s j = nI (l' j)) ∧ (∀ j, j < N → l' j = l j) ∧ ∀ j, N ≤ j → j < N + t → l' j = l' (j - b)) m 0 a1 (by omega) ⟨l, hl, ha, fun _ _ => rfl, fun j h1 h2 => absurd h1 (by omega)⟩ ?_ ?_
  · intro n s ⟨l', g1, g2, g3, g4⟩
    exact pk_le m m (fun _ => H1 hbN hle l' _ g3 g4 ⟨by omega, g1, rfl, g2, h4, h16, Or.inl rfl⟩) (fun z => absurd z (by omega))
  · intro n t s ht ⟨l', g1, g2, g3, g4⟩ ih
    have ei : nI (N + t) - nI b = nI (N + t - b) := pk_sub (by omega)
    have hlt := g1 (N + t - b)
    refine pk_le m t (fun z => absurd z (by omega)) (fun _ => ⟨pk_in (N + t - b) 200 (by omega) ei, pk_in (N + t) 200 (by omega), ?_⟩)
    rw [ei, nI_clamp (by omega), nI_clamp (by omega), g2, bw_v8 (by omega)]
    refine nm_e (nm_r (nI_1 (N + t)) (nm_r (nI_1 t) (ih _ ⟨fun j => if j = N + t then l' (N + t - b) else l' j, fun j => ?_, fun j => ?_, fun j hj => ?_, fun j hj1 hj2 => ?_⟩)))
    · try dsimp only
      by_cases e : j = N + t
      · rw [if_pos e]
        exact hlt
      · rw [if_neg e]
        exact g1 j
    · try dsimp only
      by_cases e : j = N + t
      · rw [if_pos e, e, pk_us]
      · rw [if_neg e, pk_un e]
        exact g2 j
    · try dsimp only
      rw [if_neg (by omega)]
      exact g3 j hj
    · try dsimp only
      rw [if_neg (show ¬ j - b = N + t by omega)]
      by_cases e : j = N + t
      · rw [if_pos e, e]
      · rw [if_neg e]
        exact g4 j hj1 (by omega)
theorem ob_change {post : Int32 → St1 → Prop} {p0 p1 : Int32} {i c : Nat} (h : ob_I l N u) (h0 : p0 = nI i) (h1 : p1 = nI c) (hi : i < 200) (hc : c < 8)
    (H1 : i < N → ∀ u', ob_I (fun j => if j = i then c else l j) N u' → post (nI (l i)) u') (H2 : N ≤ i → post (-1) u) : wpX_change post u p0 p1 := by
  subst h0 h1
  obtain ⟨fn, fp, fr, fd, fc, a1, a2, a3, a4, a5, a6, a7, a8, a9, a10, a11, a12, a13, a14, a15, a16, a17, a18, a19, a20, a21, a22, a23, a24, a25, a26, a27⟩ := u
  obtain ⟨hN, hl, hn, ha, h4, h16, hp⟩ := h
  subst hn
  refine br_f (nI_pos (by omega)) (pk_le N i (fun z => H2 z) (fun z => ob_isLetter rfl hc (br_f ob_10 ⟨pk_in i 200 hi, ?_⟩)))
  rw [nI_clamp (by omega), ha i, bw_n8 c (by omega)]
  refine nm_e ⟨pk_in i 200 hi, nm_e (H1 z _ ⟨hN, fun j => ?_, rfl, fun j => ?_, h4, h16, Or.inl rfl⟩)⟩
  · dsimp only
    by_cases e : j = i
    · rw [if_pos e]
      exact hc
    · rw [if_neg e]
      exact hl j
  · dsimp only
    by_cases e : j = i
    · rw [if_pos e, e, pk_us]
    · rw [if_neg e, pk_un e]
      exact ha j
theorem ob_cut {post : Int32 → St1 → Prop} {p0 : Int32} {m : Nat} (h : ob_I l N u) (h0 : p0 = nI m) (hm : m ≤ 200) (H : ∀ u', ob_I l (N - m) u' → post (nI (N - m)) u') : wpX_cut post u p0 := by
  subst h0
  obtain ⟨fn, fp, fr, fd, fc, a1, a2, a3, a4, a5, a6, a7, a8, a9, a10, a11, a12, a13, a14, a15, a16, a17, a18, a19, a20, a21, a22, a23, a24, a25, a26, a27⟩ := u
  obtain ⟨hN, hl, hn, ha, h4, h16, hp⟩ := h
  subst hn
  refine br_f (nI_pos (by omega)) (pk_le m 200 (fun _ => pk_le m N (fun z => nm_r (pk_sub z) ?_) (fun z => ?_)) (fun z => absurd z (by omega)))
  · exact H _ ⟨by omega, hl, rfl, ha, h4, h16, Or.inl rfl⟩
  · have e : N - m = 0 := by omega
    rw [e] at H
    exact H _ ⟨by omega, hl, rfl, ha, h4, h16, Or.inl rfl⟩
end
/-! a new object -/
theorem rr_up : ∀ i, i < 7 → ∀ k, k < 7 → (nI (rr_c i k) + nI (rr_c i (k + 1))).toInt8.toInt32 = nI (rr_c (i + 1) (k + 1)) := by decide +kernel
theorem ob_init {post : St1 → Prop} (H : ∀ u, ob_I (fun _ => 0) 0 u → post u) : wpX_init post 27 3516 (0, 0, 0, 0, 0) := by
  have key : ∃ n, wX_init_235 post 27 3516 27 3516 0 0 0 0 0 n 0 (fun _ => 0) (fun _ => 0) (fun _ => 0) (fun _ => 0) (fun _ => 0) (fun _ => 0) (fun _ => 0) (fun _ => 0) (fun _ => 0) (fun _ => 0) (fun _ => 0) (fun _ => 0) (fun _ => 0) (fun _ => 0) (fun _ => 0) (fun _ => 0) (fun _ => 0) (fun _ => 0) (fun _ => 0) (fun _ => 0) (fun _ => 0) (fun _ => 0) (fun _ => 0) (fun _ => 0) (fun _ => 0) (fun _ => 0) (fun _ => 0) := by
    refine pk_loop (fun n i (s : Nat → Int32) => wX_init_235 post 27 3516 27 3516 0 0 0 0 0 n (nI i) (fun _ => 0) (fun _ => 0) (fun _ => 0) (fun _ => 0) (fun _ => 0) (fun _ => 0) (fun _ => 0) (fun _ => 0) (fun _ => 0) (fun _ => 0) (fun _ => 0) (fun _ => 0) (fun _ => 0) (fun _ => 0) (fun _ => 0) s (fun _ => 0) (fun _ => 0) (fun _ => 0) (fun _ => 0) (fun _ => 0) (fun _ => 0) (fun _ => 0) (fun _ => 0) (fun _ => 0) (fun _ => 0) (fun _ => 0))
      (fun i s => ∀ y k, y < 8 → k < 8 → s (y * 8 + k) = nI (if y < i then rr_c y k else 0)) 8 0 (fun _ => 0) (by omega) (fun y k _ _ => by rw [if_neg (by omega)]; rfl) ?_ ?_
    · intro n s hs
      refine pk_le 8 8 (fun _ => H _ ⟨by omega, fun _ => (by decide : 0 < 8), rfl, fun _ => rfl, fun _ => ⟨0, by omega, rfl⟩, fun y k hy hk => ?_, Or.inl rfl⟩) (fun z => absurd z (by omega))
      rw [hs y k hy hk, if_pos hy]
    · intro n i s hi hs ih
      have ei : nI i * 8 = nI (i * 8) := bw_mul rfl rfl rfl
      refine pk_le 8 i (fun z => absurd z (by omega)) (fun _ => ⟨pk_in (i * 8) 64 (by omega) ei, ?_⟩)
      rw [ei, nI_clamp (by omega)]
      refine nm_e (pk_loop (fun m k (t : Nat → Int32) => wX_init_253 post 27 3516 (wX_init_235 post 27 3516 27 3516 0 0 0 0 0 n) (nI i) 27 3516 0 0 0 0 0 m (nI k) (fun _ => 0) (fun _ => 0) (fun _ => 0) (fun _ => 0) (fun _ => 0) (fun _ => 0) (fun _ => 0) (fun _ => 0) (fun _ => 0) (fun _ => 0) (fun _ => 0) (fun _ => 0) (fun _ => 0) (fun _ => 0) (fun _ => 0) t (fun _ => 0) (fun _ => 0) (fun _ => 0) (fun _ => 0) (fun _ => 0) (fun _ => 0) (fun _ => 0) (fun _ => 0) (fun _ => 0) (fun _ => 0) (fun _ => 0))
        (fun k t => 1 ≤ k ∧ ∀ y q, y < 8 → q < 8 → t (y * 8 + q) = nI (if y < i ∨ y = i ∧ q < k then rr_c y q else 0)) (i + 1) 1 (upd s (i * 8) 1) (by omega) ⟨by omega, fun y q hy hq => ?_⟩ ?_ ?_)
      · by_cases e : y = i ∧ q = 0
        · rw [e.1, e.2, Nat.add_zero, pk_us, if_pos (by omega), rr_c_0]
          rfl
        · rw [pk_un (by omega), hs y q hy hq]
          by_cases e2 : y < i
          · rw [if_pos e2, if_pos (Or.inl e2)]
          · rw [if_neg e2, if_neg (by omega)]
      · intro m t ⟨_, ht⟩
        refine pk_lt i (i + 1) (fun _ => nm_r (nI_1 i) (ih t (fun y q hy hq => ?_))) (fun z => absurd z (by omega))
        rw [ht y q hy hq]
        by_cases e : y < i
        · rw [if_pos (Or.inl e), if_pos (by omega)]
        · by_cases e2 : y = i
          · rw [if_pos (show y < i + 1 by omega)]
            by_cases e3 : q < i + 1
            · rw [if_pos (by omega)]
            · rw [if_neg (by omega), e2, rr_c_big i hi q hq (by omega)]
          · rw [if_neg (by omega), if_neg (by omega)]
      · intro m k t hk ⟨hk1, ht⟩ ih2
        obtain ⟨y, hy⟩ : ∃ y, i = y + 1 := ⟨i - 1, by omega⟩
        obtain ⟨q, hq⟩ : ∃ q, k = q + 1 := ⟨k - 1, by omega⟩
        subst hy hq
        have e1 : (nI (y + 1) - 1) * 8 + nI (q + 1) = nI (y * 8 + (q + 1)) := by
          rw [nI_pred]
          exact bw_add (bw_mul rfl rfl rfl) rfl rfl
        have e2 : (nI (y + 1) - 1) * 8 + nI (q + 1) - 1 = nI (y * 8 + q) := by
          rw [e1]
          exact nI_pred _
        have e3 : nI (y + 1) * 8 + nI (q + 1) = nI ((y + 1) * 8 + (q + 1)) := bw_add (bw_mul rfl rfl rfl) rfl rfl
        refine pk_lt (y + 1) (q + 1) (fun z => absurd z (by omega)) (fun _ => ⟨pk_in (y * 8 + q) 64 (by omega) e2, pk_in (y * 8 + (q + 1)) 64 (by omega) e1, pk_in ((y + 1) * 8 + (q + 1)) 64 (by omega) e3, ?_⟩)
        rw [e2, e1, e3, nI_clamp (by omega), nI_clamp (by omega), nI_clamp (by omega), ht y q (by omega) (by omega), ht y (q + 1) (by omega) (by omega), if_pos (Or.inl (by omega)), if_pos (Or.inl (by omega)), rr_up y (by omega) q (by omega)]
        refine nm_e (nm_r (nI_1 (q + 1)) (ih2 _ ⟨by omega, fun a b ha hb => ?_⟩))
        by_cases e : a = y + 1 ∧ b = q + 1
        · rw [e.1, e.2, pk_us, if_pos (by omega)]
        · rw [pk_un (by omega), ht a b ha hb]
          by_cases e4 : a < y + 1 ∨ a = y + 1 ∧ b < q + 1
          · rw [if_pos e4, if_pos (by omega)]
          · rw [if_neg e4, if_neg (by omega)]
  exact ⟨by decide, by decide, by decide, by decide, by decide, by decide, by decide, by decide, by decide, by decide, by decide, by decide, by decide, by decide, by decide, by decide, by decide, by decide, by decide, by decide, by decide, by decide, by decide, by decide, by decide, by decide, by decide, by decide, by decide, by decide, by decide, by decide, by decide, by decide, by decide, by decide, by decide, by decide, by decide, by decide, by decide, by decide, by decide, by decide, by decide, by decide, by decide, by decide, by decide, by decide, by decide, by decide, by decide, by decide, key⟩
end
section
/-! two lists, each the other's mirror -/
theorem cn_rev8 (p : Nat → Bool) : cn_c p 8 = cn_c (fun y => p (7 - y)) 8 := by
  simp [cn_c]
  omega
section
variable {l l' : Nat → Nat} {N : Nat}
theorem cq_r (hl : ∀ j, j < N → l' j + l j = 7) {c i : Nat} (hc : c < 8) (hi : i ≤ N) : lt_r l' (7 - c) i = lt_r l c i := cn_congr (fun j hj => by
  have e := hl j (by omega)
  exact decide_eq_decide.mpr (by omega))
theorem cq_b (hl : ∀ j, j < N → l' j + l j = 7) {c i : Nat} (hc : c ≤ 8) (hi : i ≤ N) : lt_b l' (8 - c) i + lt_b l c i = i := by
  have e : lt_b l' (8 - c) i = cn_c (fun j => !decide (l j < c)) i := cn_congr (fun j hj => by
    have e := hl j (by omega)
    have e2 : decide (l' j < 8 - c) = decide (¬ l j < c) := decide_eq_decide.mpr (by omega)
    rw [e2, decide_not])
  have h := lt_b_le l c i
  rw [e, cn_not]
  unfold lt_b at h ⊢
  omega
theorem cq_se (hl : ∀ j, j < N → l' j + l j = 7) {c k : Nat} {r r' : Int32} (hc : c < 8) (h : se_R l N c k r) (h' : se_R l' N (7 - c) k r') : r = r' := by
  have eN := cq_r hl hc (Nat.le_refl N)
  rcases h with ⟨j, j1, j2, j3, j4⟩ | ⟨j1, j2⟩
  · have z := lt_r_mono l c (show j + 1 ≤ N from j1)
    rw [lt_r_t j2] at z
    rcases h' with ⟨i, i1, i2, i3, i4⟩ | ⟨i1, i2⟩
    · have e1 := hl i i1
      have e3 : l i = c := by omega
      have e4 := cq_r hl hc (show i ≤ N by omega)
      have e5 : j = i := cn_inj (p := fun j => decide (l j = c)) (decide_eq_true j2) (decide_eq_true e3) (by
        have e6 : lt_r l c j = lt_r l c i := by omega
        exact e6)
      rw [j4, i4, e5]
    · omega
  · rcases h' with ⟨i, i1, i2, i3, i4⟩ | ⟨i1, i2⟩
    · have z := lt_r_mono l' (7 - c) (show i + 1 ≤ N from i1)
      rw [lt_r_t i2] at z
      omega
    · rw [j2, i2]
theorem cq_or (hl : ∀ j, j < N → l' j + l j = 7) {i j k k' c c' : Nat} (hij : i ≤ j) (hj : j ≤ N) (hk : k + k' + 1 = j - i) (h : or_R l i j k c) (h' : or_R l' i j k' c') : c + c' = 7 := by
  obtain ⟨g1, g2, g3⟩ := h
  obtain ⟨k1, k2, k3⟩ := h'
  have a1 := cq_b hl (show 7 - c' + 1 ≤ 8 by omega) hj
  have a2 := cq_b hl (show 7 - c' + 1 ≤ 8 by omega) (show i ≤ N by omega)
  have a3 := cq_b hl (show 7 - c' ≤ 8 by omega) hj
  have a4 := cq_b hl (show 7 - c' ≤ 8 by omega) (show i ≤ N by omega)
  rw [show 8 - (7 - c' + 1) = c' by omega] at a1 a2
  rw [show 8 - (7 - c') = c' + 1 by omega] at a3 a4
  have m1 := lt_b_mono l (7 - c') hij
  have m2 := lt_b_mono l (7 - c' + 1) hij
  rcases Nat.lt_trichotomy c (7 - c') with e | e | e
  · have z := lt_b_c l (show c + 1 ≤ 7 - c' from e) hij
    omega
  · omega
  · have z := lt_b_c l (show 7 - c' + 1 ≤ c from e) hij
    omega
theorem cq_runs (hl : ∀ j, j < N → l' j + l j = 7) : cn_c (rl_new l') N = cn_c (rl_new l) N := cn_congr (fun j hj => by
  have e1 := hl j hj
  have e2 := hl (j - 1) (by omega)
  exact decide_eq_decide.mpr (by omega))
theorem cq_df (hl : ∀ j, j < N → l' j + l j = 7) {i j : Nat} (hi : i ≤ N) (hj : j ≤ N) : df_n l' i j = df_n l i j := by
  unfold df_n
  rw [cn_rev8]
  refine cn_congr (fun y hy => ?_)
  rw [cq_r hl hy hi, cq_r hl hy hj]
theorem cq_F (hl : ∀ j, j < N → l' j + l j = 7) (t : Nat) : cn_c (fun y => decide (t < lt_r l' y N)) 8 = cn_c (fun y => decide (t < lt_r l y N)) 8 := by
  rw [cn_rev8]
  refine cn_congr (fun y hy => ?_)
  rw [cq_r hl hy (Nat.le_refl N)]
/-- the most frequent, times how many there are -/
theorem cq_most {i j M : Nat} (hij : i ≤ j) (hM : ∀ c, c < 8 → lt_r l c j - lt_r l c i ≤ M) : ∀ x, x ≤ 8 → lt_b l x j - lt_b l x i ≤ M * cn_c (fun c => decide (lt_r l c i < lt_r l c j)) x := by
  intro x
  induction x with
  | zero =>
    intro _
    rw [lt_b0]
    omega
  | succ x ih =>
    intro hx
    have h1 := ih (by omega)
    have h2 := hM x (by omega)
    have m1 := lt_b_mono l x hij
    have m2 := lt_r_mono l x hij
    rw [lt_bs, lt_bs]
    by_cases e : lt_r l x i < lt_r l x j
    · rw [cn_t (p := fun c => decide (lt_r l c i < lt_r l c j)) (decide_eq_true e), Nat.mul_add, Nat.mul_one]
      omega
    · rw [cn_f (p := fun c => decide (lt_r l c i < lt_r l c j)) (decide_eq_false e)]
      omega
theorem cq_df_le {i j : Nat} (hj : j ≤ N) : df_n l i j ≤ df_n l 0 N := cn_sub (fun c _ h => by
  have h1 := of_decide_eq_true h
  have h2 := lt_r_mono l c hj
  have h3 : lt_r l c 0 = 0 := rfl
  exact decide_eq_true (by omega))
theorem cq_tail {l1 l2 : Nat → Nat} {N1 N2 : Nat} (h : ∀ y, y < 8 → lt_r l1 y N1 ≤ lt_r l2 y N2) (t : Nat) : cn_c (fun y => decide (t < lt_r l1 y N1)) 8 ≤ cn_c (fun y => decide (t < lt_r l2 y N2)) 8 := cn_sub (fun y hy h1 => by
  have h2 := of_decide_eq_true h1
  have h3 := h y hy
  exact decide_eq_true (by omega))
end
end
section
/-! the law's own methods -/
theorem cq_nar : narrow .boolean (.int 1) = .int 1 := by decide
section
variable {l l' : Nat → Nat} {N : Nat}
theorem ob_alike {fn fp fr fd fc : Int32} {a1 a2 a3 a4 a5 a6 a7 a8 a9 a10 a11 a12 a13 a14 a15 a16 a17 a18 a19 a20 a21 a22 a23 a24 a25 a26 a27 : Nat → Int32} {gn gp gr gd gc : Int32} {b1 b2 b3 b4 b5 b6 b7 b8 b9 b10 b11 b12 b13 b14 b15 b16 b17 b18 b19 b20 b21 b22 b23 b24 b25 b26 b27 : Nat → Int32} {post : Int32 → St3 → Prop} {p2 p3 p4 : Int32} {e i j : Nat} (hu : ob_I l N (fn, fp, fr, fd, fc, a1, a2, a3, a4, a5, a6, a7, a8, a9, a10, a11, a12, a13, a14, a15, a16, a17, a18, a19, a20, a21, a22, a23, a24, a25, a26, a27)) (hv : ob_I l' N (gn, gp, gr, gd, gc, b1, b2, b3, b4, b5, b6, b7, b8, b9, b10, b11, b12, b13, b14, b15, b16, b17, b18, b19, b20, b21, b22, b23, b24, b25, b26, b27)) (hl : ∀ j, j < N → l' j + l j = 7) (h2 : p2 = nI e) (h3 : p3 = nI i) (h4 : p4 = nI j) (he : e < 7) (hij : i ≤ j) (hj : j ≤ N)
    (H : ∀ (fn fp fr fd fc : Int32) (a1 a2 a3 a4 a5 a6 a7 a8 a9 a10 a11 a12 a13 a14 a15 a16 a17 a18 a19 a20 a21 a22 a23 a24 a25 a26 a27 : Nat → Int32) (gn gp gr gd gc : Int32) (b1 b2 b3 b4 b5 b6 b7 b8 b9 b10 b11 b12 b13 b14 b15 b16 b17 b18 b19 b20 b21 b22 b23 b24 b25 b26 b27 : Nat → Int32), ob_I l N (fn, fp, fr, fd, fc, a1, a2, a3, a4, a5, a6, a7, a8, a9, a10, a11, a12, a13, a14, a15, a16, a17, a18, a19, a20, a21, a22, a23, a24, a25, a26, a27) → ob_I l' N (gn, gp, gr, gd, gc, b1, b2, b3, b4, b5, b6, b7, b8, b9, b10, b11, b12, b13, b14, b15, b16, b17, b18, b19, b20, b21, b22, b23, b24, b25, b26, b27) → post 1 (fn, fp, fr, fd, fc, a1, a2, a3, a4, a5, a6, a7, a8, a9, a10, a11, a12, a13, a14, a15, a16, a17, a18, a19, a20, a21, a22, a23, a24, a25, a26, a27, gn, gp, gr, gd, gc, b1, b2, b3, b4, b5, b6, b7, b8, b9, b10, b11, b12, b13, b14, b15, b16, b17, b18, b19, b20, b21, b22, b23, b24, b25, b26, b27)) : wpL_alike post (fn, fp, fr, fd, fc, a1, a2, a3, a4, a5, a6, a7, a8, a9, a10, a11, a12, a13, a14, a15, a16, a17, a18, a19, a20, a21, a22, a23, a24, a25, a26, a27, gn, gp, gr, gd, gc, b1, b2, b3, b4, b5, b6, b7, b8, b9, b10, b11, b12, b13, b14, b15, b16, b17, b18, b19, b20, b21, b22, b23, b24, b25, b26, b27) p2 p3 p4 := by
  subst h2 h3 h4
  have hN : N ≤ 200 := hu.1
  have e6 : 6 - nI e = nI (6 - e) := bw_sub (a := 6) rfl rfl (by omega)
  refine nm_r e6 (ob_runs hu ?_)
  rintro ⟨fn, fp, fr, fd, fc, a1, a2, a3, a4, a5, a6, a7, a8, a9, a10, a11, a12, a13, a14, a15, a16, a17, a18, a19, a20, a21, a22, a23, a24, a25, a26, a27⟩ hu1
  refine ob_runs hv ?_
  rintro ⟨gn, gp, gr, gd, gc, b1, b2, b3, b4, b5, b6, b7, b8, b9, b10, b11, b12, b13, b14, b15, b16, b17, b18, b19, b20, b21, b22, b23, b24, b25, b26, b27⟩ hv1
  refine br_t (by rw [cq_runs hl]) (ob_bits hu1 ?_)
  rintro M1 e1 ⟨fn, fp, fr, fd, fc, a1, a2, a3, a4, a5, a6, a7, a8, a9, a10, a11, a12, a13, a14, a15, a16, a17, a18, a19, a20, a21, a22, a23, a24, a25, a26, a27⟩ f1 _ hu2
  refine ob_bits hv1 ?_
  rintro M2 e2 ⟨gn, gp, gr, gd, gc, b1, b2, b3, b4, b5, b6, b7, b8, b9, b10, b11, b12, b13, b14, b15, b16, b17, b18, b19, b20, b21, b22, b23, b24, b25, b26, b27⟩ f2 _ hv2
  refine br_t (by rw [hf_uniq f2 f1 (cq_F hl)]) (ob_different hu2 rfl rfl hij hj ?_)
  rintro ⟨fn, fp, fr, fd, fc, a1, a2, a3, a4, a5, a6, a7, a8, a9, a10, a11, a12, a13, a14, a15, a16, a17, a18, a19, a20, a21, a22, a23, a24, a25, a26, a27⟩ hu3
  refine ob_different hv2 rfl rfl hij hj ?_
  rintro ⟨gn, gp, gr, gd, gc, b1, b2, b3, b4, b5, b6, b7, b8, b9, b10, b11, b12, b13, b14, b15, b16, b17, b18, b19, b20, b21, b22, b23, b24, b25, b26, b27⟩ hv3
  refine br_t (by rw [cq_df hl (by omega) hj]) ?_
  refine pk_loop (fun n x (s : St1 × St1) => wL_alike_55 post (nI e) (nI i) (nI j) (nI (6 - e)) n 1 (nI x) s.1.1 s.1.2.1 s.1.2.2.1 s.1.2.2.2.1 s.1.2.2.2.2.1 s.1.2.2.2.2.2.1 s.1.2.2.2.2.2.2.1 s.1.2.2.2.2.2.2.2.1 s.1.2.2.2.2.2.2.2.2.1 s.1.2.2.2.2.2.2.2.2.2.1 s.1.2.2.2.2.2.2.2.2.2.2.1 s.1.2.2.2.2.2.2.2.2.2.2.2.1 s.1.2.2.2.2.2.2.2.2.2.2.2.2.1 s.1.2.2.2.2.2.2.2.2.2.2.2.2.2.1 s.1.2.2.2.2.2.2.2.2.2.2.2.2.2.2.1 s.1.2.2.2.2.2.2.2.2.2.2.2.2.2.2.2.1 s.1.2.2.2.2.2.2.2.2.2.2.2.2.2.2.2.2.1 s.1.2.2.2.2.2.2.2.2.2.2.2.2.2.2.2.2.2.1 s.1.2.2.2.2.2.2.2.2.2.2.2.2.2.2.2.2.2.2.1 s.1.2.2.2.2.2.2.2.2.2.2.2.2.2.2.2.2.2.2.2.1 s.1.2.2.2.2.2.2.2.2.2.2.2.2.2.2.2.2.2.2.2.2.1 s.1.2.2.2.2.2.2.2.2.2.2.2.2.2.2.2.2.2.2.2.2.2.1 s.1.2.2.2.2.2.2.2.2.2.2.2.2.2.2.2.2.2.2.2.2.2.2.1 s.1.2.2.2.2.2.2.2.2.2.2.2.2.2.2.2.2.2.2.2.2.2.2.2.1 s.1.2.2.2.2.2.2.2.2.2.2.2.2.2.2.2.2.2.2.2.2.2.2.2.2.1 s.1.2.2.2.2.2.2.2.2.2.2.2.2.2.2.2.2.2.2.2.2.2.2.2.2.2.1 s.1.2.2.2.2.2.2.2.2.2.2.2.2.2.2.2.2.2.2.2.2.2.2.2.2.2.2.1 s.1.2.2.2.2.2.2.2.2.2.2.2.2.2.2.2.2.2.2.2.2.2.2.2.2.2.2.2.1 s.1.2.2.2.2.2.2.2.2.2.2.2.2.2.2.2.2.2.2.2.2.2.2.2.2.2.2.2.2.1 s.1.2.2.2.2.2.2.2.2.2.2.2.2.2.2.2.2.2.2.2.2.2.2.2.2.2.2.2.2.2.1 s.1.2.2.2.2.2.2.2.2.2.2.2.2.2.2.2.2.2.2.2.2.2.2.2.2.2.2.2.2.2.2.1 s.1.2.2.2.2.2.2.2.2.2.2.2.2.2.2.2.2.2.2.2.2.2.2.2.2.2.2.2.2.2.2.2 s.2.1 s.2.2.1 s.2.2.2.1 s.2.2.2.2.1 s.2.2.2.2.2.1 s.2.2.2.2.2.2.1 s.2.2.2.2.2.2.2.1 s.2.2.2.2.2.2.2.2.1 s.2.2.2.2.2.2.2.2.2.1 s.2.2.2.2.2.2.2.2.2.2.1 s.2.2.2.2.2.2.2.2.2.2.2.1 s.2.2.2.2.2.2.2.2.2.2.2.2.1 s.2.2.2.2.2.2.2.2.2.2.2.2.2.1 s.2.2.2.2.2.2.2.2.2.2.2.2.2.2.1 s.2.2.2.2.2.2.2.2.2.2.2.2.2.2.2.1 s.2.2.2.2.2.2.2.2.2.2.2.2.2.2.2.2.1 s.2.2.2.2.2.2.2.2.2.2.2.2.2.2.2.2.2.1 s.2.2.2.2.2.2.2.2.2.2.2.2.2.2.2.2.2.2.1 s.2.2.2.2.2.2.2.2.2.2.2.2.2.2.2.2.2.2.2.1 s.2.2.2.2.2.2.2.2.2.2.2.2.2.2.2.2.2.2.2.2.1 s.2.2.2.2.2.2.2.2.2.2.2.2.2.2.2.2.2.2.2.2.2.1 s.2.2.2.2.2.2.2.2.2.2.2.2.2.2.2.2.2.2.2.2.2.2.1 s.2.2.2.2.2.2.2.2.2.2.2.2.2.2.2.2.2.2.2.2.2.2.2.1 s.2.2.2.2.2.2.2.2.2.2.2.2.2.2.2.2.2.2.2.2.2.2.2.2.1 s.2.2.2.2.2.2.2.2.2.2.2.2.2.2.2.2.2.2.2.2.2.2.2.2.2.1 s.2.2.2.2.2.2.2.2.2.2.2.2.2.2.2.2.2.2.2.2.2.2.2.2.2.2.1 s.2.2.2.2.2.2.2.2.2.2.2.2.2.2.2.2.2.2.2.2.2.2.2.2.2.2.2.1 s.2.2.2.2.2.2.2.2.2.2.2.2.2.2.2.2.2.2.2.2.2.2.2.2.2.2.2.2.1 s.2.2.2.2.2.2.2.2.2.2.2.2.2.2.2.2.2.2.2.2.2.2.2.2.2.2.2.2.2.1 s.2.2.2.2.2.2.2.2.2.2.2.2.2.2.2.2.2.2.2.2.2.2.2.2.2.2.2.2.2.2.1 s.2.2.2.2.2.2.2.2.2.2.2.2.2.2.2.2.2.2.2.2.2.2.2.2.2.2.2.2.2.2.2.1 s.2.2.2.2.2.2.2.2.2.2.2.2.2.2.2.2.2.2.2.2.2.2.2.2.2.2.2.2.2.2.2.2) (fun _ s => ob_I l N s.1 ∧ ob_I l' N s.2) 8 0 ((fn, fp, fr, fd, fc, a1, a2, a3, a4, a5, a6, a7, a8, a9, a10, a11, a12, a13, a14, a15, a16, a17, a18, a19, a20, a21, a22, a23, a24, a25, a26, a27), (gn, gp, gr, gd, gc, b1, b2, b3, b4, b5, b6, b7, b8, b9, b10, b11, b12, b13, b14, b15, b16, b17, b18, b19, b20, b21, b22, b23, b24, b25, b26, b27)) (by omega) ⟨hu3, hv3⟩ ?_ ?_
  · rintro n ⟨⟨fn, fp, fr, fd, fc, a1, a2, a3, a4, a5, a6, a7, a8, a9, a10, a11, a12, a13, a14, a15, a16, a17, a18, a19, a20, a21, a22, a23, a24, a25, a26, a27⟩, ⟨gn, gp, gr, gd, gc, b1, b2, b3, b4, b5, b6, b7, b8, b9, b10, b11, b12, b13, b14, b15, b16, b17, b18, b19, b20, b21, b22, b23, b24, b25, b26, b27⟩⟩ ⟨hu, hv⟩
    try dsimp only at hu hv
    refine pk_le 8 8 (fun _ => ?_) (fun z => absurd z (by omega))
    refine pk_loop (fun m k (s : St1 × St1) => wL_alike_187 post (nI e) (nI i) (nI j) (nI (6 - e)) m 1 (nI k) s.1.1 s.1.2.1 s.1.2.2.1 s.1.2.2.2.1 s.1.2.2.2.2.1 s.1.2.2.2.2.2.1 s.1.2.2.2.2.2.2.1 s.1.2.2.2.2.2.2.2.1 s.1.2.2.2.2.2.2.2.2.1 s.1.2.2.2.2.2.2.2.2.2.1 s.1.2.2.2.2.2.2.2.2.2.2.1 s.1.2.2.2.2.2.2.2.2.2.2.2.1 s.1.2.2.2.2.2.2.2.2.2.2.2.2.1 s.1.2.2.2.2.2.2.2.2.2.2.2.2.2.1 s.1.2.2.2.2.2.2.2.2.2.2.2.2.2.2.1 s.1.2.2.2.2.2.2.2.2.2.2.2.2.2.2.2.1 s.1.2.2.2.2.2.2.2.2.2.2.2.2.2.2.2.2.1 s.1.2.2.2.2.2.2.2.2.2.2.2.2.2.2.2.2.2.1 s.1.2.2.2.2.2.2.2.2.2.2.2.2.2.2.2.2.2.2.1 s.1.2.2.2.2.2.2.2.2.2.2.2.2.2.2.2.2.2.2.2.1 s.1.2.2.2.2.2.2.2.2.2.2.2.2.2.2.2.2.2.2.2.2.1 s.1.2.2.2.2.2.2.2.2.2.2.2.2.2.2.2.2.2.2.2.2.2.1 s.1.2.2.2.2.2.2.2.2.2.2.2.2.2.2.2.2.2.2.2.2.2.2.1 s.1.2.2.2.2.2.2.2.2.2.2.2.2.2.2.2.2.2.2.2.2.2.2.2.1 s.1.2.2.2.2.2.2.2.2.2.2.2.2.2.2.2.2.2.2.2.2.2.2.2.2.1 s.1.2.2.2.2.2.2.2.2.2.2.2.2.2.2.2.2.2.2.2.2.2.2.2.2.2.1 s.1.2.2.2.2.2.2.2.2.2.2.2.2.2.2.2.2.2.2.2.2.2.2.2.2.2.2.1 s.1.2.2.2.2.2.2.2.2.2.2.2.2.2.2.2.2.2.2.2.2.2.2.2.2.2.2.2.1 s.1.2.2.2.2.2.2.2.2.2.2.2.2.2.2.2.2.2.2.2.2.2.2.2.2.2.2.2.2.1 s.1.2.2.2.2.2.2.2.2.2.2.2.2.2.2.2.2.2.2.2.2.2.2.2.2.2.2.2.2.2.1 s.1.2.2.2.2.2.2.2.2.2.2.2.2.2.2.2.2.2.2.2.2.2.2.2.2.2.2.2.2.2.2.1 s.1.2.2.2.2.2.2.2.2.2.2.2.2.2.2.2.2.2.2.2.2.2.2.2.2.2.2.2.2.2.2.2 s.2.1 s.2.2.1 s.2.2.2.1 s.2.2.2.2.1 s.2.2.2.2.2.1 s.2.2.2.2.2.2.1 s.2.2.2.2.2.2.2.1 s.2.2.2.2.2.2.2.2.1 s.2.2.2.2.2.2.2.2.2.1 s.2.2.2.2.2.2.2.2.2.2.1 s.2.2.2.2.2.2.2.2.2.2.2.1 s.2.2.2.2.2.2.2.2.2.2.2.2.1 s.2.2.2.2.2.2.2.2.2.2.2.2.2.1 s.2.2.2.2.2.2.2.2.2.2.2.2.2.2.1 s.2.2.2.2.2.2.2.2.2.2.2.2.2.2.2.1 s.2.2.2.2.2.2.2.2.2.2.2.2.2.2.2.2.1 s.2.2.2.2.2.2.2.2.2.2.2.2.2.2.2.2.2.1 s.2.2.2.2.2.2.2.2.2.2.2.2.2.2.2.2.2.2.1 s.2.2.2.2.2.2.2.2.2.2.2.2.2.2.2.2.2.2.2.1 s.2.2.2.2.2.2.2.2.2.2.2.2.2.2.2.2.2.2.2.2.1 s.2.2.2.2.2.2.2.2.2.2.2.2.2.2.2.2.2.2.2.2.2.1 s.2.2.2.2.2.2.2.2.2.2.2.2.2.2.2.2.2.2.2.2.2.2.1 s.2.2.2.2.2.2.2.2.2.2.2.2.2.2.2.2.2.2.2.2.2.2.2.1 s.2.2.2.2.2.2.2.2.2.2.2.2.2.2.2.2.2.2.2.2.2.2.2.2.1 s.2.2.2.2.2.2.2.2.2.2.2.2.2.2.2.2.2.2.2.2.2.2.2.2.2.1 s.2.2.2.2.2.2.2.2.2.2.2.2.2.2.2.2.2.2.2.2.2.2.2.2.2.2.1 s.2.2.2.2.2.2.2.2.2.2.2.2.2.2.2.2.2.2.2.2.2.2.2.2.2.2.2.1 s.2.2.2.2.2.2.2.2.2.2.2.2.2.2.2.2.2.2.2.2.2.2.2.2.2.2.2.2.1 s.2.2.2.2.2.2.2.2.2.2.2.2.2.2.2.2.2.2.2.2.2.2.2.2.2.2.2.2.2.1 s.2.2.2.2.2.2.2.2.2.2.2.2.2.2.2.2.2.2.2.2.2.2.2.2.2.2.2.2.2.2.1 s.2.2.2.2.2.2.2.2.2.2.2.2.2.2.2.2.2.2.2.2.2.2.2.2.2.2.2.2.2.2.2.1 s.2.2.2.2.2.2.2.2.2.2.2.2.2.2.2.2.2.2.2.2.2.2.2.2.2.2.2.2.2.2.2.2) (fun k s => i ≤ k ∧ ob_I l N s.1 ∧ ob_I l' N s.2) j i ((fn, fp, fr, fd, fc, a1, a2, a3, a4, a5, a6, a7, a8, a9, a10, a11, a12, a13, a14, a15, a16, a17, a18, a19, a20, a21, a22, a23, a24, a25, a26, a27), (gn, gp, gr, gd, gc, b1, b2, b3, b4, b5, b6, b7, b8, b9, b10, b11, b12, b13, b14, b15, b16, b17, b18, b19, b20, b21, b22, b23, b24, b25, b26, b27)) hij ⟨Nat.le_refl i, hu, hv⟩ ?_ ?_
    · rintro m ⟨⟨fn, fp, fr, fd, fc, a1, a2, a3, a4, a5, a6, a7, a8, a9, a10, a11, a12, a13, a14, a15, a16, a17, a18, a19, a20, a21, a22, a23, a24, a25, a26, a27⟩, ⟨gn, gp, gr, gd, gc, b1, b2, b3, b4, b5, b6, b7, b8, b9, b10, b11, b12, b13, b14, b15, b16, b17, b18, b19, b20, b21, b22, b23, b24, b25, b26, b27⟩⟩ ⟨_, hu, hv⟩
      exact pk_le j j (fun _ => ⟨cq_nar, H _ _ _ _ _ _ _ _ _ _ _ _ _ _ _ _ _ _ _ _ _ _ _ _ _ _ _ _ _ _ _ _ _ _ _ _ _ _ _ _ _ _ _ _ _ _ _ _ _ _ _ _ _ _ _ _ _ _ _ _ _ _ _ _ hu hv⟩) (fun z => absurd z (by omega))
    · rintro m k ⟨⟨fn, fp, fr, fd, fc, a1, a2, a3, a4, a5, a6, a7, a8, a9, a10, a11, a12, a13, a14, a15, a16, a17, a18, a19, a20, a21, a22, a23, a24, a25, a26, a27⟩, ⟨gn, gp, gr, gd, gc, b1, b2, b3, b4, b5, b6, b7, b8, b9, b10, b11, b12, b13, b14, b15, b16, b17, b18, b19, b20, b21, b22, b23, b24, b25, b26, b27⟩⟩ hk ⟨hik, hu, hv⟩ ih
      try dsimp only at hu hv
      have hlk := hl k (by omega)
      refine pk_le j k (fun z => absurd z (by omega)) (fun _ => br_f ob_10 (ob_at hu rfl rfl he (by omega) ?_))
      rintro ⟨fn, fp, fr, fd, fc, a1, a2, a3, a4, a5, a6, a7, a8, a9, a10, a11, a12, a13, a14, a15, a16, a17, a18, a19, a20, a21, a22, a23, a24, a25, a26, a27⟩ hu1
      refine ob_at hv rfl rfl (by omega) (by omega) ?_
      rintro ⟨gn, gp, gr, gd, gc, b1, b2, b3, b4, b5, b6, b7, b8, b9, b10, b11, b12, b13, b14, b15, b16, b17, b18, b19, b20, b21, b22, b23, b24, b25, b26, b27⟩ hv1
      refine br_t (bw_sub (a := 7) rfl rfl (by omega)).symm (ob_ordered (k := k - i) hu1 rfl rfl rfl (pk_sub hik) he hij hj (by omega) ?_)
      rintro c ⟨fn, fp, fr, fd, fc, a1, a2, a3, a4, a5, a6, a7, a8, a9, a10, a11, a12, a13, a14, a15, a16, a17, a18, a19, a20, a21, a22, a23, a24, a25, a26, a27⟩ hc hu2
      refine ob_ordered (k := j - 1 - k) hv1 rfl rfl rfl (bw_sub (bw_sub (b := 1) (c := j - 1) rfl rfl (by omega)) rfl (by omega)) (by omega) hij hj (by omega) ?_
      rintro c' ⟨gn, gp, gr, gd, gc, b1, b2, b3, b4, b5, b6, b7, b8, b9, b10, b11, b12, b13, b14, b15, b16, b17, b18, b19, b20, b21, b22, b23, b24, b25, b26, b27⟩ hc' hv2
      have hcc := cq_or hl hij hj (by omega) hc hc'
      exact br_t (bw_sub (a := 7) rfl rfl (by omega)).symm (nm_r (nI_1 k) (ih ((fn, fp, fr, fd, fc, a1, a2, a3, a4, a5, a6, a7, a8, a9, a10, a11, a12, a13, a14, a15, a16, a17, a18, a19, a20, a21, a22, a23, a24, a25, a26, a27), (gn, gp, gr, gd, gc, b1, b2, b3, b4, b5, b6, b7, b8, b9, b10, b11, b12, b13, b14, b15, b16, b17, b18, b19, b20, b21, b22, b23, b24, b25, b26, b27)) ⟨by omega, hu2, hv2⟩))
  · rintro n x ⟨⟨fn, fp, fr, fd, fc, a1, a2, a3, a4, a5, a6, a7, a8, a9, a10, a11, a12, a13, a14, a15, a16, a17, a18, a19, a20, a21, a22, a23, a24, a25, a26, a27⟩, ⟨gn, gp, gr, gd, gc, b1, b2, b3, b4, b5, b6, b7, b8, b9, b10, b11, b12, b13, b14, b15, b16, b17, b18, b19, b20, b21, b22, b23, b24, b25, b26, b27⟩⟩ hx ⟨hu, hv⟩ ih
    try dsimp only at hu hv
    have e7 : 7 - nI x = nI (7 - x) := bw_sub (a := 7) rfl rfl (by omega)
    have e8 : 8 - nI x = nI (8 - x) := bw_sub (a := 8) rfl rfl (by omega)
    refine pk_le 8 x (fun z => absurd z (by omega)) (fun _ => br_f ob_10 (ob_rank hu rfl rfl rfl he hx (by omega) ?_))
    rintro ⟨fn, fp, fr, fd, fc, a1, a2, a3, a4, a5, a6, a7, a8, a9, a10, a11, a12, a13, a14, a15, a16, a17, a18, a19, a20, a21, a22, a23, a24, a25, a26, a27⟩ hu1
    refine ob_rank hv rfl e7 rfl (by omega) (by omega) (by omega) ?_
    rintro ⟨gn, gp, gr, gd, gc, b1, b2, b3, b4, b5, b6, b7, b8, b9, b10, b11, b12, b13, b14, b15, b16, b17, b18, b19, b20, b21, b22, b23, b24, b25, b26, b27⟩ hv1
    refine br_t (by rw [cq_r hl hx (by omega)]) (ob_select hu1 rfl rfl (bw_a7 (by omega)) he hx (by omega) ?_)
    rintro r ⟨fn, fp, fr, fd, fc, a1, a2, a3, a4, a5, a6, a7, a8, a9, a10, a11, a12, a13, a14, a15, a16, a17, a18, a19, a20, a21, a22, a23, a24, a25, a26, a27⟩ hr hu2
    refine ob_select hv1 rfl e7 (bw_a7 (by omega)) (by omega) (by omega) (by omega) ?_
    rintro r' ⟨gn, gp, gr, gd, gc, b1, b2, b3, b4, b5, b6, b7, b8, b9, b10, b11, b12, b13, b14, b15, b16, b17, b18, b19, b20, b21, b22, b23, b24, b25, b26, b27⟩ hr' hv2
    refine br_t (cq_se hl hx hr hr') (ob_below hu2 rfl rfl rfl rfl he (by omega) hij hj ?_)
    rintro ⟨fn, fp, fr, fd, fc, a1, a2, a3, a4, a5, a6, a7, a8, a9, a10, a11, a12, a13, a14, a15, a16, a17, a18, a19, a20, a21, a22, a23, a24, a25, a26, a27⟩ hu3
    refine ob_below hv2 rfl rfl rfl e8 (by omega) (by omega) hij hj ?_
    rintro ⟨gn, gp, gr, gd, gc, b1, b2, b3, b4, b5, b6, b7, b8, b9, b10, b11, b12, b13, b14, b15, b16, b17, b18, b19, b20, b21, b22, b23, b24, b25, b26, b27⟩ hv3
    refine br_t ?_ (ob_next hu3 rfl rfl hx (by omega) ?_)
    · have a1 := cq_b hl (show x ≤ 8 by omega) hj
      have a2 := cq_b hl (show x ≤ 8 by omega) (show i ≤ N by omega)
      have m1 := lt_b_mono l x hij
      have m2 := lt_b_mono l' (8 - x) hij
      exact (bw_sub (pk_sub hij) rfl (by omega)).symm
    rintro r2 ⟨fn, fp, fr, fd, fc, a1, a2, a3, a4, a5, a6, a7, a8, a9, a10, a11, a12, a13, a14, a15, a16, a17, a18, a19, a20, a21, a22, a23, a24, a25, a26, a27⟩ hr2 hu4
    refine ob_next hv3 e7 rfl (by omega) (by omega) ?_
    rintro r2' ⟨gn, gp, gr, gd, gc, b1, b2, b3, b4, b5, b6, b7, b8, b9, b10, b11, b12, b13, b14, b15, b16, b17, b18, b19, b20, b21, b22, b23, b24, b25, b26, b27⟩ hr2' hv4
    rw [cq_r hl hx (show i ≤ N by omega)] at hr2'
    exact br_t (cq_se hl hx hr2 hr2') (nm_r (nI_1 x) (ih ((fn, fp, fr, fd, fc, a1, a2, a3, a4, a5, a6, a7, a8, a9, a10, a11, a12, a13, a14, a15, a16, a17, a18, a19, a20, a21, a22, a23, a24, a25, a26, a27), (gn, gp, gr, gd, gc, b1, b2, b3, b4, b5, b6, b7, b8, b9, b10, b11, b12, b13, b14, b15, b16, b17, b18, b19, b20, b21, b22, b23, b24, b25, b26, b27)) ⟨hu4, hv4⟩))
theorem ob_parted {post : Int32 → St1 → Prop} {u : St1} {p1 p2 p3 p4 : Int32} {e i j : Nat} (hu : ob_I l N u) (h1 : p1 = nI e) (h2 : p2 = nI i) (h3 : p3 = nI j) (h4 : p4 = nI N) (he : e < 7) (hij : i ≤ j) (hj : j ≤ N) (H : ∀ u', ob_I l N u' → post 1 u') : wpL_parted post u p1 p2 p3 p4 := by
  subst h1 h2 h3 h4
  obtain ⟨fn, fp, fr, fd, fc, a1, a2, a3, a4, a5, a6, a7, a8, a9, a10, a11, a12, a13, a14, a15, a16, a17, a18, a19, a20, a21, a22, a23, a24, a25, a26, a27⟩ := u
  have hN : N ≤ 200 := hu.1
  have hl8 : ∀ j, l j < 8 := hu.2.1
  have e6 : 6 - nI e = nI (6 - e) := bw_sub (a := 6) rfl rfl (by omega)
  have l0 : ∀ c, lt_b l c 0 = 0 := fun _ => rfl
  have fin151 : ∀ (fn fp fr fd fc : Int32) (a1 a2 a3 a4 a5 a6 a7 a8 a9 a10 a11 a12 a13 a14 a15 a16 a17 a18 a19 a20 a21 a22 a23 a24 a25 a26 a27 : Nat → Int32), ob_I l N (fn, fp, fr, fd, fc, a1, a2, a3, a4, a5, a6, a7, a8, a9, a10, a11, a12, a13, a14, a15, a16, a17, a18, a19, a20, a21, a22, a23, a24, a25, a26, a27) → wL_parted_151 post (nI N) (nI (df_n l i j)) fn fp fr fd fc a1 a2 a3 a4 a5 a6 a7 a8 a9 a10 a11 a12 a13 a14 a15 a16 a17 a18 a19 a20 a21 a22 a23 a24 a25 a26 a27 := by
    intro fn fp fr fd fc a1 a2 a3 a4 a5 a6 a7 a8 a9 a10 a11 a12 a13 a14 a15 a16 a17 a18 a19 a20 a21 a22 a23 a24 a25 a26 a27 hu
    refine ob_different (i := 0) hu rfl rfl (by omega) (Nat.le_refl N) ?_
    rintro ⟨fn, fp, fr, fd, fc, a1, a2, a3, a4, a5, a6, a7, a8, a9, a10, a11, a12, a13, a14, a15, a16, a17, a18, a19, a20, a21, a22, a23, a24, a25, a26, a27⟩ hu1
    have z := cq_df_le (l := l) (i := i) hj
    have z2 : df_n l 0 N ≤ 8 := cn_le _ 8
    exact br_f (nI_nlt z (by omega)) (H _ hu1)
  have fin99 : ∀ (fn fp fr fd fc : Int32) (a1 a2 a3 a4 a5 a6 a7 a8 a9 a10 a11 a12 a13 a14 a15 a16 a17 a18 a19 a20 a21 a22 a23 a24 a25 a26 a27 : Nat → Int32) (b : Nat), ob_I l N (fn, fp, fr, fd, fc, a1, a2, a3, a4, a5, a6, a7, a8, a9, a10, a11, a12, a13, a14, a15, a16, a17, a18, a19, a20, a21, a22, a23, a24, a25, a26, a27) → b < 8 → (i < j → ∀ c, c < 8 → lt_r l c j - lt_r l c i ≤ lt_r l b j - lt_r l b i) → wL_parted_99 post (nI e) (nI i) (nI j) (nI N) (nI N) (nI b) fn fp fr fd fc a1 a2 a3 a4 a5 a6 a7 a8 a9 a10 a11 a12 a13 a14 a15 a16 a17 a18 a19 a20 a21 a22 a23 a24 a25 a26 a27 := by
    intro fn fp fr fd fc a1 a2 a3 a4 a5 a6 a7 a8 a9 a10 a11 a12 a13 a14 a15 a16 a17 a18 a19 a20 a21 a22 a23 a24 a25 a26 a27 b hu hb hM
    refine ob_rank hu rfl rfl rfl he hb hj ?_
    rintro ⟨fn, fp, fr, fd, fc, a1, a2, a3, a4, a5, a6, a7, a8, a9, a10, a11, a12, a13, a14, a15, a16, a17, a18, a19, a20, a21, a22, a23, a24, a25, a26, a27⟩ hu1
    refine ob_rank hu1 rfl rfl rfl he hb (by omega) ?_
    rintro ⟨fn, fp, fr, fd, fc, a1, a2, a3, a4, a5, a6, a7, a8, a9, a10, a11, a12, a13, a14, a15, a16, a17, a18, a19, a20, a21, a22, a23, a24, a25, a26, a27⟩ hu2
    refine nm_r (pk_sub (lt_r_mono l b hij)) (ob_different hu2 rfl rfl hij hj ?_)
    rintro ⟨fn, fp, fr, fd, fc, a1, a2, a3, a4, a5, a6, a7, a8, a9, a10, a11, a12, a13, a14, a15, a16, a17, a18, a19, a20, a21, a22, a23, a24, a25, a26, a27⟩ hu3
    refine br_t rfl (pk_eq i j (fun _ => fin151 _ _ _ _ _ _ _ _ _ _ _ _ _ _ _ _ _ _ _ _ _ _ _ _ _ _ _ _ _ _ _ _ hu3) (fun hne => ?_))
    have z := cq_most (l := l) hij (hM (by omega)) 8 (Nat.le_refl 8)
    rw [lt_b8 hl8, lt_b8 hl8] at z
    have z2 : df_n l i j ≤ 8 := cn_le _ 8
    have z3 := lt_r_le l b j
    have z4 : (lt_r l b j - lt_r l b i) * df_n l i j ≤ 200 * 8 := Nat.mul_le_mul (by omega) z2
    refine br_f ?_ (fin151 _ _ _ _ _ _ _ _ _ _ _ _ _ _ _ _ _ _ _ _ _ _ _ _ _ _ _ _ _ _ _ _ hu3)
    rw [pk_mul, pk_sub hij]
    exact nI_nlt z (by omega)
  refine pk_loop (fun n x (s : Nat × St1) => wL_parted_6 post (nI e) (nI i) (nI j) (nI N) n (nI s.1) (nI x) s.2.1 s.2.2.1 s.2.2.2.1 s.2.2.2.2.1 s.2.2.2.2.2.1 s.2.2.2.2.2.2.1 s.2.2.2.2.2.2.2.1 s.2.2.2.2.2.2.2.2.1 s.2.2.2.2.2.2.2.2.2.1 s.2.2.2.2.2.2.2.2.2.2.1 s.2.2.2.2.2.2.2.2.2.2.2.1 s.2.2.2.2.2.2.2.2.2.2.2.2.1 s.2.2.2.2.2.2.2.2.2.2.2.2.2.1 s.2.2.2.2.2.2.2.2.2.2.2.2.2.2.1 s.2.2.2.2.2.2.2.2.2.2.2.2.2.2.2.1 s.2.2.2.2.2.2.2.2.2.2.2.2.2.2.2.2.1 s.2.2.2.2.2.2.2.2.2.2.2.2.2.2.2.2.2.1 s.2.2.2.2.2.2.2.2.2.2.2.2.2.2.2.2.2.2.1 s.2.2.2.2.2.2.2.2.2.2.2.2.2.2.2.2.2.2.2.1 s.2.2.2.2.2.2.2.2.2.2.2.2.2.2.2.2.2.2.2.2.1 s.2.2.2.2.2.2.2.2.2.2.2.2.2.2.2.2.2.2.2.2.2.1 s.2.2.2.2.2.2.2.2.2.2.2.2.2.2.2.2.2.2.2.2.2.2.1 s.2.2.2.2.2.2.2.2.2.2.2.2.2.2.2.2.2.2.2.2.2.2.2.1 s.2.2.2.2.2.2.2.2.2.2.2.2.2.2.2.2.2.2.2.2.2.2.2.2.1 s.2.2.2.2.2.2.2.2.2.2.2.2.2.2.2.2.2.2.2.2.2.2.2.2.2.1 s.2.2.2.2.2.2.2.2.2.2.2.2.2.2.2.2.2.2.2.2.2.2.2.2.2.2.1 s.2.2.2.2.2.2.2.2.2.2.2.2.2.2.2.2.2.2.2.2.2.2.2.2.2.2.2.1 s.2.2.2.2.2.2.2.2.2.2.2.2.2.2.2.2.2.2.2.2.2.2.2.2.2.2.2.2.1 s.2.2.2.2.2.2.2.2.2.2.2.2.2.2.2.2.2.2.2.2.2.2.2.2.2.2.2.2.2.1 s.2.2.2.2.2.2.2.2.2.2.2.2.2.2.2.2.2.2.2.2.2.2.2.2.2.2.2.2.2.2.1 s.2.2.2.2.2.2.2.2.2.2.2.2.2.2.2.2.2.2.2.2.2.2.2.2.2.2.2.2.2.2.2.1 s.2.2.2.2.2.2.2.2.2.2.2.2.2.2.2.2.2.2.2.2.2.2.2.2.2.2.2.2.2.2.2.2) (fun x s => ob_I l N s.2 ∧ (0 < x → s.1 = lt_b l (x - 1) N)) 9 0 (0, (fn, fp, fr, fd, fc, a1, a2, a3, a4, a5, a6, a7, a8, a9, a10, a11, a12, a13, a14, a15, a16, a17, a18, a19, a20, a21, a22, a23, a24, a25, a26, a27)) (by omega) ⟨hu, fun z => absurd z (by omega)⟩ ?_ ?_
  · rintro n ⟨a, ⟨fn, fp, fr, fd, fc, a1, a2, a3, a4, a5, a6, a7, a8, a9, a10, a11, a12, a13, a14, a15, a16, a17, a18, a19, a20, a21, a22, a23, a24, a25, a26, a27⟩⟩ ⟨hu, ha⟩
    try dsimp only at hu ha
    have ha' := ha (by omega)
    rw [lt_b8 hl8] at ha'
    subst ha'
    refine pk_le 9 9 (fun _ => pk_le j i (fun z => fin99 _ _ _ _ _ _ _ _ _ _ _ _ _ _ _ _ _ _ _ _ _ _ _ _ _ _ _ _ _ _ _ _ 0 hu (by omega) (fun z2 => absurd z2 (by omega))) (fun z => ob_most hu rfl rfl rfl he z hj ?_)) (fun z => absurd z (by omega))
    rintro b ⟨fn, fp, fr, fd, fc, a1, a2, a3, a4, a5, a6, a7, a8, a9, a10, a11, a12, a13, a14, a15, a16, a17, a18, a19, a20, a21, a22, a23, a24, a25, a26, a27⟩ hb hM hu1
    exact fin99 _ _ _ _ _ _ _ _ _ _ _ _ _ _ _ _ _ _ _ _ _ _ _ _ _ _ _ _ _ _ _ _ b hu1 hb (fun _ => hM)
  · rintro n x ⟨a, ⟨fn, fp, fr, fd, fc, a1, a2, a3, a4, a5, a6, a7, a8, a9, a10, a11, a12, a13, a14, a15, a16, a17, a18, a19, a20, a21, a22, a23, a24, a25, a26, a27⟩⟩ hx ⟨hu, ha⟩ ih
    try dsimp only at hu
    refine pk_le 9 x (fun z => absurd z (by omega)) (fun _ => ob_below (i := 0) hu rfl rfl rfl rfl he (by omega) (by omega) (by omega) ?_)
    rintro ⟨fn, fp, fr, fd, fc, a1, a2, a3, a4, a5, a6, a7, a8, a9, a10, a11, a12, a13, a14, a15, a16, a17, a18, a19, a20, a21, a22, a23, a24, a25, a26, a27⟩ hu1
    refine ob_below hu1 rfl rfl rfl rfl he (by omega) hij hj ?_
    rintro ⟨fn, fp, fr, fd, fc, a1, a2, a3, a4, a5, a6, a7, a8, a9, a10, a11, a12, a13, a14, a15, a16, a17, a18, a19, a20, a21, a22, a23, a24, a25, a26, a27⟩ hu2
    refine ob_below hu2 rfl rfl rfl rfl he (by omega) hj (Nat.le_refl N) ?_
    rintro ⟨fn, fp, fr, fd, fc, a1, a2, a3, a4, a5, a6, a7, a8, a9, a10, a11, a12, a13, a14, a15, a16, a17, a18, a19, a20, a21, a22, a23, a24, a25, a26, a27⟩ hu3
    refine ob_below (i := 0) hu3 e6 rfl rfl rfl (by omega) (by omega) (by omega) (Nat.le_refl N) ?_
    rintro ⟨fn, fp, fr, fd, fc, a1, a2, a3, a4, a5, a6, a7, a8, a9, a10, a11, a12, a13, a14, a15, a16, a17, a18, a19, a20, a21, a22, a23, a24, a25, a26, a27⟩ hu4
    have m1 := lt_b_mono l x hij
    have m2 := lt_b_mono l x hj
    rw [l0, Nat.sub_zero, Nat.sub_zero]
    refine br_t (bw_add (bw_add rfl rfl rfl) rfl (by omega)) (nm_r (nI_1 x) (ih (lt_b l x N, (fn, fp, fr, fd, fc, a1, a2, a3, a4, a5, a6, a7, a8, a9, a10, a11, a12, a13, a14, a15, a16, a17, a18, a19, a20, a21, a22, a23, a24, a25, a26, a27)) ⟨hu4, fun _ => ?_⟩))
    rw [Nat.add_sub_cancel]
end
end
section
/-! the law -/
section
variable {fn fp fr fd fc : Int32} {a1 a2 a3 a4 a5 a6 a7 a8 a9 a10 a11 a12 a13 a14 a15 a16 a17 a18 a19 a20 a21 a22 a23 a24 a25 a26 a27 : Nat → Int32} {gn gp gr gd gc : Int32} {b1 b2 b3 b4 b5 b6 b7 b8 b9 b10 b11 b12 b13 b14 b15 b16 b17 b18 b19 b20 b21 b22 b23 b24 b25 b26 b27 : Nat → Int32} {l l' : Nat → Nat} {N : Nat}
theorem ob_316 {J18 : Int32 → Int32 → Int32 → Int32 → Int32 → Int32 → (Nat → Int32) → (Nat → Int32) → (Nat → Int32) → (Nat → Int32) → (Nat → Int32) → (Nat → Int32) → (Nat → Int32) → (Nat → Int32) → (Nat → Int32) → (Nat → Int32) → (Nat → Int32) → (Nat → Int32) → (Nat → Int32) → (Nat → Int32) → (Nat → Int32) → (Nat → Int32) → (Nat → Int32) → (Nat → Int32) → (Nat → Int32) → (Nat → Int32) → (Nat → Int32) → (Nat → Int32) → (Nat → Int32) → (Nat → Int32) → (Nat → Int32) → (Nat → Int32) → (Nat → Int32) → Int32 → Int32 → Int32 → Int32 → Int32 → (Nat → Int32) → (Nat → Int32) → (Nat → Int32) → (Nat → Int32) → (Nat → Int32) → (Nat → Int32) → (Nat → Int32) → (Nat → Int32) → (Nat → Int32) → (Nat → Int32) → (Nat → Int32) → (Nat → Int32) → (Nat → Int32) → (Nat → Int32) → (Nat → Int32) → (Nat → Int32) → (Nat → Int32) → (Nat → Int32) → (Nat → Int32) → (Nat → Int32) → (Nat → Int32) → (Nat → Int32) → (Nat → Int32) → (Nat → Int32) → (Nat → Int32) → (Nat → Int32) → (Nat → Int32) → Prop}
    {L : Nat} {xs : Nat → Int32} {post : Int32 → Prop} {kc ks t : Nat} {x5 x9 x10 : Int32} (hu : ob_I l N (fn, fp, fr, fd, fc, a1, a2, a3, a4, a5, a6, a7, a8, a9, a10, a11, a12, a13, a14, a15, a16, a17, a18, a19, a20, a21, a22, a23, a24, a25, a26, a27)) (hv : ob_I l' N (gn, gp, gr, gd, gc, b1, b2, b3, b4, b5, b6, b7, b8, b9, b10, b11, b12, b13, b14, b15, b16, b17, b18, b19, b20, b21, b22, b23, b24, b25, b26, b27)) (hl : ∀ j, j < N → l' j + l j = 7) (h9 : x9 = x10)
    (H : ∀ (fn fp fr fd fc : Int32) (a1 a2 a3 a4 a5 a6 a7 a8 a9 a10 a11 a12 a13 a14 a15 a16 a17 a18 a19 a20 a21 a22 a23 a24 a25 a26 a27 : Nat → Int32) (gn gp gr gd gc : Int32) (b1 b2 b3 b4 b5 b6 b7 b8 b9 b10 b11 b12 b13 b14 b15 b16 b17 b18 b19 b20 b21 b22 b23 b24 b25 b26 b27 : Nat → Int32), ob_I l N (fn, fp, fr, fd, fc, a1, a2, a3, a4, a5, a6, a7, a8, a9, a10, a11, a12, a13, a14, a15, a16, a17, a18, a19, a20, a21, a22, a23, a24, a25, a26, a27) → ob_I l' N (gn, gp, gr, gd, gc, b1, b2, b3, b4, b5, b6, b7, b8, b9, b10, b11, b12, b13, b14, b15, b16, b17, b18, b19, b20, b21, b22, b23, b24, b25, b26, b27) → J18 (nI (t + 1)) fn fp fr fd fc a1 a2 a3 a4 a5 a6 a7 a8 a9 a10 a11 a12 a13 a14 a15 a16 a17 a18 a19 a20 a21 a22 a23 a24 a25 a26 a27 gn gp gr gd gc b1 b2 b3 b4 b5 b6 b7 b8 b9 b10 b11 b12 b13 b14 b15 b16 b17 b18 b19 b20 b21 b22 b23 b24 b25 b26 b27) : wL_law_316 post L xs J18 (nI t) x5 x9 x10 1 kc ks fn fp fr fd fc a1 a2 a3 a4 a5 a6 a7 a8 a9 a10 a11 a12 a13 a14 a15 a16 a17 a18 a19 a20 a21 a22 a23 a24 a25 a26 a27 gn gp gr gd gc b1 b2 b3 b4 b5 b6 b7 b8 b9 b10 b11 b12 b13 b14 b15 b16 b17 b18 b19 b20 b21 b22 b23 b24 b25 b26 b27 := by
  have hN : N ≤ 200 := hu.1
  refine ob_cut (m := 0) hu rfl (by omega) ?_
  rintro ⟨fn, fp, fr, fd, fc, a1, a2, a3, a4, a5, a6, a7, a8, a9, a10, a11, a12, a13, a14, a15, a16, a17, a18, a19, a20, a21, a22, a23, a24, a25, a26, a27⟩ hu1
  rw [Nat.sub_zero] at hu1
  rw [Nat.sub_zero]
  obtain ⟨e, e1, e2⟩ := pk_andE (x5 >>> ((10 : Int32) &&& 31)) (m := 255) 8 (by decide)
  obtain ⟨i, i1, i2⟩ := pk_andE (x5 >>> ((13 : Int32) &&& 31)) (m := 255) 8 (by decide)
  obtain ⟨j, j1, j2⟩ := pk_andE (x5 >>> ((18 : Int32) &&& 31)) (m := 255) 8 (by decide)
  have hi : i % (N + 1) < N + 1 := Nat.mod_lt _ (by omega)
  have hj : j % (N - i % (N + 1) + 1) < N - i % (N + 1) + 1 := Nat.mod_lt _ (by omega)
  have he : e % 7 < 7 := Nat.mod_lt _ (by omega)
  rw [e2, i2, j2, nI_1]
  refine ⟨by decide, nm_r (pk_rem (d := 7) (by omega) (by omega) (by omega)) ⟨nI_ne0 (by omega) (by omega), nm_r (pk_rem (by omega) (by omega) (by omega)) ?_⟩⟩
  rw [pk_sub (show i % (N + 1) ≤ N by omega), nI_1, pk_rem (show j < 2 ^ 31 by omega) (show 0 < N - i % (N + 1) + 1 by omega) (by omega), nI_add]
  refine ⟨nI_ne0 (by omega) (by omega), nm_e (br_t h9 (br_f ob_10 (ob_alike hu1 hv hl rfl rfl rfl he (by omega) (by omega) ?_)))⟩
  intro fn fp fr fd fc a1 a2 a3 a4 a5 a6 a7 a8 a9 a10 a11 a12 a13 a14 a15 a16 a17 a18 a19 a20 a21 a22 a23 a24 a25 a26 a27 gn gp gr gd gc b1 b2 b3 b4 b5 b6 b7 b8 b9 b10 b11 b12 b13 b14 b15 b16 b17 b18 b19 b20 b21 b22 b23 b24 b25 b26 b27 hu2 hv2
  refine br_f ob_10 (ob_parted hu2 rfl rfl rfl rfl he (by omega) (by omega) ?_)
  rintro ⟨fn, fp, fr, fd, fc, a1, a2, a3, a4, a5, a6, a7, a8, a9, a10, a11, a12, a13, a14, a15, a16, a17, a18, a19, a20, a21, a22, a23, a24, a25, a26, a27⟩ hu3
  exact br_f ob_10 (nm_r (nI_1 t) (H fn fp fr fd fc a1 a2 a3 a4 a5 a6 a7 a8 a9 a10 a11 a12 a13 a14 a15 a16 a17 a18 a19 a20 a21 a22 a23 a24 a25 a26 a27 gn gp gr gd gc b1 b2 b3 b4 b5 b6 b7 b8 b9 b10 b11 b12 b13 b14 b15 b16 b17 b18 b19 b20 b21 b22 b23 b24 b25 b26 b27 hu3 hv2))
end
end
section
section
variable {fn fp fr fd fc : Int32} {a1 a2 a3 a4 a5 a6 a7 a8 a9 a10 a11 a12 a13 a14 a15 a16 a17 a18 a19 a20 a21 a22 a23 a24 a25 a26 a27 : Nat → Int32} {gn gp gr gd gc : Int32} {b1 b2 b3 b4 b5 b6 b7 b8 b9 b10 b11 b12 b13 b14 b15 b16 b17 b18 b19 b20 b21 b22 b23 b24 b25 b26 b27 : Nat → Int32} {l l' : Nat → Nat} {N : Nat}
theorem cq_keep {l1 l2 : Nat → Nat} {n1 n2 : Nat} (hn : n1 ≤ n2) (h : ∀ j, j < n1 → l2 j = l1 j) (y : Nat) : lt_r l1 y n1 ≤ lt_r l2 y n2 := by
  have e : lt_r l2 y n1 = lt_r l1 y n1 := cn_congr (fun j hj => by rw [h j hj])
  have z := lt_r_mono l2 y hn
  omega
theorem ob_62 {J18 : Int32 → Int32 → Int32 → Int32 → Int32 → Int32 → (Nat → Int32) → (Nat → Int32) → (Nat → Int32) → (Nat → Int32) → (Nat → Int32) → (Nat → Int32) → (Nat → Int32) → (Nat → Int32) → (Nat → Int32) → (Nat → Int32) → (Nat → Int32) → (Nat → Int32) → (Nat → Int32) → (Nat → Int32) → (Nat → Int32) → (Nat → Int32) → (Nat → Int32) → (Nat → Int32) → (Nat → Int32) → (Nat → Int32) → (Nat → Int32) → (Nat → Int32) → (Nat → Int32) → (Nat → Int32) → (Nat → Int32) → (Nat → Int32) → (Nat → Int32) → Int32 → Int32 → Int32 → Int32 → Int32 → (Nat → Int32) → (Nat → Int32) → (Nat → Int32) → (Nat → Int32) → (Nat → Int32) → (Nat → Int32) → (Nat → Int32) → (Nat → Int32) → (Nat → Int32) → (Nat → Int32) → (Nat → Int32) → (Nat → Int32) → (Nat → Int32) → (Nat → Int32) → (Nat → Int32) → (Nat → Int32) → (Nat → Int32) → (Nat → Int32) → (Nat → Int32) → (Nat → Int32) → (Nat → Int32) → (Nat → Int32) → (Nat → Int32) → (Nat → Int32) → (Nat → Int32) → (Nat → Int32) → (Nat → Int32) → Prop}
    {L : Nat} {xs : Nat → Int32} {post : Int32 → Prop} {kc ks t w c : Nat} {x5 z0 : Int32} (hu : ob_I l N (fn, fp, fr, fd, fc, a1, a2, a3, a4, a5, a6, a7, a8, a9, a10, a11, a12, a13, a14, a15, a16, a17, a18, a19, a20, a21, a22, a23, a24, a25, a26, a27)) (hv : ob_I l' N (gn, gp, gr, gd, gc, b1, b2, b3, b4, b5, b6, b7, b8, b9, b10, b11, b12, b13, b14, b15, b16, b17, b18, b19, b20, b21, b22, b23, b24, b25, b26, b27)) (hl : ∀ j, j < N → l' j + l j = 7) (hw : w < 16) (hz : z0 = nI c) (hc : c < 8)
    (H : ∀ l2 l2' N2, (∀ j, j < N2 → l2' j + l2 j = 7) → ∀ (fn fp fr fd fc : Int32) (a1 a2 a3 a4 a5 a6 a7 a8 a9 a10 a11 a12 a13 a14 a15 a16 a17 a18 a19 a20 a21 a22 a23 a24 a25 a26 a27 : Nat → Int32) (gn gp gr gd gc : Int32) (b1 b2 b3 b4 b5 b6 b7 b8 b9 b10 b11 b12 b13 b14 b15 b16 b17 b18 b19 b20 b21 b22 b23 b24 b25 b26 b27 : Nat → Int32), ob_I l2 N2 (fn, fp, fr, fd, fc, a1, a2, a3, a4, a5, a6, a7, a8, a9, a10, a11, a12, a13, a14, a15, a16, a17, a18, a19, a20, a21, a22, a23, a24, a25, a26, a27) → ob_I l2' N2 (gn, gp, gr, gd, gc, b1, b2, b3, b4, b5, b6, b7, b8, b9, b10, b11, b12, b13, b14, b15, b16, b17, b18, b19, b20, b21, b22, b23, b24, b25, b26, b27) → J18 (nI (t + 1)) fn fp fr fd fc a1 a2 a3 a4 a5 a6 a7 a8 a9 a10 a11 a12 a13 a14 a15 a16 a17 a18 a19 a20 a21 a22 a23 a24 a25 a26 a27 gn gp gr gd gc b1 b2 b3 b4 b5 b6 b7 b8 b9 b10 b11 b12 b13 b14 b15 b16 b17 b18 b19 b20 b21 b22 b23 b24 b25 b26 b27) : wL_law_62 post L xs J18 (nI t) (nI w) x5 z0 kc ks fn fp fr fd fc a1 a2 a3 a4 a5 a6 a7 a8 a9 a10 a11 a12 a13 a14 a15 a16 a17 a18 a19 a20 a21 a22 a23 a24 a25 a26 a27 gn gp gr gd gc b1 b2 b3 b4 b5 b6 b7 b8 b9 b10 b11 b12 b13 b14 b15 b16 b17 b18 b19 b20 b21 b22 b23 b24 b25 b26 b27 := by
  subst hz
  have hN : N ≤ 200 := hu.1
  have hl8 : ∀ j, l j < 8 := hu.2.1
  have e7 : 7 - nI c = nI (7 - c) := bw_sub (a := 7) rfl rfl (by omega)
  obtain ⟨q, q1, q2⟩ := pk_andE (x5 >>> ((4 : Int32) &&& 31)) (m := 15) 4 (by decide)
  refine nm_r (show 1 + ((x5 >>> ((4 : Int32) &&& 31)) &&& 15) = nI (1 + q) by rw [q2]; exact bw_add rfl rfl rfl) (ob_bits hu ?_)
  rintro M0 e0 ⟨fn, fp, fr, fd, fc, a1, a2, a3, a4, a5, a6, a7, a8, a9, a10, a11, a12, a13, a14, a15, a16, a17, a18, a19, a20, a21, a22, a23, a24, a25, a26, a27⟩ f0 he0 hu1
  refine pk_le 6 w (fun _ => pk_le 8 w (fun _ => pk_le 13 w (fun _ => ?_) (fun _ => ?_)) (fun _ => ?_)) (fun _ => ?_)
  · refine ob_cut hu1 rfl (by omega) ?_
    rintro ⟨fn, fp, fr, fd, fc, a1, a2, a3, a4, a5, a6, a7, a8, a9, a10, a11, a12, a13, a14, a15, a16, a17, a18, a19, a20, a21, a22, a23, a24, a25, a26, a27⟩ hu2
    refine ob_cut hv rfl (by omega) ?_
    rintro ⟨gn, gp, gr, gd, gc, b1, b2, b3, b4, b5, b6, b7, b8, b9, b10, b11, b12, b13, b14, b15, b16, b17, b18, b19, b20, b21, b22, b23, b24, b25, b26, b27⟩ hv2
    refine ob_bits hu2 ?_
    rintro M1 e1 ⟨fn, fp, fr, fd, fc, a1, a2, a3, a4, a5, a6, a7, a8, a9, a10, a11, a12, a13, a14, a15, a16, a17, a18, a19, a20, a21, a22, a23, a24, a25, a26, a27⟩ f1 he1 hu3
    have z := hf_mono M0 _ e0 f0 M1 _ e1 f1 (cq_tail (fun y _ => cq_keep (by omega) (fun _ _ => rfl) y))
    refine br_f (nI_nlt (by omega) (by omega)) ?_
    exact ob_316 hu3 hv2 (fun j hj => hl j (by omega)) rfl (H l l' (N - (1 + q)) (fun j hj => hl j (by omega)))
  · obtain ⟨y, y1, y2⟩ := pk_andE (x5 >>> ((4 : Int32) &&& 31)) (m := 255) 8 (by decide)
    have ey : ((x5 >>> ((4 : Int32) &&& 31)) &&& 255) - ((x5 >>> ((4 : Int32) &&& 31)) &&& 255) / 200 * 200 = nI (y % 200) := by
      rw [y2]
      exact pk_rem (d := 200) (by omega) (by omega) (by omega)
    have hy : y % 200 < 200 := Nat.mod_lt _ (by omega)
    refine ⟨by decide, ob_change hu1 ey rfl hy hc (fun hyN => ?_) (fun hyN => ?_)⟩
    · rintro ⟨fn, fp, fr, fd, fc, a1, a2, a3, a4, a5, a6, a7, a8, a9, a10, a11, a12, a13, a14, a15, a16, a17, a18, a19, a20, a21, a22, a23, a24, a25, a26, a27⟩ hu2
      refine ⟨by decide, ob_change hv ey e7 hy (by omega) (fun _ => ?_) (fun z => absurd z (by omega))⟩
      rintro ⟨gn, gp, gr, gd, gc, b1, b2, b3, b4, b5, b6, b7, b8, b9, b10, b11, b12, b13, b14, b15, b16, b17, b18, b19, b20, b21, b22, b23, b24, b25, b26, b27⟩ hv2
      have hly := hl _ hyN
      have h8 := hl8 (y % 200)
      have hcomp : ∀ j, j < N → (if j = y % 200 then 7 - c else l' j) + (if j = y % 200 then c else l j) = 7 := fun j hj => by
        by_cases e : j = y % 200
        · rw [if_pos e, if_pos e]
          omega
        · rw [if_neg e, if_neg e]
          exact hl j hj
      exact br_t (nI_pos' (by omega)) (ob_316 hu2 hv2 hcomp (bw_sub (a := 7) rfl rfl (by omega)) (H _ _ N hcomp))
    · refine ⟨by decide, ob_change hv ey e7 hy (by omega) (fun z => absurd z (by omega)) (fun _ => ?_)⟩
      exact br_f (by decide) (ob_316 hu1 hv hl rfl (H l l' N hl))
  · obtain ⟨b, b1, b2⟩ := pk_andE (x5 >>> ((6 : Int32) &&& 31)) (m := 7) 3 (by decide)
    have eb : 1 + ((x5 >>> ((6 : Int32) &&& 31)) &&& 7) = nI (1 + b) := by
      rw [b2]
      exact bw_add rfl rfl rfl
    refine ob_again hu1 eb rfl (by omega) (by omega) (by omega) (by omega) (fun hb hm l1 => ?_) (fun hb hm => ?_) (fun hb => ?_)
    · rintro ⟨fn, fp, fr, fd, fc, a1, a2, a3, a4, a5, a6, a7, a8, a9, a10, a11, a12, a13, a14, a15, a16, a17, a18, a19, a20, a21, a22, a23, a24, a25, a26, a27⟩ g1 g2 hu2
      refine ob_again hv eb rfl (by omega) (by omega) (by omega) (by omega) (fun _ _ l2 => ?_) (fun _ z => absurd z (by omega)) (fun z => absurd z (by omega))
      rintro ⟨gn, gp, gr, gd, gc, b1, b2, b3, b4, b5, b6, b7, b8, b9, b10, b11, b12, b13, b14, b15, b16, b17, b18, b19, b20, b21, b22, b23, b24, b25, b26, b27⟩ k1 k2 hv2
      have hcomp : ∀ j, j < N + (1 + q) → l2 j + l1 j = 7 := by
        intro j
        induction j using Nat.strongRecOn with
        | _ j ih =>
          intro hj
          rcases Nat.lt_or_ge j N with z | z
          · rw [g1 j z, k1 j z]
            exact hl j z
          · rw [g2 j z hj, k2 j z hj]
            exact ih (j - (1 + b)) (by omega) (by omega)
      exact ob_316 hu2 hv2 hcomp rfl (H l1 l2 _ hcomp)
    · refine ob_again hv eb rfl (by omega) (by omega) (by omega) (by omega) (fun _ z => absurd z (by omega)) (fun _ _ => ?_) (fun z => absurd z (by omega))
      exact ob_316 hu1 hv hl rfl (H l l' N hl)
    · refine ob_again hv eb rfl (by omega) (by omega) (by omega) (by omega) (fun z => absurd z (by omega)) (fun z => absurd z (by omega)) (fun _ => ?_)
      exact ob_316 hu1 hv hl rfl (H l l' N hl)
  · refine ob_append hu1 rfl rfl hc (by omega) (by omega) (fun hm l1 => ?_) (fun hm => ?_)
    · rintro ⟨fn, fp, fr, fd, fc, a1, a2, a3, a4, a5, a6, a7, a8, a9, a10, a11, a12, a13, a14, a15, a16, a17, a18, a19, a20, a21, a22, a23, a24, a25, a26, a27⟩ g1 g2 hu2
      refine ob_append hv e7 rfl (by omega) (by omega) (by omega) (fun _ l2 => ?_) (fun z => absurd z (by omega))
      rintro ⟨gn, gp, gr, gd, gc, b1, b2, b3, b4, b5, b6, b7, b8, b9, b10, b11, b12, b13, b14, b15, b16, b17, b18, b19, b20, b21, b22, b23, b24, b25, b26, b27⟩ k1 k2 hv2
      have hcomp : ∀ j, j < N + (1 + q) → l2 j + l1 j = 7 := by
        intro j hj
        rcases Nat.lt_or_ge j N with z | z
        · rw [g1 j z, k1 j z]
          exact hl j z
        · rw [g2 j z hj, k2 j z hj]
          omega
      refine br_t (nI_pos' (by omega)) (ob_bits hu2 ?_)
      rintro M1 e1 ⟨fn, fp, fr, fd, fc, a1, a2, a3, a4, a5, a6, a7, a8, a9, a10, a11, a12, a13, a14, a15, a16, a17, a18, a19, a20, a21, a22, a23, a24, a25, a26, a27⟩ f1 he1 hu3
      have z := hf_mono M1 _ e1 f1 M0 _ e0 f0 (cq_tail (fun y _ => cq_keep (by omega) g1 y))
      refine br_f ?_ (ob_316 hu3 hv2 hcomp rfl (H l1 l2 _ hcomp))
      rw [nI_add]
      exact nI_nlt (by omega) (by omega)
    · refine ob_append hv e7 rfl (by omega) (by omega) (by omega) (fun z => absurd z (by omega)) (fun _ => ?_)
      refine br_f (by decide) (ob_bits hu1 ?_)
      rintro M1 e1 ⟨fn, fp, fr, fd, fc, a1, a2, a3, a4, a5, a6, a7, a8, a9, a10, a11, a12, a13, a14, a15, a16, a17, a18, a19, a20, a21, a22, a23, a24, a25, a26, a27⟩ f1 he1 hu3
      exact br_t (by rw [hf_uniq f1 f0 (fun _ => rfl)]) (ob_316 hu3 hv hl rfl (H l l' N hl))
end
end
section
theorem i_vc (xs : Nat → Int32) (L : Nat) (hL : L ≤ 260) : wpL_law (fun r => r = 1) L xs := by
  refine ⟨27, 3516, by decide, by decide, ob_init ?_⟩
  rintro ⟨fn, fp, fr, fd, fc, a1, a2, a3, a4, a5, a6, a7, a8, a9, a10, a11, a12, a13, a14, a15, a16, a17, a18, a19, a20, a21, a22, a23, a24, a25, a26, a27⟩ hu
  refine ⟨by decide, by decide, 27, 3516, by decide, by decide, ob_init ?_⟩
  rintro ⟨gn, gp, gr, gd, gc, b1, b2, b3, b4, b5, b6, b7, b8, b9, b10, b11, b12, b13, b14, b15, b16, b17, b18, b19, b20, b21, b22, b23, b24, b25, b26, b27⟩ hv
  refine pk_loop (fun n t (s : St1 × St1) => wL_law_18 (fun r => r = 1) L xs (1 + 27 + 1 + 27) (32 + 3516 + 32 + 3516) n (nI t) s.1.1 s.1.2.1 s.1.2.2.1 s.1.2.2.2.1 s.1.2.2.2.2.1 s.1.2.2.2.2.2.1 s.1.2.2.2.2.2.2.1 s.1.2.2.2.2.2.2.2.1 s.1.2.2.2.2.2.2.2.2.1 s.1.2.2.2.2.2.2.2.2.2.1 s.1.2.2.2.2.2.2.2.2.2.2.1 s.1.2.2.2.2.2.2.2.2.2.2.2.1 s.1.2.2.2.2.2.2.2.2.2.2.2.2.1 s.1.2.2.2.2.2.2.2.2.2.2.2.2.2.1 s.1.2.2.2.2.2.2.2.2.2.2.2.2.2.2.1 s.1.2.2.2.2.2.2.2.2.2.2.2.2.2.2.2.1 s.1.2.2.2.2.2.2.2.2.2.2.2.2.2.2.2.2.1 s.1.2.2.2.2.2.2.2.2.2.2.2.2.2.2.2.2.2.1 s.1.2.2.2.2.2.2.2.2.2.2.2.2.2.2.2.2.2.2.1 s.1.2.2.2.2.2.2.2.2.2.2.2.2.2.2.2.2.2.2.2.1 s.1.2.2.2.2.2.2.2.2.2.2.2.2.2.2.2.2.2.2.2.2.1 s.1.2.2.2.2.2.2.2.2.2.2.2.2.2.2.2.2.2.2.2.2.2.1 s.1.2.2.2.2.2.2.2.2.2.2.2.2.2.2.2.2.2.2.2.2.2.2.1 s.1.2.2.2.2.2.2.2.2.2.2.2.2.2.2.2.2.2.2.2.2.2.2.2.1 s.1.2.2.2.2.2.2.2.2.2.2.2.2.2.2.2.2.2.2.2.2.2.2.2.2.1 s.1.2.2.2.2.2.2.2.2.2.2.2.2.2.2.2.2.2.2.2.2.2.2.2.2.2.1 s.1.2.2.2.2.2.2.2.2.2.2.2.2.2.2.2.2.2.2.2.2.2.2.2.2.2.2.1 s.1.2.2.2.2.2.2.2.2.2.2.2.2.2.2.2.2.2.2.2.2.2.2.2.2.2.2.2.1 s.1.2.2.2.2.2.2.2.2.2.2.2.2.2.2.2.2.2.2.2.2.2.2.2.2.2.2.2.2.1 s.1.2.2.2.2.2.2.2.2.2.2.2.2.2.2.2.2.2.2.2.2.2.2.2.2.2.2.2.2.2.1 s.1.2.2.2.2.2.2.2.2.2.2.2.2.2.2.2.2.2.2.2.2.2.2.2.2.2.2.2.2.2.2.1 s.1.2.2.2.2.2.2.2.2.2.2.2.2.2.2.2.2.2.2.2.2.2.2.2.2.2.2.2.2.2.2.2 s.2.1 s.2.2.1 s.2.2.2.1 s.2.2.2.2.1 s.2.2.2.2.2.1 s.2.2.2.2.2.2.1 s.2.2.2.2.2.2.2.1 s.2.2.2.2.2.2.2.2.1 s.2.2.2.2.2.2.2.2.2.1 s.2.2.2.2.2.2.2.2.2.2.1 s.2.2.2.2.2.2.2.2.2.2.2.1 s.2.2.2.2.2.2.2.2.2.2.2.2.1 s.2.2.2.2.2.2.2.2.2.2.2.2.2.1 s.2.2.2.2.2.2.2.2.2.2.2.2.2.2.1 s.2.2.2.2.2.2.2.2.2.2.2.2.2.2.2.1 s.2.2.2.2.2.2.2.2.2.2.2.2.2.2.2.2.1 s.2.2.2.2.2.2.2.2.2.2.2.2.2.2.2.2.2.1 s.2.2.2.2.2.2.2.2.2.2.2.2.2.2.2.2.2.2.1 s.2.2.2.2.2.2.2.2.2.2.2.2.2.2.2.2.2.2.2.1 s.2.2.2.2.2.2.2.2.2.2.2.2.2.2.2.2.2.2.2.2.1 s.2.2.2.2.2.2.2.2.2.2.2.2.2.2.2.2.2.2.2.2.2.1 s.2.2.2.2.2.2.2.2.2.2.2.2.2.2.2.2.2.2.2.2.2.2.1 s.2.2.2.2.2.2.2.2.2.2.2.2.2.2.2.2.2.2.2.2.2.2.2.1 s.2.2.2.2.2.2.2.2.2.2.2.2.2.2.2.2.2.2.2.2.2.2.2.2.1 s.2.2.2.2.2.2.2.2.2.2.2.2.2.2.2.2.2.2.2.2.2.2.2.2.2.1 s.2.2.2.2.2.2.2.2.2.2.2.2.2.2.2.2.2.2.2.2.2.2.2.2.2.2.1 s.2.2.2.2.2.2.2.2.2.2.2.2.2.2.2.2.2.2.2.2.2.2.2.2.2.2.2.1 s.2.2.2.2.2.2.2.2.2.2.2.2.2.2.2.2.2.2.2.2.2.2.2.2.2.2.2.2.1 s.2.2.2.2.2.2.2.2.2.2.2.2.2.2.2.2.2.2.2.2.2.2.2.2.2.2.2.2.2.1 s.2.2.2.2.2.2.2.2.2.2.2.2.2.2.2.2.2.2.2.2.2.2.2.2.2.2.2.2.2.2.1 s.2.2.2.2.2.2.2.2.2.2.2.2.2.2.2.2.2.2.2.2.2.2.2.2.2.2.2.2.2.2.2.1 s.2.2.2.2.2.2.2.2.2.2.2.2.2.2.2.2.2.2.2.2.2.2.2.2.2.2.2.2.2.2.2.2) (fun _ s => ∃ l l' N, ob_I l N s.1 ∧ ob_I l' N s.2 ∧ ∀ j, j < N → l' j + l j = 7) L 0 ((fn, fp, fr, fd, fc, a1, a2, a3, a4, a5, a6, a7, a8, a9, a10, a11, a12, a13, a14, a15, a16, a17, a18, a19, a20, a21, a22, a23, a24, a25, a26, a27), (gn, gp, gr, gd, gc, b1, b2, b3, b4, b5, b6, b7, b8, b9, b10, b11, b12, b13, b14, b15, b16, b17, b18, b19, b20, b21, b22, b23, b24, b25, b26, b27)) (by omega) ⟨_, _, 0, hu, hv, fun j hj => absurd hj (by omega)⟩ ?_ ?_
  · intro n s _
    exact pk_le L L (fun _ => rfl) (fun z => absurd z (by omega))
  · rintro n t ⟨⟨fn, fp, fr, fd, fc, a1, a2, a3, a4, a5, a6, a7, a8, a9, a10, a11, a12, a13, a14, a15, a16, a17, a18, a19, a20, a21, a22, a23, a24, a25, a26, a27⟩, ⟨gn, gp, gr, gd, gc, b1, b2, b3, b4, b5, b6, b7, b8, b9, b10, b11, b12, b13, b14, b15, b16, b17, b18, b19, b20, b21, b22, b23, b24, b25, b26, b27⟩⟩ ht ⟨l, l', N, hu, hv, hl⟩ ih
    try dsimp only at hu hv
    obtain ⟨w, w1, w2⟩ := pk_andE (xs t) (m := 15) 4 (by decide)
    refine pk_le L t (fun z => absurd z (by omega)) (fun _ => ⟨pk_in t L ht, nm_r (show xs (nI t).toNatClampNeg &&& 15 = nI w by rw [nI_clamp (by omega), w2]) ⟨pk_in t L ht, fun x ex => br_c (fun _ => ?_) (fun _ => ?_)⟩⟩)
    · obtain ⟨c, c1, c2⟩ := pk_andE x (m := 7) 3 (by decide)
      refine ob_62 hu hv hl w1 c2 c1 (fun l2 l2' N2 h2 => ?_)
      intro fn fp fr fd fc a1 a2 a3 a4 a5 a6 a7 a8 a9 a10 a11 a12 a13 a14 a15 a16 a17 a18 a19 a20 a21 a22 a23 a24 a25 a26 a27 gn gp gr gd gc b1 b2 b3 b4 b5 b6 b7 b8 b9 b10 b11 b12 b13 b14 b15 b16 b17 b18 b19 b20 b21 b22 b23 b24 b25 b26 b27 g1 g2
      exact ih ((fn, fp, fr, fd, fc, a1, a2, a3, a4, a5, a6, a7, a8, a9, a10, a11, a12, a13, a14, a15, a16, a17, a18, a19, a20, a21, a22, a23, a24, a25, a26, a27), (gn, gp, gr, gd, gc, b1, b2, b3, b4, b5, b6, b7, b8, b9, b10, b11, b12, b13, b14, b15, b16, b17, b18, b19, b20, b21, b22, b23, b24, b25, b26, b27)) ⟨l2, l2', N2, g1, g2, h2⟩
    · obtain ⟨c, c1, c2⟩ := pk_andE x (m := 1) 1 (by decide)
      refine ob_62 (c := 6 + c) hu hv hl w1 (by rw [c2]; exact bw_add rfl rfl rfl) (by omega) (fun l2 l2' N2 h2 => ?_)
      intro fn fp fr fd fc a1 a2 a3 a4 a5 a6 a7 a8 a9 a10 a11 a12 a13 a14 a15 a16 a17 a18 a19 a20 a21 a22 a23 a24 a25 a26 a27 gn gp gr gd gc b1 b2 b3 b4 b5 b6 b7 b8 b9 b10 b11 b12 b13 b14 b15 b16 b17 b18 b19 b20 b21 b22 b23 b24 b25 b26 b27 g1 g2
      exact ih ((fn, fp, fr, fd, fc, a1, a2, a3, a4, a5, a6, a7, a8, a9, a10, a11, a12, a13, a14, a15, a16, a17, a18, a19, a20, a21, a22, a23, a24, a25, a26, a27), (gn, gp, gr, gd, gc, b1, b2, b3, b4, b5, b6, b7, b8, b9, b10, b11, b12, b13, b14, b15, b16, b17, b18, b19, b20, b21, b22, b23, b24, b25, b26, b27)) ⟨l2, l2', N2, g1, g2, h2⟩
end
