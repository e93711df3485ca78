section
/-! ===== sums, indicators, counts ===== -/
def fs_s (f : Nat → Nat) : Nat → Nat
  | 0 => 0
  | n + 1 => fs_s f n + f n
theorem fs_s_congr {f g : Nat → Nat} : ∀ n, (∀ i, i < n → f i = g i) → fs_s f n = fs_s g n
  | 0, _ => rfl
  | n + 1, h => by
    show fs_s f n + f n = fs_s g n + g n
    rw [fs_s_congr n (fun i hi => h i (by omega)), h n (by omega)]
theorem fs_s_gap {f : Nat → Nat} {m : Nat} : ∀ n, m ≤ n → (∀ z, m ≤ z → z < n → f z = 0) → fs_s f n = fs_s f m
  | 0, hm, _ => by
    have : m = 0 := by omega
    rw [this]
  | n + 1, hm, h => by
    by_cases e : m = n + 1
    · rw [e]
    · show fs_s f n + f n = fs_s f m
      rw [fs_s_gap n (by omega) (fun z h1 h2 => h z h1 (by omega)), h n (by omega) (by omega), Nat.add_zero]
noncomputable def fs_i (p : Prop) : Nat := @ite Nat p (Classical.propDecidable p) 1 0
theorem fs_i_t {p : Prop} (h : p) : fs_i p = 1 := by
  unfold fs_i
  exact if_pos h
theorem fs_i_f {p : Prop} (h : ¬ p) : fs_i p = 0 := by
  unfold fs_i
  exact if_neg h
theorem fs_i_congr {p q : Prop} (h : p ↔ q) : fs_i p = fs_i q := by
  rw [propext h]
theorem fs_i_le (p : Prop) : fs_i p ≤ 1 := by
  by_cases h : p
  · rw [fs_i_t h]; exact Nat.le_refl 1
  · rw [fs_i_f h]; exact Nat.zero_le 1
/-- how many i < n have P i -/
noncomputable def fs_n (P : Nat → Prop) : Nat → Nat
  | 0 => 0
  | n + 1 => fs_n P n + fs_i (P n)
theorem fs_n_s (P : Nat → Prop) (n : Nat) : fs_n P (n + 1) = fs_n P n + fs_i (P n) := rfl
theorem fs_n_congr {P Q : Nat → Prop} : ∀ n, (∀ i, i < n → (P i ↔ Q i)) → fs_n P n = fs_n Q n
  | 0, _ => rfl
  | n + 1, h => by
    rw [fs_n_s, fs_n_s, fs_n_congr n (fun i hi => h i (by omega)), fs_i_congr (h n (by omega))]
theorem fs_n_le (P : Nat → Prop) : ∀ n, fs_n P n ≤ n
  | 0 => Nat.le_refl 0
  | n + 1 => by
    have h1 := fs_n_le P n
    have h2 := fs_i_le (P n)
    rw [fs_n_s]
    omega
theorem fs_n_mono {P Q : Nat → Prop} : ∀ n, (∀ i, i < n → P i → Q i) → fs_n P n ≤ fs_n Q n
  | 0, _ => Nat.le_refl 0
  | n + 1, h => by
    have h1 := fs_n_mono n (fun i hi => h i (by omega))
    rw [fs_n_s, fs_n_s]
    by_cases hp : P n
    · rw [fs_i_t hp, fs_i_t (h n (by omega) hp)]
      omega
    · rw [fs_i_f hp]
      omega
theorem fs_n_inv {P Q : Nat → Prop} : ∀ n, (∀ i, i < n → P i → Q i) → fs_n Q n ≤ fs_n P n → ∀ i, i < n → Q i → P i
  | 0, _, _ => fun i hi => absurd hi (by omega)
  | n + 1, h, e => by
    have h1 := fs_n_mono n (fun i hi => h i (by omega))
    rw [fs_n_s, fs_n_s] at e
    have h2 : fs_i (P n) ≤ fs_i (Q n) := by
      by_cases hp : P n
      · rw [fs_i_t hp, fs_i_t (h n (by omega) hp)]
        exact Nat.le_refl 1
      · rw [fs_i_f hp]
        exact Nat.zero_le _
    have ih := fs_n_inv n (fun i hi => h i (by omega)) (by omega)
    intro i hi hq
    by_cases ei : i = n
    · subst ei
      by_cases hp : P i
      · exact hp
      · rw [fs_i_f hp, fs_i_t hq] at e
        omega
    · exact ih i (by omega) hq
theorem fs_n_0 {P : Nat → Prop} : ∀ n, (∀ i, i < n → ¬ P i) → fs_n P n = 0
  | 0, _ => rfl
  | n + 1, h => by
    rw [fs_n_s, fs_n_0 n (fun i hi => h i (by omega)), fs_i_f (h n (by omega))]
theorem fs_n_0' {P : Nat → Prop} : ∀ n, fs_n P n = 0 → ∀ i, i < n → ¬ P i
  | 0, _ => fun i hi => absurd hi (by omega)
  | n + 1, e => by
    rw [fs_n_s] at e
    intro i hi hp
    by_cases ei : i = n
    · subst ei
      rw [fs_i_t hp] at e
      omega
    · exact fs_n_0' n (by omega) i (by omega) hp
theorem fs_n_or {P Q : Nat → Prop} : ∀ n, (∀ i, i < n → P i → ¬ Q i) → fs_n P n + fs_n Q n = fs_n (fun i => P i ∨ Q i) n
  | 0, _ => rfl
  | n + 1, h => by
    have ih := fs_n_or n (fun i hi => h i (by omega))
    rw [fs_n_s, fs_n_s, fs_n_s, ← ih]
    by_cases hp : P n
    · rw [fs_i_t hp, fs_i_f (h n (by omega) hp), fs_i_t (Or.inl hp : P n ∨ Q n)]
      omega
    · by_cases hq : Q n
      · rw [fs_i_f hp, fs_i_t hq, fs_i_t (Or.inr hq : P n ∨ Q n)]
        omega
      · rw [fs_i_f hp, fs_i_f hq, fs_i_f (fun z : P n ∨ Q n => z.elim hp hq)]
        omega
/-- double counting: each i has at most one z -/
theorem fs_s_n {R : Nat → Nat → Prop} {n : Nat} : ∀ N, (∀ i, i < n → ∀ z y, z < N → y < N → R z i → R y i → z = y) →
    fs_s (fun z => fs_n (R z) n) N = fs_n (fun i => ∃ z, z < N ∧ R z i) n
  | 0, _ => (fs_n_0 n (fun i _ h => h.elim (fun z hz => absurd hz.1 (by omega)))).symm
  | N + 1, h => by
    have ih := fs_s_n N (fun i hi z y hz hy => h i hi z y (by omega) (by omega))
    show fs_s (fun z => fs_n (R z) n) N + fs_n (R N) n = _
    rw [ih, fs_n_or n (fun i hi hp hq => hp.elim (fun z hz => absurd (h i hi z N (by omega) (by omega) hz.2 hq) (by omega)))]
    refine fs_n_congr n (fun i _ => ⟨?_, ?_⟩)
    · rintro (⟨z, hz, hr⟩ | hr)
      · exact ⟨z, by omega, hr⟩
      · exact ⟨N, by omega, hr⟩
    · rintro ⟨z, hz, hr⟩
      by_cases e : z = N
      · subst e
        exact Or.inr hr
      · exact Or.inl ⟨z, by omega, hr⟩
/-! ===== climbing ===== -/
def fs_it (f : Nat → Nat) : Nat → Nat → Nat
  | 0, y => y
  | j + 1, y => f (fs_it f j y)
theorem fs_it_add (f : Nat → Nat) (y j : Nat) : ∀ k, fs_it f (j + k) y = fs_it f k (fs_it f j y)
  | 0 => rfl
  | k + 1 => by
    show f (fs_it f (j + k) y) = f (fs_it f k (fs_it f j y))
    rw [fs_it_add f y j k]
/-- the tree's shape: up climbs, T (the place of a node's thing, plus one) falls -/
def fs_Sh (up T : Nat → Nat) : Prop := up 0 = 0 ∧ (∀ z, z ≠ 0 → up z < z) ∧ T 0 = 0 ∧ (∀ z, z ≠ 0 → T (up z) < T z)
theorem fs_up_le {up T : Nat → Nat} (h : fs_Sh up T) (z : Nat) : up z ≤ z := by
  by_cases e : z = 0
  · rw [e, h.1]
    exact Nat.le_refl 0
  · exact Nat.le_of_lt (h.2.1 z e)
theorem fs_T_le {up T : Nat → Nat} (h : fs_Sh up T) (z : Nat) : T (up z) ≤ T z := by
  by_cases e : z = 0
  · rw [e, h.1]
    exact Nat.le_refl _
  · exact Nat.le_of_lt (h.2.2.2 z e)
theorem fs_it_le {up T : Nat → Nat} (h : fs_Sh up T) (y : Nat) : ∀ k, fs_it up k y ≤ y
  | 0 => Nat.le_refl y
  | k + 1 => Nat.le_trans (fs_up_le h _) (fs_it_le h y k)
theorem fs_itT_le {up T : Nat → Nat} (h : fs_Sh up T) (y : Nat) : ∀ k, T (fs_it up k y) ≤ T y
  | 0 => Nat.le_refl _
  | k + 1 => Nat.le_trans (fs_T_le h _) (fs_itT_le h y k)
theorem fs_it_anti {up T : Nat → Nat} (h : fs_Sh up T) (y : Nat) {i j : Nat} (hij : i ≤ j) : fs_it up j y ≤ fs_it up i y := by
  have := fs_it_add up y i (j - i)
  rw [show i + (j - i) = j by omega] at this
  rw [this]
  exact fs_it_le h _ _
theorem fs_it_lt {up T : Nat → Nat} (h : fs_Sh up T) (y : Nat) {i j : Nat} (hij : i < j) (h0 : fs_it up i y ≠ 0) : fs_it up j y < fs_it up i y := by
  have h1 : fs_it up j y ≤ fs_it up (i + 1) y := fs_it_anti h y (by omega)
  have h2 : fs_it up (i + 1) y < fs_it up i y := h.2.1 _ h0
  omega
/-- x stands above y, or is y -/
def fs_an (up : Nat → Nat) (x y : Nat) : Prop := ∃ j, fs_it up j y = x
theorem fs_an_r (up : Nat → Nat) (x : Nat) : fs_an up x x := ⟨0, rfl⟩
theorem fs_an_t {up : Nat → Nat} {x y z : Nat} (h : fs_an up x y) (g : fs_an up y z) : fs_an up x z := by
  obtain ⟨j, hj⟩ := h
  obtain ⟨k, hk⟩ := g
  refine ⟨k + j, ?_⟩
  rw [fs_it_add, hk, hj]
theorem fs_an_le {up T : Nat → Nat} (h : fs_Sh up T) {x y : Nat} (a : fs_an up x y) : x ≤ y := by
  obtain ⟨j, hj⟩ := a
  rw [← hj]
  exact fs_it_le h y j
theorem fs_an_T {up T : Nat → Nat} (h : fs_Sh up T) {x y : Nat} (a : fs_an up x y) : T x ≤ T y := by
  obtain ⟨j, hj⟩ := a
  rw [← hj]
  exact fs_itT_le h y j
theorem fs_an_ne {up T : Nat → Nat} (h : fs_Sh up T) {x y : Nat} (a : fs_an up x y) (n : x ≠ y) (hy : y ≠ 0) : fs_an up x (up y) := by
  obtain ⟨j, hj⟩ := a
  cases j with
  | zero => exact absurd hj.symm n
  | succ j =>
    refine ⟨j, ?_⟩
    have := fs_it_add up y 1 j
    rw [show 1 + j = j + 1 by omega, hj] at this
    exact this.symm
theorem fs_an_u {up : Nat → Nat} {x y : Nat} (a : fs_an up x (up y)) : fs_an up x y :=
  fs_an_t a ⟨1, rfl⟩
theorem fs_an_iff {up T : Nat → Nat} (h : fs_Sh up T) {x y : Nat} (hy : y ≠ 0) : fs_an up x y ↔ (x = y ∨ fs_an up x (up y)) := by
  constructor
  · intro a
    by_cases e : x = y
    · exact Or.inl e
    · exact Or.inr (fs_an_ne h a e hy)
  · rintro (e | a)
    · rw [e]
      exact fs_an_r up y
    · exact fs_an_u a
/-- two nodes above one: one is above the other -/
theorem fs_an_cmp {up : Nat → Nat} {x y z : Nat} (a : fs_an up x z) (b : fs_an up y z) : fs_an up x y ∨ fs_an up y x := by
  obtain ⟨i, hi⟩ := a
  obtain ⟨j, hj⟩ := b
  rcases Nat.le_total i j with h | h
  · right
    refine ⟨j - i, ?_⟩
    have := fs_it_add up z i (j - i)
    rw [show i + (j - i) = j by omega, hi, hj] at this
    exact this.symm
  · left
    refine ⟨i - j, ?_⟩
    have := fs_it_add up z j (i - j)
    rw [show j + (i - j) = i by omega, hi, hj] at this
    exact this.symm
theorem fs_an_Tlt {up T : Nat → Nat} (h : fs_Sh up T) {x y : Nat} (a : fs_an up x y) (n : x ≠ y) : T x < T y := by
  by_cases hy : y = 0
  · have := fs_an_le h a
    omega
  · have h1 := fs_an_T h (fs_an_ne h a n hy)
    have h2 := h.2.2.2 y hy
    omega
theorem fs_an_uniq {up T : Nat → Nat} (h : fs_Sh up T) {x y z : Nat} (a : fs_an up x z) (b : fs_an up y z) (e : T x = T y) : x = y := by
  by_cases n : x = y
  · exact n
  · rcases fs_an_cmp a b with c | c
    · have := fs_an_Tlt h c n
      omega
    · have := fs_an_Tlt h c (fun z => n z.symm)
      omega
theorem fs_an_low {up T : Nat → Nat} (h : fs_Sh up T) {x y z : Nat} (a : fs_an up x z) (b : fs_an up y z) (e : T x ≤ T y) : fs_an up x y := by
  rcases fs_an_cmp a b with c | c
  · exact c
  · by_cases n : x = y
    · rw [n]
      exact fs_an_r up y
    · have := fs_an_Tlt h c (fun z => n z.symm)
      omega
theorem fs_it_congr {up up' T : Nat → Nat} {N : Nat} (h : fs_Sh up T) (hu : ∀ z, z < N → up' z = up z) {y : Nat} (hy : y < N) : ∀ j, fs_it up' j y = fs_it up j y
  | 0 => rfl
  | j + 1 => by
    show up' (fs_it up' j y) = up (fs_it up j y)
    rw [fs_it_congr h hu hy j]
    refine hu _ ?_
    have := fs_it_le h y j
    omega
theorem fs_an_congr {up up' T : Nat → Nat} {N : Nat} (h : fs_Sh up T) (hu : ∀ z, z < N → up' z = up z) {x y : Nat} (hy : y < N) : fs_an up' x y ↔ fs_an up x y := by
  constructor
  · rintro ⟨j, hj⟩
    exact ⟨j, by rw [← hj, fs_it_congr h hu hy j]⟩
  · rintro ⟨j, hj⟩
    exact ⟨j, by rw [fs_it_congr h hu hy j, hj]⟩
/-! ===== the lift, node by node: climbing through nodes k and above alone ===== -/
def fs_ak (up : Nat → Nat) (k x y : Nat) : Prop := ∃ j, fs_it up j y = x ∧ ∀ i, i < j → k ≤ fs_it up i y
theorem fs_ak_top {up : Nat → Nat} {N x y : Nat} (hy : y < N) : fs_ak up N x y ↔ x = y := by
  constructor
  · rintro ⟨j, hj, hi⟩
    cases j with
    | zero => exact hj.symm
    | succ j =>
      have : N ≤ y := hi 0 (by omega)
      omega
  · intro e
    exact ⟨0, e.symm, fun i hi => absurd hi (by omega)⟩
theorem fs_ak_bot {up T : Nat → Nat} (h : fs_Sh up T) {x y : Nat} (hx : x ≠ 0) : fs_ak up 1 x y ↔ fs_an up x y := by
  constructor
  · rintro ⟨j, hj, _⟩
    exact ⟨j, hj⟩
  · rintro ⟨j, hj⟩
    refine ⟨j, hj, fun i hi => ?_⟩
    have := fs_it_anti h y (show i ≤ j by omega)
    omega
theorem fs_ak_step {up T : Nat → Nat} (h : fs_Sh up T) {m x y : Nat} (hm : m ≠ 0) : fs_ak up m x y ↔ (fs_ak up (m + 1) x y ∨ (x = up m ∧ fs_ak up (m + 1) m y)) := by
  constructor
  · rintro ⟨j, hj, hi⟩
    by_cases a : ∀ i, i < j → m + 1 ≤ fs_it up i y
    · exact Or.inl ⟨j, hj, a⟩
    · right
      have ⟨i, hij, hlt⟩ : ∃ i, i < j ∧ fs_it up i y < m + 1 := by
        apply Classical.byContradiction
        intro c
        exact a (fun i h1 => Nat.le_of_not_lt (fun h2 => c ⟨i, h1, h2⟩))
      have hm2 := hi i hij
      have em : fs_it up i y = m := by omega
      have e1 : fs_it up (i + 1) y = up m := by
        show up (fs_it up i y) = up m
        rw [em]
      have hum := h.2.1 m hm
      have ej : j = i + 1 := by
        apply Classical.byContradiction
        intro c
        have := hi (i + 1) (by omega)
        omega
      refine ⟨by rw [← hj, ej, e1], i, em, fun i' hi' => ?_⟩
      have h1 := hi i' (by omega)
      have h2 := fs_it_lt h y hi' (by omega)
      omega
  · rintro (⟨j, hj, hi⟩ | ⟨e, j, hj, hi⟩)
    · exact ⟨j, hj, fun i h1 => Nat.le_trans (Nat.le_succ m) (hi i h1)⟩
    · refine ⟨j + 1, ?_, fun i h1 => ?_⟩
      · show up (fs_it up j y) = x
        rw [hj, e]
      · by_cases ei : i = j
        · rw [ei, hj]
          exact Nat.le_refl m
        · exact Nat.le_trans (Nat.le_succ m) (hi i (by omega))
theorem fs_ak_apart {up T : Nat → Nat} (h : fs_Sh up T) {m y : Nat} (hm : m ≠ 0) (a : fs_ak up (m + 1) (up m) y) (b : fs_ak up (m + 1) m y) : False := by
  obtain ⟨i, hi, ai⟩ := a
  obtain ⟨j, hj, aj⟩ := b
  have hum := h.2.1 m hm
  rcases Nat.lt_or_ge j i with c | c
  · have := ai j c
    omega
  · have := fs_it_anti h y c
    omega
end
section
/-! ===== subsets, support, closure ===== -/
def fs_sub (s b : Nat) : Prop := ∀ t, s.testBit t = true → b.testBit t = true
noncomputable def fs_sp (B : Nat → Nat) (n s : Nat) : Nat := fs_n (fun i => fs_sub s (B i)) n
theorem fs_sp_anti {B : Nat → Nat} {n s s' : Nat} (h : fs_sub s s') : fs_sp B n s' ≤ fs_sp B n s :=
  fs_n_mono n (fun _ _ g t ht => g t (h t ht))
theorem fs_sp_le (B : Nat → Nat) (n s : Nat) : fs_sp B n s ≤ n := fs_n_le _ n
theorem fs_sub_orL (a b : Nat) : fs_sub a (a ||| b) := fun t h => by rw [Nat.testBit_or, h]; rfl
theorem fs_sub_andL (a b : Nat) : fs_sub (a &&& b) a := fun t h => by
  rw [Nat.testBit_and] at h
  cases e : a.testBit t with
  | true => rfl
  | false => rw [e] at h; exact h
theorem fs_tb2 (k t : Nat) : (2 ^ k).testBit t = true ↔ k = t := by
  rw [Nat.testBit_two_pow]
  exact decide_eq_true_iff
theorem fs_or2 (s k t : Nat) : (s ||| 2 ^ k).testBit t = true ↔ (s.testBit t = true ∨ k = t) := by
  rw [Nat.testBit_or, Bool.or_eq_true, fs_tb2]
theorem fs_sub_or2 {s k b : Nat} : fs_sub (s ||| 2 ^ k) b ↔ (fs_sub s b ∧ b.testBit k = true) := by
  constructor
  · intro h
    exact ⟨fun t ht => h t ((fs_or2 s k t).mpr (Or.inl ht)), h k ((fs_or2 s k k).mpr (Or.inr rfl))⟩
  · rintro ⟨h1, h2⟩ t ht
    rcases (fs_or2 s k t).mp ht with a | a
    · exact h1 t a
    · rw [← a]
      exact h2
/-- c is the closure of s -/
def fs_isC (B : Nat → Nat) (n s c : Nat) : Prop := c < 256 ∧ ∀ k, c.testBit k = true ↔ (s.testBit k = true ∨ (k < 8 ∧ fs_sp B n (s ||| 2 ^ k) = fs_sp B n s))
theorem fs_isC_sub {B : Nat → Nat} {n s c : Nat} (h : fs_isC B n s c) : fs_sub s c := fun t ht => (h.2 t).mpr (Or.inl ht)
theorem fs_isC_sp {B : Nat → Nat} {n s c : Nat} (h : fs_isC B n s c) : fs_sp B n c = fs_sp B n s := by
  refine Nat.le_antisymm (fs_sp_anti (fs_isC_sub h)) (fs_n_mono n (fun i hi hs t ht => ?_))
  rcases (h.2 t).mp ht with a | ⟨_, a⟩
  · exact hs t a
  · have := fs_n_inv (P := fun i => fs_sub (s ||| 2 ^ t) (B i)) (Q := fun i => fs_sub s (B i)) n (fun i _ g => (fs_sub_or2.mp g).1) (Nat.le_of_eq a.symm) i hi hs
    exact (fs_sub_or2.mp this).2
theorem fs_isC_id {B : Nat → Nat} {n s c c' : Nat} (h : fs_isC B n s c) (h' : fs_isC B n c c') : c' = c := by
  apply Nat.eq_of_testBit_eq
  intro k
  have key : c'.testBit k = true ↔ c.testBit k = true := by
    rw [h'.2 k]
    constructor
    · rintro (a | ⟨hk, a⟩)
      · exact a
      · refine (h.2 k).mpr (Or.inr ⟨hk, ?_⟩)
        have h1 : fs_sp B n (c ||| 2 ^ k) ≤ fs_sp B n (s ||| 2 ^ k) := fs_sp_anti (fun t ht => by
          rcases (fs_or2 s k t).mp ht with z | z
          · exact (fs_or2 c k t).mpr (Or.inl (fs_isC_sub h t z))
          · exact (fs_or2 c k t).mpr (Or.inr z))
        have h2 : fs_sp B n (s ||| 2 ^ k) ≤ fs_sp B n s := fs_sp_anti (fs_sub_orL s _)
        have h3 := fs_isC_sp h
        omega
    · intro a
      exact Or.inl a
  cases e1 : c'.testBit k with
  | true => exact (key.mp e1).symm
  | false =>
    cases e2 : c.testBit k with
    | true => rw [key.mpr e2] at e1; exact e1.symm
    | false => rfl
/-! ===== Int32 masks ===== -/
theorem fs_and (a b : Nat) : nI a &&& nI b = nI (a &&& b) := by
  apply Int32.toBitVec_inj.1
  show BitVec.ofNat 32 a &&& BitVec.ofNat 32 b = BitVec.ofNat 32 (a &&& b)
  apply BitVec.eq_of_getLsbD_eq
  intro i hi
  simp [hi]
theorem fs_or (a b : Nat) : nI a ||| nI b = nI (a ||| b) := by
  apply Int32.toBitVec_inj.1
  show BitVec.ofNat 32 a ||| BitVec.ofNat 32 b = BitVec.ofNat 32 (a ||| b)
  apply BitVec.eq_of_getLsbD_eq
  intro i hi
  simp [hi]
theorem fs_or8 {a b : Nat} (ha : a < 256) (hb : b < 256) : a ||| b < 256 := Nat.or_lt_two_pow (n := 8) ha hb
theorem fs_and8 {a b : Nat} (ha : a < 256) : a &&& b < 256 := Nat.lt_of_le_of_lt Nat.and_le_left ha
theorem fs_p8 : ∀ t, t < 8 → 2 ^ t < 256 := by decide
theorem fs_sh1 : ∀ t, t < 8 → (1 : Int32) <<< (nI t &&& 31) = nI (2 ^ t) := by decide +kernel
theorem fs_orb {a t : Nat} (ht : t < 8) : nI a ||| ((1 : Int32) <<< (nI t &&& 31)) = nI (a ||| 2 ^ t) := by
  rw [fs_sh1 t ht, fs_or]
theorem fs_smod : ∀ n, n < 32 → ((nI n &&& 31).toBitVec.smod 32).toNat = n := by decide +kernel
theorem fs_tb {b t : Nat} (hb : b < 256) (ht : t < 8) : ((nI b >>> (nI t &&& 31)) &&& 1) = 0 ↔ b.testBit t = false := by
  have hd : b / 2 ^ t ≤ b := Nat.div_le_self b (2 ^ t)
  rw [pk_shrN (show b < 2 ^ 31 by omega) (nI t &&& 31) t (fs_smod t (by omega)), pk_andN (show b / 2 ^ t < 2 ^ 32 by omega) 1 (by decide), ← nI_0, nI_eq (by omega) (by omega), Nat.testBit_eq_decide_div_mod_eq, decide_eq_false_iff_not]
  omega
theorem fs_nb : ∀ n, n < 128 → (nI n).toInt8.toInt32 = nI n := by decide +kernel
theorem fs_ns : ∀ n, n < 256 → (nI n).toInt16.toInt32 = nI n := by decide +kernel
theorem fs_vb {n : Nat} (h : n < 128) : vp_nar .byte (nI n) = nI n := by rw [vp_nar_byte, fs_nb n h]
theorem fs_vs {n : Nat} (h : n < 256) : vp_nar .short (nI n) = nI n := by rw [vp_nar_short, fs_ns n h]
theorem fs_m1 : ∀ i, i < 32 → (-1 : Int32).toBitVec.getLsbD i = true := by decide +kernel
theorem fs_andn {a c : Nat} (h : fs_sub a c) : nI a &&& (nI c ^^^ (-1)) = 0 := by
  apply Int32.toBitVec_inj.1
  apply BitVec.eq_of_getLsbD_eq
  intro i hi
  rw [Int32.toBitVec_and, Int32.toBitVec_xor, BitVec.getLsbD_and, BitVec.getLsbD_xor, fs_m1 i hi]
  show ((BitVec.ofNat 32 a).getLsbD i && ((BitVec.ofNat 32 c).getLsbD i ^^ true)) = (0#32).getLsbD i
  rw [BitVec.getLsbD_ofNat, BitVec.getLsbD_ofNat, BitVec.getLsbD_zero]
  cases e : a.testBit i with
  | false => simp
  | true => simp [h i e, hi]
end
section
/-! ===== orderThings ===== -/
/-- the first t places hold t different things below t -/
def fs_Or (t : Nat) (a : Nat → Int32) (s : Nat → Nat) : Prop := (∀ p, p < t → a p = nI (s p) ∧ s p < t) ∧ ∀ p q, p < t → q < t → s p = s q → p = q
/-- the hole of the insertion stands at k -/
def fs_Ho (t k : Nat) (a : Nat → Int32) (s : Nat → Nat) : Prop := k ≤ t ∧ (∀ p, p < k → a p = nI (s p)) ∧ ∀ p, k < p → p ≤ t → a p = nI (s (p - 1))
theorem fs_Ho_move {t k : Nat} {a : Nat → Int32} {s : Nat → Nat} (h : fs_Ho t (k + 1) a s) : fs_Ho t k (upd a (k + 1) (nI (s k))) s := by
  refine ⟨by have := h.1; omega, fun p hp => ?_, fun p h1 h2 => ?_⟩
  · rw [pk_un (by omega)]
    exact h.2.1 p (by omega)
  · by_cases e : p = k + 1
    · rw [e, pk_us]
      rfl
    · rw [pk_un e]
      exact h.2.2 p (by omega) h2
theorem fs_Ho_put {t k : Nat} {a : Nat → Int32} {s : Nat → Nat} (hs : (∀ p, p < t → s p < t) ∧ ∀ p q, p < t → q < t → s p = s q → p = q) (h : fs_Ho t k a s) :
    fs_Or (t + 1) (upd a k (nI t)) (fun p => if p < k then s p else if p = k then t else s (p - 1)) := by
  obtain ⟨hk, h1, h2⟩ := h
  obtain ⟨hs1, hs2⟩ := hs
  refine ⟨fun p hp => ?_, fun p q hp hq e => ?_⟩
  · rcases Nat.lt_trichotomy p k with c | c | c
    · dsimp only
      rw [if_pos c, pk_un (by omega)]
      exact ⟨h1 p c, by have := hs1 p (by omega); omega⟩
    · dsimp only
      rw [if_neg (by omega), if_pos c, c, pk_us]
      exact ⟨rfl, by omega⟩
    · dsimp only
      rw [if_neg (by omega), if_neg (by omega), pk_un (by omega)]
      exact ⟨h2 p c (by omega), by have := hs1 (p - 1) (by omega); omega⟩
  · dsimp only at e
    rcases Nat.lt_trichotomy p k with c | c | c
    · rw [if_pos c] at e
      have b1 := hs1 p (by omega)
      rcases Nat.lt_trichotomy q k with d | d | d
      · rw [if_pos d] at e
        exact hs2 p q (by omega) (by omega) e
      · rw [if_neg (by omega), if_pos d] at e
        omega
      · rw [if_neg (by omega), if_neg (by omega)] at e
        have := hs2 p (q - 1) (by omega) (by omega) e
        omega
    · rw [if_neg (by omega), if_pos c] at e
      rcases Nat.lt_trichotomy q k with d | d | d
      · rw [if_pos d] at e
        have b2 := hs1 q (by omega)
        omega
      · omega
      · rw [if_neg (by omega), if_neg (by omega)] at e
        have b2 := hs1 (q - 1) (by omega)
        omega
    · rw [if_neg (by omega), if_neg (by omega)] at e
      have b1 := hs1 (p - 1) (by omega)
      rcases Nat.lt_trichotomy q k with d | d | d
      · rw [if_pos d] at e
        have := hs2 (p - 1) q (by omega) (by omega) e
        omega
      · rw [if_neg (by omega), if_pos d] at e
        omega
      · rw [if_neg (by omega), if_neg (by omega)] at e
        have := hs2 (p - 1) (q - 1) (by omega) (by omega) e
        omega
section
variable {post : St1 → Prop} {bc bu nc : Int32} {a1 a2 a3 a4 a5 a6 a7 a8 a9 a10 a11 a12 a13 : Nat → Int32}
variable {J : Int32 → (Nat → Int32) → (Nat → Int32) → (Nat → Int32) → (Nat → Int32) → (Nat → Int32) → (Nat → Int32) → (Nat → Int32) → (Nat → Int32) → (Nat → Int32) → (Nat → Int32) → (Nat → Int32) → (Nat → Int32) → (Nat → Int32) → Prop}
theorem fs_o129 {s : Nat → Nat} (h : fs_Or 8 a7 s) (H : ∀ a8, post (bc, bu, nc, a1, a2, a3, a4, a5, a6, a7, a8, a9, a10, a11, a12, a13)) : ∃ n, wX_orderThings_129 post bc bu nc n 0 a1 a2 a3 a4 a5 a6 a7 a8 a9 a10 a11 a12 a13 :=
  pk_loop (fun n i s => wX_orderThings_129 post bc bu nc n (nI i) a1 a2 a3 a4 a5 a6 a7 s a9 a10 a11 a12 a13) (fun _ _ => True) 8 0 a8 (by omega) trivial
    (fun n s _ => pk_le 8 8 (fun _ => H s) (fun z => absurd z (by omega)))
    (fun n i s hi _ hw => pk_le 8 i (fun z => absurd z (by omega)) (fun _ => ⟨pk_in i 8 hi, by rw [nI_clamp (show i < 2 ^ 31 by omega), (h.1 i hi).1]; exact vp_in_nI (h.1 i hi).2 (by decide), nm_e (nm_r (nI_1 i) (hw _ trivial))⟩))
theorem fs_o113 {t k : Nat} {s : Nat → Nat} (ht : t < 8) (hs : (∀ p, p < t → s p < t) ∧ ∀ p q, p < t → q < t → s p = s q → p = q) (h : fs_Ho t k a7 s)
    (H : ∀ a7 s, fs_Or (t + 1) a7 s → J (nI (t + 1)) a1 a2 a3 a4 a5 a6 a7 a8 a9 a10 a11 a12 a13) : wX_orderThings_113 post J (nI t) (nI k) bc bu nc a1 a2 a3 a4 a5 a6 a7 a8 a9 a10 a11 a12 a13 := by
  have hk := h.1
  refine ⟨pk_in k 8 (by omega), nm_r (e' := upd a7 k (nI t)) ?_ (nm_r (nI_1 t) (H _ _ (fs_Ho_put hs h)))⟩
  rw [nI_clamp (show k < 2 ^ 31 by omega), fs_nb t (by omega)]
theorem fs_o67 {t : Nat} {s : Nat → Nat} (ht : t < 8) (h : fs_Or t a7 s)
    (H : ∀ a7 s, fs_Or (t + 1) a7 s → J (nI (t + 1)) a1 a2 a3 a4 a5 a6 a7 a8 a9 a10 a11 a12 a13) : ∃ n, wX_orderThings_67 post J (nI t) bc bu nc n (nI t) a1 a2 a3 a4 a5 a6 a7 a8 a9 a10 a11 a12 a13 := by
  have hs : (∀ p, p < t → s p < t) ∧ ∀ p q, p < t → q < t → s p = s q → p = q := ⟨fun p hp => (h.1 p hp).2, h.2⟩
  refine ⟨t + 1, pk_loopD (fun n i a7 => wX_orderThings_67 post J (nI t) bc bu nc n (nI i) a1 a2 a3 a4 a5 a6 a7 a8 a9 a10 a11 a12 a13) (fun i a7 => fs_Ho t i a7 s) ?_ ?_ t a7 ⟨Nat.le_refl t, fun p hp => (h.1 p hp).1, fun p h1 h2 => absurd h1 (by omega)⟩⟩
  · intro n a7 h
    exact pk_le 0 0 (fun _ => fs_o113 ht hs h H) (fun z => absurd z (by omega))
  · intro n i a7 h hw
    have hi := h.1
    refine pk_le (i + 1) 0 (fun z => absurd z (by omega)) (fun _ => ?_)
    have e1 : a7 i = nI (s i) := h.2.1 i (by omega)
    have e2 := hs.1 i (by omega)
    rw [nI_pred, nI_clamp (show i < 2 ^ 31 by omega), nI_clamp (show i + 1 < 2 ^ 31 by omega), e1]
    refine ⟨pk_in i 8 (by omega), pk_in (s i) 8 (by omega), pk_in t 8 (by omega), br_c (fun _ => fs_o113 ht hs h H) (fun _ => ⟨pk_in i 8 (by omega), pk_in (i + 1) 8 (by omega), ?_⟩)⟩
    rw [fs_vb (show s i < 128 by omega)]
    exact nm_e (nm_r (pk_m1 i) (hw _ (fs_Ho_move h)))
theorem fs_o59 (H : ∀ a7 a8 s, fs_Or 8 a7 s → post (bc, bu, nc, a1, a2, a3, a4, a5, a6, a7, a8, a9, a10, a11, a12, a13)) : ∃ n, wX_orderThings_59 post bc bu nc n 0 a1 a2 a3 a4 a5 a6 a7 a8 a9 a10 a11 a12 a13 :=
  pk_loop (fun n i a7 => wX_orderThings_59 post bc bu nc n (nI i) a1 a2 a3 a4 a5 a6 a7 a8 a9 a10 a11 a12 a13) (fun i a7 => ∃ s, fs_Or i a7 s) 8 0 a7 (by omega) ⟨fun _ => 0, fun p hp => absurd hp (by omega), fun p q hp => absurd hp (by omega)⟩
    (fun n a7 h => pk_le 8 8 (fun _ => h.elim (fun s hs => fs_o129 hs (fun a8 => H a7 a8 s hs))) (fun z => absurd z (by omega)))
    (fun n i a7 hi h hw => pk_le 8 i (fun z => absurd z (by omega)) (fun _ => h.elim (fun s hs => fs_o67 hi hs (fun a7 s' h' => hw a7 ⟨s', h'⟩))))
theorem fs_o17 {c t : Nat} (hc : c ≤ 20) (ht : t < 8) (H : ∀ a9, J (nI (t + 1)) a1 a2 a3 a4 a5 a6 a7 a8 a9 a10 a11 a12 a13) : ∃ n, wX_orderThings_17 post J (nI t) (nI c) bu nc n 0 a1 a2 a3 a4 a5 a6 a7 a8 a9 a10 a11 a12 a13 :=
  pk_loop (fun n i a9 => wX_orderThings_17 post J (nI t) (nI c) bu nc n (nI i) a1 a2 a3 a4 a5 a6 a7 a8 a9 a10 a11 a12 a13) (fun _ _ => True) c 0 a9 (by omega) trivial
    (fun n a9 _ => pk_le c c (fun _ => nm_r (nI_1 t) (H a9)) (fun z => absurd z (by omega)))
    (fun n i a9 hi _ hw => pk_le c i (fun z => absurd z (by omega)) (fun _ => ⟨pk_in t 8 ht, pk_in i 20 (by omega), pk_in t 8 ht, nm_e (nm_r (nI_1 i) (hw _ trivial))⟩))
theorem fs_orderThings {c : Nat} (hc : c ≤ 20) (H : ∀ a7 a8 a9 s, fs_Or 8 a7 s → post (nI c, bu, nc, a1, a2, a3, a4, a5, a6, a7, a8, a9, a10, a11, a12, a13)) : wpX_orderThings post (nI c, bu, nc, a1, a2, a3, a4, a5, a6, a7, a8, a9, a10, a11, a12, a13) :=
  pk_loop (fun n i a9 => wX_orderThings_2 post (nI c) bu nc n (nI i) a1 a2 a3 a4 a5 a6 a7 a8 a9 a10 a11 a12 a13) (fun _ _ => True) 8 0 a9 (by omega) trivial
    (fun n a9 _ => pk_le 8 8 (fun _ => fs_o59 (fun a7 a8 s hs => H a7 a8 a9 s hs)) (fun z => absurd z (by omega)))
    (fun n i a9 hi _ hw => pk_le 8 i (fun z => absurd z (by omega)) (fun _ => ⟨pk_in i 8 hi, nm_e (fs_o17 hc hi (fun a9 => hw a9 trivial))⟩))
end
end
section
/-! ===== the tree ===== -/
/-- nodes 1 .. N-1; fo p: the last node of the thing at place p, sm x: the node of the same thing before x -/
def fs_Tr (N : Nat) (up T sm fo : Nat → Nat) : Prop := fs_Sh up T ∧ (∀ p, p < 8 → fo p < N ∧ (fo p ≠ 0 → T (fo p) = p + 1) ∧ ∀ z, fo p < z → z < N → T z ≠ p + 1) ∧
  ∀ x, x ≠ 0 → x < N → sm x < x ∧ (sm x ≠ 0 → T (sm x) = T x) ∧ ∀ z, sm x < z → z < x → T z ≠ T x
def fs_Tm (N : Nat) (s up sm fo : Nat → Nat) (a4 a5 a6 a7 : Nat → Int32) : Prop := fs_Or 8 a7 s ∧ (∀ x, x ≠ 0 → x < N → a4 x = nI (up x) ∧ a5 x = nI (sm x)) ∧ ∀ p, p < 8 → a6 (s p) = nI (fo p)
/-- the path above nd holds the things of b at places below q -/
def fs_Pa (s : Nat → Nat) (b q nd : Nat) (up T : Nat → Nat) : Prop := ∀ p, p < 8 → ((∃ y, fs_an up y nd ∧ T y = p + 1) ↔ (p < q ∧ b.testBit (s p) = true))
/-- m baskets are planted, basket i ends at node e i -/
def fs_Bk (m : Nat) (B s : Nat → Nat) (N : Nat) (up T e : Nat → Nat) : Prop := ∀ i, i < m → e i < N ∧ fs_Pa s (B i) 8 (e i) up T
/-- and one more, b, so far at places below q, to node nd -/
def fs_Pg (m : Nat) (B s : Nat → Nat) (b q nd N : Nat) (up T sm fo e : Nat → Nat) (a3 a4 a5 a6 a7 : Nat → Int32) : Prop :=
  fs_Tr N up T sm fo ∧ fs_Tm N s up sm fo a4 a5 a6 a7 ∧ nd < N ∧ T nd ≤ q ∧ fs_Pa s b q nd up T ∧ fs_Bk m B s N up T e ∧
  ∀ x, x ≠ 0 → x < N → a3 x = nI (fs_n (fun i => fs_an up x (e i)) m + fs_i (fs_an up x nd))
theorem fs_Pg_skip {m : Nat} {B s : Nat → Nat} {b q nd N : Nat} {up T sm fo e : Nat → Nat} {a3 a4 a5 a6 a7 : Nat → Int32}
    (h : fs_Pg m B s b q nd N up T sm fo e a3 a4 a5 a6 a7) (hb : b.testBit (s q) = false) : fs_Pg m B s b (q + 1) nd N up T sm fo e a3 a4 a5 a6 a7 := by
  obtain ⟨h1, h2, h3, h4, h5, h6, h7⟩ := h
  refine ⟨h1, h2, h3, by omega, fun p hp => ?_, h6, h7⟩
  rw [h5 p hp]
  constructor
  · rintro ⟨c1, c2⟩
    exact ⟨by omega, c2⟩
  · rintro ⟨c1, c2⟩
    refine ⟨?_, c2⟩
    by_cases ep : p = q
    · rw [ep, hb] at c2
      exact absurd c2 (by decide)
    · omega
theorem fs_Pg_go {m : Nat} {B s : Nat → Nat} {b q nd N x : Nat} {up T sm fo e : Nat → Nat} {a3 a4 a5 a6 a7 : Nat → Int32}
    (h : fs_Pg m B s b q nd N up T sm fo e a3 a4 a5 a6 a7) (hm : m < 20) (hb : b.testBit (s q) = true) (hx0 : x ≠ 0) (hxN : x < N) (hu : up x = nd) (hT : T x = q + 1) :
    fs_Pg m B s b (q + 1) x N up T sm fo e (upd a3 x (a3 x + 1).toInt8.toInt32) a4 a5 a6 a7 := by
  obtain ⟨h1, h2, h3, h4, h5, h6, h7⟩ := h
  have sh := h1.1
  have hlt := sh.2.1 x hx0
  refine ⟨h1, h2, hxN, by omega, fun p hp => ?_, h6, fun z hz0 hzN => ?_⟩
  · constructor
    · rintro ⟨y, hy, ty⟩
      rcases (fs_an_iff sh hx0).mp hy with c | c
      · have : p = q := by rw [c] at ty; omega
        exact ⟨by omega, by rw [this]; exact hb⟩
      · rw [hu] at c
        have := (h5 p hp).mp ⟨y, c, ty⟩
        exact ⟨by omega, this.2⟩
    · rintro ⟨c1, c2⟩
      by_cases ep : p = q
      · exact ⟨x, fs_an_r up x, by omega⟩
      · obtain ⟨y, hy, ty⟩ := (h5 p hp).mpr ⟨by omega, c2⟩
        exact ⟨y, fs_an_u (by rw [hu]; exact hy), ty⟩
  · by_cases ez : z = x
    · have nx : ¬ fs_an up x nd := fun a => by
        have := fs_an_le sh a
        omega
      rw [ez, pk_us, h7 x hx0 hxN, fs_i_f nx, fs_i_t (fs_an_r up x), nI_1]
      have := fs_n_le (fun i => fs_an up x (e i)) m
      exact fs_nb _ (by omega)
    · rw [pk_un ez, h7 z hz0 hzN]
      have : fs_an up z nd ↔ fs_an up z x := by
        rw [fs_an_iff sh hx0, hu]
        exact ⟨Or.inr, fun c => c.elim (fun w => absurd w ez) id⟩
      rw [fs_i_congr this]
theorem fs_Sh_add {up T : Nat → Nat} {N nd q : Nat} (h : fs_Sh up T) (h3 : nd < N) (hq : T nd ≤ q) (hN : ∀ z, N < z → up z = 0 ∧ T z = 1) :
    fs_Sh (fun z => if z = N then nd else up z) (fun z => if z = N then q + 1 else T z) := by
  have hN0 : N ≠ 0 := by omega
  refine ⟨?_, fun z hz => ?_, ?_, fun z hz => ?_⟩
  · dsimp only
    rw [if_neg (fun c => hN0 c.symm)]
    exact h.1
  · dsimp only
    by_cases e : z = N
    · rw [if_pos e]
      omega
    · rw [if_neg e]
      exact h.2.1 z hz
  · dsimp only
    rw [if_neg (fun c => hN0 c.symm)]
    exact h.2.2.1
  · dsimp only
    by_cases e : z = N
    · rw [if_pos e, if_pos e, if_neg (by omega)]
      omega
    · rw [if_neg e, if_neg e]
      rcases Nat.lt_or_ge N z with c | c
      · rw [(hN z c).1, if_neg (fun c => hN0 c.symm), h.2.2.1, (hN z c).2]
        omega
      · have := h.2.1 z hz
        rw [if_neg (by omega)]
        exact h.2.2.2 z hz
theorem fs_Pa_add {s : Nat → Nat} {b r nd N M q : Nat} {up T : Nat → Nat} (sh : fs_Sh up T) (hr : r < N) (h : fs_Pa s b q r up T) :
    fs_Pa s b q r (fun z => if z = N then nd else up z) (fun z => if z = N then M else T z) := by
  have hu : ∀ z, z < N → (fun z => if z = N then nd else up z) z = up z := fun z hz => if_neg (by omega)
  intro p hp
  rw [← h p hp]
  constructor
  · rintro ⟨y, hy, ty⟩
    have hy' := (fs_an_congr sh hu hr).mp hy
    have := fs_an_le sh hy'
    refine ⟨y, hy', ?_⟩
    dsimp only at ty
    rw [if_neg (by omega)] at ty
    exact ty
  · rintro ⟨y, hy, ty⟩
    have := fs_an_le sh hy
    refine ⟨y, (fs_an_congr sh hu hr).mpr hy, ?_⟩
    dsimp only
    rw [if_neg (by omega)]
    exact ty
/-- a node N below nd, with the thing at place q -/
theorem fs_Pg_add {m : Nat} {B s : Nat → Nat} {b q nd N : Nat} {up T sm fo e : Nat → Nat} {a3 a4 a5 a6 a7 : Nat → Int32} (hq : q < 8)
    (h : fs_Pg m B s b q nd N up T sm fo e a3 a4 a5 a6 a7) (hN : ∀ z, N ≤ z → z ≠ 0 → up z = 0 ∧ T z = 1) :
    fs_Pg m B s b q nd (N + 1) (fun z => if z = N then nd else up z) (fun z => if z = N then q + 1 else T z) (fun z => if z = N then fo q else sm z) (fun p => if p = q then N else fo p) e
      (upd a3 N 0) (upd a4 N (nI nd)) (upd a5 N (nI (fo q))) (upd a6 (s q) (nI N)) a7 := by
  obtain ⟨h1, h2, h3, h4, h5, h6, h7⟩ := h
  have sh := h1.1
  have hN0 : N ≠ 0 := by omega
  have hu : ∀ z, z < N → (fun z => if z = N then nd else up z) z = up z := fun z hz => if_neg (by omega)
  have hfq := h1.2.1 q hq
  refine ⟨⟨fs_Sh_add sh h3 h4 (fun z hz => hN z (by omega) (by omega)), fun p hp => ?_, fun x hx0 hxN => ?_⟩, ⟨h2.1, fun x hx0 hxN => ?_, fun p hp => ?_⟩, by omega, ?_, fs_Pa_add sh h3 h5, fun i hi => ⟨by have := (h6 i hi).1; omega, fs_Pa_add sh (h6 i hi).1 (h6 i hi).2⟩, fun x hx0 hxN => ?_⟩
  · have hfp := h1.2.1 p hp
    dsimp only
    by_cases e : p = q
    · rw [if_pos e]
      refine ⟨by omega, fun _ => by rw [if_pos rfl, e], fun z z1 z2 => absurd z1 (by omega)⟩
    · rw [if_neg e, if_neg (by omega)]
      refine ⟨by omega, hfp.2.1, fun z z1 z2 => ?_⟩
      by_cases ez : z = N
      · rw [if_pos ez]
        omega
      · rw [if_neg ez]
        exact hfp.2.2 z z1 (by omega)
  · dsimp only
    by_cases e : x = N
    · rw [if_pos e, if_pos e]
      refine ⟨by omega, fun f0 => ?_, fun z z1 z2 => ?_⟩
      · rw [if_neg (by omega)]
        exact hfq.2.1 f0
      · rw [if_neg (by omega)]
        exact hfq.2.2 z z1 (by omega)
    · have hx := h1.2.2 x hx0 (by omega)
      rw [if_neg e, if_neg e]
      refine ⟨hx.1, fun f0 => ?_, fun z z1 z2 => ?_⟩
      · rw [if_neg (by omega)]
        exact hx.2.1 f0
      · rw [if_neg (by omega)]
        exact hx.2.2 z z1 z2
  · dsimp only
    by_cases e : x = N
    · rw [if_pos e, if_pos e, e, pk_us, pk_us]
      exact ⟨rfl, rfl⟩
    · rw [if_neg e, if_neg e, pk_un e, pk_un e]
      exact h2.2.1 x hx0 (by omega)
  · dsimp only
    by_cases e : p = q
    · rw [if_pos e, e, pk_us]
    · rw [if_neg e, pk_un (fun c => e (h2.1.2 p q hp hq c))]
      exact h2.2.2 p hp
  · dsimp only
    rw [if_neg (by omega)]
    exact h4
  · by_cases ex : x = N
    · rw [ex, pk_us, fs_n_0 m (fun i hi a => ?_), fs_i_f (fun a => ?_)]
      · rfl
      · have := fs_an_le sh ((fs_an_congr sh hu h3).mp a)
        omega
      · have h6i := (h6 i hi).1
        have := fs_an_le sh ((fs_an_congr sh hu h6i).mp a)
        omega
    · rw [pk_un ex, h7 x hx0 (by omega), fs_i_congr (fs_an_congr sh hu h3), fs_n_congr m (fun i hi => fs_an_congr sh hu (h6 i hi).1)]
end
section
/-! ===== childWith, plant ===== -/
section
variable {post : St1 → Prop} {bc bu nc : Int32} {a1 a2 a3 a4 a5 a6 a7 a8 a9 a10 a11 a12 a13 : Nat → Int32}
theorem fs_childWith {post : Int32 → Prop} {N nd p : Nat} {s up T sm fo : Nat → Nat} (tr : fs_Tr N up T sm fo) (tm : fs_Tm N s up sm fo a4 a5 a6 a7) (hN : N ≤ 161) (hp : p < 8) (hnd : nd < N)
    (H0 : post 0) (H1 : ∀ x, x ≠ 0 → x < N → up x = nd → T x = p + 1 → post (nI x)) : wpX_childWith post (bc, bu, nc, a1, a2, a3, a4, a5, a6, a7, a8, a9, a10, a11, a12, a13) (nI nd) (nI (s p)) := by
  have hs := (tm.1.1 p hp).2
  have hf := tr.2.1 p hp
  refine ⟨pk_in (s p) 8 hs, nm_r (e' := nI (fo p)) (by rw [nI_clamp (by omega)]; exact tm.2.2 p hp) ?_⟩
  refine loop_m (σ := Nat) (fun n x => wX_childWith_7 post (nI nd) bc bu nc a1 a2 a3 a4 a5 a6 a7 a8 a9 a10 a11 a12 a13 n (nI x)) (fun x => x < N ∧ (x ≠ 0 → T x = p + 1)) id ?_ (fo p) ⟨hf.1, hf.2.1⟩
  rintro n x ⟨hx, hx2⟩ hw
  refine pk_eq x 0 (fun _ => H0) (fun e => ⟨pk_in x 161 (by omega), ?_⟩)
  rw [nI_clamp (show x < 2 ^ 31 by omega), (tm.2.1 x e hx).1, (tm.2.1 x e hx).2]
  have hm := tr.2.2 x e hx
  have hux := tr.1.2.1 x e
  refine pk_eq (up x) nd (fun e2 => H1 x e hx e2 (hx2 e)) (fun _ => ⟨pk_in x 161 (by omega), nm_e (hw (sm x) ⟨by omega, fun f0 => ?_⟩ hm.1)⟩)
  rw [hm.2.1 f0]
  exact hx2 e
def fs_Fr (N : Nat) (up T : Nat → Nat) : Prop := ∀ z, N ≤ z → z ≠ 0 → up z = 0 ∧ T z = 1
theorem fs_Fr_add {N nd q : Nat} {up T : Nat → Nat} (h : fs_Fr N up T) : fs_Fr (N + 1) (fun z => if z = N then nd else up z) (fun z => if z = N then q + 1 else T z) := by
  intro z h1 h2
  dsimp only
  rw [if_neg (by omega), if_neg (by omega)]
  exact h z (by omega) h2
theorem fs_p111 {J : Int32 → Int32 → Int32 → (Nat → Int32) → (Nat → Int32) → (Nat → Int32) → (Nat → Int32) → (Nat → Int32) → (Nat → Int32) → (Nat → Int32) → (Nat → Int32) → (Nat → Int32) → (Nat → Int32) → (Nat → Int32) → (Nat → Int32) → (Nat → Int32) → Prop} {x1 : Int32} {q x : Nat} (hx : x < 161)
    (H : J (nI x) (nI (q + 1)) nc a1 a2 (upd a3 x (a3 x + 1).toInt8.toInt32) a4 a5 a6 a7 a8 a9 a10 a11 a12 a13) : wX_plant_111 post J x1 (nI q) (nI x) bc bu nc a1 a2 a3 a4 a5 a6 a7 a8 a9 a10 a11 a12 a13 := by
  refine ⟨pk_in x 161 hx, pk_in x 161 hx, ?_⟩
  rw [nI_clamp (show x < 2 ^ 31 by omega)]
  exact nm_e (nm_r (nI_1 q) H)
theorem fs_p4 {m b c : Nat} {B s e : Nat → Nat} (hm : m < 20) (hb : b < 256)
    (H : ∀ N nd up T sm fo a2 a3 a4 a5 a6, N ≤ 1 + 8 * m + 8 → fs_Fr N up T → fs_Pg m B s b 8 nd N up T sm fo e a3 a4 a5 a6 a7 → post (nI c, bu, nI N, a1, a2, a3, a4, a5, a6, a7, a8, a9, a10, a11, a12, a13)) :
    ∀ k q N nd up T sm fo a2 a3 a4 a5 a6, q + k = 8 → N ≤ 1 + 8 * m + q → fs_Fr N up T → fs_Pg m B s b q nd N up T sm fo e a3 a4 a5 a6 a7 →
      wX_plant_4 post (nI b) (nI c) bu (k + 1) (nI nd) (nI q) (nI N) a1 a2 a3 a4 a5 a6 a7 a8 a9 a10 a11 a12 a13 := by
  intro k
  induction k with
  | zero =>
    intro q N nd up T sm fo a2 a3 a4 a5 a6 hq hN hF h
    have eq : q = 8 := by omega
    subst eq
    exact pk_le 8 8 (fun _ => H N nd up T sm fo a2 a3 a4 a5 a6 hN hF h) (fun z => absurd z (by omega))
  | succ k ih =>
    intro q N nd up T sm fo a2 a3 a4 a5 a6 hq hN hF h
    have hq8 : q < 8 := by omega
    have h1 := h.1
    have h2 := h.2.1
    have h3 := h.2.2.1
    have hs := h2.1.1 q hq8
    have hfq := h1.2.1 q hq8
    refine pk_le 8 q (fun z => absurd z (by omega)) (fun _ => ⟨pk_in q 8 hq8, nm_r (e' := nI (s q)) (by rw [nI_clamp (by omega)]; exact hs.1) ?_⟩)
    refine ek_if (fs_tb hb hs.2) (fun hbit => nm_r (nI_1 q) (ih (q + 1) N nd up T sm fo a2 a3 a4 a5 a6 (by omega) (by omega) hF (fs_Pg_skip h hbit))) (fun hbit => ?_)
    have hbt : b.testBit (s q) = true := by
      cases e : b.testBit (s q) with
      | true => rfl
      | false => exact absurd e hbit
    refine fs_childWith h1 h2 (by omega) hq8 h3 (br_t rfl ?_) (fun x hx0 hxN hu hT => br_f (nI_ne0 (by omega) (by omega)) (fs_p111 (by omega) (ih (q + 1) N x up T sm fo _ _ _ _ _ (by omega) (by omega) hF (fs_Pg_go h hm hbt hx0 hxN hu hT))))
    refine nm_r (nI_1 N) ⟨pk_in N 161 (by omega), ?_⟩
    rw [nI_clamp (show N < 2 ^ 31 by omega), nI_clamp (show s q < 2 ^ 31 by omega), fs_ns N (by omega), fs_ns nd (by omega), h2.2.2 q hq8, fs_vs (show fo q < 256 by omega)]
    refine nm_e ⟨pk_in N 161 (by omega), nm_e ⟨pk_in N 161 (by omega), nm_e ⟨pk_in (s q) 8 hs.2, pk_in N 161 (by omega), nm_e ⟨pk_in (s q) 8 hs.2, nm_e ?_⟩⟩⟩⟩
    exact fs_p111 (by omega) (ih (q + 1) (N + 1) N _ _ _ _ _ _ _ _ _ (by omega) (by omega) (fs_Fr_add hF) (fs_Pg_go (fs_Pg_add hq8 h hF) hm hbt (by omega) (by omega) (if_pos rfl) (if_pos rfl)))
/-- the tree of m baskets, and the state that holds it -/
def fs_Tree (m : Nat) (B s : Nat → Nat) (N : Nat) (up T sm fo e : Nat → Nat) (a3 a4 a5 a6 a7 : Nat → Int32) : Prop :=
  N ≤ 1 + 8 * m ∧ 0 < N ∧ fs_Fr N up T ∧ fs_Tr N up T sm fo ∧ fs_Tm N s up sm fo a4 a5 a6 a7 ∧ fs_Bk m B s N up T e ∧
  ∀ x, x ≠ 0 → x < N → a3 x = nI (fs_n (fun i => fs_an up x (e i)) m)
theorem fs_Tree_go {m : Nat} {B s : Nat → Nat} {N : Nat} {up T sm fo e : Nat → Nat} {a3 a4 a5 a6 a7 : Nat → Int32} (b : Nat) (h : fs_Tree m B s N up T sm fo e a3 a4 a5 a6 a7) :
    fs_Pg m B s b 0 0 N up T sm fo e a3 a4 a5 a6 a7 := by
  obtain ⟨h1, h2, h3, h4, h5, h6, h7⟩ := h
  have sh := h4.1
  refine ⟨h4, h5, h2, by rw [sh.2.2.1]; exact Nat.le_refl 0, fun p hp => ?_, h6, fun x hx0 hxN => ?_⟩
  · constructor
    · rintro ⟨y, hy, ty⟩
      have := fs_an_T sh hy
      rw [sh.2.2.1] at this
      omega
    · rintro ⟨c, _⟩
      exact absurd c (by omega)
  · rw [h7 x hx0 hxN, fs_i_f (fun a => by have := fs_an_le sh a; omega), Nat.add_zero]
theorem fs_Pg_done {m : Nat} {B s : Nat → Nat} {nd N : Nat} {up T sm fo e : Nat → Nat} {a3 a4 a5 a6 a7 : Nat → Int32} (hN : N ≤ 1 + 8 * m + 8) (hF : fs_Fr N up T)
    (h : fs_Pg m B s (B m) 8 nd N up T sm fo e a3 a4 a5 a6 a7) : fs_Tree (m + 1) B s N up T sm fo (fun i => if i = m then nd else e i) a3 a4 a5 a6 a7 := by
  obtain ⟨h1, h2, h3, h4, h5, h6, h7⟩ := h
  refine ⟨by omega, by omega, hF, h1, h2, fun i hi => ?_, fun x hx0 hxN => ?_⟩
  · dsimp only
    by_cases ei : i = m
    · rw [if_pos ei, ei]
      exact ⟨h3, h5⟩
    · rw [if_neg ei]
      exact h6 i (by omega)
  · rw [h7 x hx0 hxN, fs_n_s]
    dsimp only
    rw [if_pos rfl, fs_n_congr (P := fun i => fs_an up x (e i)) (Q := fun i => fs_an up x (if i = m then nd else e i)) m (fun i hi => by rw [if_neg (by omega)])]
theorem fs_plant {m c : Nat} {B s : Nat → Nat} {N : Nat} {up T sm fo e : Nat → Nat} (hm : m < 20) (hb : B m < 256) (h : fs_Tree m B s N up T sm fo e a3 a4 a5 a6 a7)
    (H : ∀ N up T sm fo e a2 a3 a4 a5 a6, fs_Tree (m + 1) B s N up T sm fo e a3 a4 a5 a6 a7 → post (nI c, bu, nI N, a1, a2, a3, a4, a5, a6, a7, a8, a9, a10, a11, a12, a13)) :
    wpX_plant post (nI c, bu, nI N, a1, a2, a3, a4, a5, a6, a7, a8, a9, a10, a11, a12, a13) (nI (B m)) :=
  ⟨9, fs_p4 (e := e) hm hb (fun N nd up T sm fo a2 a3 a4 a5 a6 hN hF hg => H N up T sm fo _ a2 a3 a4 a5 a6 (fs_Pg_done hN hF hg)) 8 0 N 0 up T sm fo a2 a3 a4 a5 a6 (by omega) (by have := h.1; omega) h.2.2.1 (fs_Tree_go (B m) h)⟩
end
end
section
/-! ===== countOn, liftWeights ===== -/
theorem fs_ix (d x : Nat) : (161 : Int32) * nI d + nI x = nI (161 * d + x) := by
  rw [show (161 : Int32) = nI 161 from rfl, pk_mul, nI_add]
theorem fs_sub1 {N : Nat} (h : 0 < N) : nI N - 1 = nI (N - 1) := by
  rw [show (1 : Int32) = nI 1 from rfl, pk_sub (by omega)]
/-- after the nodes k and above: basket i has come to x -/
def fs_K (up : Nat → Nat) (R : Nat → Nat → Prop) (N k x i : Nat) : Prop := ∃ y, y < N ∧ R y i ∧ fs_ak up k x y
theorem fs_K_same {up T : Nat → Nat} {R : Nat → Nat → Prop} {N m x i : Nat} (sh : fs_Sh up T) (hm : m ≠ 0) (hx : x ≠ up m) : fs_K up R N m x i ↔ fs_K up R N (m + 1) x i := by
  constructor
  · rintro ⟨y, h1, h2, h3⟩
    rcases (fs_ak_step sh hm).mp h3 with c | c
    · exact ⟨y, h1, h2, c⟩
    · exact absurd c.1 hx
  · rintro ⟨y, h1, h2, h3⟩
    exact ⟨y, h1, h2, (fs_ak_step sh hm).mpr (Or.inl h3)⟩
theorem fs_K_add {up T : Nat → Nat} {R : Nat → Nat → Prop} {N m n : Nat} (sh : fs_Sh up T) (hm : m ≠ 0) (hu : ∀ i, i < n → ∀ y z, R y i → R z i → y = z) :
    fs_n (fs_K up R N (m + 1) (up m)) n + fs_n (fs_K up R N (m + 1) m) n = fs_n (fs_K up R N m (up m)) n := by
  rw [fs_n_or n ?_]
  · refine fs_n_congr n (fun i hi => ⟨?_, ?_⟩)
    · rintro (⟨y, h1, h2, h3⟩ | ⟨y, h1, h2, h3⟩)
      · exact ⟨y, h1, h2, (fs_ak_step sh hm).mpr (Or.inl h3)⟩
      · exact ⟨y, h1, h2, (fs_ak_step sh hm).mpr (Or.inr ⟨rfl, h3⟩)⟩
    · rintro ⟨y, h1, h2, h3⟩
      rcases (fs_ak_step sh hm).mp h3 with c | c
      · exact Or.inl ⟨y, h1, h2, c⟩
      · exact Or.inr ⟨y, h1, h2, c.2⟩
  · rintro i hi ⟨y, h1, h2, h3⟩ ⟨z, g1, g2, g3⟩
    have := hu i hi y z h2 g2
    subst this
    exact fs_ak_apart sh hm h3 g3
section
variable {post : St1 → Prop} {bc bu nc : Int32} {a1 a2 a3 a4 a5 a6 a7 a8 a9 a10 a11 a12 a13 : Nat → Int32}
theorem fs_countOn {post : Int32 → Prop} {N d p : Nat} {s up T sm fo w : Nat → Nat} (tr : fs_Tr N up T sm fo) (tm : fs_Tm N s up sm fo a4 a5 a6 a7) (hN : N ≤ 161) (hd : d ≤ 8) (hp : p < 8)
    (hw : ∀ z, z ≠ 0 → z < N → T z = p + 1 → a11 (161 * d + z) = nI (w z)) (H : post (nI (fs_s (fun z => if T z = p + 1 then w z else 0) N))) :
    wpX_countOn post (bc, bu, nc, a1, a2, a3, a4, a5, a6, a7, a8, a9, a10, a11, a12, a13) (nI d) (nI (s p)) := by
  have hs := (tm.1.1 p hp).2
  have hf := tr.2.1 p hp
  refine ⟨pk_in (s p) 8 hs, nm_r (e' := nI (fo p)) (by rw [nI_clamp (by omega)]; exact tm.2.2 p hp) ?_⟩
  refine loop_m (σ := Nat × Nat) (fun n x => wX_countOn_10 post (nI d) bc bu nc a1 a2 a3 a4 a5 a6 a7 a8 a9 a10 a11 a12 a13 n (nI x.1) (nI x.2))
    (fun x => x.2 < N ∧ (x.2 ≠ 0 → T x.2 = p + 1) ∧ x.1 + fs_s (fun z => if T z = p + 1 then w z else 0) (x.2 + 1) = fs_s (fun z => if T z = p + 1 then w z else 0) N) (fun x => x.2) ?_ (0, fo p) ⟨hf.1, hf.2.1, ?_⟩
  · rintro n ⟨c, x⟩ ⟨hx, hx2, hx3⟩ ih
    dsimp only at hx hx2 hx3
    dsimp only
    refine pk_eq x 0 (fun e => ?_) (fun e => ?_)
    · have h0 : fs_s (fun z => if T z = p + 1 then w z else 0) (x + 1) = 0 := by
        rw [e]
        show 0 + (if T 0 = p + 1 then w 0 else 0) = 0
        rw [if_neg (by rw [tr.1.2.2.1]; omega)]
      rw [h0] at hx3
      rw [show c = fs_s (fun z => if T z = p + 1 then w z else 0) N by omega]
      exact H
    · have hm := tr.2.2 x e hx
      rw [fs_ix, nI_clamp (show 161 * d + x < 2 ^ 31 by omega), nI_clamp (show x < 2 ^ 31 by omega), hw x e hx (hx2 e), (tm.2.1 x e hx).2, nI_add]
      refine ⟨pk_in (161 * d + x) 1449 (by omega), nm_e ⟨pk_in x 161 (by omega), nm_e (ih (c + w x, sm x) ⟨by show sm x < N; omega, fun f0 => ?_, ?_⟩ hm.1)⟩⟩
      · show T (sm x) = p + 1
        rw [hm.2.1 f0]
        exact hx2 e
      · show c + w x + fs_s (fun z => if T z = p + 1 then w z else 0) (sm x + 1) = _
        rw [← hx3]
        show _ = c + (fs_s (fun z => if T z = p + 1 then w z else 0) x + (if T x = p + 1 then w x else 0))
        rw [if_pos (hx2 e), fs_s_gap x (m := sm x + 1) (by omega) (fun z z1 z2 => ?_)]
        · omega
        · have := hm.2.2 z (by omega) z2
          rw [if_neg (by rw [← hx2 e]; exact this)]
  · show 0 + fs_s (fun z => if T z = p + 1 then w z else 0) (fo p + 1) = _
    rw [Nat.zero_add]
    exact (fs_s_gap N (by omega) (fun z z1 z2 => if_neg (hf.2.2 z (by omega) z2))).symm
theorem fs_l94 {N n t0 : Nat} {s up T sm fo : Nat → Nat} {R : Nat → Nat → Prop} {b : Nat → Int32} (tr : fs_Tr N up T sm fo) (tm : fs_Tm N s up sm fo a4 a5 a6 a7) (hN : N ≤ 161) (hN0 : 0 < N) (ht : t0 + 161 ≤ 1449) (hn : n ≤ 20)
    (hu : ∀ i, i < n → ∀ y z, R y i → R z i → y = z)
    (h1 : ∀ j, j < t0 → a11 j = b j) (h2 : ∀ x, x ≠ 0 → x < N → a11 (t0 + x) = nI (fs_n (R x) n))
    (H : ∀ a11, (∀ j, j < t0 → a11 j = b j) → (∀ x, x ≠ 0 → x < N → a11 (t0 + x) = nI (fs_n (fun i => ∃ y, y < N ∧ R y i ∧ fs_an up x y) n)) → post (bc, bu, nI N, a1, a2, a3, a4, a5, a6, a7, a8, a9, a10, a11, a12, a13)) :
    ∃ n, wX_liftWeights_94 post (nI t0) bc bu (nI N) n (nI (N - 1)) a1 a2 a3 a4 a5 a6 a7 a8 a9 a10 a11 a12 a13 := by
  refine ⟨N - 1 + 1, pk_loopD (fun n i a11 => wX_liftWeights_94 post (nI t0) bc bu (nI N) n (nI i) a1 a2 a3 a4 a5 a6 a7 a8 a9 a10 a11 a12 a13)
    (fun i a11 => i < N ∧ (∀ j, j < t0 → a11 j = b j) ∧ ∀ x, x ≠ 0 → x < N → a11 (t0 + x) = nI (fs_n (fs_K up R N (i + 1) x) n)) ?_ ?_ (N - 1) a11 ⟨by omega, h1, fun x hx0 hxN => ?_⟩⟩
  · rintro n' a ⟨_, f1, f2⟩
    refine pk_le 0 0 (fun _ => H a f1 (fun x hx0 hxN => ?_)) (fun z => absurd z (by omega))
    rw [f2 x hx0 hxN, fs_n_congr n (fun i hi => ?_)]
    constructor
    · rintro ⟨y, y1, y2, y3⟩
      exact ⟨y, y1, y2, (fs_ak_bot tr.1 hx0).mp y3⟩
    · rintro ⟨y, y1, y2, y3⟩
      exact ⟨y, y1, y2, (fs_ak_bot tr.1 hx0).mpr y3⟩
  · rintro n' i a ⟨hi, f1, f2⟩ hw
    have hm0 : i + 1 ≠ 0 := by omega
    have hup := tr.1.2.1 (i + 1) hm0
    refine pk_le (i + 1) 0 (fun z => absurd z (by omega)) (fun _ => ?_)
    rw [nI_clamp (show i + 1 < 2 ^ 31 by omega), (tm.2.1 (i + 1) hm0 hi).1, nI_add, nI_add, nI_clamp (show t0 + (i + 1) < 2 ^ 31 by omega), nI_clamp (show t0 + up (i + 1) < 2 ^ 31 by omega)]
    refine ⟨pk_in (i + 1) 161 (by omega), pk_in (t0 + up (i + 1)) 1449 (by omega), pk_in (t0 + (i + 1)) 1449 (by omega), pk_in (t0 + up (i + 1)) 1449 (by omega), nm_e (nm_r (pk_m1 i) (hw _ ⟨by omega, fun j hj => ?_, fun x hx0 hxN => ?_⟩))⟩
    · rw [pk_un (by omega)]
      exact f1 j hj
    · by_cases e : x = up (i + 1)
      · rw [e, pk_us, f2 (i + 1) hm0 hi, f2 (up (i + 1)) (by omega) (by omega), nI_add, fs_K_add tr.1 hm0 hu]
        have := fs_n_le (fs_K up R N (i + 1) (up (i + 1))) n
        exact fs_nb _ (by omega)
      · rw [pk_un (by omega), f2 x hx0 hxN, fs_n_congr n (fun j _ => (fs_K_same tr.1 hm0 e).symm)]
  · rw [h2 x hx0 hxN, show N - 1 + 1 = N by omega, fs_n_congr n (fun i hi => ?_)]
    constructor
    · intro r
      exact ⟨x, hxN, r, (fs_ak_top hxN).mpr rfl⟩
    · rintro ⟨y, y1, y2, y3⟩
      have := (fs_ak_top y1).mp y3
      rw [this]
      exact y2
theorem fs_l50 {N f0 t0 p : Nat} {s up T sm fo w : Nat → Nat} {b : Nat → Int32} (tr : fs_Tr N up T sm fo) (tm : fs_Tm N s up sm fo a4 a5 a6 a7) (hN : N ≤ 161) (hp : p < 8) (hf0 : f0 + 161 = t0) (ht : t0 + 161 ≤ 1449)
    (hb : ∀ z, z ≠ 0 → z < N → T z = p + 1 → b (f0 + z) = nI (w z) ∧ w z < 128) (h1 : ∀ j, j < t0 → a11 j = b j) (h2 : ∀ x, x < N → a11 (t0 + x) = 0) (hN0 : 0 < N)
    (H : ∀ a11, (∀ j, j < t0 → a11 j = b j) → (∀ x, x ≠ 0 → x < N → a11 (t0 + x) = nI (if T x = p + 1 then w x else 0)) → ∃ n, wX_liftWeights_94 post (nI t0) bc bu (nI N) n (nI (N - 1)) a1 a2 a3 a4 a5 a6 a7 a8 a9 a10 a11 a12 a13) :
    ∃ n, wX_liftWeights_50 post (nI f0) (nI t0) bc bu (nI N) n (nI (fo p)) a1 a2 a3 a4 a5 a6 a7 a8 a9 a10 a11 a12 a13 := by
  have hf := tr.2.1 p hp
  refine loop_m (σ := Nat × (Nat → Int32)) (fun n x => wX_liftWeights_50 post (nI f0) (nI t0) bc bu (nI N) n (nI x.1) a1 a2 a3 a4 a5 a6 a7 a8 a9 a10 x.2 a12 a13)
    (fun x => x.1 < N ∧ (x.1 ≠ 0 → T x.1 = p + 1) ∧ (∀ j, j < t0 → x.2 j = b j) ∧ ∀ z, z ≠ 0 → z < N → x.2 (t0 + z) = nI (if T z = p + 1 ∧ x.1 < z then w z else 0)) (fun x => x.1) ?_ (fo p, a11) ⟨hf.1, hf.2.1, h1, fun z z0 zN => ?_⟩
  · rintro n ⟨x, a⟩ ⟨hx, hx2, f1, f2⟩ ih
    dsimp only at hx hx2 f1 f2
    dsimp only
    refine pk_eq x 0 (fun e => nm_r (fs_sub1 hN0) (H a f1 (fun z z0 zN => ?_))) (fun e => ?_)
    · rw [f2 z z0 zN]
      by_cases c : T z = p + 1
      · rw [if_pos c, if_pos ⟨c, by omega⟩]
      · rw [if_neg c, if_neg (fun k => c k.1)]
    · have hm := tr.2.2 x e hx
      have hbx := hb x e hx (hx2 e)
      rw [nI_add, nI_add, nI_clamp (show t0 + x < 2 ^ 31 by omega), nI_clamp (show f0 + x < 2 ^ 31 by omega), nI_clamp (show x < 2 ^ 31 by omega), f1 (f0 + x) (by omega), hbx.1, fs_vb hbx.2, (tm.2.1 x e hx).2]
      refine ⟨pk_in (f0 + x) 1449 (by omega), pk_in (t0 + x) 1449 (by omega), nm_e ⟨pk_in x 161 (by omega), nm_e (ih (sm x, _) ⟨by show sm x < N; omega, fun f0 => ?_, fun j hj => ?_, fun z z0 zN => ?_⟩ hm.1)⟩⟩
      · show T (sm x) = p + 1
        rw [hm.2.1 f0]
        exact hx2 e
      · show upd a (t0 + x) (nI (w x)) j = b j
        rw [pk_un (by omega)]
        exact f1 j hj
      · show upd a (t0 + x) (nI (w x)) (t0 + z) = nI (if T z = p + 1 ∧ sm x < z then w z else 0)
        by_cases ez : z = x
        · rw [ez, pk_us, if_pos ⟨hx2 e, hm.1⟩]
        · rw [pk_un (by omega), f2 z z0 zN]
          by_cases c : T z = p + 1
          · have hz : sm x < z → x < z := fun k => by
              rcases Nat.lt_or_ge x z with g | g
              · exact g
              · exact absurd (c.trans (hx2 e).symm) (hm.2.2 z k (by omega))
            by_cases d : x < z
            · rw [if_pos ⟨c, d⟩, if_pos ⟨c, by omega⟩]
            · rw [if_neg (fun k => d k.2), if_neg (fun k => d (hz k.2))]
          · rw [if_neg (fun k => c k.1), if_neg (fun k => c k.1)]
  · show a11 (t0 + z) = nI (if T z = p + 1 ∧ fo p < z then w z else 0)
    rw [h2 z zN, if_neg (fun k => hf.2.2 z k.2 zN k.1)]
    rfl
theorem fs_l16 {N f0 t0 p : Nat} {s up sm fo : Nat → Nat} {b : Nat → Int32} (tm : fs_Tm N s up sm fo a4 a5 a6 a7) (hN : N ≤ 161) (hp : p < 8) (ht : t0 + 161 ≤ 1449)
    (h1 : ∀ j, j < t0 → a11 j = b j)
    (H : ∀ a11, (∀ j, j < t0 → a11 j = b j) → (∀ x, x < N → a11 (t0 + x) = 0) → ∃ n, wX_liftWeights_50 post (nI f0) (nI t0) bc bu (nI N) n (nI (fo p)) a1 a2 a3 a4 a5 a6 a7 a8 a9 a10 a11 a12 a13) :
    ∃ n, wX_liftWeights_16 post (nI (s p)) (nI f0) (nI t0) bc bu (nI N) n 0 a1 a2 a3 a4 a5 a6 a7 a8 a9 a10 a11 a12 a13 := by
  have hs := (tm.1.1 p hp).2
  refine pk_loop (fun n i a11 => wX_liftWeights_16 post (nI (s p)) (nI f0) (nI t0) bc bu (nI N) n (nI i) a1 a2 a3 a4 a5 a6 a7 a8 a9 a10 a11 a12 a13)
    (fun i a11 => (∀ j, j < t0 → a11 j = b j) ∧ ∀ x, x < i → a11 (t0 + x) = 0) N 0 a11 (by omega) ⟨h1, fun x hx => absurd hx (by omega)⟩ ?_ ?_
  · rintro n a ⟨f1, f2⟩
    exact pk_le N N (fun _ => ⟨pk_in (s p) 8 hs, nm_r (e' := nI (fo p)) (by rw [nI_clamp (by omega)]; exact tm.2.2 p hp) (H a f1 f2)⟩) (fun z => absurd z (by omega))
  · rintro n i a hi ⟨f1, f2⟩ hw
    refine pk_le N i (fun z => absurd z (by omega)) (fun _ => ?_)
    rw [nI_add, nI_clamp (show t0 + i < 2 ^ 31 by omega)]
    refine ⟨pk_in (t0 + i) 1449 (by omega), nm_e (nm_r (nI_1 i) (hw _ ⟨fun j hj => ?_, fun x hx => ?_⟩))⟩
    · rw [pk_un (by omega)]
      exact f1 j hj
    · by_cases e : x = i
      · rw [e, pk_us]
      · rw [pk_un (by omega)]
        exact f2 x (by omega)
theorem fs_liftWeights {N d p n : Nat} {s up T sm fo : Nat → Nat} {R : Nat → Nat → Prop} (tr : fs_Tr N up T sm fo) (tm : fs_Tm N s up sm fo a4 a5 a6 a7) (hN : N ≤ 161) (hN0 : 0 < N) (hd : d < 8) (hp : p < 8) (hn : n ≤ 20)
    (hw : ∀ z, z ≠ 0 → z < N → T z = p + 1 → a11 (161 * d + z) = nI (fs_n (R z) n)) (hu : ∀ i, i < n → ∀ y z, T y = p + 1 → T z = p + 1 → R y i → R z i → y = z)
    (H : ∀ a11', (∀ j, j < 161 * (d + 1) → a11' j = a11 j) → (∀ x, x ≠ 0 → x < N → a11' (161 * (d + 1) + x) = nI (fs_n (fun i => ∃ y, y < N ∧ (T y = p + 1 ∧ R y i) ∧ fs_an up x y) n)) → post (bc, bu, nI N, a1, a2, a3, a4, a5, a6, a7, a8, a9, a10, a11', a12, a13)) :
    wpX_liftWeights post (bc, bu, nI N, a1, a2, a3, a4, a5, a6, a7, a8, a9, a10, a11, a12, a13) (nI d) (nI (s p)) := by
  refine nm_r (e' := nI (161 * d)) (by rw [show (161 : Int32) = nI 161 from rfl, pk_mul]) (nm_r (e' := nI (161 * (d + 1))) (by rw [show (161 : Int32) = nI 161 from rfl, nI_add]; rfl) ?_)
  refine fs_l16 (b := a11) tm hN hp (by omega) (fun _ _ => rfl) (fun a f1 f2 => ?_)
  refine fs_l50 (w := fun z => fs_n (R z) n) tr tm hN hp (by omega) (by omega) (fun z z0 zN zT => ⟨hw z z0 zN zT, by have := fs_n_le (R z) n; show fs_n (R z) n < 128; omega⟩) f1 f2 hN0 (fun a g1 g2 => ?_)
  refine fs_l94 (R := fun y i => T y = p + 1 ∧ R y i) tr tm hN hN0 (by omega) hn (fun i hi y z hy hz => hu i hi y z hy.1 hz.1 hy.2 hz.2) g1 (fun x x0 xN => ?_) H
  rw [g2 x x0 xN]
  by_cases c : T x = p + 1
  · rw [if_pos c, fs_n_congr (P := R x) (Q := fun i => T x = p + 1 ∧ R x i) n (fun i _ => ⟨fun r => ⟨c, r⟩, fun r => r.2⟩)]
  · rw [if_neg c, fs_n_0 n (fun i _ r => c r.1)]
end
end
section
/-! ===== a full place-to-thing order hits every thing ===== -/
theorem fs_n_all {P : Nat → Prop} : ∀ n, (∀ i, i < n → P i) → fs_n P n = n
  | 0, _ => rfl
  | n + 1, h => by rw [fs_n_s, fs_n_all n (fun i hi => h i (by omega)), fs_i_t (h n (by omega))]
theorem fs_n_one {P : Nat → Prop} : ∀ n, (∀ i j, i < n → j < n → P i → P j → i = j) → fs_n P n ≤ 1
  | 0, _ => Nat.zero_le 1
  | n + 1, h => by
    rw [fs_n_s]
    by_cases hp : P n
    · rw [fs_i_t hp, fs_n_0 n (fun i hi hq => absurd (h i n (by omega) (by omega) hq hp) (by omega))]
      exact Nat.le_refl 1
    · rw [fs_i_f hp]
      exact fs_n_one n (fun i j hi hj => h i j (by omega) (by omega))
theorem fs_s_le1 {f : Nat → Nat} : ∀ n, (∀ z, z < n → f z ≤ 1) → fs_s f n ≤ n
  | 0, _ => Nat.le_refl 0
  | n + 1, h => by
    have h1 := fs_s_le1 n (fun z hz => h z (by omega))
    have h2 := h n (by omega)
    show fs_s f n + f n ≤ n + 1
    omega
theorem fs_s_miss {f : Nat → Nat} {v : Nat} (h0 : f v = 0) : ∀ n, v < n → (∀ z, z < n → f z ≤ 1) → fs_s f n + 1 ≤ n
  | 0, hv, _ => absurd hv (by omega)
  | n + 1, hv, h => by
    show fs_s f n + f n + 1 ≤ n + 1
    by_cases e : v = n
    · have h1 := fs_s_le1 n (fun z hz => h z (by omega))
      rw [← e] at h1 ⊢
      omega
    · have h1 := fs_s_miss h0 n (by omega) (fun z hz => h z (by omega))
      have h2 := h n (by omega)
      omega
theorem fs_surj {t : Nat} {s : Nat → Nat} (h1 : ∀ p, p < t → s p < t) (h2 : ∀ p q, p < t → q < t → s p = s q → p = q) {v : Nat} (hv : v < t) : ∃ p, p < t ∧ s p = v := by
  apply Classical.byContradiction
  intro c
  have e1 := fs_s_n (R := fun z p => s p = z) (n := t) t (fun i _ z y _ _ r1 r2 => by rw [← r1, ← r2])
  have e2 := fs_n_all (P := fun p => ∃ z, z < t ∧ s p = z) t (fun p hp => ⟨s p, h1 p hp, rfl⟩)
  have e3 := fs_s_miss (f := fun z => fs_n (fun p => s p = z) t) (v := v) (fs_n_0 t (fun p hp e => c ⟨p, hp, e⟩)) t hv (fun z _ => fs_n_one t (fun i j hi hj a b => h2 i j hi hj (by rw [a, b])))
  omega
theorem fs_hi {S t : Nat} (hS : S < 256) (h : S.testBit t = true) : t < 8 := by
  rcases Nat.lt_or_ge t 8 with c | c
  · exact c
  · have : S < 2 ^ t := Nat.lt_of_lt_of_le hS (Nat.pow_le_pow_right (n := 2) (by omega) c)
    rw [Nat.testBit_lt_two_pow this] at h
    exact absurd h (by decide)
/-- s: an order of the eight things -/
def fs_Pm (s : Nat → Nat) : Prop := (∀ p, p < 8 → s p < 8) ∧ ∀ p q, p < 8 → q < 8 → s p = s q → p = q
theorem fs_Or_Pm {a : Nat → Int32} {s : Nat → Nat} (h : fs_Or 8 a s) : fs_Pm s := ⟨fun p hp => (h.1 p hp).2, h.2⟩
theorem fs_ext {s : Nat → Nat} (hs : fs_Pm s) {S A : Nat} (hS : S < 256) (hA : A < 256) (h : ∀ p, p < 8 → S.testBit (s p) = A.testBit (s p)) : S = A := by
  apply Nat.eq_of_testBit_eq
  intro t
  rcases Nat.lt_or_ge t 8 with c | c
  · obtain ⟨p, hp, e⟩ := fs_surj hs.1 hs.2 c
    rw [← e]
    exact h p hp
  · cases e1 : S.testBit t with
    | true => exact absurd (fs_hi hS e1) (by omega)
    | false =>
      cases e2 : A.testBit t with
      | true => exact absurd (fs_hi hA e2) (by omega)
      | false => rfl
/-! ===== pending sets ===== -/
/-- S goes on from A by things at places below k -/
def fs_pe (s : Nat → Nat) (A k S : Nat) : Prop := S ≠ A ∧ ∀ p, p < 8 → k ≤ p → S.testBit (s p) = A.testBit (s p)
def fs_lo (s : Nat → Nat) (A k : Nat) : Prop := ∀ p, p < 8 → A.testBit (s p) = true → k ≤ p
theorem fs_lo_f {s : Nat → Nat} {A p : Nat} (hp : p < 8) (h : fs_lo s A (p + 1)) : A.testBit (s p) = false := by
  cases e : A.testBit (s p) with
  | false => rfl
  | true => exact absurd (h p hp e) (by omega)
theorem fs_or_same {s : Nat → Nat} (hs : fs_Pm s) {A p q : Nat} (hp : p < 8) (hq : q < 8) (n : p ≠ q) : (A ||| 2 ^ s p).testBit (s q) = A.testBit (s q) := by
  rw [Nat.testBit_or, Nat.testBit_two_pow, decide_eq_false (fun c => n (hs.2 p q hp hq c)), Bool.or_false]
theorem fs_or_new (A t : Nat) : (A ||| 2 ^ t).testBit t = true := (fs_or2 A t t).mpr (Or.inr rfl)
theorem fs_lo_or {s : Nat → Nat} (hs : fs_Pm s) {A p : Nat} (hp : p < 8) (h : fs_lo s A (p + 1)) : fs_lo s (A ||| 2 ^ s p) p := by
  intro q hq e
  by_cases c : p = q
  · omega
  · rw [fs_or_same hs hp hq c] at e
    have := h q hq e
    omega
theorem fs_pe_split {s : Nat → Nat} (hs : fs_Pm s) {A p S : Nat} (hp : p < 8) (h : fs_lo s A (p + 1)) : fs_pe s A (p + 1) S ↔ (fs_pe s A p S ∨ S = A ||| 2 ^ s p ∨ fs_pe s (A ||| 2 ^ s p) p S) := by
  have hf := fs_lo_f hp h
  have hn := fs_or_new A (s p)
  constructor
  · rintro ⟨h1, h2⟩
    cases e : S.testBit (s p) with
    | false =>
      refine Or.inl ⟨h1, fun q hq hpq => ?_⟩
      by_cases c : p = q
      · rw [← c, e, hf]
      · exact h2 q hq (by omega)
    | true =>
      refine Or.inr ?_
      by_cases d : S = A ||| 2 ^ s p
      · exact Or.inl d
      · refine Or.inr ⟨d, fun q hq hpq => ?_⟩
        by_cases c : p = q
        · rw [← c, e, hn]
        · rw [fs_or_same hs hp hq c]
          exact h2 q hq (by omega)
  · rintro (⟨h1, h2⟩ | d | ⟨h1, h2⟩)
    · exact ⟨h1, fun q hq hpq => h2 q hq (by omega)⟩
    · refine ⟨fun c => ?_, fun q hq hpq => ?_⟩
      · rw [← d, c, hf] at hn
        exact absurd hn (by decide)
      · rw [d, fs_or_same hs hp hq (by omega)]
    · refine ⟨fun c => ?_, fun q hq hpq => ?_⟩
      · have := h2 p hp (Nat.le_refl p)
        rw [hn, c, hf] at this
        exact absurd this (by decide)
      · rw [h2 q hq (by omega), fs_or_same hs hp hq (by omega)]
theorem fs_pe_sub {s : Nat → Nat} (hs : fs_Pm s) {A p S : Nat} (hA : A < 256) (h : fs_lo s A p) (c : S = A ∨ fs_pe s A p S) : fs_sub A S := by
  rcases c with c | c
  · rw [c]
    exact fun t ht => ht
  · intro t ht
    obtain ⟨q, hq, e⟩ := fs_surj hs.1 hs.2 (fs_hi hA ht)
    rw [← e] at ht ⊢
    rw [c.2 q hq (h q hq ht)]
    exact ht
theorem fs_pe_0 {s : Nat → Nat} (hs : fs_Pm s) {A S : Nat} (hA : A < 256) (hS : S < 256) : ¬ fs_pe s A 0 S :=
  fun c => c.1 (fs_ext hs hS hA (fun p hp => c.2 p hp (Nat.zero_le p)))
/-! ===== the search: levels j < D with sets Sx j and g j = goesOn + 1 ===== -/
def fs_pd (s : Nat → Nat) (D : Nat) (Sx g : Nat → Nat) (S : Nat) : Prop := ∃ j, j < D ∧ fs_pe s (Sx j) (g j) S
noncomputable def fs_W (B : Nat → Nat) (n : Nat) (up e : Nat → Nat) (S x : Nat) : Nat := fs_n (fun i => fs_sub S (B i) ∧ fs_an up x (e i)) n
def fs_Lv (s : Nat → Nat) (D : Nat) (Sx g : Nat → Nat) (a12 a13 : Nat → Int32) : Prop :=
  (∀ j, j < D → g j + j ≤ 8 ∧ Sx j < 256 ∧ a12 j = nI (Sx j) ∧ a13 j = nI (g j) - 1 ∧ fs_lo s (Sx j) (g j)) ∧
  ∀ j j', j < j' → j' < D → g j < 8 ∧ (Sx j').testBit (s (g j)) = true ∧ (Sx j).testBit (s (g j)) = false
def fs_Ct (n : Nat) (B s : Nat → Nat) (D : Nat) (Sx g : Nat → Nat) (a10 : Nat → Int32) : Prop :=
  ∀ S, S < 256 → (fs_pd s D Sx g S → a10 S = 0) ∧ (¬ fs_pd s D Sx g S → a10 S = nI (fs_sp B n S))
def fs_Wt (n : Nat) (B : Nat → Nat) (N : Nat) (up T e : Nat → Nat) (D : Nat) (Sx g : Nat → Nat) (a11 : Nat → Int32) : Prop :=
  ∀ j, j < D → ∀ x, x ≠ 0 → x < N → T x ≤ g j → a11 (161 * j + x) = nI (fs_W B n up e (Sx j) x)
theorem fs_pd_pop {s : Nat → Nat} (hs : fs_Pm s) {d : Nat} {Sx g : Nat → Nat} {S : Nat} (hA : Sx d < 256) (hS : S < 256) (h0 : g d = 0) : fs_pd s (d + 1) Sx g S ↔ fs_pd s d Sx g S := by
  constructor
  · rintro ⟨j, hj, hp⟩
    by_cases e : j = d
    · rw [e, h0] at hp
      exact absurd hp (fs_pe_0 hs hA hS)
    · exact ⟨j, by omega, hp⟩
  · rintro ⟨j, hj, hp⟩
    exact ⟨j, by omega, hp⟩
theorem fs_Lv_pop {s : Nat → Nat} {d : Nat} {Sx g : Nat → Nat} {a12 a13 : Nat → Int32} (h : fs_Lv s (d + 1) Sx g a12 a13) : fs_Lv s d Sx g a12 a13 :=
  ⟨fun j hj => h.1 j (by omega), fun j j' h1 h2 => h.2 j j' h1 (by omega)⟩
theorem fs_Ct_pop {n : Nat} {B s : Nat → Nat} (hs : fs_Pm s) {d : Nat} {Sx g : Nat → Nat} {a10 : Nat → Int32} (hA : Sx d < 256) (h0 : g d = 0) (h : fs_Ct n B s (d + 1) Sx g a10) : fs_Ct n B s d Sx g a10 := by
  intro S hS
  rw [← fs_pd_pop hs hA hS h0]
  exact h S hS
/-- the next g's -/
def fs_g (g : Nat → Nat) (d p : Nat) : Nat → Nat := fun j => if j < d then g j else p
def fs_S (Sx : Nat → Nat) (d A : Nat) : Nat → Nat := fun j => if j < d + 1 then Sx j else A
theorem fs_g_lt {g : Nat → Nat} {d p j : Nat} (h : j < d) : fs_g g d p j = g j := if_pos h
theorem fs_g_ge {g : Nat → Nat} {d p j : Nat} (h : d ≤ j) : fs_g g d p j = p := if_neg (by omega)
theorem fs_S_lt {Sx : Nat → Nat} {d A j : Nat} (h : j < d + 1) : fs_S Sx d A j = Sx j := if_pos h
theorem fs_S_ge {Sx : Nat → Nat} {d A j : Nat} (h : d + 1 ≤ j) : fs_S Sx d A j = A := if_neg (by omega)
theorem fs_pd_old {s : Nat → Nat} {d : Nat} {Sx g : Nat → Nat} {S : Nat} : fs_pd s (d + 1) Sx g S ↔ (fs_pd s d Sx g S ∨ fs_pe s (Sx d) (g d) S) := by
  constructor
  · rintro ⟨j, hj, hp⟩
    by_cases e : j = d
    · rw [e] at hp
      exact Or.inr hp
    · exact Or.inl ⟨j, by omega, hp⟩
  · rintro (⟨j, hj, hp⟩ | hp)
    · exact ⟨j, by omega, hp⟩
    · exact ⟨d, by omega, hp⟩
theorem fs_pd_congr {s : Nat → Nat} {d : Nat} {Sx g Sx' g' : Nat → Nat} {S : Nat} (h : ∀ j, j < d → Sx' j = Sx j ∧ g' j = g j) : fs_pd s d Sx' g' S ↔ fs_pd s d Sx g S := by
  constructor
  · rintro ⟨j, hj, hp⟩
    rw [(h j hj).1, (h j hj).2] at hp
    exact ⟨j, hj, hp⟩
  · rintro ⟨j, hj, hp⟩
    refine ⟨j, hj, ?_⟩
    rw [(h j hj).1, (h j hj).2]
    exact hp
theorem fs_pd_none {s : Nat → Nat} {d p : Nat} {Sx g : Nat → Nat} {S : Nat} : fs_pd s (d + 1) Sx (fs_g g d p) S ↔ (fs_pd s d Sx g S ∨ fs_pe s (Sx d) p S) := by
  rw [fs_pd_old, fs_g_ge (Nat.le_refl d), fs_pd_congr (fun j hj => ⟨rfl, fs_g_lt hj⟩)]
theorem fs_pd_push {s : Nat → Nat} {d p A : Nat} {Sx g : Nat → Nat} {S : Nat} : fs_pd s (d + 1 + 1) (fs_S Sx d A) (fs_g g d p) S ↔ ((fs_pd s d Sx g S ∨ fs_pe s (Sx d) p S) ∨ fs_pe s A p S) := by
  rw [fs_pd_old, fs_g_ge (Nat.le_succ d), fs_S_ge (Nat.le_refl (d + 1)), fs_pd_congr (d := d + 1) (Sx := Sx) (g := fs_g g d p) (fun j hj => ⟨fs_S_lt hj, rfl⟩), fs_pd_none]
theorem fs_Lv_none {s : Nat → Nat} {d p : Nat} {Sx g : Nat → Nat} {a12 a13 : Nat → Int32} (h : fs_Lv s (d + 1) Sx g a12 a13) (hg : g d = p + 1) : fs_Lv s (d + 1) Sx (fs_g g d p) a12 (upd a13 d (nI p - 1)) := by
  refine ⟨fun j hj => ?_, fun j j' h1 h2 => ?_⟩
  · obtain ⟨k1, k2, k3, k4, k5⟩ := h.1 j hj
    by_cases e : j = d
    · rw [e] at k1 k5 ⊢
      rw [fs_g_ge (Nat.le_refl d), pk_us]
      rw [hg] at k1 k5
      rw [e] at k2 k3
      exact ⟨by omega, k2, k3, rfl, fun q hq z => by have := k5 q hq z; omega⟩
    · rw [fs_g_lt (by omega), pk_un e]
      exact ⟨k1, k2, k3, k4, k5⟩
  · rw [fs_g_lt (by omega)]
    exact h.2 j j' h1 h2
theorem fs_Lv_push {s : Nat → Nat} (hs : fs_Pm s) {d p : Nat} {Sx g : Nat → Nat} {a12 a13 : Nat → Int32} (hp : p < 8) (h : fs_Lv s (d + 1) Sx g a12 a13) (hg : g d = p + 1) :
    fs_Lv s (d + 1 + 1) (fs_S Sx d (Sx d ||| 2 ^ s p)) (fs_g g d p) (upd a12 (d + 1) (nI (Sx d ||| 2 ^ s p))) (upd (upd a13 d (nI p - 1)) (d + 1) (nI p - 1)) := by
  have h0 := fs_Lv_none h hg
  obtain ⟨k1, k2, k3, k4, k5⟩ := h.1 d (by omega)
  rw [hg] at k1 k5
  refine ⟨fun j hj => ?_, fun j j' h1 h2 => ?_⟩
  · by_cases e : j = d + 1
    · rw [fs_S_ge (by omega), fs_g_ge (by omega), e, pk_us, pk_us]
      exact ⟨by omega, fs_or8 k2 (fs_p8 _ (hs.1 p hp)), rfl, rfl, fs_lo_or hs hp k5⟩
    · rw [fs_S_lt (by omega), pk_un e, pk_un e]
      exact h0.1 j (by omega)
  · by_cases e : j' = d + 1
    · rw [e, fs_S_ge (Nat.le_refl _), fs_S_lt (show j < d + 1 by omega)]
      by_cases ej : j = d
      · rw [ej, fs_g_ge (Nat.le_refl d)]
        exact ⟨hp, fs_or_new _ _, fs_lo_f hp k5⟩
      · have := h.2 j d (by omega) (by omega)
        rw [fs_g_lt (by omega)]
        exact ⟨this.1, fs_sub_orL _ _ _ this.2.1, this.2.2⟩
    · rw [fs_S_lt (show j' < d + 1 by omega), fs_S_lt (show j < d + 1 by omega)]
      exact h0.2 j j' h1 (by omega)
theorem fs_Ct_none {n : Nat} {B s : Nat → Nat} (hs : fs_Pm s) {d p : Nat} {Sx g : Nat → Nat} {a10 : Nat → Int32} (hp : p < 8) (hA : Sx d < 256) (hlo : fs_lo s (Sx d) (p + 1)) (hg : g d = p + 1)
    (h0 : fs_sp B n (Sx d ||| 2 ^ s p) = 0) (h : fs_Ct n B s (d + 1) Sx g a10) : fs_Ct n B s (d + 1) Sx (fs_g g d p) a10 := by
  intro S hS
  have hh := h S hS
  rw [fs_pd_old, hg, fs_pe_split hs hp hlo] at hh
  rw [fs_pd_none]
  refine ⟨fun c => hh.1 (c.elim Or.inl (fun z => Or.inr (Or.inl z))), fun c => ?_⟩
  by_cases d1 : S = Sx d ||| 2 ^ s p ∨ fs_pe s (Sx d ||| 2 ^ s p) p S
  · have hsb := fs_pe_sub hs (fs_or8 hA (fs_p8 _ (hs.1 p hp))) (fs_lo_or hs hp hlo) d1
    have := fs_sp_anti (B := B) (n := n) hsb
    rw [hh.1 (Or.inr (Or.inr d1)), show fs_sp B n S = 0 by omega]
    rfl
  · refine hh.2 ?_
    rintro (z | z | z)
    · exact c (Or.inl z)
    · exact c (Or.inr z)
    · exact d1 z
theorem fs_Ct_push {n : Nat} {B s : Nat → Nat} (hs : fs_Pm s) {d p : Nat} {Sx g : Nat → Nat} {a10 a12 a13 : Nat → Int32} (hp : p < 8) (hl : fs_Lv s (d + 1) Sx g a12 a13) (hg : g d = p + 1)
    (h : fs_Ct n B s (d + 1) Sx g a10) : fs_Ct n B s (d + 1 + 1) (fs_S Sx d (Sx d ||| 2 ^ s p)) (fs_g g d p) (upd a10 (Sx d ||| 2 ^ s p) (nI (fs_sp B n (Sx d ||| 2 ^ s p)))) := by
  obtain ⟨k1, k2, k3, k4, k5⟩ := hl.1 d (by omega)
  rw [hg] at k1 k5
  have hf := fs_lo_f hp k5
  have hn := fs_or_new (Sx d) (s p)
  intro S hS
  rw [fs_pd_push]
  by_cases e : S = Sx d ||| 2 ^ s p
  · rw [e, pk_us]
    refine ⟨?_, fun _ => rfl⟩
    rintro ((⟨j, hj, z⟩ | z) | z)
    · have := hl.2 j d hj (by omega)
      have e2 := z.2 (g j) this.1 (Nat.le_refl _)
      rw [this.2.2, fs_sub_orL _ _ _ this.2.1] at e2
      exact absurd e2 (by decide)
    · have e2 := z.2 p hp (Nat.le_refl _)
      rw [hn, hf] at e2
      exact absurd e2 (by decide)
    · exact absurd rfl z.1
  · have hh := h S hS
    rw [fs_pd_old, hg, fs_pe_split hs hp k5] at hh
    rw [pk_un e]
    refine ⟨fun c => hh.1 ?_, fun c => hh.2 (fun z => c ?_)⟩
    · rcases c with (c | c) | c
      · exact Or.inl c
      · exact Or.inr (Or.inl c)
      · exact Or.inr (Or.inr (Or.inr c))
    · rcases z with z | z | z | z
      · exact Or.inl (Or.inl z)
      · exact Or.inl (Or.inr z)
      · exact absurd z e
      · exact Or.inr z
theorem fs_Wt_none {n : Nat} {B : Nat → Nat} {N : Nat} {up T e : Nat → Nat} {d p : Nat} {Sx g : Nat → Nat} {a11 : Nat → Int32} (hg : g d = p + 1) (h : fs_Wt n B N up T e (d + 1) Sx g a11) : fs_Wt n B N up T e (d + 1) Sx (fs_g g d p) a11 := by
  intro j hj x x0 xN xT
  refine h j hj x x0 xN ?_
  by_cases c : j = d
  · rw [fs_g_ge (by omega)] at xT
    rw [c]
    omega
  · rw [fs_g_lt (by omega)] at xT
    exact xT
theorem fs_Wt_push {n : Nat} {B : Nat → Nat} {N : Nat} {up T e : Nat → Nat} {d p A : Nat} {Sx g : Nat → Nat} {a11 a11' : Nat → Int32} (hN : N ≤ 161) (hg : g d = p + 1) (h : fs_Wt n B N up T e (d + 1) Sx g a11)
    (h1 : ∀ j, j < 161 * (d + 1) → a11' j = a11 j) (h2 : ∀ x, x ≠ 0 → x < N → T x ≤ p → a11' (161 * (d + 1) + x) = nI (fs_W B n up e A x)) : fs_Wt n B N up T e (d + 1 + 1) (fs_S Sx d A) (fs_g g d p) a11' := by
  intro j hj x x0 xN xT
  by_cases c : j = d + 1
  · rw [fs_g_ge (by omega)] at xT
    rw [fs_S_ge (by omega), c]
    exact h2 x x0 xN xT
  · rw [fs_S_lt (by omega), h1 _ (by omega)]
    exact fs_Wt_none hg h j (by omega) x x0 xN xT
/-! the count and the lift over the tree -/
theorem fs_cnt_tree {n : Nat} {B s : Nat → Nat} {N : Nat} {up T e : Nat → Nat} {S p : Nat} (sh : fs_Sh up T) (hb : fs_Bk n B s N up T e) (hp : p < 8) :
    fs_s (fun z => if T z = p + 1 then fs_W B n up e S z else 0) N = fs_sp B n (S ||| 2 ^ s p) := by
  rw [fs_s_congr (g := fun z => fs_n (fun i => T z = p + 1 ∧ fs_sub S (B i) ∧ fs_an up z (e i)) n) N ?_, fs_s_n N ?_]
  · refine fs_n_congr n (fun i hi => ?_)
    have hpa := (hb i hi).2 p hp
    rw [fs_sub_or2]
    constructor
    · rintro ⟨z, zN, z1, z2, z3⟩
      exact ⟨z2, (hpa.mp ⟨z, z3, z1⟩).2⟩
    · rintro ⟨c1, c2⟩
      obtain ⟨y, y1, y2⟩ := hpa.mpr ⟨hp, c2⟩
      have := fs_an_le sh y1
      have := (hb i hi).1
      exact ⟨y, by omega, y2, c1, y1⟩
  · intro i hi z y _ _ hz hy
    exact fs_an_uniq sh hz.2.2 hy.2.2 (by rw [hz.1, hy.1])
  · intro z zN
    by_cases c : T z = p + 1
    · rw [if_pos c]
      exact fs_n_congr n (fun i _ => ⟨fun r => ⟨c, r⟩, fun r => r.2⟩)
    · rw [if_neg c, fs_n_0 n (fun i _ r => c r.1)]
theorem fs_lift_tree {n : Nat} {B s : Nat → Nat} {N : Nat} {up T e : Nat → Nat} {S p x : Nat} (sh : fs_Sh up T) (hb : fs_Bk n B s N up T e) (hp : p < 8) (hx : T x ≤ p) :
    fs_n (fun i => ∃ y, y < N ∧ (T y = p + 1 ∧ (fs_sub S (B i) ∧ fs_an up y (e i))) ∧ fs_an up x y) n = fs_W B n up e (S ||| 2 ^ s p) x := by
  refine fs_n_congr n (fun i hi => ?_)
  have hpa := (hb i hi).2 p hp
  rw [fs_sub_or2]
  constructor
  · rintro ⟨y, yN, ⟨y1, y2, y3⟩, y4⟩
    exact ⟨⟨y2, (hpa.mp ⟨y, y3, y1⟩).2⟩, fs_an_t y4 y3⟩
  · rintro ⟨⟨c1, c2⟩, c3⟩
    obtain ⟨y, y1, y2⟩ := hpa.mpr ⟨hp, c2⟩
    have := fs_an_le sh y1
    have := (hb i hi).1
    exact ⟨y, by omega, ⟨y2, c1, y1⟩, fs_an_low sh c3 y1 (by omega)⟩
end
section
/-! ===== growSets ===== -/
theorem fs_mu0 {g : Nat → Nat} {d p : Nat} : fs_s (fun j => 3 ^ (fs_g g d p j)) d = fs_s (fun j => 3 ^ (g j)) d :=
  fs_s_congr d (fun j hj => by rw [fs_g_lt hj])
theorem fs_mu1 {g : Nat → Nat} {d p : Nat} (hg : g d = p + 1) : fs_s (fun j => 3 ^ (fs_g g d p j)) (d + 1) < fs_s (fun j => 3 ^ (g j)) (d + 1) := by
  show fs_s (fun j => 3 ^ (fs_g g d p j)) d + 3 ^ (fs_g g d p d) < fs_s (fun j => 3 ^ (g j)) d + 3 ^ (g d)
  rw [fs_mu0, fs_g_ge (Nat.le_refl d), hg, Nat.pow_succ]
  have : 0 < 3 ^ p := Nat.pow_pos (by omega)
  omega
theorem fs_mu2 {g : Nat → Nat} {d p : Nat} (hg : g d = p + 1) : fs_s (fun j => 3 ^ (fs_g g d p j)) (d + 1 + 1) < fs_s (fun j => 3 ^ (g j)) (d + 1) := by
  show fs_s (fun j => 3 ^ (fs_g g d p j)) d + 3 ^ (fs_g g d p d) + 3 ^ (fs_g g d p (d + 1)) < fs_s (fun j => 3 ^ (g j)) d + 3 ^ (g d)
  rw [fs_mu0, fs_g_ge (Nat.le_refl d), fs_g_ge (Nat.le_succ d), hg, Nat.pow_succ]
  have : 0 < 3 ^ p := Nat.pow_pos (by omega)
  omega
theorem fs_mu3 {g : Nat → Nat} {d : Nat} : fs_s (fun j => 3 ^ (g j)) d < fs_s (fun j => 3 ^ (g j)) (d + 1) := by
  show fs_s (fun j => 3 ^ (g j)) d < fs_s (fun j => 3 ^ (g j)) d + 3 ^ (g d)
  have : 0 < 3 ^ (g d) := Nat.pow_pos (by omega)
  omega
theorem fs_sub_0 (b : Nat) : fs_sub 0 b := fun t ht => by
  rw [Nat.zero_testBit] at ht
  exact absurd ht (by decide)
theorem fs_nb1 : ∀ p, p < 16 → (nI p - 1).toInt8.toInt32 = nI p - 1 := by decide +kernel
section
variable {post : St1 → Prop} {bc bu nc : Int32} {a1 a2 a3 a4 a5 a6 a7 a8 a9 a10 a11 a12 a13 : Nat → Int32}
theorem fs_d78 {c N : Nat} {B s up T sm fo e : Nat → Nat} (hc : c ≤ 20) (tree : fs_Tree c B s N up T sm fo e a3 a4 a5 a6 a7)
    (H : ∀ a10 a11 a12 a13, (∀ S, S < 256 → a10 S = nI (fs_sp B c S)) → post (nI c, bu, nI N, a1, a2, a3, a4, a5, a6, a7, a8, a9, a10, a11, a12, a13)) :
    ∀ n D Sx g a10 a11 a12 a13, fs_Lv s D Sx g a12 a13 → fs_Ct c B s D Sx g a10 → fs_Wt c B N up T e D Sx g a11 → fs_s (fun j => 3 ^ (g j)) D < n →
      wX_growSets_78 post n (nI D - 1) (nI c) bu (nI N) a1 a2 a3 a4 a5 a6 a7 a8 a9 a10 a11 a12 a13 := by
  obtain ⟨t1, t2, t3, tr, tm, hb, t7⟩ := tree
  have hs := fs_Or_Pm tm.1
  have hN : N ≤ 161 := by omega
  intro n
  induction n with
  | zero => intro D Sx g a10 a11 a12 a13 _ _ _ h; omega
  | succ n ih =>
    intro D Sx g a10 a11 a12 a13 hl hct hwt hmu
    cases D with
    | zero =>
      refine br_t (by decide) (H a10 a11 a12 a13 (fun S hS => (hct S hS).2 ?_))
      rintro ⟨j, hj, _⟩
      omega
    | succ d =>
      have ihs : ∀ d Sx g a10 a11 a12 a13, fs_Lv s (d + 1) Sx g a12 a13 → fs_Ct c B s (d + 1) Sx g a10 → fs_Wt c B N up T e (d + 1) Sx g a11 → fs_s (fun j => 3 ^ (g j)) (d + 1) < n →
          wX_growSets_78 post n (nI d) (nI c) bu (nI N) a1 a2 a3 a4 a5 a6 a7 a8 a9 a10 a11 a12 a13 := by
        intro d Sx g a10 a11 a12 a13 h1 h2 h3 h4
        have t := ih (d + 1) Sx g a10 a11 a12 a13 h1 h2 h3 h4
        rw [nI_pred] at t
        exact t
      obtain ⟨k1, k2, k3, k4, k5⟩ := hl.1 d (by omega)
      rw [nI_pred]
      refine br_f (nI_pos (by omega)) ⟨pk_in d 9 (by omega), ?_⟩
      cases hg : g d with
      | zero =>
        refine nm_r (e' := nI 0 - 1) (by rw [nI_clamp (by omega), k4, hg]) (br_f (by decide) (nm_r (e' := nI d - 1) (by rw [Int32.sub_eq_add_neg]) ?_))
        exact ih d Sx g a10 a11 a12 a13 (fs_Lv_pop hl) (fs_Ct_pop hs k2 hg hct) (fun j hj => hwt j (by omega)) (by have := fs_mu3 (g := g) (d := d); omega)
      | succ p =>
        have hp : p < 8 := by omega
        have hsp := hs.1 p hp
        have e13 : a13 d = nI p := by rw [k4, hg, nI_pred]
        rw [hg] at k5
        refine nm_r (e' := nI p) (by rw [nI_clamp (by omega), e13]) (br_t (nI_pos' (by omega)) ⟨pk_in d 9 (by omega), pk_in d 9 (by omega), nm_r (e' := upd a13 d (nI p - 1)) (by rw [nI_clamp (by omega), e13, fs_nb1 p (by omega)]) ⟨pk_in p 8 hp, nm_r (e' := nI (s p)) (by rw [nI_clamp (by omega)]; exact (tm.1.1 p hp).1) ?_⟩⟩)
        refine fs_countOn (w := fs_W B c up e (Sx d)) tr tm hN (by omega) hp (fun z z0 zN zT => hwt d (by omega) z z0 zN (by omega)) ?_
        rw [fs_cnt_tree tr.1 hb hp]
        have hle := fs_sp_le B c (Sx d ||| 2 ^ s p)
        refine pk_eq (fs_sp B c (Sx d ||| 2 ^ s p)) 0 (fun e0 => ?_) (fun e0 => ⟨pk_in d 9 (by omega), ?_⟩)
        · exact ihs d Sx (fs_g g d p) a10 a11 a12 _ (fs_Lv_none hl hg) (fs_Ct_none hs hp k2 k5 hg e0 hct) (fs_Wt_none hg hwt) (by have := fs_mu1 hg; omega)
        · have hS := fs_or8 k2 (fs_p8 _ hsp)
          refine nm_r (e' := nI (Sx d ||| 2 ^ s p)) (by rw [nI_clamp (by omega), k3, fs_orb hsp]) ⟨pk_in _ 256 hS, nm_r (e' := upd a10 (Sx d ||| 2 ^ s p) (nI (fs_sp B c (Sx d ||| 2 ^ s p)))) (by rw [nI_clamp (by omega), fs_nb _ (by omega)]) ?_⟩
          refine fs_liftWeights (R := fun y i => fs_sub (Sx d) (B i) ∧ fs_an up y (e i)) tr tm hN t2 (by omega) hp hc (fun z z0 zN zT => hwt d (by omega) z z0 zN (by omega)) (fun i hi y z hy hz ry rz => fs_an_uniq tr.1 ry.2 rz.2 (by rw [hy, hz])) (fun a11' f1 f2 => ?_)
          refine nm_r (nI_1 d) ⟨pk_in (d + 1) 9 (by omega), nm_r (e' := upd a12 (d + 1) (nI (Sx d ||| 2 ^ s p))) (by rw [nI_clamp (by omega), fs_ns _ hS]) ⟨pk_in (d + 1) 9 (by omega), nm_r (e' := upd (upd a13 d (nI p - 1)) (d + 1) (nI p - 1)) (by rw [nI_clamp (by omega), fs_nb1 p (by omega)]) ?_⟩⟩
          exact ihs (d + 1) _ (fs_g g d p) _ a11' _ _ (fs_Lv_push hs hp hl hg) (fs_Ct_push hs hp hl hg hct) (fs_Wt_push hN hg hwt f1 (fun x x0 xN xT => by rw [f2 x x0 xN, fs_lift_tree tr.1 hb hp xT])) (by have := fs_mu2 hg; omega)
theorem fs_d35 {c N : Nat} {B s up T sm fo e : Nat → Nat} (hc : c ≤ 20) (tree : fs_Tree c B s N up T sm fo e a3 a4 a5 a6 a7) (h10 : a10 0 = nI c ∧ ∀ S, S ≠ 0 → S < 256 → a10 S = 0)
    (H : ∀ a10 a11 a12 a13, (∀ S, S < 256 → a10 S = nI (fs_sp B c S)) → post (nI c, bu, nI N, a1, a2, a3, a4, a5, a6, a7, a8, a9, a10, a11, a12, a13)) :
    ∃ n, wX_growSets_35 post (nI c) bu (nI N) n 0 a1 a2 a3 a4 a5 a6 a7 a8 a9 a10 a11 a12 a13 := by
  have hN : N ≤ 161 := by have := tree.1; omega
  refine pk_loop (fun n i a11 => wX_growSets_35 post (nI c) bu (nI N) n (nI i) a1 a2 a3 a4 a5 a6 a7 a8 a9 a10 a11 a12 a13)
    (fun i a11 => ∀ x, x ≠ 0 → x < i → a11 x = a3 x) N 0 a11 (by omega) (fun x _ hx => absurd hx (by omega)) ?_ ?_
  · intro n a h
    refine pk_le N N (fun _ => nm_e (nm_e ?_)) (fun z => absurd z (by omega))
    refine ⟨3 ^ 8 + 1, ?_⟩
    have t := fs_d78 (bu := bu) (a1 := a1) (a2 := a2) (a8 := a8) (a9 := a9) hc tree H (3 ^ 8 + 1) 1 (fun _ => 0) (fun _ => 8) a10 a (upd a12 0 0) (upd a13 0 7) ?_ ?_ ?_ ?_
    · exact t
    · refine ⟨fun j hj => ?_, fun j j' h1 h2 => absurd h1 (by omega)⟩
      have ej : j = 0 := by omega
      subst ej
      refine ⟨Nat.le_refl 8, (by decide : 0 < 256), by rw [pk_us]; rfl, by rw [pk_us]; decide, fun q hq z => ?_⟩
      rw [Nat.zero_testBit] at z
      exact absurd z (by decide)
    · intro S hS
      by_cases e0 : S = 0
      · rw [e0]
        refine ⟨?_, fun _ => ?_⟩
        · rintro ⟨j, hj, hpe⟩
          exact absurd rfl hpe.1
        · rw [h10.1]
          unfold fs_sp
          rw [fs_n_all (P := fun i => fs_sub 0 (B i)) c (fun i hi => fs_sub_0 (B i))]
      · exact ⟨fun _ => h10.2 S e0 hS, fun z => absurd ⟨0, by omega, e0, fun p hp h8 => absurd (show 8 ≤ p from h8) (by omega)⟩ z⟩
    · intro j hj x x0 xN _
      have ej : j = 0 := by omega
      subst ej
      rw [Nat.mul_zero, Nat.zero_add, h x x0 xN, tree.2.2.2.2.2.2 x x0 xN]
      unfold fs_W
      rw [fs_n_congr (P := fun i => fs_an up x (e i)) (Q := fun i => fs_sub 0 (B i) ∧ fs_an up x (e i)) c (fun i hi => ⟨fun z => ⟨fs_sub_0 (B i), z⟩, fun z => z.2⟩)]
    · show 0 + 3 ^ 8 < 3 ^ 8 + 1
      omega
  · intro n i a hi h hw
    refine pk_le N i (fun z => absurd z (by omega)) (fun _ => ⟨pk_in i 161 (by omega), pk_in i 1449 (by omega), ?_⟩)
    rw [nI_clamp (show i < 2 ^ 31 by omega)]
    refine nm_e (nm_r (nI_1 i) (hw _ (fun x x0 hx => ?_)))
    by_cases ex : x = i
    · rw [ex, pk_us, tree.2.2.2.2.2.2 i (by omega) hi]
      have := fs_n_le (fun j => fs_an up i (e j)) c
      exact fs_vb (by omega)
    · rw [pk_un ex]
      exact h x x0 (by omega)
theorem fs_growSets {c N : Nat} {B s up T sm fo e : Nat → Nat} (hc : c ≤ 20) (tree : fs_Tree c B s N up T sm fo e a3 a4 a5 a6 a7)
    (H : ∀ a10 a11 a12 a13, (∀ S, S < 256 → a10 S = nI (fs_sp B c S)) → post (nI c, bu, nI N, a1, a2, a3, a4, a5, a6, a7, a8, a9, a10, a11, a12, a13)) :
    wpX_growSets post (nI c, bu, nI N, a1, a2, a3, a4, a5, a6, a7, a8, a9, a10, a11, a12, a13) :=
  pk_loop (fun n i a10 => wX_growSets_2 post (nI c) bu (nI N) n (nI i) a1 a2 a3 a4 a5 a6 a7 a8 a9 a10 a11 a12 a13) (fun i a10 => ∀ S, S < i → a10 S = 0) 256 0 a10 (by omega) (fun x hx => absurd hx (by omega))
    (fun n a h => pk_le 256 256 (fun _ => nm_e (fs_d35 hc tree ⟨by rw [pk_us]; exact fs_nb c (by omega), fun S s0 hS => by rw [pk_un s0]; exact h S hS⟩ H)) (fun z => absurd z (by omega)))
    (fun n i a hi h hw => pk_le 256 i (fun z => absurd z (by omega)) (fun _ => ⟨pk_in i 256 hi, nm_r (e' := upd a i 0) (by rw [nI_clamp (by omega)]) (nm_r (nI_1 i) (hw _ (fun S hS => by
      by_cases e : S = i
      · rw [e, pk_us]
      · rw [pk_un e]; exact h S (by omega))))⟩))
end
end
section
/-! ===== build, add, drop ===== -/
/-- n baskets B; if the tree is built the counts are right -/
def fs_OK (n : Nat) (B : Nat → Nat) (u : St1) : Prop := match u with
  | (bc, bu, _, a1, _, _, _, _, _, _, _, _, a10, _, _, _) => n ≤ 20 ∧ bc = nI n ∧ (∀ i, i < n → a1 i = nI (B i) ∧ B i < 256) ∧ (¬ bu = 0 → ∀ S, S < 256 → a10 S = nI (fs_sp B n S))
/-- and it is built -/
def fs_RD (n : Nat) (B : Nat → Nat) (u : St1) : Prop := match u with
  | (bc, bu, _, a1, _, _, _, _, _, _, _, _, a10, _, _, _) => n ≤ 20 ∧ bc = nI n ∧ (∀ i, i < n → a1 i = nI (B i) ∧ B i < 256) ∧ ¬ bu = 0 ∧ ∀ S, S < 256 → a10 S = nI (fs_sp B n S)
theorem fs_RD_OK {n : Nat} {B : Nat → Nat} {u : St1} (h : fs_RD n B u) : fs_OK n B u := by
  obtain ⟨bc, bu, nc, a1, a2, a3, a4, a5, a6, a7, a8, a9, a10, a11, a12, a13⟩ := u
  obtain ⟨h1, h2, h3, h4, h5⟩ := h
  exact ⟨h1, h2, h3, fun _ => h5⟩
theorem fs_Tree_0 {B s : Nat → Nat} {a3 a4 a5 a6 a7 : Nat → Int32} (h7 : fs_Or 8 a7 s) (h6 : ∀ t, t < 8 → a6 t = 0) :
    fs_Tree 0 B s 1 (fun _ => 0) (fun z => if z = 0 then 0 else 1) (fun _ => 0) (fun _ => 0) (fun _ => 0) a3 a4 a5 a6 a7 := by
  refine ⟨by omega, by omega, fun z _ hz => ⟨rfl, if_neg hz⟩, ⟨⟨rfl, fun z hz => by show 0 < z; omega, rfl, fun z hz => ?_⟩, fun p hp => ⟨by show 0 < 1; omega, fun c => absurd rfl c, fun z (z1 : 0 < z) z2 => absurd z1 (by omega)⟩, fun x x0 xN => absurd xN (by omega)⟩, ⟨h7, fun x x0 xN => absurd xN (by omega), fun p hp => by rw [h6 _ (h7.1 p hp).2]; rfl⟩, fun i hi => absurd hi (by omega), fun x x0 xN => absurd xN (by omega)⟩
  show (if (0 : Nat) = 0 then 0 else 1) < (if z = 0 then 0 else 1)
  rw [if_pos rfl, if_neg hz]
  omega
section
variable {post : St1 → Prop} {bc bu nc : Int32} {a1 a2 a3 a4 a5 a6 a7 a8 a9 a10 a11 a12 a13 : Nat → Int32}
theorem fs_b56 {c : Nat} {B s : Nat → Nat} (hc : c ≤ 20) (h1 : ∀ i, i < c → a1 i = nI (B i) ∧ B i < 256)
    (H : ∀ nc a2 a3 a4 a5 a6 a10 a11 a12 a13, (∀ S, S < 256 → a10 S = nI (fs_sp B c S)) → post (nI c, bu, nc, a1, a2, a3, a4, a5, a6, a7, a8, a9, a10, a11, a12, a13)) :
    ∀ k m N up T sm fo e a2 a3 a4 a5 a6, m + k = c → fs_Tree m B s N up T sm fo e a3 a4 a5 a6 a7 → wX_build_56 post (k + 1) (nI m) (nI c) bu (nI N) a1 a2 a3 a4 a5 a6 a7 a8 a9 a10 a11 a12 a13 := by
  intro k
  induction k with
  | zero =>
    intro m N up T sm fo e a2 a3 a4 a5 a6 hm tree
    have e : m = c := by omega
    subst e
    exact pk_le m m (fun _ => fs_growSets hc tree (fun a10 a11 a12 a13 h => H (nI N) a2 a3 a4 a5 a6 a10 a11 a12 a13 h)) (fun z => absurd z (by omega))
  | succ k ih =>
    intro m N up T sm fo e a2 a3 a4 a5 a6 hm tree
    refine pk_le c m (fun z => absurd z (by omega)) (fun _ => ⟨pk_in m 20 (by omega), ?_⟩)
    rw [nI_clamp (show m < 2 ^ 31 by omega), (h1 m (by omega)).1]
    exact fs_plant (by omega) (h1 m (by omega)).2 tree (fun N up T sm fo e a2 a3 a4 a5 a6 tr => nm_r (nI_1 m) (ih (m + 1) N up T sm fo e a2 a3 a4 a5 a6 (by omega) tr))
theorem fs_b35 {c : Nat} {B s : Nat → Nat} (hc : c ≤ 20) (h1 : ∀ i, i < c → a1 i = nI (B i) ∧ B i < 256) (h7 : fs_Or 8 a7 s)
    (H : ∀ nc a2 a3 a4 a5 a6 a10 a11 a12 a13, (∀ S, S < 256 → a10 S = nI (fs_sp B c S)) → post (nI c, bu, nc, a1, a2, a3, a4, a5, a6, a7, a8, a9, a10, a11, a12, a13)) :
    ∃ n, wX_build_35 post (nI c) bu (nI 1) n 0 a1 a2 a3 a4 a5 a6 a7 a8 a9 a10 a11 a12 a13 :=
  pk_loop (fun n i a6 => wX_build_35 post (nI c) bu (nI 1) n (nI i) a1 a2 a3 a4 a5 a6 a7 a8 a9 a10 a11 a12 a13) (fun i a6 => ∀ t, t < i → a6 t = 0) 8 0 a6 (by omega) (fun x hx => absurd hx (by omega))
    (fun n a h => pk_le 8 8 (fun _ => ⟨c + 1, fs_b56 hc h1 H c 0 1 _ _ _ _ _ a2 a3 a4 a5 a (by omega) (fs_Tree_0 h7 h)⟩) (fun z => absurd z (by omega)))
    (fun n i a hi h hw => pk_le 8 i (fun z => absurd z (by omega)) (fun _ => ⟨pk_in i 8 hi, nm_r (e' := upd a i 0) (by rw [nI_clamp (by omega)]) (nm_r (nI_1 i) (hw _ (fun S hS => by
      by_cases e : S = i
      · rw [e, pk_us]
      · rw [pk_un e]; exact h S (by omega))))⟩))
theorem fs_build {n : Nat} {B : Nat → Nat} {u : St1} (h : fs_OK n B u) (H : ∀ u, fs_RD n B u → post u) : wpX_build post u := by
  obtain ⟨bc, bu, nc, a1, a2, a3, a4, a5, a6, a7, a8, a9, a10, a11, a12, a13⟩ := u
  obtain ⟨h1, h2, h3, h4⟩ := h
  subst h2
  refine br_c (fun _ => ?_) (fun e => H _ ⟨h1, rfl, h3, e, h4 e⟩)
  exact fs_orderThings h1 (fun a7 a8 a9 s hs => nm_e (fs_b35 h1 h3 hs (fun nc a2 a3 a4 a5 a6 a10 a11 a12 a13 g => H _ ⟨h1, rfl, h3, by decide, g⟩)))
end
section
variable {post : Int32 → St1 → Prop}
theorem fs_isSet {post : Int32 → Prop} {u : St1} {S : Nat} (hS : S < 256) (H : post 1) : wpX_isSet post u (nI S) := by
  obtain ⟨bc, bu, nc, a1, a2, a3, a4, a5, a6, a7, a8, a9, a10, a11, a12, a13⟩ := u
  exact br_f (nI_pos (by omega)) (pk_lt 255 S (fun z => absurd z (by omega)) (fun _ => H))
theorem fs_add {n S : Nat} {B : Nat → Nat} {u : St1} (h : fs_OK n B u) (hS : S < 256) (H : ∀ r n B u, fs_OK n B u → post r u) : wpX_add post u (nI S) := by
  obtain ⟨bc, bu, nc, a1, a2, a3, a4, a5, a6, a7, a8, a9, a10, a11, a12, a13⟩ := u
  obtain ⟨h1, h2, h3, h4⟩ := h
  subst h2
  refine pk_lt n 20 (fun hn => fs_isSet hS (br_f (by decide) ⟨pk_in n 20 hn, ?_⟩)) (fun _ => H _ n B _ ⟨h1, rfl, h3, h4⟩)
  rw [nI_clamp (show n < 2 ^ 31 by omega), fs_ns S hS]
  refine nm_e (nm_r (nI_1 n) (H _ (n + 1) (fun i => if i = n then S else B i) _ ⟨by omega, rfl, fun i hi => ?_, fun z => absurd rfl z⟩))
  dsimp only
  by_cases e : i = n
  · rw [if_pos e, e, pk_us]
    exact ⟨rfl, hS⟩
  · rw [if_neg e, pk_un e]
    exact h3 i (by omega)
theorem fs_drop {n : Nat} {B : Nat → Nat} {u : St1} (h : fs_OK n B u) (H : ∀ r n B u, fs_OK n B u → post r u) : wpX_drop post u := by
  obtain ⟨bc, bu, nc, a1, a2, a3, a4, a5, a6, a7, a8, a9, a10, a11, a12, a13⟩ := u
  obtain ⟨h1, h2, h3, h4⟩ := h
  subst h2
  refine pk_eq n 0 (fun _ => H _ n B _ ⟨h1, rfl, h3, h4⟩) (fun e => nm_r (fs_sub1 (show 0 < n by omega)) ?_)
  refine pk_loop (fun k i a1 => wX_drop_22 post (nI (n - 1)) bu nc k (nI i) a1 a2 a3 a4 a5 a6 a7 a8 a9 a10 a11 a12 a13) (fun i a1 => (∀ j, j < i → a1 j = nI (B (j + 1))) ∧ ∀ j, i ≤ j → j < n → a1 j = nI (B j)) (n - 1) 0 a1 (by omega)
    ⟨fun j hj => absurd hj (by omega), fun j _ hj => (h3 j hj).1⟩ ?_ ?_
  · rintro k a ⟨f1, f2⟩
    exact pk_le (n - 1) (n - 1) (fun _ => H _ (n - 1) (fun i => B (i + 1)) _ ⟨by omega, rfl, fun i hi => ⟨f1 i hi, (h3 (i + 1) (by omega)).2⟩, fun z => absurd rfl z⟩) (fun z => absurd z (by omega))
  · rintro k i a hi ⟨f1, f2⟩ hw
    refine pk_le (n - 1) i (fun z => absurd z (by omega)) (fun _ => ?_)
    rw [nI_1, nI_clamp (show i < 2 ^ 31 by omega), nI_clamp (show i + 1 < 2 ^ 31 by omega), f2 (i + 1) (by omega) (by omega), fs_vs (h3 (i + 1) (by omega)).2]
    refine ⟨pk_in (i + 1) 20 (by omega), pk_in i 20 (by omega), nm_e (nm_e (hw _ ⟨fun j hj => ?_, fun j j1 j2 => ?_⟩))⟩
    · by_cases ej : j = i
      · rw [ej, pk_us]
      · rw [pk_un ej]
        exact f1 j (by omega)
    · rw [pk_un (by omega)]
      exact f2 j (by omega) j2
end
end
section
/-! ===== count, closure, frequent, closed, largest, holds ===== -/
section
variable {post : Int32 → St1 → Prop} {n : Nat} {B : Nat → Nat} {u : St1}
theorem fs_count {S : Nat} (h : fs_OK n B u) (hS : S < 256) (H : ∀ u, fs_RD n B u → post (nI (fs_sp B n S)) u) : wpX_count post u (nI S) := by
  obtain ⟨bc, bu, nc, a1, a2, a3, a4, a5, a6, a7, a8, a9, a10, a11, a12, a13⟩ := u
  unfold wpX_count
  refine fs_isSet hS (br_f (by decide) (fs_build h (fun u hu => ?_)))
  obtain ⟨bc, bu, nc, a1, a2, a3, a4, a5, a6, a7, a8, a9, a10, a11, a12, a13⟩ := u
  refine ⟨pk_in S 256 hS, ?_⟩
  have hu' := hu
  obtain ⟨_, _, _, _, h5⟩ := hu'
  rw [nI_clamp (by omega), h5 S hS]
  exact H _ hu
theorem fs_closure {S : Nat} (h : fs_OK n B u) (hS : S < 256) (H0 : ∀ u, fs_RD n B u → fs_sp B n S = 0 → post (-3) u) (H1 : ∀ u c, fs_RD n B u → fs_sp B n S ≠ 0 → fs_isC B n S c → post (nI c) u) : wpX_closure post u (nI S) := by
  obtain ⟨bc, bu, nc, a1, a2, a3, a4, a5, a6, a7, a8, a9, a10, a11, a12, a13⟩ := u
  unfold wpX_closure
  refine fs_isSet hS (br_f (by decide) (fs_build h (fun u hu => ?_)))
  obtain ⟨bc, bu, nc, a1, a2, a3, a4, a5, a6, a7, a8, a9, a10, a11, a12, a13⟩ := u
  refine ⟨pk_in S 256 hS, ?_⟩
  have hu' := hu
  obtain ⟨g1, _, _, _, h5⟩ := hu'
  have hle := fs_sp_le B n S
  rw [nI_clamp (by omega), h5 S hS]
  refine pk_eq (fs_sp B n S) 0 (fun e => H0 _ hu e) (fun e => ?_)
  refine pk_loop (σ := Nat) (fun k i r => wX_closure_30 post (nI S) bc bu nc a1 a2 a3 a4 a5 a6 a7 a8 a9 a10 a11 a12 a13 k (nI r) (nI i))
    (fun i r => r < 256 ∧ ∀ k, r.testBit k = true ↔ (S.testBit k = true ∨ (k < i ∧ fs_sp B n (S ||| 2 ^ k) = fs_sp B n S))) 8 0 S (by omega) ⟨hS, fun k => ⟨Or.inl, fun z => z.elim id (fun z => absurd z.1 (by omega))⟩⟩ ?_ ?_
  · intro k r hr
    exact pk_le 8 8 (fun _ => H1 _ r hu e hr) (fun z => absurd z (by omega))
  · rintro k i r hi ⟨r1, r2⟩ hw
    have ho := fs_or8 hS (fs_p8 i hi)
    have hle2 := fs_sp_le B n (S ||| 2 ^ i)
    refine pk_le 8 i (fun z => absurd z (by omega)) (fun _ => ?_)
    rw [fs_orb hi, fs_orb hi, nI_clamp (show S ||| 2 ^ i < 2 ^ 31 by omega), nI_clamp (show S < 2 ^ 31 by omega), h5 S hS, h5 _ ho]
    refine ⟨pk_in _ 256 ho, pk_in S 256 hS, pk_eq (fs_sp B n (S ||| 2 ^ i)) (fs_sp B n S) (fun q => nm_e (nm_r (nI_1 i) (hw (r ||| 2 ^ i) ⟨fs_or8 r1 (fs_p8 i hi), fun k => ?_⟩))) (fun q => nm_r (nI_1 i) (hw r ⟨r1, fun k => ?_⟩))⟩
    · rw [fs_or2, r2 k]
      constructor
      · rintro ((c | c) | c)
        · exact Or.inl c
        · exact Or.inr ⟨by omega, c.2⟩
        · exact Or.inr ⟨by omega, by rw [← c]; exact q⟩
      · rintro (c | ⟨c1, c2⟩)
        · exact Or.inl (Or.inl c)
        · by_cases ek : k = i
          · exact Or.inr ek.symm
          · exact Or.inl (Or.inr ⟨by omega, c2⟩)
    · rw [r2 k]
      constructor
      · rintro (c | c)
        · exact Or.inl c
        · exact Or.inr ⟨by omega, c.2⟩
      · rintro (c | ⟨c1, c2⟩)
        · exact Or.inl c
        · by_cases ek : k = i
          · rw [ek] at c2
            exact absurd c2 q
          · exact Or.inr ⟨by omega, c2⟩
def fs_FR (B : Nat → Nat) (n m S : Nat) : Prop := S ≠ 0 ∧ m ≤ fs_sp B n S
def fs_CL (B : Nat → Nat) (n m S : Nat) : Prop := S ≠ 0 ∧ m ≤ fs_sp B n S ∧ ∀ t, t < 8 → S.testBit t = false → fs_sp B n (S ||| 2 ^ t) ≠ fs_sp B n S
def fs_LG (B : Nat → Nat) (n m S : Nat) : Prop := S ≠ 0 ∧ m ≤ fs_sp B n S ∧ ∀ t, t < 8 → S.testBit t = false → fs_sp B n (S ||| 2 ^ t) < m
theorem fs_LG_CL (B : Nat → Nat) (n m : Nat) : fs_n (fs_LG B n m) 256 ≤ fs_n (fs_CL B n m) 256 :=
  fs_n_mono 256 (fun S _ h => ⟨h.1, h.2.1, fun t ht hb => by have := h.2.2 t ht hb; have := h.2.1; omega⟩)
theorem fs_CL_FR (B : Nat → Nat) (n m : Nat) : fs_n (fs_CL B n m) 256 ≤ fs_n (fs_FR B n m) 256 :=
  fs_n_mono 256 (fun S _ h => ⟨h.1, h.2.1⟩)
theorem fs_n_start {P : Nat → Prop} (h : ¬ P 0) : fs_n P 1 = 0 := by
  rw [fs_n_s, fs_i_f h]
  rfl
theorem fs_isLargest {post : Int32 → Prop} {S m : Nat} (h : fs_RD n B u) (hS : S < 256) (s0 : S ≠ 0) (hm : m ≤ 20) (H1 : fs_LG B n m S → post 1) (H0 : ¬ fs_LG B n m S → post 0) : wpX_isLargest post u (nI S) (nI m) := by
  obtain ⟨bc, bu, nc, a1, a2, a3, a4, a5, a6, a7, a8, a9, a10, a11, a12, a13⟩ := u
  obtain ⟨g1, _, _, _, h5⟩ := h
  have hle := fs_sp_le B n S
  refine ⟨pk_in S 256 hS, ?_⟩
  rw [nI_clamp (by omega), h5 S hS]
  refine pk_le m (fs_sp B n S) (fun c => ?_) (fun c => H0 (fun z => absurd z.2.1 (by omega)))
  refine pk_loop (σ := Unit) (fun k i _ => wX_isLargest_14 post (nI S) (nI m) bc bu nc a1 a2 a3 a4 a5 a6 a7 a8 a9 a10 a11 a12 a13 k (nI i)) (fun i _ => ∀ t, t < i → S.testBit t = false → fs_sp B n (S ||| 2 ^ t) < m) 8 0 () (by omega) (fun t ht => absurd ht (by omega)) ?_ ?_
  · intro k _ hr
    exact pk_le 8 8 (fun _ => H1 ⟨s0, c, hr⟩) (fun z => absurd z (by omega))
  · intro k i _ hi hr hw
    have ho := fs_or8 hS (fs_p8 i hi)
    have hle2 := fs_sp_le B n (S ||| 2 ^ i)
    refine pk_le 8 i (fun z => absurd z (by omega)) (fun _ => ek_if (fs_tb hS hi) (fun hb => ?_) (fun hb => nm_r (nI_1 i) (hw () (fun t ht tb => ?_))))
    · rw [fs_orb hi, nI_clamp (show S ||| 2 ^ i < 2 ^ 31 by omega), h5 _ ho]
      refine ⟨pk_in _ 256 ho, pk_lt (fs_sp B n (S ||| 2 ^ i)) m (fun q => nm_r (nI_1 i) (hw () (fun t ht tb => ?_))) (fun q => H0 (fun z => absurd (z.2.2 i hi hb) (by omega)))⟩
      by_cases et : t = i
      · rw [et]
        exact q
      · exact hr t (by omega) tb
    · by_cases et : t = i
      · rw [et] at tb
        exact absurd tb hb
      · exact hr t (by omega) tb
theorem fs_isClosed {post : Int32 → Prop} {S m : Nat} (h : fs_RD n B u) (hS : S < 256) (s0 : S ≠ 0) (hm : m ≤ 20) (H1 : fs_CL B n m S → post 1) (H0 : ¬ fs_CL B n m S → post 0) : wpX_isClosed post u (nI S) (nI m) := by
  obtain ⟨bc, bu, nc, a1, a2, a3, a4, a5, a6, a7, a8, a9, a10, a11, a12, a13⟩ := u
  obtain ⟨g1, _, _, _, h5⟩ := h
  have hle := fs_sp_le B n S
  refine ⟨pk_in S 256 hS, ?_⟩
  rw [nI_clamp (by omega), h5 S hS]
  refine pk_le m (fs_sp B n S) (fun c => ?_) (fun c => H0 (fun z => absurd z.2.1 (by omega)))
  refine pk_loop (σ := Unit) (fun k i _ => wX_isClosed_14 post (nI S) bc bu nc a1 a2 a3 a4 a5 a6 a7 a8 a9 a10 a11 a12 a13 k (nI i)) (fun i _ => ∀ t, t < i → S.testBit t = false → fs_sp B n (S ||| 2 ^ t) ≠ fs_sp B n S) 8 0 () (by omega) (fun t ht => absurd ht (by omega)) ?_ ?_
  · intro k _ hr
    exact pk_le 8 8 (fun _ => H1 ⟨s0, c, hr⟩) (fun z => absurd z (by omega))
  · intro k i _ hi hr hw
    have ho := fs_or8 hS (fs_p8 i hi)
    have hle2 := fs_sp_le B n (S ||| 2 ^ i)
    refine pk_le 8 i (fun z => absurd z (by omega)) (fun _ => ek_if (fs_tb hS hi) (fun hb => ?_) (fun hb => nm_r (nI_1 i) (hw () (fun t ht tb => ?_))))
    · rw [fs_orb hi, nI_clamp (show S ||| 2 ^ i < 2 ^ 31 by omega), nI_clamp (show S < 2 ^ 31 by omega), h5 _ ho, h5 S hS]
      refine ⟨pk_in _ 256 ho, pk_in S 256 hS, pk_eq (fs_sp B n (S ||| 2 ^ i)) (fs_sp B n S) (fun q => H0 (fun z => absurd q (z.2.2 i hi hb))) (fun q => nm_r (nI_1 i) (hw () (fun t ht tb => ?_)))⟩
      by_cases et : t = i
      · rw [et]
        exact q
      · exact hr t (by omega) tb
    · by_cases et : t = i
      · rw [et] at tb
        exact absurd tb hb
      · exact hr t (by omega) tb
theorem fs_isBound {post : Int32 → Prop} {m : Nat} (h1 : 1 ≤ m) (h2 : m ≤ 20) (H : post 1) : wpX_isBound post u (nI m) := by
  obtain ⟨bc, bu, nc, a1, a2, a3, a4, a5, a6, a7, a8, a9, a10, a11, a12, a13⟩ := u
  exact pk_lt m 1 (fun z => absurd z (by omega)) (fun _ => pk_lt 20 m (fun z => absurd z (by omega)) (fun _ => H))
theorem fs_largest {m : Nat} (h : fs_OK n B u) (h1 : 1 ≤ m) (h2 : m ≤ 20) (H : ∀ u, fs_RD n B u → post (nI (fs_n (fs_LG B n m) 256)) u) : wpX_largest post u (nI m) := by
  obtain ⟨bc, bu, nc, a1, a2, a3, a4, a5, a6, a7, a8, a9, a10, a11, a12, a13⟩ := u
  unfold wpX_largest
  refine fs_isBound h1 h2 (br_f (by decide) (fs_build h (fun u hu => ?_)))
  obtain ⟨bc, bu, nc, a1, a2, a3, a4, a5, a6, a7, a8, a9, a10, a11, a12, a13⟩ := u
  refine pk_loop (σ := Nat) (fun k i r => wX_largest_18 post (nI m) bc bu nc a1 a2 a3 a4 a5 a6 a7 a8 a9 a10 a11 a12 a13 k (nI r) (nI i)) (fun i r => 1 ≤ i ∧ r = fs_n (fs_LG B n m) i) 256 1 0 (by omega) ⟨by omega, (fs_n_start (fun z => z.1 rfl)).symm⟩ ?_ ?_
  · rintro k r ⟨_, hr⟩
    rw [hr]
    exact pk_le 256 256 (fun _ => H _ hu) (fun z => absurd z (by omega))
  · rintro k i r hi ⟨i1, hr⟩ hw
    refine pk_le 256 i (fun z => absurd z (by omega)) (fun _ => fs_isLargest hu hi (by omega) h2 (fun q => br_f (by decide) (nm_r (nI_1 r) (nm_r (nI_1 i) (hw (r + 1) ⟨by omega, ?_⟩)))) (fun q => br_t rfl (nm_r (nI_1 i) (hw r ⟨by omega, ?_⟩))))
    · rw [fs_n_s, fs_i_t q, hr]
    · rw [fs_n_s, fs_i_f q, hr, Nat.add_zero]
theorem fs_closed {m : Nat} (h : fs_OK n B u) (h1 : 1 ≤ m) (h2 : m ≤ 20) (H : ∀ u, fs_RD n B u → post (nI (fs_n (fs_CL B n m) 256)) u) : wpX_closed post u (nI m) := by
  obtain ⟨bc, bu, nc, a1, a2, a3, a4, a5, a6, a7, a8, a9, a10, a11, a12, a13⟩ := u
  unfold wpX_closed
  refine fs_isBound h1 h2 (br_f (by decide) (fs_build h (fun u hu => ?_)))
  obtain ⟨bc, bu, nc, a1, a2, a3, a4, a5, a6, a7, a8, a9, a10, a11, a12, a13⟩ := u
  refine pk_loop (σ := Nat) (fun k i r => wX_closed_18 post (nI m) bc bu nc a1 a2 a3 a4 a5 a6 a7 a8 a9 a10 a11 a12 a13 k (nI r) (nI i)) (fun i r => 1 ≤ i ∧ r = fs_n (fs_CL B n m) i) 256 1 0 (by omega) ⟨by omega, (fs_n_start (fun z => z.1 rfl)).symm⟩ ?_ ?_
  · rintro k r ⟨_, hr⟩
    rw [hr]
    exact pk_le 256 256 (fun _ => H _ hu) (fun z => absurd z (by omega))
  · rintro k i r hi ⟨i1, hr⟩ hw
    refine pk_le 256 i (fun z => absurd z (by omega)) (fun _ => fs_isClosed hu hi (by omega) h2 (fun q => br_f (by decide) (nm_r (nI_1 r) (nm_r (nI_1 i) (hw (r + 1) ⟨by omega, ?_⟩)))) (fun q => br_t rfl (nm_r (nI_1 i) (hw r ⟨by omega, ?_⟩))))
    · rw [fs_n_s, fs_i_t q, hr]
    · rw [fs_n_s, fs_i_f q, hr, Nat.add_zero]
theorem fs_frequent {m : Nat} (h : fs_OK n B u) (h1 : 1 ≤ m) (h2 : m ≤ 20) (H : ∀ u, fs_RD n B u → post (nI (fs_n (fs_FR B n m) 256)) u) : wpX_frequent post u (nI m) := by
  obtain ⟨bc, bu, nc, a1, a2, a3, a4, a5, a6, a7, a8, a9, a10, a11, a12, a13⟩ := u
  unfold wpX_frequent
  refine fs_isBound h1 h2 (br_f (by decide) (fs_build h (fun u hu => ?_)))
  obtain ⟨bc, bu, nc, a1, a2, a3, a4, a5, a6, a7, a8, a9, a10, a11, a12, a13⟩ := u
  have hu' := hu
  obtain ⟨g1, _, _, _, h5⟩ := hu'
  refine pk_loop (σ := Nat) (fun k i r => wX_frequent_18 post (nI m) bc bu nc a1 a2 a3 a4 a5 a6 a7 a8 a9 a10 a11 a12 a13 k (nI r) (nI i)) (fun i r => 1 ≤ i ∧ r = fs_n (fs_FR B n m) i) 256 1 0 (by omega) ⟨by omega, (fs_n_start (fun z => z.1 rfl)).symm⟩ ?_ ?_
  · rintro k r ⟨_, hr⟩
    rw [hr]
    exact pk_le 256 256 (fun _ => H _ hu) (fun z => absurd z (by omega))
  · rintro k i r hi ⟨i1, hr⟩ hw
    have hle := fs_sp_le B n i
    refine pk_le 256 i (fun z => absurd z (by omega)) (fun _ => ⟨pk_in i 256 hi, ?_⟩)
    rw [nI_clamp (by omega), h5 i hi]
    refine pk_lt (fs_sp B n i) m (fun q => nm_r (nI_1 i) (hw r ⟨by omega, ?_⟩)) (fun q => nm_r (nI_1 r) (nm_r (nI_1 i) (hw (r + 1) ⟨by omega, ?_⟩)))
    · rw [fs_n_s, fs_i_f (fun z : fs_FR B n m i => absurd z.2 (by omega)), hr, Nat.add_zero]
    · rw [fs_n_s, fs_i_t (p := fs_FR B n m i) ⟨by omega, q⟩, hr]
theorem fs_holds {a b : Nat} (h : fs_OK n B u) (ha : a < 256) (hb : b < 256) (H : ∀ u, fs_RD n B u → post 1 u) : wpL_holds post u (nI a) (nI b) := by
  have hn : n ≤ 20 := by
    obtain ⟨bc, bu, nc, a1, a2, a3, a4, a5, a6, a7, a8, a9, a10, a11, a12, a13⟩ := u
    exact h.1
  have l1 := fs_sp_le B n a
  have l2 := fs_sp_le B n (a &&& b)
  have l3 := fs_sp_le B n (a ||| b)
  have m1 : fs_sp B n a ≤ fs_sp B n (a &&& b) := fs_sp_anti (fs_sub_andL a b)
  have m2 : fs_sp B n (a ||| b) ≤ fs_sp B n a := fs_sp_anti (fs_sub_orL a b)
  obtain ⟨bc, bu, nc, a1, a2, a3, a4, a5, a6, a7, a8, a9, a10, a11, a12, a13⟩ := u
  unfold wpL_holds
  refine fs_count h ha (fun u hu => ?_)
  obtain ⟨bc, bu, nc, a1, a2, a3, a4, a5, a6, a7, a8, a9, a10, a11, a12, a13⟩ := u
  refine br_f (nI_pos (by omega)) ?_
  rw [fs_and, fs_or]
  refine fs_count (fs_RD_OK hu) (fs_and8 ha) (fun u hu => ?_)
  obtain ⟨bc, bu, nc, a1, a2, a3, a4, a5, a6, a7, a8, a9, a10, a11, a12, a13⟩ := u
  refine br_f (nI_nlt m1 (by omega)) (fs_count (fs_RD_OK hu) (fs_or8 ha hb) (fun u hu => ?_))
  obtain ⟨bc, bu, nc, a1, a2, a3, a4, a5, a6, a7, a8, a9, a10, a11, a12, a13⟩ := u
  refine br_t (nI_le m2 (by omega)) (fs_closure (fs_RD_OK hu) ha (fun u hu e => ?_) (fun u c hu e hc => ?_))
  · obtain ⟨bc, bu, nc, a1, a2, a3, a4, a5, a6, a7, a8, a9, a10, a11, a12, a13⟩ := u
    rw [e]
    exact br_f (by decide) (br_t rfl (br_t rfl (H _ hu)))
  · obtain ⟨bc, bu, nc, a1, a2, a3, a4, a5, a6, a7, a8, a9, a10, a11, a12, a13⟩ := u
    have hc8 := hc.1
    refine br_t (nI_pos' (by omega)) (br_f (nI_nle (by omega) (by omega)) (br_t (fs_andn (fs_isC_sub hc)) (fs_count (fs_RD_OK hu) hc8 (fun u hu => ?_))))
    obtain ⟨bc, bu, nc, a1, a2, a3, a4, a5, a6, a7, a8, a9, a10, a11, a12, a13⟩ := u
    rw [fs_isC_sp hc]
    refine br_t rfl (fs_closure (fs_RD_OK hu) hc8 (fun u hu e2 => absurd ((fs_isC_sp hc).symm.trans e2) e) (fun u c' hu _ hc' => ?_))
    obtain ⟨bc, bu, nc, a1, a2, a3, a4, a5, a6, a7, a8, a9, a10, a11, a12, a13⟩ := u
    exact br_t (by rw [fs_isC_id hc hc']) (H _ hu)
end
end
section
/-! ===== the law ===== -/
section
variable {post : Int32 → Prop} {L : Nat} {xs : Nat → Int32} {kc ks : Nat}
theorem fs_181 (hp : post 1) : ∀ k m bc bu nc a1 a2 a3 a4 a5 a6 a7 a8 a9 a10 a11 a12 a13, 1 ≤ m → m + k = 21 → (∃ n B, fs_OK n B (bc, bu, nc, a1, a2, a3, a4, a5, a6, a7, a8, a9, a10, a11, a12, a13)) →
    wL_law_181 post L xs kc ks (k + 1) (nI m) bc bu nc a1 a2 a3 a4 a5 a6 a7 a8 a9 a10 a11 a12 a13 := by
  intro k
  induction k with
  | zero =>
    intro m bc bu nc a1 a2 a3 a4 a5 a6 a7 a8 a9 a10 a11 a12 a13 m1 m2 _
    exact pk_lt 20 m (fun _ => hp) (fun z => absurd z (by omega))
  | succ k ih =>
    intro m bc bu nc a1 a2 a3 a4 a5 a6 a7 a8 a9 a10 a11 a12 a13 m1 m2 h
    obtain ⟨n, B, h⟩ := h
    have l1 := fs_n_le (fs_CL B n m) 256
    have l2 := fs_n_le (fs_FR B n m) 256
    refine pk_lt 20 m (fun z => absurd z (by omega)) (fun _ => ?_)
    refine fs_largest h m1 (by omega) (fun u hu => ?_)
    obtain ⟨bc, bu, nc, a1, a2, a3, a4, a5, a6, a7, a8, a9, a10, a11, a12, a13⟩ := u
    refine fs_closed (fs_RD_OK hu) m1 (by omega) (fun u hu => ?_)
    obtain ⟨bc, bu, nc, a1, a2, a3, a4, a5, a6, a7, a8, a9, a10, a11, a12, a13⟩ := u
    refine br_f (nI_nlt (fs_LG_CL B n m) (by omega)) (fs_closed (fs_RD_OK hu) m1 (by omega) (fun u hu => ?_))
    obtain ⟨bc, bu, nc, a1, a2, a3, a4, a5, a6, a7, a8, a9, a10, a11, a12, a13⟩ := u
    refine fs_frequent (fs_RD_OK hu) m1 (by omega) (fun u hu => ?_)
    obtain ⟨bc, bu, nc, a1, a2, a3, a4, a5, a6, a7, a8, a9, a10, a11, a12, a13⟩ := u
    exact br_t (nI_le (fs_CL_FR B n m) (by omega)) (nm_r (nI_1 m) (ih (m + 1) _ _ _ _ _ _ _ _ _ _ _ _ _ _ _ _ (by omega) (by omega) ⟨n, B, fs_RD_OK hu⟩))
theorem fs_m (x : Int32) : ∃ m, 1 ≤ m ∧ m ≤ 20 ∧ 1 + ((x &&& 255) - (x &&& 255) / 20 * 20) = nI m := by
  obtain ⟨j, hj, e⟩ := pk_andE x (m := 255) 8 (by decide)
  have hr : j % 20 < 20 := Nat.mod_lt j (by omega)
  refine ⟨1 + j % 20, by omega, by omega, ?_⟩
  rw [e, show (20 : Int32) = nI 20 from rfl, pk_rem (by omega) (by omega) (by omega), show (1 : Int32) = nI 1 from rfl, nI_add]
theorem fs_81 {J : Int32 → Int32 → Int32 → Int32 → (Nat → Int32) → (Nat → Int32) → (Nat → Int32) → (Nat → Int32) → (Nat → Int32) → (Nat → Int32) → (Nat → Int32) → (Nat → Int32) → (Nat → Int32) → (Nat → Int32) → (Nat → Int32) → (Nat → Int32) → (Nat → Int32) → Prop} {i a b n : Nat} {B : Nat → Nat}
    {bc bu nc : Int32} {a1 a2 a3 a4 a5 a6 a7 a8 a9 a10 a11 a12 a13 : Nat → Int32} (hL : L ≤ 260) (hi : i < L) (ha : a < 256) (hb : b < 256) (h : fs_OK n B (bc, bu, nc, a1, a2, a3, a4, a5, a6, a7, a8, a9, a10, a11, a12, a13))
    (HJ : ∀ bc bu nc a1 a2 a3 a4 a5 a6 a7 a8 a9 a10 a11 a12 a13, (∃ n B, fs_OK n B (bc, bu, nc, a1, a2, a3, a4, a5, a6, a7, a8, a9, a10, a11, a12, a13)) → J (nI (i + 2)) bc bu nc a1 a2 a3 a4 a5 a6 a7 a8 a9 a10 a11 a12 a13) :
    wL_law_81 post L xs J (nI i) (nI a) (nI b) kc ks bc bu nc a1 a2 a3 a4 a5 a6 a7 a8 a9 a10 a11 a12 a13 := by
  unfold wL_law_81
  refine fs_holds h ha hb (fun u hu => ?_)
  obtain ⟨bc, bu, nc, a1, a2, a3, a4, a5, a6, a7, a8, a9, a10, a11, a12, a13⟩ := u
  refine br_f (by decide) (fs_holds (fs_RD_OK hu) hb ha (fun u hu => ?_))
  obtain ⟨bc, bu, nc, a1, a2, a3, a4, a5, a6, a7, a8, a9, a10, a11, a12, a13⟩ := u
  refine br_f (by decide) ?_
  rw [fs_and]
  refine fs_holds (fs_RD_OK hu) (fs_and8 ha) hb (fun u hu => ?_)
  obtain ⟨bc, bu, nc, a1, a2, a3, a4, a5, a6, a7, a8, a9, a10, a11, a12, a13⟩ := u
  obtain ⟨m, m1, m2, em⟩ := fs_m ((xs (nI i).toNatClampNeg) >>> ((4 : Int32) &&& 31))
  refine br_f (by decide) ⟨pk_in i L hi, by decide, nm_r em ?_⟩
  have l1 := fs_n_le (fs_CL B n m) 256
  have l2 := fs_n_le (fs_FR B n m) 256
  have l3 := fs_n_le (fs_LG B n m) 256
  refine fs_largest (fs_RD_OK hu) m1 m2 (fun u hu => ?_)
  obtain ⟨bc, bu, nc, a1, a2, a3, a4, a5, a6, a7, a8, a9, a10, a11, a12, a13⟩ := u
  refine fs_closed (fs_RD_OK hu) m1 m2 (fun u hu => ?_)
  obtain ⟨bc, bu, nc, a1, a2, a3, a4, a5, a6, a7, a8, a9, a10, a11, a12, a13⟩ := u
  refine br_f (nI_pos (by omega)) (br_f (nI_nlt (fs_LG_CL B n m) (by omega)) (fs_frequent (fs_RD_OK hu) m1 m2 (fun u hu => ?_)))
  obtain ⟨bc, bu, nc, a1, a2, a3, a4, a5, a6, a7, a8, a9, a10, a11, a12, a13⟩ := u
  exact br_t (nI_le (fs_CL_FR B n m) (by omega)) (nm_r (e' := nI (i + 2)) (by rw [show (2 : Int32) = nI 2 from rfl, nI_add]) (HJ _ _ _ _ _ _ _ _ _ _ _ _ _ _ _ _ ⟨n, B, fs_RD_OK hu⟩))
theorem fs_77 {J : Int32 → Int32 → Int32 → Int32 → (Nat → Int32) → (Nat → Int32) → (Nat → Int32) → (Nat → Int32) → (Nat → Int32) → (Nat → Int32) → (Nat → Int32) → (Nat → Int32) → (Nat → Int32) → (Nat → Int32) → (Nat → Int32) → (Nat → Int32) → (Nat → Int32) → Prop} {i a b z n : Nat} {B : Nat → Nat}
    {bc bu nc : Int32} {a1 a2 a3 a4 a5 a6 a7 a8 a9 a10 a11 a12 a13 : Nat → Int32} (hL : L ≤ 260) (hi : i < L) (ha : a < 256) (hb : b < 256) (hz : z < 256) (h : fs_OK n B (bc, bu, nc, a1, a2, a3, a4, a5, a6, a7, a8, a9, a10, a11, a12, a13))
    (HJ : ∀ bc bu nc a1 a2 a3 a4 a5 a6 a7 a8 a9 a10 a11 a12 a13, (∃ n B, fs_OK n B (bc, bu, nc, a1, a2, a3, a4, a5, a6, a7, a8, a9, a10, a11, a12, a13)) → J (nI (i + 2)) bc bu nc a1 a2 a3 a4 a5 a6 a7 a8 a9 a10 a11 a12 a13) :
    wL_law_77 post L xs J (nI i) (nI a) (nI b) (nI z) kc ks bc bu nc a1 a2 a3 a4 a5 a6 a7 a8 a9 a10 a11 a12 a13 := by
  unfold wL_law_77
  refine fs_add h hz (fun r n B u hu => ?_)
  obtain ⟨bc, bu, nc, a1, a2, a3, a4, a5, a6, a7, a8, a9, a10, a11, a12, a13⟩ := u
  exact fs_81 hL hi ha hb hu HJ
theorem fs_end {i : Nat} (hL : L ≤ 260) (hi : i ≤ 300) : Int32.ofNat L - 2 < nI i ↔ L < i + 2 := by
  show nI L - nI 2 < nI i ↔ L < i + 2
  rw [Int32.lt_iff_toInt_lt, pk_sub_toInt (by omega) (by omega), nI_toInt (by omega)]
  omega
theorem fs_10 (hp : post 1) (hL : L ≤ 260) : ∀ k i bc bu nc a1 a2 a3 a4 a5 a6 a7 a8 a9 a10 a11 a12 a13, i ≤ L → L - i < k → (∃ n B, fs_OK n B (bc, bu, nc, a1, a2, a3, a4, a5, a6, a7, a8, a9, a10, a11, a12, a13)) →
    wL_law_10 post L xs kc ks k (nI i) bc bu nc a1 a2 a3 a4 a5 a6 a7 a8 a9 a10 a11 a12 a13 := by
  intro k
  induction k with
  | zero => intro i bc bu nc a1 a2 a3 a4 a5 a6 a7 a8 a9 a10 a11 a12 a13 _ h; omega
  | succ k ih =>
    intro i bc bu nc a1 a2 a3 a4 a5 a6 a7 a8 a9 a10 a11 a12 a13 hi hk h
    refine ek_if (fs_end hL (by omega)) (fun _ => ⟨21, fs_181 hp 20 1 _ _ _ _ _ _ _ _ _ _ _ _ _ _ _ _ (by omega) (by omega) h⟩) (fun he => ?_)
    obtain ⟨n, B, h⟩ := h
    obtain ⟨a, ha, ea⟩ := pk_andE (xs (i + 1)) (m := 255) 8 (by decide)
    obtain ⟨b, hb, eb⟩ := pk_andE ((xs (i + 1)) >>> ((8 : Int32) &&& 31)) (m := 255) 8 (by decide)
    have HJ : ∀ bc bu nc a1 a2 a3 a4 a5 a6 a7 a8 a9 a10 a11 a12 a13, (∃ n B, fs_OK n B (bc, bu, nc, a1, a2, a3, a4, a5, a6, a7, a8, a9, a10, a11, a12, a13)) → wL_law_10 post L xs kc ks k (nI (i + 2)) bc bu nc a1 a2 a3 a4 a5 a6 a7 a8 a9 a10 a11 a12 a13 :=
      fun bc bu nc a1 a2 a3 a4 a5 a6 a7 a8 a9 a10 a11 a12 a13 h => ih (i + 2) bc bu nc a1 a2 a3 a4 a5 a6 a7 a8 a9 a10 a11 a12 a13 (by omega) (by omega) h
    rw [nI_1, nI_clamp (show i + 1 < 2 ^ 31 by omega)]
    refine ⟨pk_in (i + 1) L (by omega), nm_r ea ⟨pk_in (i + 1) L (by omega), nm_r eb ⟨pk_in i L (by omega), br_c (fun _ => ?_) (fun _ => ⟨pk_in i L (by omega), br_c (fun _ => ?_) (fun _ => ?_)⟩)⟩⟩⟩
    · refine fs_drop h (fun r n B u hu => ?_)
      obtain ⟨bc, bu, nc, a1, a2, a3, a4, a5, a6, a7, a8, a9, a10, a11, a12, a13⟩ := u
      exact fs_81 hL (by omega) ha hb hu HJ
    · exact fs_77 hL (by omega) ha hb ha h HJ
    · rw [fs_or]
      exact fs_77 hL (by omega) ha hb (fs_or8 ha hb) h HJ
end
theorem i_vc (xs : Nat → Int32) (L : Nat) (hL : L ≤ 260) : wpL_law (fun r => r = 1) L xs := by
  refine ⟨13, 2419, by omega, by omega, ?_⟩
  refine ⟨by decide, by decide, by decide, by decide, by decide, by decide, by decide, by decide, by decide, by decide, by decide, by decide, by decide, by decide, by decide, by decide, by decide, by decide, by decide, by decide, by decide, by decide, by decide, by decide, by decide, by decide, ?_⟩
  refine ⟨L + 1, fs_10 (post := fun r => r = 1) rfl hL (L + 1) 0 _ _ _ _ _ _ _ _ _ _ _ _ _ _ _ _ (by omega) (by omega) ⟨0, fun _ => 0, by omega, rfl, fun i hi => absurd hi (by omega), fun z => absurd rfl z⟩⟩
end
