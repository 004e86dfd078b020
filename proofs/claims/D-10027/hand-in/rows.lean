section
/-! vectors of 8 ints, by their signs -/
def fx_sub (x y : Nat → Int) : Prop := ∀ j, j < 8 → (0 < x j → 0 < y j) ∧ (x j < 0 → y j < 0)
def fx_nz (x : Nat → Int) : Prop := ∃ j, j < 8 ∧ x j ≠ 0
def fx_dot (t x : Nat → Int) : Nat → Int
  | 0 => 0
  | n + 1 => fx_dot t x n + t n * x n
def fx_cn (x : Nat → Int) : Nat → Nat
  | 0 => 0
  | n + 1 => fx_cn x n + (if x n = 0 then 0 else 1)
theorem fx_sub_refl (x : Nat → Int) : fx_sub x x := fun _ _ => ⟨id, id⟩
theorem fx_sub_trans {x y z : Nat → Int} (h : fx_sub x y) (g : fx_sub y z) : fx_sub x z :=
  fun j hj => ⟨fun a => (g j hj).1 ((h j hj).1 a), fun a => (g j hj).2 ((h j hj).2 a)⟩
theorem fx_sub_ne {x y : Nat → Int} (h : fx_sub x y) {j : Nat} (hj : j < 8) (hx : x j ≠ 0) : y j ≠ 0 := by
  have h1 := h j hj
  omega
theorem fx_sub_nz {x y : Nat → Int} (h : fx_sub x y) (hx : fx_nz x) : fx_nz y := by
  obtain ⟨j, hj, e⟩ := hx
  exact ⟨j, hj, fx_sub_ne h hj e⟩
theorem fx_not_nz {x : Nat → Int} (h : ¬ fx_nz x) {j : Nat} (hj : j < 8) : x j = 0 := by
  by_cases e : x j = 0
  · exact e
  · exact absurd ⟨j, hj, e⟩ h
theorem fx_dot_congr {t x y : Nat → Int} : ∀ n, (∀ j, j < n → x j = y j) → fx_dot t x n = fx_dot t y n
  | 0, _ => rfl
  | n + 1, h => by
    show fx_dot t x n + t n * x n = fx_dot t y n + t n * y n
    rw [fx_dot_congr n (fun j hj => h j (by omega)), h n (by omega)]
theorem fx_dot_lin (t x y : Nat → Int) (a b : Int) : ∀ n, fx_dot t (fun j => a * x j + b * y j) n = a * fx_dot t x n + b * fx_dot t y n
  | 0 => by simp [fx_dot]
  | n + 1 => by
    simp only [fx_dot]
    rw [fx_dot_lin t x y a b n]
    grind
theorem fx_dot_smul (t x : Nat → Int) (a : Int) : ∀ n, fx_dot t (fun j => a * x j) n = a * fx_dot t x n
  | 0 => by simp [fx_dot]
  | n + 1 => by
    simp only [fx_dot]
    rw [fx_dot_smul t x a n]
    grind
theorem fx_dot_neg (t x : Nat → Int) : ∀ n, fx_dot (fun j => - t j) x n = - fx_dot t x n
  | 0 => by simp [fx_dot]
  | n + 1 => by
    simp only [fx_dot]
    rw [fx_dot_neg t x n]
    grind
theorem fx_dot_0 {t x : Nat → Int} : ∀ n, (∀ j, j < n → x j = 0) → fx_dot t x n = 0
  | 0, _ => rfl
  | n + 1, h => by
    show fx_dot t x n + t n * x n = 0
    rw [fx_dot_0 n (fun j hj => h j (by omega)), h n (by omega)]
    omega
theorem fx_cn_le {z x : Nat → Int} : ∀ n, (∀ j, j < n → z j ≠ 0 → x j ≠ 0) → fx_cn z n ≤ fx_cn x n
  | 0, _ => Nat.le_refl 0
  | n + 1, h => by
    have h1 := fx_cn_le n (fun j hj => h j (by omega))
    have h2 := h n (by omega)
    simp only [fx_cn]
    split <;> split <;> first | omega | (exfalso; apply h2 <;> assumption)
theorem fx_cn_lt {z x : Nat → Int} : ∀ n, (∀ j, j < n → z j ≠ 0 → x j ≠ 0) → (∃ j, j < n ∧ x j ≠ 0 ∧ z j = 0) → fx_cn z n < fx_cn x n
  | 0, _, h => by
    obtain ⟨j, hj, _⟩ := h
    omega
  | n + 1, h, g => by
    obtain ⟨j, hj, h3, h4⟩ := g
    have h1 := fx_cn_le n (fun j hj => h j (by omega))
    have h2 := h n (by omega)
    simp only [fx_cn]
    by_cases e : j = n
    · rw [e] at h3 h4
      rw [if_pos h4, if_neg h3]
      omega
    · have h5 := fx_cn_lt n (fun j hj => h j (by omega)) ⟨j, by omega, h3, h4⟩
      split <;> split <;> first | omega | (exfalso; apply h2 <;> assumption)
theorem fx_ratio {a b c d e f : Nat} (hb : 0 < b) (h1 : a * d ≤ c * b) (h2 : e * b ≤ a * f) : e * d ≤ c * f := by
  have h3 : b * (e * d) ≤ b * (c * f) := by
    calc b * (e * d) = (e * b) * d := by grind
      _ ≤ (a * f) * d := Nat.mul_le_mul_right d h2
      _ = (a * d) * f := by grind
      _ ≤ (c * b) * f := Nat.mul_le_mul_right f h1
      _ = b * (c * f) := by grind
  exact Nat.le_of_mul_le_mul_left h3 hb
theorem fx_pne {a b : Int} (h : 0 < a * b) : a ≠ 0 ∧ b ≠ 0 := by
  constructor
  · intro e
    rw [e] at h
    simp at h
  · intro e
    rw [e] at h
    simp at h
theorem fx_min (u v : Nat → Int) : ∀ n, (∃ j, j < n ∧ 0 < u j * v j) → ∃ j, j < n ∧ 0 < u j * v j ∧ ∀ i, i < n → 0 < u i * v i → (v j).natAbs * (u i).natAbs ≤ (v i).natAbs * (u j).natAbs
  | 0, h => by
    obtain ⟨j, hj, _⟩ := h
    omega
  | n + 1, h => by
    by_cases hp : ∃ j, j < n ∧ 0 < u j * v j
    · obtain ⟨j, hj, h1, h2⟩ := fx_min u v n hp
      by_cases hn : 0 < u n * v n
      · by_cases hc : (v j).natAbs * (u n).natAbs ≤ (v n).natAbs * (u j).natAbs
        · refine ⟨j, by omega, h1, fun i hi hpi => ?_⟩
          by_cases e : i = n
          · rw [e]
            exact hc
          · exact h2 i (by omega) hpi
        · refine ⟨n, by omega, hn, fun i hi hpi => ?_⟩
          by_cases e : i = n
          · rw [e]
            exact Nat.le_refl _
          · exact fx_ratio (a := (v j).natAbs) (b := (u j).natAbs) (by have := (fx_pne h1).1; omega) (h2 i (by omega) hpi) (by omega)
      · refine ⟨j, by omega, h1, fun i hi hpi => ?_⟩
        by_cases e : i = n
        · rw [e] at hpi
          exact absurd hpi hn
        · exact h2 i (by omega) hpi
    · obtain ⟨j, hj, h1⟩ := h
      have e : j = n := by
        by_cases e : j = n
        · exact e
        · exact absurd ⟨j, by omega, h1⟩ hp
      refine ⟨j, hj, h1, fun i hi hpi => ?_⟩
      by_cases e2 : i = n
      · rw [e2, e]
        exact Nat.le_refl _
      · exact absurd ⟨i, by omega, hpi⟩ hp
theorem fx_c1 {a b v u : Int} (ha : 0 < a) (hb : 0 < b) (h : u ≠ 0 → v ≠ 0) (hm : 0 < u * v → b * u.natAbs ≤ v.natAbs * a) :
    (0 < a * v + (-b) * u → 0 < v) ∧ (a * v + (-b) * u < 0 → v < 0) := by
  rw [Int.neg_mul]
  rcases Int.lt_trichotomy v 0 with hv | hv | hv
  · have h1 : a * v < 0 := Int.mul_neg_of_pos_of_neg ha hv
    rcases Int.lt_trichotomy u 0 with hu | hu | hu
    · have h2 := hm (Int.mul_pos_of_neg_of_neg hu hv)
      rw [show ((u.natAbs : Nat) : Int) = -u by omega, show ((v.natAbs : Nat) : Int) = -v by omega, Int.mul_neg, Int.neg_mul, Int.mul_comm v a] at h2
      omega
    · rw [hu, Int.mul_zero]
      omega
    · have h2 := Int.mul_pos hb hu
      omega
  · have hu : u = 0 := by
      by_cases e : u = 0
      · exact e
      · exact absurd hv (h e)
    rw [hu, hv, Int.mul_zero, Int.mul_zero]
    omega
  · have h1 : 0 < a * v := Int.mul_pos ha hv
    rcases Int.lt_trichotomy u 0 with hu | hu | hu
    · have h2 := Int.mul_neg_of_pos_of_neg hb hu
      omega
    · rw [hu, Int.mul_zero]
      omega
    · have h2 := hm (Int.mul_pos hu hv)
      rw [show ((u.natAbs : Nat) : Int) = u by omega, show ((v.natAbs : Nat) : Int) = v by omega, Int.mul_comm v a] at h2
      omega
theorem fx_c0 {u v : Int} (h : 0 < u * v) : (u.natAbs : Int) * v + (-(v.natAbs : Int)) * u = 0 := by
  obtain ⟨h1, h2⟩ := fx_pne h
  rcases Int.lt_trichotomy v 0 with hv | hv | hv
  · rcases Int.lt_trichotomy u 0 with hu | hu | hu
    · rw [show ((u.natAbs : Nat) : Int) = -u by omega, show ((v.natAbs : Nat) : Int) = -v by omega]
      grind
    · exact absurd hu h1
    · have := Int.mul_neg_of_pos_of_neg hu hv
      omega
  · exact absurd hv h2
  · rcases Int.lt_trichotomy u 0 with hu | hu | hu
    · have := Int.mul_neg_of_neg_of_pos hu hv
      omega
    · exact absurd hu h1
    · rw [show ((u.natAbs : Nat) : Int) = u by omega, show ((v.natAbs : Nat) : Int) = v by omega]
      grind
/-- a multiple of u taken off v: signs stay, a coordinate vanishes -/
theorem fx_elim {v u : Nat → Int} (h : ∀ j, j < 8 → u j ≠ 0 → v j ≠ 0) (hs : ∃ j, j < 8 ∧ 0 < u j * v j) :
    ∃ a b : Int, 0 < a ∧ 0 < b ∧ fx_sub (fun j => a * v j + (-b) * u j) v ∧ ∃ j, j < 8 ∧ v j ≠ 0 ∧ a * v j + (-b) * u j = 0 := by
  obtain ⟨j, hj, h1, h2⟩ := fx_min u v 8 hs
  obtain ⟨h3, h4⟩ := fx_pne h1
  have ha : (0 : Int) < (u j).natAbs := by omega
  have hb : (0 : Int) < (v j).natAbs := by omega
  refine ⟨(u j).natAbs, (v j).natAbs, ha, hb, fun i hi => ?_, j, hj, h4, fx_c0 h1⟩
  refine fx_c1 ha hb (h i hi) (fun hp => ?_)
  have h5 := Int.ofNat_le.mpr (h2 i hi hp)
  rw [Int.natCast_mul, Int.natCast_mul] at h5
  exact h5
theorem fx_same {u v : Nat → Int} (h : fx_sub u v) (hn : fx_nz u) : ∃ j, j < 8 ∧ 0 < u j * v j := by
  obtain ⟨j, hj, e⟩ := hn
  have h1 := h j hj
  refine ⟨j, hj, ?_⟩
  rcases Int.lt_trichotomy (u j) 0 with hu | hu | hu
  · exact Int.mul_pos_of_neg_of_neg hu (h1.2 hu)
  · exact absurd hu e
  · exact Int.mul_pos hu (h1.1 hu)
end
section
/-- allowed signs; the rows t < s vanish -/
def fx_K (T : Nat → Nat → Int) (r : Nat) (P N : Nat → Prop) (s : Nat) (x : Nat → Int) : Prop :=
  (∀ j, j < 8 → (0 < x j → P j) ∧ (x j < 0 → N j)) ∧ ∀ t, t < s → fx_dot (T t) x r = 0
/-- a family of all the least sign patterns, each once -/
def fx_I {ι : Type} (T : Nat → Nat → Int) (r : Nat) (P N : Nat → Prop) (s : Nat) (D : ι → Prop) (V : ι → Nat → Int) : Prop :=
  (∀ i, D i → fx_K T r P N s (V i)) ∧ (∀ i, D i → fx_nz (V i)) ∧ (∀ x, fx_K T r P N s x → fx_nz x → ∃ i, D i ∧ fx_sub (V i) x) ∧ (∀ i k, D i → D k → fx_sub (V i) (V k) → i = k)
def fx_adj {ι : Type} (D : ι → Prop) (V : ι → Nat → Int) (p q : ι) : Prop :=
  (∀ j, j < 8 → ¬ (0 < V p j ∧ V q j < 0) ∧ ¬ (V p j < 0 ∧ 0 < V q j)) ∧ ∀ k, D k → k ≠ p → k ≠ q → ¬ (∀ j, j < 8 → (0 < V k j → 0 < V p j ∨ 0 < V q j) ∧ (V k j < 0 → V p j < 0 ∨ V q j < 0))
def fx_ok {ι : Type} (w : Nat → Int) (r : Nat) (D : ι → Prop) (V : ι → Nat → Int) (l : ι × ι) : Prop :=
  D l.1 ∧ D l.2 ∧ ((l.1 = l.2 ∧ fx_dot w (V l.1) r = 0) ∨ (0 < fx_dot w (V l.1) r ∧ fx_dot w (V l.2) r < 0 ∧ fx_adj D V l.1 l.2))
def fx_cb {ι : Type} (w : Nat → Int) (r : Nat) (V : ι → Nat → Int) (p q : ι) : Nat → Int :=
  fun j => fx_dot w (V p) r * V q j + (- fx_dot w (V q) r) * V p j
def fx_Z {ι : Type} (w : Nat → Int) (r : Nat) (V : ι → Nat → Int) (l : ι × ι) : Nat → Int :=
  if fx_dot w (V l.1) r = 0 then V l.1 else fx_cb w r V l.1 l.2
theorem fx_Z0 {ι : Type} {w : Nat → Int} {r : Nat} {V : ι → Nat → Int} {l : ι × ι} (h : fx_dot w (V l.1) r = 0) : fx_Z w r V l = V l.1 := if_pos h
theorem fx_Z1 {ι : Type} {w : Nat → Int} {r : Nat} {V : ι → Nat → Int} {l : ι × ι} (h : ¬ fx_dot w (V l.1) r = 0) : fx_Z w r V l = fx_cb w r V l.1 l.2 := if_neg h
theorem fx_K_of {T : Nat → Nat → Int} {r : Nat} {P N : Nat → Prop} {s : Nat} {x z : Nat → Int} (h : fx_K T r P N s x) (hz : fx_sub z x) (hd : ∀ t, t < s → fx_dot (T t) z r = 0) : fx_K T r P N s z :=
  ⟨fun j hj => ⟨fun a => (h.1 j hj).1 ((hz j hj).1 a), fun a => (h.1 j hj).2 ((hz j hj).2 a)⟩, hd⟩
theorem fx_K_lin {T : Nat → Nat → Int} {r : Nat} {P N : Nat → Prop} {s : Nat} {x y : Nat → Int} {a b : Int} (h : fx_K T r P N s x) (hy : ∀ t, t < s → fx_dot (T t) y r = 0) (hz : fx_sub (fun j => a * x j + b * y j) x) : fx_K T r P N s (fun j => a * x j + b * y j) :=
  fx_K_of h hz (fun t ht => by rw [fx_dot_lin, h.2 t ht, hy t ht]; omega)
theorem fx_K_dn {T : Nat → Nat → Int} {r : Nat} {P N : Nat → Prop} {s : Nat} {x : Nat → Int} (h : fx_K T r P N (s + 1) x) : fx_K T r P N s x := ⟨h.1, fun t ht => h.2 t (by omega)⟩
theorem fx_K_up {T : Nat → Nat → Int} {r : Nat} {P N : Nat → Prop} {s : Nat} {x : Nat → Int} (h : fx_K T r P N s x) (hd : fx_dot (T s) x r = 0) : fx_K T r P N (s + 1) x :=
  ⟨h.1, fun t ht => by
    by_cases e : t = s
    · rw [e]
      exact hd
    · exact h.2 t (by omega)⟩
theorem fx_dot_ne {t x : Nat → Int} {r : Nat} (hr : r ≤ 8) (h : fx_dot t x r ≠ 0) : fx_nz x := by
  by_cases e : fx_nz x
  · exact e
  · exact absurd (fx_dot_0 r (fun j hj => fx_not_nz e (by omega))) h
theorem fx_s1 {a b u v : Int} (ha : 0 < a) (hb : 0 < b) (h1 : ¬ (0 < u ∧ v < 0)) (h2 : ¬ (u < 0 ∧ 0 < v)) :
    (0 < a * u + b * v ↔ 0 < u ∨ 0 < v) ∧ (a * u + b * v < 0 ↔ u < 0 ∨ v < 0) := by
  rcases Int.lt_trichotomy u 0 with hu | hu | hu
  · have h3 := Int.mul_neg_of_pos_of_neg ha hu
    rcases Int.lt_trichotomy v 0 with hv | hv | hv
    · have h4 := Int.mul_neg_of_pos_of_neg hb hv
      omega
    · rw [hv, Int.mul_zero]
      omega
    · exact absurd ⟨hu, hv⟩ h2
  · rw [hu, Int.mul_zero]
    rcases Int.lt_trichotomy v 0 with hv | hv | hv
    · have h4 := Int.mul_neg_of_pos_of_neg hb hv
      omega
    · rw [hv, Int.mul_zero]
      omega
    · have h4 := Int.mul_pos hb hv
      omega
  · have h3 := Int.mul_pos ha hu
    rcases Int.lt_trichotomy v 0 with hv | hv | hv
    · exact absurd ⟨hu, hv⟩ h1
    · rw [hv, Int.mul_zero]
      omega
    · have h4 := Int.mul_pos hb hv
      omega
/-- two vectors whose signs nowhere clash -/
def fx_fr (x y : Nat → Int) : Prop := ∀ j, j < 8 → ¬ (0 < x j ∧ y j < 0) ∧ ¬ (x j < 0 ∧ 0 < y j)
theorem fx_fr_of {x y z : Nat → Int} (h : fx_sub x z) (g : fx_sub y z) : fx_fr x y := by
  intro j hj
  have h1 := h j hj
  have h2 := g j hj
  omega
theorem fx_fr_c {x y : Nat → Int} (h : fx_fr x y) : fx_fr y x := by
  intro j hj
  have h1 := h j hj
  omega
theorem fx_add_l {a b : Int} {u v : Nat → Int} (ha : 0 < a) (hb : 0 < b) (h : fx_fr u v) : fx_sub u (fun j => a * u j + b * v j) := by
  intro j hj
  obtain ⟨h1, h2⟩ := fx_s1 ha hb (h j hj).1 (h j hj).2
  exact ⟨fun z => h1.mpr (Or.inl z), fun z => h2.mpr (Or.inl z)⟩
theorem fx_add_r {a b : Int} {u v : Nat → Int} (ha : 0 < a) (hb : 0 < b) (h : fx_fr u v) : fx_sub v (fun j => a * u j + b * v j) := by
  intro j hj
  obtain ⟨h1, h2⟩ := fx_s1 ha hb (h j hj).1 (h j hj).2
  exact ⟨fun z => h1.mpr (Or.inr z), fun z => h2.mpr (Or.inr z)⟩
theorem fx_add_s {a b : Int} {u v z : Nat → Int} (ha : 0 < a) (hb : 0 < b) (h : fx_sub u z) (g : fx_sub v z) : fx_sub (fun j => a * u j + b * v j) z := by
  intro j hj
  have h5 := fx_fr_of h g j hj
  obtain ⟨h1, h2⟩ := fx_s1 ha hb h5.1 h5.2
  have h3 := h j hj
  have h4 := g j hj
  constructor
  · intro e
    rcases h1.mp e with k | k
    · exact h3.1 k
    · exact h4.1 k
  · intro e
    rcases h2.mp e with k | k
    · exact h3.2 k
    · exact h4.2 k
theorem fx_pp {k a : Int} (hk : 0 < k) (h : 0 < k * a) : 0 < a := by
  rcases Int.lt_or_le 0 a with y | y
  · exact y
  · have := Int.mul_nonneg (by omega : 0 ≤ k) (by omega : 0 ≤ -a)
    rw [Int.mul_neg] at this
    omega
theorem fx_pn {k a : Int} (hk : 0 < k) (h : k * a < 0) : a < 0 := by
  rcases Int.lt_or_le a 0 with y | y
  · exact y
  · have := Int.mul_nonneg (by omega : 0 ≤ k) y
    omega
/-- a positive multiple of a, and some of b, make a multiple of c: a lies in c or c in a -/
theorem fx_lie {a b c : Nat → Int} {k1 k2 k3 : Int} (h1 : 0 < k1) (h3 : 0 < k3) (hab : fx_fr a b) (hbc : fx_fr c b) (h : ∀ j, j < 8 → k1 * a j + k2 * b j = k3 * c j) : fx_sub a c ∨ fx_sub c a := by
  rcases Int.lt_trichotomy k2 0 with hk | hk | hk
  · right
    intro j hj
    obtain ⟨g1, g2⟩ := fx_s1 (a := k3) (b := -k2) (u := c j) (v := b j) h3 (by omega) (hbc j hj).1 (hbc j hj).2
    have e : k3 * c j + -k2 * b j = k1 * a j := by
      rw [← h j hj]
      grind
    rw [e] at g1 g2
    constructor
    · intro z
      exact fx_pp h1 (g1.mpr (Or.inl z))
    · intro z
      have g3 := g2.mpr (Or.inl z)
      rcases Int.lt_or_le (a j) 0 with y | y
      · exact y
      · have := Int.mul_nonneg (by omega : 0 ≤ k1) y
        omega
  · left
    intro j hj
    have e := h j hj
    rw [hk, Int.zero_mul, Int.add_zero] at e
    constructor
    · intro z
      have g := Int.mul_pos h1 z
      rw [e] at g
      exact fx_pp h3 g
    · intro z
      have g := Int.mul_neg_of_pos_of_neg h1 z
      rcases Int.lt_or_le (c j) 0 with y | y
      · exact y
      · have := Int.mul_nonneg (by omega : 0 ≤ k3) y
        omega
  · left
    intro j hj
    obtain ⟨g1, g2⟩ := fx_s1 (a := k1) (b := k2) (u := a j) (v := b j) h1 hk (hab j hj).1 (hab j hj).2
    rw [h j hj] at g1 g2
    constructor
    · intro z
      exact fx_pp h3 (g1.mpr (Or.inl z))
    · intro z
      have g3 := g2.mpr (Or.inl z)
      rcases Int.lt_or_le (c j) 0 with y | y
      · exact y
      · have := Int.mul_nonneg (by omega : 0 ≤ k3) y
        omega
/-- a vector of the cone on the negative side holds a member on the negative side -/
theorem fx_neg {ι : Type} {T : Nat → Nat → Int} {r : Nat} {P N : Nat → Prop} {s : Nat} {D : ι → Prop} {V : ι → Nat → Int} (hr : r ≤ 8) (hI : fx_I T r P N s D V) (w : Nat → Int) :
    ∀ n x, fx_cn x 8 < n → fx_K T r P N s x → fx_dot w x r < 0 → ∃ i, D i ∧ fx_sub (V i) x ∧ fx_dot w (V i) r < 0
  | 0, _, h, _, _ => absurd h (by omega)
  | n + 1, x, h, hK, hd => by
    have hnz : fx_nz x := fx_dot_ne (t := w) hr (by omega)
    obtain ⟨k, hk, hs⟩ := hI.2.2.1 x hK hnz
    by_cases hc : fx_dot w (V k) r < 0
    · exact ⟨k, hk, hs, hc⟩
    · obtain ⟨a, b, ha, hb, h1, j, hj, h2, h3⟩ := fx_elim (v := x) (u := V k) (fun j hj => fx_sub_ne hs hj) (fx_same hs (hI.2.1 k hk))
      have hcn : fx_cn (fun j => a * x j + (-b) * V k j) 8 < fx_cn x 8 := fx_cn_lt 8 (fun j hj => fx_sub_ne h1 hj) ⟨j, hj, h2, h3⟩
      obtain ⟨i, hi, h4, h5⟩ := fx_neg hr hI w n (fun j => a * x j + (-b) * V k j) (by omega) (fx_K_lin hK (hI.1 k hk).2 h1) (by
        rw [fx_dot_lin, Int.neg_mul]
        have e1 := Int.mul_neg_of_pos_of_neg ha hd
        have e2 := Int.mul_nonneg (Int.le_of_lt hb) (Int.not_lt.mp hc)
        omega)
      exact ⟨i, hi, fx_sub_trans h4 h1, h5⟩
end
section
/-! one balance more: the family over the labels -/
theorem fx_cb_sg {ι : Type} {w : Nat → Int} {r : Nat} {V : ι → Nat → Int} {p q : ι} (hp : 0 < fx_dot w (V p) r) (hq : fx_dot w (V q) r < 0) (hf : fx_fr (V p) (V q)) {j : Nat} (hj : j < 8) :
    (0 < fx_cb w r V p q j ↔ 0 < V p j ∨ 0 < V q j) ∧ (fx_cb w r V p q j < 0 ↔ V p j < 0 ∨ V q j < 0) := by
  have h := hf j hj
  obtain ⟨h1, h2⟩ := fx_s1 (a := fx_dot w (V p) r) (b := - fx_dot w (V q) r) (u := V q j) (v := V p j) hp (by omega) (by omega) (by omega)
  exact ⟨h1.trans ⟨Or.symm, Or.symm⟩, h2.trans ⟨Or.symm, Or.symm⟩⟩
theorem fx_cb_dot {ι : Type} (t w : Nat → Int) (r : Nat) (V : ι → Nat → Int) (p q : ι) : fx_dot t (fx_cb w r V p q) r = fx_dot w (V p) r * fx_dot t (V q) r + (- fx_dot w (V q) r) * fx_dot t (V p) r := fx_dot_lin _ _ _ _ _ _
theorem fx_cb_K {ι : Type} {T : Nat → Nat → Int} {r : Nat} {P N : Nat → Prop} {s : Nat} {V : ι → Nat → Int} {p q : ι} (kp : fx_K T r P N s (V p)) (kq : fx_K T r P N s (V q)) (hp : 0 < fx_dot (T s) (V p) r) (hq : fx_dot (T s) (V q) r < 0) (hf : fx_fr (V p) (V q)) : fx_K T r P N (s + 1) (fx_cb (T s) r V p q) := by
  refine fx_K_up ⟨fun j hj => ?_, fun t ht => ?_⟩ ?_
  · obtain ⟨h1, h2⟩ := fx_cb_sg hp hq hf hj
    constructor
    · intro h
      rcases h1.mp h with k | k
      · exact (kp.1 j hj).1 k
      · exact (kq.1 j hj).1 k
    · intro h
      rcases h2.mp h with k | k
      · exact (kp.1 j hj).2 k
      · exact (kq.1 j hj).2 k
  · rw [fx_cb_dot, kp.2 t ht, kq.2 t ht]
    omega
  · rw [fx_cb_dot]
    grind
theorem fx_cb_l {ι : Type} {w : Nat → Int} {r : Nat} {V : ι → Nat → Int} {p q : ι} (hp : 0 < fx_dot w (V p) r) (hq : fx_dot w (V q) r < 0) (hf : fx_fr (V p) (V q)) : fx_sub (V p) (fx_cb w r V p q) :=
  fun _ hj => ⟨fun z => (fx_cb_sg hp hq hf hj).1.mpr (Or.inl z), fun z => (fx_cb_sg hp hq hf hj).2.mpr (Or.inl z)⟩
theorem fx_cb_r {ι : Type} {w : Nat → Int} {r : Nat} {V : ι → Nat → Int} {p q : ι} (hp : 0 < fx_dot w (V p) r) (hq : fx_dot w (V q) r < 0) (hf : fx_fr (V p) (V q)) : fx_sub (V q) (fx_cb w r V p q) :=
  fun _ hj => ⟨fun z => (fx_cb_sg hp hq hf hj).1.mpr (Or.inr z), fun z => (fx_cb_sg hp hq hf hj).2.mpr (Or.inr z)⟩
theorem fx_cb_s {ι : Type} {w : Nat → Int} {r : Nat} {V : ι → Nat → Int} {p q : ι} {z : Nat → Int} (hp : 0 < fx_dot w (V p) r) (hq : fx_dot w (V q) r < 0) (h1 : fx_sub (V p) z) (h2 : fx_sub (V q) z) : fx_sub (fx_cb w r V p q) z :=
  fx_add_s hp (by omega) h2 h1
theorem fx_fin {ι : Type} {T : Nat → Nat → Int} {r : Nat} {P N : Nat → Prop} {s : Nat} {D : ι → Prop} {V : ι → Nat → Int} {x z y : Nat → Int}
    (kz : fx_K T r P N (s + 1) z) (ky : fx_K T r P N (s + 1) y) (ny : fx_nz y) (hyz : fx_sub y z) (hzx : fx_sub z x)
    (ih : ∀ u, fx_K T r P N (s + 1) u → fx_nz u → fx_cn u 8 < fx_cn x 8 → ∃ l, fx_ok (T s) r D V l ∧ fx_sub (fx_Z (T s) r V l) u)
    (hz0 : ∀ a b : Int, 0 < a → 0 < b → (∀ j, j < 8 → a * z j + (-b) * y j = 0) → False) :
    ∃ l, fx_ok (T s) r D V l ∧ fx_sub (fx_Z (T s) r V l) x := by
  obtain ⟨a, b, ha, hb, h1, j, hj, h2, h3⟩ := fx_elim (v := z) (u := y) (fun j hj => fx_sub_ne hyz hj) (fx_same hyz ny)
  have hcn : fx_cn (fun j => a * z j + (-b) * y j) 8 < fx_cn z 8 := fx_cn_lt 8 (fun j hj => fx_sub_ne h1 hj) ⟨j, hj, h2, h3⟩
  have hcx : fx_cn z 8 ≤ fx_cn x 8 := fx_cn_le 8 (fun j hj => fx_sub_ne hzx hj)
  by_cases hn : fx_nz (fun j => a * z j + (-b) * y j)
  · obtain ⟨l, hl, h4⟩ := ih _ (fx_K_lin kz ky.2 h1) hn (by omega)
    exact ⟨l, hl, fx_sub_trans h4 (fx_sub_trans h1 hzx)⟩
  · exact absurd (fun j hj => fx_not_nz hn hj) (hz0 a b ha hb)
theorem fx_pq {ι : Type} {T : Nat → Nat → Int} {r : Nat} {P N : Nat → Prop} {s : Nat} {D : ι → Prop} {V : ι → Nat → Int} {x : Nat → Int} (hI : fx_I T r P N s D V)
    (ih : ∀ u, fx_K T r P N (s + 1) u → fx_nz u → fx_cn u 8 < fx_cn x 8 → ∃ l, fx_ok (T s) r D V l ∧ fx_sub (fx_Z (T s) r V l) u)
    {p q : ι} (dp : D p) (dq : D q) (hp : 0 < fx_dot (T s) (V p) r) (hq : fx_dot (T s) (V q) r < 0) (hpx : fx_sub (V p) x) (hqx : fx_sub (V q) x) :
    ∃ l, fx_ok (T s) r D V l ∧ fx_sub (fx_Z (T s) r V l) x := by
  have hf := fx_fr_of hpx hqx
  have hzx := fx_cb_s hp hq hpx hqx
  by_cases hadj : fx_adj D V p q
  · refine ⟨(p, q), ⟨dp, dq, Or.inr ⟨hp, hq, hadj⟩⟩, ?_⟩
    rw [fx_Z1 (show ¬ fx_dot (T s) (V p) r = 0 by omega)]
    exact hzx
  · have hk : ∃ k, D k ∧ k ≠ p ∧ k ≠ q ∧ ∀ j, j < 8 → (0 < V k j → 0 < V p j ∨ 0 < V q j) ∧ (V k j < 0 → V p j < 0 ∨ V q j < 0) := by
      refine Classical.byContradiction (fun hc => hadj ⟨hf, fun k h1 h2 h3 h4 => hc ⟨k, h1, h2, h3, h4⟩⟩)
    obtain ⟨k, dk, hkp, hkq, hu⟩ := hk
    have hkz : fx_sub (V k) (fx_cb (T s) r V p q) := fun j hj => ⟨fun z => (fx_cb_sg hp hq hf hj).1.mpr ((hu j hj).1 z), fun z => (fx_cb_sg hp hq hf hj).2.mpr ((hu j hj).2 z)⟩
    have hkx := fx_sub_trans hkz hzx
    have kz := fx_cb_K (hI.1 p dp) (hI.1 q dq) hp hq hf
    rcases Int.lt_trichotomy (fx_dot (T s) (V k) r) 0 with hs | hs | hs
    · have hfk := fx_fr_of hpx hkx
      have ky := fx_cb_K (hI.1 p dp) (hI.1 k dk) hp hs hfk
      refine fx_fin kz ky (fx_sub_nz (fx_cb_l hp hs hfk) (hI.2.1 p dp)) (fx_cb_s hp hs (fx_cb_l hp hq hf) hkz) hzx ih (fun a b ha hb e => ?_)
      have e2 : ∀ j, j < 8 → (a * fx_dot (T s) (V p) r) * V q j + (a * (- fx_dot (T s) (V q) r) + b * fx_dot (T s) (V k) r) * V p j = (b * fx_dot (T s) (V p) r) * V k j := by
        intro j hj
        have e3 := e j hj
        unfold fx_cb at e3
        grind
      rcases fx_lie (Int.mul_pos ha hp) (Int.mul_pos hb hp) (fx_fr_c hf) (fx_fr_c hfk) e2 with h | h
      · exact hkq (hI.2.2.2 q k dq dk h).symm
      · exact hkq (hI.2.2.2 k q dk dq h)
    · refine ⟨(k, k), ⟨dk, dk, Or.inl ⟨rfl, hs⟩⟩, ?_⟩
      rw [fx_Z0 (show fx_dot (T s) (V k) r = 0 from hs)]
      exact hkx
    · have hfk := fx_fr_of hkx hqx
      have ky := fx_cb_K (hI.1 k dk) (hI.1 q dq) hs hq hfk
      refine fx_fin kz ky (fx_sub_nz (fx_cb_l hs hq hfk) (hI.2.1 k dk)) (fx_cb_s hs hq hkz (fx_cb_r hp hq hf)) hzx ih (fun a b ha hb e => ?_)
      have e2 : ∀ j, j < 8 → (a * (- fx_dot (T s) (V q) r)) * V p j + (a * fx_dot (T s) (V p) r - b * fx_dot (T s) (V k) r) * V q j = (b * (- fx_dot (T s) (V q) r)) * V k j := by
        intro j hj
        have e3 := e j hj
        unfold fx_cb at e3
        grind
      rcases fx_lie (Int.mul_pos ha (by omega)) (Int.mul_pos hb (by omega)) hf hfk e2 with h | h
      · exact hkp (hI.2.2.2 p k dp dk h).symm
      · exact hkp (hI.2.2.2 k p dk dp h)
theorem fx_full {ι : Type} {T : Nat → Nat → Int} {r : Nat} {P N : Nat → Prop} {s : Nat} {D : ι → Prop} {V : ι → Nat → Int} (hr : r ≤ 8) (hI : fx_I T r P N s D V) :
    ∀ n x, fx_cn x 8 < n → fx_K T r P N (s + 1) x → fx_nz x → ∃ l, fx_ok (T s) r D V l ∧ fx_sub (fx_Z (T s) r V l) x
  | 0, _, h, _, _ => absurd h (by omega)
  | n + 1, x, h, hK, hn => by
    have ih : ∀ u, fx_K T r P N (s + 1) u → fx_nz u → fx_cn u 8 < fx_cn x 8 → ∃ l, fx_ok (T s) r D V l ∧ fx_sub (fx_Z (T s) r V l) u := fun u h1 h2 h3 => fx_full hr hI n u (by omega) h1 h2
    have hKs := fx_K_dn hK
    have hx0 : fx_dot (T s) x r = 0 := hK.2 s (by omega)
    obtain ⟨k, dk, hk⟩ := hI.2.2.1 x hKs hn
    obtain ⟨a, b, ha, hb, h1, j, hj, h2, h3⟩ := fx_elim (v := x) (u := V k) (fun j hj => fx_sub_ne hk hj) (fx_same hk (hI.2.1 k dk))
    have hKz := fx_K_lin hKs (hI.1 k dk).2 h1
    rcases Int.lt_trichotomy (fx_dot (T s) (V k) r) 0 with hs | hs | hs
    · obtain ⟨p, dp, h4, h5⟩ := fx_neg hr hI (fun j => - T s j) _ _ (Nat.lt_succ_self _) hKz (by
        rw [fx_dot_neg, fx_dot_lin, hx0, Int.neg_mul]
        have e1 := Int.mul_neg_of_pos_of_neg hb hs
        omega)
      rw [fx_dot_neg] at h5
      exact fx_pq hI ih dp dk (by omega) hs (fx_sub_trans h4 h1) hk
    · refine ⟨(k, k), ⟨dk, dk, Or.inl ⟨rfl, hs⟩⟩, ?_⟩
      rw [fx_Z0 (show fx_dot (T s) (V k) r = 0 from hs)]
      exact hk
    · obtain ⟨q, dq, h4, h5⟩ := fx_neg hr hI (T s) _ _ (Nat.lt_succ_self _) hKz (by
        rw [fx_dot_lin, hx0, Int.neg_mul]
        have e1 := Int.mul_pos hb hs
        omega)
      exact fx_pq hI ih dk dq hs h5 hk (fx_sub_trans h4 h1)
theorem fx_in {ι : Type} {w : Nat → Int} {r : Nat} {D : ι → Prop} {V : ι → Nat → Int} {p q k : ι} (hp : 0 < fx_dot w (V p) r) (hq : fx_dot w (V q) r < 0) (ha : fx_adj D V p q) (dk : D k) (h : fx_sub (V k) (fx_cb w r V p q)) : k = p ∨ k = q := by
  refine Classical.byContradiction (fun hc => ha.2 k dk (fun e => hc (Or.inl e)) (fun e => hc (Or.inr e)) (fun j hj => ⟨fun z => (fx_cb_sg hp hq ha.1 hj).1.mp ((h j hj).1 z), fun z => (fx_cb_sg hp hq ha.1 hj).2.mp ((h j hj).2 z)⟩))
theorem fx_anti {ι : Type} {T : Nat → Nat → Int} {r : Nat} {P N : Nat → Prop} {s : Nat} {D : ι → Prop} {V : ι → Nat → Int} (hI : fx_I T r P N s D V) {l l' : ι × ι} (h : fx_ok (T s) r D V l) (h' : fx_ok (T s) r D V l') (hs : fx_sub (fx_Z (T s) r V l) (fx_Z (T s) r V l')) : l = l' := by
  obtain ⟨p, q⟩ := l
  obtain ⟨p', q'⟩ := l'
  obtain ⟨dp, dq, h⟩ := h
  obtain ⟨dp', dq', h'⟩ := h'
  dsimp only at dp dq h dp' dq' h'
  rcases h with ⟨e, h0⟩ | ⟨hp, hq, ha⟩
  · rw [fx_Z0 (show fx_dot (T s) (V p) r = 0 from h0)] at hs
    rcases h' with ⟨e', h0'⟩ | ⟨hp', hq', ha'⟩
    · rw [fx_Z0 (show fx_dot (T s) (V p') r = 0 from h0')] at hs
      have e2 := hI.2.2.2 p p' dp dp' hs
      rw [← e, ← e', e2]
    · rw [fx_Z1 (show ¬ fx_dot (T s) (V p') r = 0 by omega)] at hs
      rcases fx_in hp' hq' ha' dp hs with e2 | e2
      · rw [e2] at h0
        omega
      · rw [e2] at h0
        omega
  · rw [fx_Z1 (show ¬ fx_dot (T s) (V p) r = 0 by omega)] at hs
    have hl := fx_sub_trans (fx_cb_l hp hq ha.1) hs
    have hr := fx_sub_trans (fx_cb_r hp hq ha.1) hs
    rcases h' with ⟨e', h0'⟩ | ⟨hp', hq', ha'⟩
    · rw [fx_Z0 (show fx_dot (T s) (V p') r = 0 from h0')] at hl
      have e2 := hI.2.2.2 p p' dp dp' hl
      rw [e2] at hp
      omega
    · rw [fx_Z1 (show ¬ fx_dot (T s) (V p') r = 0 by omega)] at hl hr
      have e1 : p = p' := by
        rcases fx_in hp' hq' ha' dp hl with e2 | e2
        · exact e2
        · rw [e2] at hp
          omega
      have e3 : q = q' := by
        rcases fx_in hp' hq' ha' dq hr with e2 | e2
        · rw [e2] at hq
          omega
        · exact e2
      rw [e1, e3]
theorem fx_step {ι : Type} {T : Nat → Nat → Int} {r : Nat} {P N : Nat → Prop} {s : Nat} {D : ι → Prop} {V : ι → Nat → Int} (hr : r ≤ 8) (hI : fx_I T r P N s D V) : fx_I T r P N (s + 1) (fx_ok (T s) r D V) (fx_Z (T s) r V) := by
  refine ⟨fun l hl => ?_, fun l hl => ?_, fun x hx hn => fx_full hr hI _ x (Nat.lt_succ_self _) hx hn, fun l l' h h' hs => fx_anti hI h h' hs⟩
  · obtain ⟨dp, dq, h | ⟨hp, hq, ha⟩⟩ := hl
    · rw [fx_Z0 h.2]
      exact fx_K_up (hI.1 _ dp) h.2
    · rw [fx_Z1 (by omega)]
      exact fx_cb_K (hI.1 _ dp) (hI.1 _ dq) hp hq ha.1
  · obtain ⟨dp, dq, h | ⟨hp, hq, ha⟩⟩ := hl
    · rw [fx_Z0 h.2]
      exact hI.2.1 _ dp
    · rw [fx_Z1 (by omega)]
      exact fx_sub_nz (fx_cb_l hp hq ha.1) (hI.2.1 _ dp)
end
section
/-! moves of a family, proportion, counting -/
theorem fx_move {ι κ : Type} {T : Nat → Nat → Int} {r : Nat} {P N : Nat → Prop} {s : Nat} {D : ι → Prop} {V : ι → Nat → Int} (hr : r ≤ 8) (hI : fx_I T r P N s D V) {E : κ → Prop} {W : κ → Nat → Int} (f : κ → ι)
    (h1 : ∀ k, E k → D (f k)) (h2 : ∀ i, D i → ∃ k, E k ∧ f k = i) (h3 : ∀ k l, E k → E l → f k = f l → k = l) (h4 : ∀ k, E k → ∃ g : Int, 0 < g ∧ ∀ j, j < 8 → g * W k j = V (f k) j) : fx_I T r P N s E W := by
  have s1 : ∀ k, E k → fx_sub (W k) (V (f k)) := by
    intro k hk j hj
    obtain ⟨g, hg, e⟩ := h4 k hk
    rw [← e j hj]
    exact ⟨fun z => Int.mul_pos hg z, fun z => Int.mul_neg_of_pos_of_neg hg z⟩
  have s2 : ∀ k, E k → fx_sub (V (f k)) (W k) := by
    intro k hk j hj
    obtain ⟨g, hg, e⟩ := h4 k hk
    rw [← e j hj]
    exact ⟨fun z => fx_pp hg z, fun z => fx_pn hg z⟩
  refine ⟨fun k hk => ?_, fun k hk => fx_sub_nz (s2 k hk) (hI.2.1 _ (h1 k hk)), fun x hx hn => ?_, fun k l hk hl hs => ?_⟩
  · refine fx_K_of (hI.1 _ (h1 k hk)) (s1 k hk) (fun t ht => ?_)
    obtain ⟨g, hg, e⟩ := h4 k hk
    have e1 := (hI.1 _ (h1 k hk)).2 t ht
    rw [← fx_dot_congr (x := fun j => g * W k j) r (fun j hj => e j (by omega)), fx_dot_smul] at e1
    rcases Int.mul_eq_zero.mp e1 with z | z
    · omega
    · exact z
  · obtain ⟨i, hi, hs⟩ := hI.2.2.1 x hx hn
    obtain ⟨k, hk, e⟩ := h2 i hi
    refine ⟨k, hk, fx_sub_trans (s1 k hk) ?_⟩
    rw [e]
    exact hs
  · exact h3 k l hk hl (hI.2.2.2 _ _ (h1 k hk) (h1 l hl) (fx_sub_trans (s2 k hk) (fx_sub_trans hs (s1 l hl))))
/-- a vector whose support lies in a member's is a multiple of it -/
theorem fx_prop1 {ι : Type} {T : Nat → Nat → Int} {r : Nat} {P N : Nat → Prop} {s : Nat} {D : ι → Prop} {V : ι → Nat → Int} (hI : fx_I T r P N s D V) {i : ι} (hi : D i) {w : Nat → Int}
    (hs : ∀ j, j < 8 → w j ≠ 0 → V i j ≠ 0) (hd : ∀ t, t < s → fx_dot (T t) w r = 0) (hp : ∃ j, j < 8 ∧ 0 < w j * V i j) : ∃ a b : Int, 0 < a ∧ 0 < b ∧ ∀ j, j < 8 → a * V i j = b * w j := by
  obtain ⟨a, b, ha, hb, h1, j, hj, h2, h3⟩ := fx_elim hs hp
  by_cases hn : fx_nz (fun j => a * V i j + (-b) * w j)
  · obtain ⟨k, hk, h4⟩ := hI.2.2.1 _ (fx_K_lin (hI.1 i hi) hd h1) hn
    have e := hI.2.2.2 k i hk hi (fx_sub_trans h4 h1)
    rw [e] at h4
    exact absurd h3 (fx_sub_ne h4 hj h2)
  · refine ⟨a, b, ha, hb, fun j hj => ?_⟩
    have e := fx_not_nz hn hj
    rw [Int.neg_mul] at e
    omega
theorem fx_prop {ι : Type} {T : Nat → Nat → Int} {r : Nat} {P N : Nat → Prop} {s : Nat} {D : ι → Prop} {V : ι → Nat → Int} (hI : fx_I T r P N s D V) {i : ι} (hi : D i) {w : Nat → Int}
    (hn : fx_nz w) (hs : ∀ j, j < 8 → w j ≠ 0 → V i j ≠ 0) (hd : ∀ t, t < s → fx_dot (T t) w r = 0) : ∃ a b : Int, 0 < a ∧ b ≠ 0 ∧ ∀ j, j < 8 → a * V i j = b * w j := by
  by_cases hp : ∃ j, j < 8 ∧ 0 < w j * V i j
  · obtain ⟨a, b, ha, hb, h⟩ := fx_prop1 hI hi hs hd hp
    exact ⟨a, b, ha, by omega, h⟩
  · obtain ⟨j, hj, e⟩ := hn
    have e2 := hs j hj e
    obtain ⟨a, b, ha, hb, h⟩ := fx_prop1 hI hi (w := fun j => (-1) * w j) (fun j hj e => hs j hj (by intro z; apply e; rw [z]; rfl)) (fun t ht => by rw [fx_dot_smul, hd t ht]; rfl) ⟨j, hj, by
      have e3 : w j * V i j ≠ 0 := Int.mul_ne_zero e e2
      have e4 : ¬ 0 < w j * V i j := fun z => hp ⟨j, hj, z⟩
      rw [Int.mul_assoc]
      omega⟩
    refine ⟨a, -b, ha, by omega, fun j hj => ?_⟩
    rw [h j hj]
    grind
theorem fx_opp {ι : Type} {T : Nat → Nat → Int} {r : Nat} {P N : Nat → Prop} {s : Nat} {D : ι → Prop} {V : ι → Nat → Int} (hI : fx_I T r P N s D V) {i k : ι} (hi : D i) (hk : D k) (hs : ∀ j, j < 8 → V i j ≠ 0 → V k j ≠ 0) :
    i = k ∨ ∀ j, j < 8 → (0 < V i j ↔ V k j < 0) ∧ (V i j < 0 ↔ 0 < V k j) := by
  obtain ⟨a, b, ha, hb, h⟩ := fx_prop hI hk (hI.2.1 i hi) hs (hI.1 i hi).2
  rcases Int.lt_or_gt_of_ne hb with g | g
  · right
    intro j hj
    have e := h j hj
    have e2 : a * V k j = (-b) * (- V i j) := by
      rw [e]
      grind
    constructor
    · constructor
      · intro z
        exact fx_pn ha (by rw [e]; exact Int.mul_neg_of_neg_of_pos g z)
      · intro z
        have e3 := Int.mul_neg_of_pos_of_neg ha z
        rw [e2] at e3
        have e4 := fx_pn (show 0 < -b by omega) e3
        omega
    · constructor
      · intro z
        exact fx_pp ha (by rw [e]; exact Int.mul_pos_of_neg_of_neg g z)
      · intro z
        have e3 := Int.mul_pos ha z
        rw [e2] at e3
        have e4 := fx_pp (show 0 < -b by omega) e3
        omega
  · left
    refine hI.2.2.2 i k hi hk (fun j hj => ⟨fun z => ?_, fun z => ?_⟩)
    · exact fx_pp ha (by rw [h j hj]; exact Int.mul_pos g z)
    · exact fx_pn ha (by rw [h j hj]; exact Int.mul_neg_of_pos_of_neg g z)
/-! the support as a number, and 70 chains -/
def fx_bits (f : Nat → Bool) : Nat → Nat
  | 0 => 0
  | n + 1 => if f n then 2 ^ n + fx_bits f n else fx_bits f n
theorem fx_bits_lt (f : Nat → Bool) : ∀ n, fx_bits f n < 2 ^ n
  | 0 => Nat.zero_lt_one
  | n + 1 => by
    have h := fx_bits_lt f n
    have h2 : 2 ^ (n + 1) = 2 ^ n + 2 ^ n := by rw [Nat.pow_succ]; omega
    simp only [fx_bits]
    split <;> omega
theorem fx_bits_tb (f : Nat → Bool) : ∀ n j, j < n → (fx_bits f n).testBit j = f j
  | 0, j, h => absurd h (by omega)
  | n + 1, j, h => by
    simp only [fx_bits]
    by_cases e : j = n
    · rw [e]
      by_cases hf : f n = true
      · rw [if_pos hf, Nat.testBit_two_pow_add_eq, Nat.testBit_lt_two_pow (fx_bits_lt f n), hf]
        rfl
      · rw [if_neg hf, Nat.testBit_lt_two_pow (fx_bits_lt f n)]
        simp at hf
        rw [hf]
    · have h1 : j < n := by omega
      split
      · rw [Nat.testBit_two_pow_add_gt h1]
        exact fx_bits_tb f n j h1
      · exact fx_bits_tb f n j h1
def fx_sp (x : Nat → Int) : Nat := fx_bits (fun j => decide (x j ≠ 0)) 8
theorem fx_sp_lt (x : Nat → Int) : fx_sp x < 256 := fx_bits_lt _ 8
theorem fx_sp_in {x y : Nat → Int} (h : fx_sp x &&& fx_sp y = fx_sp x) {j : Nat} (hj : j < 8) (hx : x j ≠ 0) : y j ≠ 0 := by
  have e : (fx_sp x &&& fx_sp y).testBit j = (fx_sp x).testBit j := by rw [h]
  rw [Nat.testBit_and] at e
  unfold fx_sp at e
  rw [fx_bits_tb _ 8 j hj, fx_bits_tb _ 8 j hj] at e
  simp [hx] at e
  exact e
def fx_chn (a : Nat) : Nat := (17306002764751339443145831543475286498221680741030594927802187818071878173702337064504272501749080561636319029591510811442929024446408575028355448768762894319163218173256768981454387873409784446159771049978261655249833346071910879064559265578532102155654658316335484346595972930807166128501936523802049846370711429387150229510575082080802676975123147149270509289492751853573118204923083949348947794791934302719140568322373804084081371271897494078052198850799475471762219738673952013683593824384076524570414700084127305698205833208283136 >>> (7 * a)) % 128
theorem fx_chn_lt : ∀ a, a < 256 → fx_chn a < 70 := by decide +kernel
theorem fx_chn_ok : ∀ a, a < 256 → ∀ b, b < 256 → fx_chn a = fx_chn b → a &&& b = a ∨ b &&& a = b := by decide +kernel
/-- the lowest value that isn't 0 -/
def fx_lv (x : Nat → Int) : Nat → Int
  | 0 => 0
  | n + 1 => if fx_lv x n = 0 then x n else fx_lv x n
theorem fx_lv_nz {x : Nat → Int} : ∀ n, (∃ j, j < n ∧ x j ≠ 0) → fx_lv x n ≠ 0
  | 0, h => by
    obtain ⟨j, hj, _⟩ := h
    omega
  | n + 1, h => by
    obtain ⟨j, hj, e⟩ := h
    simp only [fx_lv]
    by_cases e2 : j = n
    · rw [e2] at e
      split
      · exact e
      · assumption
    · have h1 := fx_lv_nz n ⟨j, by omega, e⟩
      rw [if_neg h1]
      exact h1
theorem fx_lv_op {x y : Nat → Int} : ∀ n, (∀ j, j < n → (0 < x j ↔ y j < 0) ∧ (x j < 0 ↔ 0 < y j)) → (0 < fx_lv x n ↔ fx_lv y n < 0) ∧ (fx_lv x n < 0 ↔ 0 < fx_lv y n)
  | 0, _ => by simp [fx_lv]
  | n + 1, h => by
    have h1 := fx_lv_op n (fun j hj => h j (by omega))
    have h2 := h n (by omega)
    simp only [fx_lv]
    by_cases e : fx_lv x n = 0
    · have e2 : fx_lv y n = 0 := by omega
      rw [if_pos e, if_pos e2]
      exact h2
    · have e2 : fx_lv y n ≠ 0 := by omega
      rw [if_neg e, if_neg e2]
      exact h1
theorem fx_pig : ∀ (N c : Nat) (g : Nat → Nat), (∀ k, k < c → g k < N) → (∀ k l, k < c → l < c → g k = g l → k = l) → c ≤ N
  | 0, c, g, h, _ => by
    rcases Nat.eq_zero_or_pos c with e | e
    · omega
    · have := h 0 e
      omega
  | N + 1, c, g, h, hi => by
    by_cases hc : ∃ k, k < c ∧ g k = N
    · obtain ⟨k0, hk0, e0⟩ := hc
      have h1 := fx_pig N (c - 1) (fun k => if k < k0 then g k else g (k + 1)) (fun k hk => by
        split
        · rename_i hlt
          have a1 := h k (by omega)
          have a2 : g k ≠ N := fun z => by
            have := hi k k0 (by omega) hk0 (by omega)
            omega
          omega
        · rename_i hge
          have a1 := h (k + 1) (by omega)
          have a2 : g (k + 1) ≠ N := fun z => by
            have := hi (k + 1) k0 (by omega) hk0 (by omega)
            omega
          omega) (fun k l hk hl e => by
        split at e <;> split at e
        · exact hi k l (by omega) (by omega) e
        · have := hi k (l + 1) (by omega) (by omega) e
          omega
        · have := hi (k + 1) l (by omega) (by omega) e
          omega
        · have := hi (k + 1) (l + 1) (by omega) (by omega) e
          omega)
      omega
    · have h1 := fx_pig N c g (fun k hk => by
        have a1 := h k hk
        have a2 : g k ≠ N := fun z => hc ⟨k, hk, z⟩
        omega) hi
      omega
/-- at most 140 -/
theorem fx_140 {ι : Type} {T : Nat → Nat → Int} {r : Nat} {P N : Nat → Prop} {s : Nat} {D : ι → Prop} {V : ι → Nat → Int} (hI : fx_I T r P N s D V) (f : Nat → ι) (c : Nat) (h1 : ∀ k, k < c → D (f k)) (h2 : ∀ k l, k < c → l < c → f k = f l → k = l) : c ≤ 140 := by
  refine fx_pig 140 c (fun k => 2 * fx_chn (fx_sp (V (f k))) + (if 0 < fx_lv (V (f k)) 8 then 1 else 0)) (fun k hk => ?_) (fun k l hk hl e => ?_)
  · have := fx_chn_lt _ (fx_sp_lt (V (f k)))
    split <;> omega
  · skip
    have n1 := fx_lv_nz 8 (hI.2.1 _ (h1 k hk))
    have n2 := fx_lv_nz 8 (hI.2.1 _ (h1 l hl))
    have e1 : fx_chn (fx_sp (V (f k))) = fx_chn (fx_sp (V (f l))) := by
      split at e <;> split at e <;> omega
    have e2 : 0 < fx_lv (V (f k)) 8 ↔ 0 < fx_lv (V (f l)) 8 := by
      split at e <;> split at e <;> first | omega | (constructor <;> intro <;> assumption)
    rcases fx_chn_ok _ (fx_sp_lt _) _ (fx_sp_lt _) e1 with g | g
    · rcases fx_opp hI (h1 k hk) (h1 l hl) (fun j hj => fx_sp_in g hj) with q | q
      · exact h2 k l hk hl q
      · have := fx_lv_op 8 q
        omega
    · rcases fx_opp hI (h1 l hl) (h1 k hk) (fun j hj => fx_sp_in g hj) with q | q
      · exact (h2 l k hl hk q).symm
      · have := fx_lv_op 8 q
        omega
end
section
/-! sizes: common divisors, sums, 2x2 minors -/
def fx_prim (x : Nat → Int) : Prop := ∀ d c : Int, (∀ j, j < 8 → d ∣ c * x j) → d ∣ c
def fx_gcd (x : Nat → Int) : Nat → Nat
  | 0 => 0
  | n + 1 => Nat.gcd (fx_gcd x n) (x n).natAbs
def fx_l1 (x : Nat → Int) : Nat → Nat
  | 0 => 0
  | n + 1 => fx_l1 x n + (x n).natAbs
theorem fx_gcd_dvd {x : Nat → Int} : ∀ n j, j < n → fx_gcd x n ∣ (x j).natAbs
  | 0, j, h => absurd h (by omega)
  | n + 1, j, h => by
    by_cases e : j = n
    · rw [e]
      exact Nat.gcd_dvd_right _ _
    · exact Nat.dvd_trans (Nat.gcd_dvd_left _ _) (fx_gcd_dvd n j (by omega))
theorem fx_gcd_lin {x : Nat → Int} {D c : Nat} : ∀ n, (∀ j, j < n → D ∣ c * (x j).natAbs) → D ∣ c * fx_gcd x n
  | 0, _ => ⟨0, rfl⟩
  | n + 1, h => by
    show D ∣ c * Nat.gcd (fx_gcd x n) (x n).natAbs
    rw [← Nat.gcd_mul_left]
    exact Nat.dvd_gcd (fx_gcd_lin n (fun j hj => h j (by omega))) (h n (by omega))
theorem fx_gcd_pos {x : Nat → Int} : ∀ n, (∃ j, j < n ∧ x j ≠ 0) → 0 < fx_gcd x n
  | 0, h => by
    obtain ⟨j, hj, _⟩ := h
    omega
  | n + 1, h => by
    obtain ⟨j, hj, e⟩ := h
    by_cases e2 : j = n
    · rw [e2] at e
      exact Nat.gcd_pos_of_pos_right _ (by omega)
    · exact Nat.gcd_pos_of_pos_left _ (fx_gcd_pos n ⟨j, by omega, e⟩)
theorem fx_prim_of {x y : Nat → Int} (hg : 0 < fx_gcd x 8) (h : ∀ j, j < 8 → (fx_gcd x 8 : Int) * y j = x j) : fx_prim y := by
  intro d c hd
  have h1 : (fx_gcd x 8 * d.natAbs) ∣ c.natAbs * fx_gcd x 8 := by
    refine fx_gcd_lin 8 (fun j hj => ?_)
    have h2 := Int.natAbs_dvd_natAbs.mpr (hd j hj)
    rw [Int.natAbs_mul] at h2
    rw [← h j hj, Int.natAbs_mul, Int.natAbs_natCast]
    have h3 := Nat.mul_dvd_mul_left (fx_gcd x 8) h2
    rw [show c.natAbs * (fx_gcd x 8 * (y j).natAbs) = fx_gcd x 8 * (c.natAbs * (y j).natAbs) by grind]
    exact h3
  rw [Nat.mul_comm c.natAbs] at h1
  exact Int.natAbs_dvd_natAbs.mp (Nat.dvd_of_mul_dvd_mul_left hg h1)
theorem fx_prim_1 {x : Nat → Int} {j : Nat} (hj : j < 8) (h : x j = 1 ∨ x j = -1) : fx_prim x := by
  intro d c hd
  have h1 := hd j hj
  rcases h with e | e
  · rw [e, Int.mul_one] at h1
    exact h1
  · rw [e, Int.mul_neg, Int.mul_one] at h1
    exact Int.dvd_neg.mp h1
theorem fx_prim_cg {x y : Nat → Int} (h : ∀ j, j < 8 → x j = y j) (hx : fx_prim x) : fx_prim y := fun d c hd => hx d c (fun j hj => by rw [h j hj]; exact hd j hj)
theorem fx_dot_ab {t x : Nat → Int} {A : Nat} : ∀ n, (∀ j, j < n → (t j).natAbs ≤ A) → (fx_dot t x n).natAbs ≤ A * fx_l1 x n
  | 0, _ => by simp [fx_dot]
  | n + 1, h => by
    have h1 := fx_dot_ab (x := x) n (fun j hj => h j (by omega))
    have h2 := Nat.mul_le_mul_right (x n).natAbs (h n (by omega))
    simp only [fx_dot, fx_l1]
    have h3 := Int.natAbs_add_le (fx_dot t x n) (t n * x n)
    rw [Int.natAbs_mul] at h3
    rw [Nat.mul_add]
    omega
theorem fx_l1_le {x : Nat → Int} {B : Nat} : ∀ n, (∀ j, j < n → (x j).natAbs ≤ B) → fx_l1 x n ≤ n * B
  | 0, _ => by simp [fx_l1]
  | n + 1, h => by
    have h1 := fx_l1_le n (fun j hj => h j (by omega))
    have h2 := h n (by omega)
    simp only [fx_l1]
    rw [Nat.succ_mul]
    omega
theorem fx_l1_mono {x : Nat → Int} : ∀ n m, n ≤ m → fx_l1 x n ≤ fx_l1 x m
  | n, 0, h => by
    rw [show n = 0 by omega]
    exact Nat.le_refl _
  | n, m + 1, h => by
    by_cases e : n = m + 1
    · rw [e]
      exact Nat.le_refl _
    · have h1 := fx_l1_mono (x := x) n m (by omega)
      simp only [fx_l1]
      omega
theorem fx_l1_3 {x : Nat → Int} {a b c B : Nat} : ∀ n, (∀ j, j < n → j ≠ a → j ≠ b → j ≠ c → x j = 0) → (∀ j, j < n → (x j).natAbs ≤ B) → fx_l1 x n ≤ (if a < n then B else 0) + (if b < n then B else 0) + (if c < n then B else 0)
  | 0, _, _ => by simp [fx_l1]
  | n + 1, h, g => by
    have h1 := fx_l1_3 n (fun j hj => h j (by omega)) (fun j hj => g j (by omega))
    have h2 := g n (by omega)
    have h3 := h n (by omega)
    simp only [fx_l1]
    have ka : (if a < n then B else 0) + (if n = a then B else 0) ≤ (if a < n + 1 then B else 0) := by
      by_cases e : n = a
      · rw [if_neg (show ¬ a < n by omega), if_pos e, if_pos (show a < n + 1 by omega)]
        omega
      · rw [if_neg e]
        by_cases e2 : a < n
        · rw [if_pos e2, if_pos (show a < n + 1 by omega)]
          omega
        · rw [if_neg e2]
          omega
    have kb : (if b < n then B else 0) + (if n = b then B else 0) ≤ (if b < n + 1 then B else 0) := by
      by_cases e : n = b
      · rw [if_neg (show ¬ b < n by omega), if_pos e, if_pos (show b < n + 1 by omega)]
        omega
      · rw [if_neg e]
        by_cases e2 : b < n
        · rw [if_pos e2, if_pos (show b < n + 1 by omega)]
          omega
        · rw [if_neg e2]
          omega
    have kc : (if c < n then B else 0) + (if n = c then B else 0) ≤ (if c < n + 1 then B else 0) := by
      by_cases e : n = c
      · rw [if_neg (show ¬ c < n by omega), if_pos e, if_pos (show c < n + 1 by omega)]
        omega
      · rw [if_neg e]
        by_cases e2 : c < n
        · rw [if_pos e2, if_pos (show c < n + 1 by omega)]
          omega
        · rw [if_neg e2]
          omega
    have k : (x n).natAbs ≤ (if n = a then B else 0) + (if n = b then B else 0) + (if n = c then B else 0) := by
      by_cases ea : n = a
      · rw [if_pos ea]
        omega
      · by_cases eb : n = b
        · rw [if_pos eb]
          omega
        · by_cases ec : n = c
          · rw [if_pos ec]
            omega
          · rw [h3 ea eb ec]
            exact Nat.zero_le _
    omega
/-! one coordinate; two rows -/
def fx_e (a : Nat) (A : Int) : Nat → Int := fun j => if j = a then A else 0
theorem fx_e_s (a : Nat) (A : Int) : fx_e a A a = A := if_pos rfl
theorem fx_e_n {a j : Nat} (A : Int) (h : j ≠ a) : fx_e a A j = 0 := if_neg h
theorem fx_dot_e0 {t : Nat → Int} {a : Nat} {A : Int} : ∀ n, n ≤ a → fx_dot t (fx_e a A) n = 0
  | 0, _ => rfl
  | n + 1, h => by
    show fx_dot t (fx_e a A) n + t n * fx_e a A n = 0
    rw [fx_dot_e0 n (by omega), fx_e_n A (by omega)]
    omega
theorem fx_dot_e {t : Nat → Int} {a : Nat} {A : Int} : ∀ n, a < n → fx_dot t (fx_e a A) n = t a * A
  | 0, h => absurd h (by omega)
  | n + 1, h => by
    show fx_dot t (fx_e a A) n + t n * fx_e a A n = _
    by_cases e : a = n
    · rw [fx_dot_e0 n (by omega), ← e, fx_e_s]
      omega
    · rw [fx_dot_e n (by omega), fx_e_n A (by omega)]
      omega
theorem fx_dot_add (t x y : Nat → Int) : ∀ n, fx_dot t (fun j => x j + y j) n = fx_dot t x n + fx_dot t y n
  | 0 => rfl
  | n + 1 => by
    simp only [fx_dot]
    rw [fx_dot_add t x y n]
    grind
/-- a small vector of the two rows inside the support of v -/
def fx_w (u t v : Nat → Int) (r : Nat) : Prop :=
  ∃ w : Nat → Int, fx_nz w ∧ (∀ j, j < 8 → w j ≠ 0 → v j ≠ 0) ∧ (∀ j, j < 8 → (w j).natAbs ≤ 18) ∧ fx_dot u w r = 0 ∧ fx_dot t w r = 0 ∧ ∃ a b c : Nat, ∀ j, j < 8 → j ≠ a → j ≠ b → j ≠ c → w j = 0
theorem fx_w1 {u t v : Nat → Int} {r a : Nat} (hr : r ≤ 8) (ha : a < r) (va : v a ≠ 0) (h1 : u a = 0) (h2 : t a = 0) : fx_w u t v r := by
  refine ⟨fx_e a 1, ⟨a, by omega, by rw [fx_e_s]; decide⟩, fun j hj h => ?_, fun j hj => ?_, ?_, ?_, a, a, a, fun j hj h _ _ => fx_e_n 1 h⟩
  · by_cases e : j = a
    · rw [e]
      exact va
    · exact absurd (fx_e_n 1 e) h
  · unfold fx_e
    split <;> decide
  · rw [fx_dot_e r ha, h1]
    rfl
  · rw [fx_dot_e r ha, h2]
    rfl
theorem fx_w2' {u t v : Nat → Int} {r a b : Nat} (hr : r ≤ 8) (ha : a < r) (hb : b < r) (hab : a ≠ b) (va : v a ≠ 0) (vb : v b ≠ 0) {A B : Int} (hn : A ≠ 0 ∨ B ≠ 0) (hA : A.natAbs ≤ 18) (hB : B.natAbs ≤ 18) (h1 : u a * A + u b * B = 0) (h2 : t a * A + t b * B = 0) : fx_w u t v r := by
  refine ⟨fun j => fx_e a A j + fx_e b B j, ?_, fun j hj h => ?_, fun j hj => ?_, ?_, ?_, a, b, b, fun j hj h3 h4 _ => ?_⟩
  · rcases hn with h | h
    · refine ⟨a, by omega, ?_⟩
      show fx_e a A a + fx_e b B a ≠ 0
      rw [fx_e_s, fx_e_n B hab]
      omega
    · refine ⟨b, by omega, ?_⟩
      show fx_e a A b + fx_e b B b ≠ 0
      rw [fx_e_s, fx_e_n A (Ne.symm hab)]
      omega
  · by_cases e : j = a
    · rw [e]
      exact va
    · by_cases e2 : j = b
      · rw [e2]
        exact vb
      · exact absurd (by show fx_e a A j + fx_e b B j = 0; rw [fx_e_n A e, fx_e_n B e2]; rfl) h
  · show (fx_e a A j + fx_e b B j).natAbs ≤ 18
    by_cases e : j = a
    · rw [e, fx_e_s, fx_e_n B hab]
      omega
    · rw [fx_e_n A e]
      unfold fx_e
      split <;> omega
  · rw [fx_dot_add, fx_dot_e r ha, fx_dot_e r hb]
    exact h1
  · rw [fx_dot_add, fx_dot_e r ha, fx_dot_e r hb]
    exact h2
  · show fx_e a A j + fx_e b B j = 0
    rw [fx_e_n A h3, fx_e_n B h4]
    rfl
theorem fx_w2 {u t v : Nat → Int} {r a b : Nat} (hr : r ≤ 8) (hu : ∀ j, j < r → (u j).natAbs ≤ 3) (ht : ∀ j, j < r → (t j).natAbs ≤ 3) (ha : a < r) (hb : b < r) (hab : a ≠ b) (va : v a ≠ 0) (vb : v b ≠ 0) (h : u a * t b = u b * t a) : fx_w u t v r := by
  have u1 := hu a ha
  have u2 := hu b hb
  have t1 := ht a ha
  have t2 := ht b hb
  by_cases c1 : u b ≠ 0 ∨ u a ≠ 0
  · exact fx_w2' hr ha hb hab va vb (A := u b) (B := - u a) (by omega) (by omega) (by omega) (by grind) (by grind)
  · have z1 : u a = 0 := by omega
    have z2 : u b = 0 := by omega
    by_cases c2 : t b ≠ 0 ∨ t a ≠ 0
    · exact fx_w2' hr ha hb hab va vb (A := t b) (B := - t a) (by omega) (by omega) (by omega) (by rw [z1, z2]; omega) (by grind)
    · exact fx_w1 hr ha va z1 (by omega)
theorem fx_m9 {a b : Int} (ha : a.natAbs ≤ 3) (hb : b.natAbs ≤ 3) : (a * b).natAbs ≤ 9 := by
  rw [Int.natAbs_mul]
  exact Nat.mul_le_mul ha hb
theorem fx_m18 {a b c d : Int} (ha : a.natAbs ≤ 3) (hb : b.natAbs ≤ 3) (hc : c.natAbs ≤ 3) (hd : d.natAbs ≤ 3) : (a * b - c * d).natAbs ≤ 18 := by
  have h1 := fx_m9 ha hb
  have h2 := fx_m9 hc hd
  omega
theorem fx_w3 {u t v : Nat → Int} {r a b c : Nat} (hr : r ≤ 8) (hu : ∀ j, j < r → (u j).natAbs ≤ 3) (ht : ∀ j, j < r → (t j).natAbs ≤ 3) (ha : a < r) (hb : b < r) (hc : c < r) (hab : a ≠ b) (hac : a ≠ c) (hbc : b ≠ c) (va : v a ≠ 0) (vb : v b ≠ 0) (vc : v c ≠ 0) : fx_w u t v r := by
  by_cases hm : u a * t b = u b * t a
  · exact fx_w2 hr hu ht ha hb hab va vb hm
  · have e1 : ∀ A B C : Int, (fun j => (fx_e a A j + fx_e b B j) + fx_e c C j) a = A := fun A B C => by
      show (fx_e a A a + fx_e b B a) + fx_e c C a = A
      rw [fx_e_s, fx_e_n B hab, fx_e_n C hac]
      omega
    have e2 : ∀ A B C : Int, (fun j => (fx_e a A j + fx_e b B j) + fx_e c C j) b = B := fun A B C => by
      show (fx_e a A b + fx_e b B b) + fx_e c C b = B
      rw [fx_e_s, fx_e_n A (Ne.symm hab), fx_e_n C hbc]
      omega
    have e3 : ∀ A B C : Int, (fun j => (fx_e a A j + fx_e b B j) + fx_e c C j) c = C := fun A B C => by
      show (fx_e a A c + fx_e b B c) + fx_e c C c = C
      rw [fx_e_s, fx_e_n A (Ne.symm hac), fx_e_n B (Ne.symm hbc)]
      omega
    have e4 : ∀ A B C : Int, ∀ j, j ≠ a → j ≠ b → j ≠ c → (fun j => (fx_e a A j + fx_e b B j) + fx_e c C j) j = 0 := fun A B C j h1 h2 h3 => by
      show (fx_e a A j + fx_e b B j) + fx_e c C j = 0
      rw [fx_e_n A h1, fx_e_n B h2, fx_e_n C h3]
      rfl
    refine ⟨fun j => (fx_e a (u b * t c - u c * t b) j + fx_e b (u c * t a - u a * t c) j) + fx_e c (u a * t b - u b * t a) j, ⟨c, by omega, ?_⟩, fun j hj h => ?_, fun j hj => ?_, ?_, ?_, a, b, c, fun j hj h1 h2 h3 => e4 _ _ _ j h1 h2 h3⟩
    · rw [e3]
      omega
    · by_cases k1 : j = a
      · rw [k1]
        exact va
      · by_cases k2 : j = b
        · rw [k2]
          exact vb
        · by_cases k3 : j = c
          · rw [k3]
            exact vc
          · exact absurd (e4 _ _ _ j k1 k2 k3) h
    · by_cases k1 : j = a
      · rw [k1, e1]
        exact fx_m18 (hu b hb) (ht c hc) (hu c hc) (ht b hb)
      · by_cases k2 : j = b
        · rw [k2, e2]
          exact fx_m18 (hu c hc) (ht a ha) (hu a ha) (ht c hc)
        · by_cases k3 : j = c
          · rw [k3, e3]
            exact fx_m18 (hu a ha) (ht b hb) (hu b hb) (ht a ha)
          · rw [e4 _ _ _ j k1 k2 k3]
            decide
    · rw [fx_dot_add, fx_dot_add, fx_dot_e r ha, fx_dot_e r hb, fx_dot_e r hc]
      grind
    · rw [fx_dot_add, fx_dot_add, fx_dot_e r ha, fx_dot_e r hb, fx_dot_e r hc]
      grind
theorem fx_w0 {u t v : Nat → Int} {r : Nat} (hr : r ≤ 8) (hu : ∀ j, j < r → (u j).natAbs ≤ 3) (ht : ∀ j, j < r → (t j).natAbs ≤ 3) (hn : fx_nz v) (hv : ∀ j, j < 8 → v j ≠ 0 → j < r) (d1 : fx_dot u v r = 0) (d2 : fx_dot t v r = 0) : fx_w u t v r := by
  obtain ⟨a, ha8, va⟩ := hn
  have ha := hv a ha8 va
  by_cases c1 : ∃ b, b < 8 ∧ b ≠ a ∧ v b ≠ 0
  · obtain ⟨b, hb8, hba, vb⟩ := c1
    have hb := hv b hb8 vb
    by_cases c2 : ∃ c, c < 8 ∧ c ≠ a ∧ c ≠ b ∧ v c ≠ 0
    · obtain ⟨c, hc8, hca, hcb, vc⟩ := c2
      exact fx_w3 hr hu ht ha hb (hv c hc8 vc) (Ne.symm hba) (Ne.symm hca) (Ne.symm hcb) va vb vc
    · have e : ∀ j, j < r → v j = (fun j => fx_e a (v a) j + fx_e b (v b) j) j := by
        intro j hj
        show v j = fx_e a (v a) j + fx_e b (v b) j
        by_cases k1 : j = a
        · rw [k1, fx_e_s, fx_e_n _ (Ne.symm hba)]
          omega
        · by_cases k2 : j = b
          · rw [k2, fx_e_s, fx_e_n _ hba]
            omega
          · rw [fx_e_n _ k1, fx_e_n _ k2]
            by_cases k3 : v j = 0
            · rw [k3]
              rfl
            · exact absurd ⟨j, by omega, k1, k2, k3⟩ c2
      rw [fx_dot_congr r e, fx_dot_add, fx_dot_e r ha, fx_dot_e r hb] at d1 d2
      refine fx_w2 hr hu ht ha hb (Ne.symm hba) va vb ?_
      have k : (u a * t b - u b * t a) * v a = 0 := by grind
      rcases Int.mul_eq_zero.mp k with z | z
      · omega
      · exact absurd z va
  · have e : ∀ j, j < r → v j = fx_e a (v a) j := by
      intro j hj
      by_cases k1 : j = a
      · rw [k1, fx_e_s]
      · rw [fx_e_n _ k1]
        by_cases k3 : v j = 0
        · exact k3
        · exact absurd ⟨j, by omega, k1, k3⟩ c1
    rw [fx_dot_congr r e, fx_dot_e r ha] at d1 d2
    refine fx_w1 hr ha va ?_ ?_
    · rcases Int.mul_eq_zero.mp d1 with z | z
      · exact z
      · exact absurd z va
    · rcases Int.mul_eq_zero.mp d2 with z | z
      · exact z
      · exact absurd z va
/-- after two balances: every entry at most 18, at most three of them -/
theorem fx_18 {ι : Type} {T : Nat → Nat → Int} {r : Nat} {P N : Nat → Prop} {D : ι → Prop} {V : ι → Nat → Int} (hr : r ≤ 8) (hI : fx_I T r P N 2 D V) (hT : ∀ t, t < 2 → ∀ j, j < r → (T t j).natAbs ≤ 3) {i : ι} (hi : D i) (hp : fx_prim (V i)) (hv : ∀ j, j < 8 → V i j ≠ 0 → j < r) :
    (∀ j, j < 8 → (V i j).natAbs ≤ 18) ∧ fx_l1 (V i) 8 ≤ 54 := by
  obtain ⟨w, hn, hs, hw, d1, d2, a, b, c, h0⟩ := fx_w0 hr (hT 0 (by omega)) (hT 1 (by omega)) (hI.2.1 i hi) hv ((hI.1 i hi).2 0 (by omega)) ((hI.1 i hi).2 1 (by omega))
  obtain ⟨k, l, hk, hl, h⟩ := fx_prop hI hi hn hs (fun t ht => by
    rcases (by omega : t = 0 ∨ t = 1) with e | e
    · rw [e]
      exact d1
    · rw [e]
      exact d2)
  have hb : ∀ j, j < 8 → (V i j).natAbs ≤ 18 := by
    intro j hj
    by_cases e : w j = 0
    · have e1 := h j hj
      rw [e, Int.mul_zero] at e1
      rcases Int.mul_eq_zero.mp e1 with z | z
      · omega
      · rw [z]
        decide
    · have e2 : V i j ∣ w j := by
        refine hp _ _ (fun m hm => ⟨w m, ?_⟩)
        have e3 := h j hj
        have e4 := h m hm
        have e5 : l * (w j * V i m) = l * (V i j * w m) := by grind
        exact Int.eq_of_mul_eq_mul_left hl e5
      have e6 := Nat.le_of_dvd (by omega) (Int.natAbs_dvd_natAbs.mpr e2)
      have e7 := hw j hj
      omega
  refine ⟨hb, ?_⟩
  have h2 := fx_l1_3 (x := V i) (a := a) (b := b) (c := c) 8 (fun j hj k1 k2 k3 => by
    have e1 := h j hj
    rw [h0 j hj k1 k2 k3, Int.mul_zero] at e1
    rcases Int.mul_eq_zero.mp e1 with z | z
    · omega
    · exact z) hb
  split at h2 <;> split at h2 <;> split at h2 <;> omega
end
section
/-! ints without overflow -/
theorem fb_bm {x : Int} (h : x.natAbs < 2 ^ 31) : x.bmod (2 ^ 32) = x := Int.bmod_eq_of_le (by omega) (by omega)
theorem fb_add {a b : Int32} (h : (a.toInt + b.toInt).natAbs < 2 ^ 31) : (a + b).toInt = a.toInt + b.toInt := by rw [Int32.toInt_add, fb_bm h]
theorem fb_sub {a b : Int32} (h : (a.toInt - b.toInt).natAbs < 2 ^ 31) : (a - b).toInt = a.toInt - b.toInt := by rw [Int32.toInt_sub, fb_bm h]
theorem fb_mul {a b : Int32} (h : (a.toInt * b.toInt).natAbs < 2 ^ 31) : (a * b).toInt = a.toInt * b.toInt := by rw [Int32.toInt_mul, fb_bm h]
theorem fb_neg {a : Int32} (h : a.toInt.natAbs < 2 ^ 31) : (-a).toInt = -a.toInt := by rw [Int32.toInt_neg, fb_bm (by omega)]
theorem fb_div {a b : Int32} (h : a.toInt.natAbs < 2 ^ 31) : (a / b).toInt = a.toInt.tdiv b.toInt := by
  rw [Int32.toInt_div, fb_bm]
  rw [Int.natAbs_tdiv]
  exact Nat.lt_of_le_of_lt (Nat.div_le_self _ _) h
theorem fb_t0 : (0 : Int32).toInt = 0 := rfl
theorem fb_eq0 {a : Int32} : a = 0 ↔ a.toInt = 0 := by
  rw [← Int32.toInt_inj]
  rfl
theorem fb_le0 {a : Int32} : a ≤ 0 ↔ a.toInt ≤ 0 := Int32.le_iff_toInt_le
theorem fb_ge0 {a : Int32} : 0 ≤ a ↔ 0 ≤ a.toInt := Int32.le_iff_toInt_le
theorem fb_of {a : Int32} (h : 0 ≤ a.toInt) : a = nI a.toInt.natAbs := by
  apply Int32.toInt_inj.mp
  have h1 := a.toInt_lt
  rw [nI_toInt (by omega)]
  omega
/-! bits (these rows began as rows of kit/laws/BITS.to-paste) -/
def fb (x : Int32) (i : Nat) : Bool := x.toBitVec.getLsbD i
theorem fb_ext {x y : Int32} (h : ∀ i, i < 32 → fb x i = fb y i) : x = y := Int32.toBitVec_inj.mp (BitVec.eq_of_getLsbD_eq (fun i hi => h i hi))
theorem fb_or (x y : Int32) (i : Nat) : fb (x ||| y) i = (fb x i || fb y i) := by unfold fb; rw [Int32.toBitVec_or, BitVec.getLsbD_or]
theorem fb_and (x y : Int32) (i : Nat) : fb (x &&& y) i = (fb x i && fb y i) := by unfold fb; rw [Int32.toBitVec_and, BitVec.getLsbD_and]
theorem fb_xor (x y : Int32) (i : Nat) : fb (x ^^^ y) i = (fb x i ^^ fb y i) := by unfold fb; rw [Int32.toBitVec_xor, BitVec.getLsbD_xor]
theorem fb_big {x : Int32} {i : Nat} (h : 32 ≤ i) : fb x i = false := BitVec.getLsbD_of_ge _ _ h
theorem fb_255 (i : Nat) : fb 255 i = decide (i < 8) := by
  rcases Nat.lt_or_ge i 32 with h | h
  · exact (by decide +kernel : ∀ i, i < 32 → fb 255 i = decide (i < 8)) i h
  · rw [fb_big h, decide_eq_false (by omega)]
theorem fb_one (i : Nat) : fb 1 i = decide (i = 0) := by
  rcases Nat.lt_or_ge i 32 with h | h
  · exact (by decide +kernel : ∀ i, i < 32 → fb 1 i = decide (i = 0)) i h
  · rw [fb_big h, decide_eq_false (by omega)]
theorem fb_m1 : ∀ i, i < 32 → fb (-1) i = true := by decide +kernel
theorem fb_0 (i : Nat) : fb 0 i = false := BitVec.getLsbD_zero
theorem fb_sl : ∀ n, n < 32 → ((nI n &&& 31).toBitVec.smod 32).toNat = n := by decide +kernel
theorem fb_shl (n : Nat) (hn : n < 32) (x : Int32) {i : Nat} (hi : i < 32) : fb (x <<< (nI n &&& 31)) i = (decide (n ≤ i) && fb x (i - n)) := by
  unfold fb
  rw [Int32.toBitVec_shiftLeft]
  show (x.toBitVec <<< ((nI n &&& 31).toBitVec.smod 32).toNat).getLsbD i = _
  rw [fb_sl n hn, BitVec.getLsbD_shiftLeft]
  rcases Nat.lt_or_ge i n with h | h
  · simp [h, Nat.not_le.mpr h]
  · simp [hi, h, Nat.not_lt.mpr h]
theorem fb_sshr (n : Nat) (hn : n < 32) (x : Int32) {i : Nat} (hi : i < 32) : fb (x >>> (nI n &&& 31)) i = if n + i < 32 then fb x (n + i) else fb x 31 := by
  unfold fb
  rw [Int32.toBitVec_shiftRight]
  show (x.toBitVec.sshiftRight ((nI n &&& 31).toBitVec.smod 32).toNat).getLsbD i = _
  rw [fb_sl n hn, BitVec.getLsbD_sshiftRight, BitVec.msb_eq_getLsbD_last]
  simp [hi]
theorem fb_shl8 (x : Int32) {i : Nat} (hi : i < 32) : fb (x <<< ((8 : Int32) &&& 31)) i = (decide (8 ≤ i) && fb x (i - 8)) := fb_shl 8 (by omega) x hi
theorem fb_sshr8 (x : Int32) {i : Nat} (hi : i < 32) : fb (x >>> ((8 : Int32) &&& 31)) i = if 8 + i < 32 then fb x (8 + i) else fb x 31 := fb_sshr 8 (by omega) x hi
theorem fb_z {x : Int32} : x = 0 ↔ ∀ i, i < 32 → fb x i = false := by
  constructor
  · intro h i _
    rw [h, fb_0]
  · intro h
    exact fb_ext (fun i hi => by rw [h i hi, fb_0])
/-- a mark of a vector -/
def fb_mk (k : Int32) (x : Nat → Int) : Prop := (∀ j, j < 8 → fb k j = decide (0 < x j) ∧ fb k (8 + j) = decide (x j < 0)) ∧ ∀ i, 16 ≤ i → fb k i = false
theorem fb_mk_cg {k : Int32} {x y : Nat → Int} (h : ∀ j, j < 8 → x j = y j) (hk : fb_mk k x) : fb_mk k y := ⟨fun j hj => by rw [← h j hj]; exact hk.1 j hj, hk.2⟩
theorem fb_1sh : ∀ j, j < 8 → ∀ i, i < 32 → fb ((1 : Int32) <<< (nI j &&& 31)) i = decide (i = j) := by decide +kernel
theorem fb_256sh : ∀ j, j < 8 → ∀ i, i < 32 → fb ((256 : Int32) <<< (nI j &&& 31)) i = decide (i = 8 + j) := by decide +kernel
theorem fb_unit1 {j : Nat} (hj : j < 8) {x : Nat → Int} (hx : ∀ i, i < 8 → x i = if i = j then 1 else 0) : fb_mk ((1 : Int32) <<< (nI j &&& 31)) x := by
  refine ⟨fun i hi => ?_, fun i hi => ?_⟩
  · rw [fb_1sh j hj i (by omega), fb_1sh j hj (8 + i) (by omega), hx i hi]
    constructor
    · by_cases e : i = j
      · rw [if_pos e, decide_eq_true e]
        rfl
      · rw [if_neg e, decide_eq_false e]
        rfl
    · rw [decide_eq_false (by omega)]
      split <;> rfl
  · rcases Nat.lt_or_ge i 32 with h | h
    · rw [fb_1sh j hj i h, decide_eq_false (by omega)]
    · exact fb_big h
theorem fb_unit2 {j : Nat} (hj : j < 8) {x : Nat → Int} (hx : ∀ i, i < 8 → x i = if i = j then -1 else 0) : fb_mk ((256 : Int32) <<< (nI j &&& 31)) x := by
  refine ⟨fun i hi => ?_, fun i hi => ?_⟩
  · rw [fb_256sh j hj i (by omega), fb_256sh j hj (8 + i) (by omega), hx i hi]
    constructor
    · rw [decide_eq_false (by omega)]
      split <;> rfl
    · by_cases e : i = j
      · rw [if_pos e, decide_eq_true (by omega)]
        rfl
      · rw [if_neg e, decide_eq_false (by omega)]
        rfl
  · rcases Nat.lt_or_ge i 32 with h | h
    · rw [fb_256sh j hj i h, decide_eq_false (by omega)]
    · exact fb_big h
theorem fb_mk_or {p q : Int32} {x y z : Nat → Int} (hp : fb_mk p x) (hq : fb_mk q y) (hz : ∀ j, j < 8 → (0 < z j ↔ 0 < x j ∨ 0 < y j) ∧ (z j < 0 ↔ x j < 0 ∨ y j < 0)) : fb_mk (p ||| q) z := by
  refine ⟨fun j hj => ?_, fun i hi => ?_⟩
  · obtain ⟨h1, h2⟩ := hz j hj
    rw [fb_or, fb_or, (hp.1 j hj).1, (hp.1 j hj).2, (hq.1 j hj).1, (hq.1 j hj).2]
    constructor
    · rw [← Bool.decide_or]
      exact decide_eq_decide.mpr h1.symm
    · rw [← Bool.decide_or]
      exact decide_eq_decide.mpr h2.symm
  · rw [fb_or, hp.2 i hi, hq.2 i hi]
    rfl
/-- the test for a clash -/
theorem fb_cl {p q : Int32} {x y : Nat → Int} (hp : fb_mk p x) (hq : fb_mk q y) :
    (((p ||| q) &&& ((p ||| q) >>> ((8 : Int32) &&& 31))) &&& 255) = 0 ↔ fx_fr x y := by
  rw [fb_z]
  have key : ∀ i, i < 8 → fb (((p ||| q) &&& ((p ||| q) >>> ((8 : Int32) &&& 31))) &&& 255) i = ((decide (0 < x i) || decide (0 < y i)) && (decide (x i < 0) || decide (y i < 0))) := by
    intro i hi
    rw [fb_and, fb_and, fb_sshr8 _ (by omega), if_pos (by omega), fb_or, fb_or, fb_255, (hp.1 i hi).1, (hp.1 i hi).2, (hq.1 i hi).1, (hq.1 i hi).2, decide_eq_true hi, Bool.and_true]
  constructor
  · intro h j hj
    have h1 := h j (by omega)
    rw [key j hj] at h1
    simp at h1
    omega
  · intro h i hi
    by_cases h8 : i < 8
    · rw [key i h8]
      have h1 := h i h8
      simp
      omega
    · rw [fb_and, fb_255, decide_eq_false h8, Bool.and_false]
/-- the test for a third one inside -/
theorem fb_third {k p q : Int32} {v x y : Nat → Int} (hk : fb_mk k v) (hp : fb_mk p x) (hq : fb_mk q y) :
    (k &&& ((p ||| q) ^^^ (-1))) = 0 ↔ ∀ j, j < 8 → (0 < v j → 0 < x j ∨ 0 < y j) ∧ (v j < 0 → x j < 0 ∨ y j < 0) := by
  rw [fb_z]
  have key : ∀ i, i < 32 → fb (k &&& ((p ||| q) ^^^ (-1))) i = (fb k i && !(fb p i || fb q i)) := by
    intro i hi
    rw [fb_and, fb_xor, fb_or, fb_m1 i hi, Bool.xor_true]
  constructor
  · intro h j hj
    have h1 := h j (by omega)
    have h2 := h (8 + j) (by omega)
    rw [key j (by omega), (hk.1 j hj).1, (hp.1 j hj).1, (hq.1 j hj).1] at h1
    rw [key (8 + j) (by omega), (hk.1 j hj).2, (hp.1 j hj).2, (hq.1 j hj).2] at h2
    simp at h1 h2
    omega
  · intro h i hi
    rw [key i hi]
    by_cases h8 : i < 8
    · have h1 := h i h8
      rw [(hk.1 i h8).1, (hp.1 i h8).1, (hq.1 i h8).1]
      simp
      omega
    · by_cases h16 : i < 16
      · have h1 := h (i - 8) (by omega)
        obtain ⟨c, rfl⟩ : ∃ c, i = 8 + c := ⟨i - 8, by omega⟩
        rw [show 8 + c - 8 = c by omega] at h1
        rw [(hk.1 c (by omega)).2, (hp.1 c (by omega)).2, (hq.1 c (by omega)).2]
        simp
        omega
      · rw [hk.2 i (by omega)]
        rfl
/-! supports -/
def fb_su (k : Int32) : Int32 := (k ||| (k >>> ((8 : Int32) &&& 31))) &&& 255
theorem fb_su_b {k : Int32} {x : Nat → Int} (h : fb_mk k x) {i : Nat} (hi : i < 32) : fb (fb_su k) i = decide (i < 8 ∧ x i ≠ 0) := by
  unfold fb_su
  by_cases h8 : i < 8
  · rw [fb_and, fb_or, fb_sshr8 _ hi, if_pos (by omega), fb_255, (h.1 i h8).1, (h.1 i h8).2, decide_eq_true h8, Bool.and_true, ← Bool.decide_or]
    apply decide_eq_decide.mpr
    omega
  · rw [fb_and, fb_255, decide_eq_false h8, Bool.and_false, decide_eq_false (by omega)]
theorem fb_su_n {k : Int32} {x : Nat → Int} (h : fb_mk k x) : ∃ n, n < 256 ∧ fb_su k = nI n := by
  obtain ⟨j, h1, h2⟩ := pk_andE (k ||| (k >>> ((8 : Int32) &&& 31))) (m := 255) 8 (by decide)
  exact ⟨j, h1, h2⟩
theorem fb_nI {n i : Nat} (hi : i < 32) : fb (nI n) i = n.testBit i := by
  show (BitVec.ofNat 32 n).getLsbD i = n.testBit i
  rw [BitVec.getLsbD_ofNat, decide_eq_true hi, Bool.true_and]
theorem fb_su_r {k : Int32} {x : Nat → Int} {r : Nat} (h : fb_mk k x) (hr : r ≤ 8) (hx : ∀ j, j < 8 → x j ≠ 0 → j < r) (hn : fx_nz x) : ∃ n, 0 < n ∧ n < 2 ^ r ∧ fb_su k = nI n := by
  obtain ⟨n, h1, h2⟩ := fb_su_n h
  refine ⟨n, ?_, ?_, h2⟩
  · obtain ⟨j, hj, e⟩ := hn
    have e1 := fb_su_b h (show j < 32 by omega)
    rw [h2, fb_nI (by omega), decide_eq_true ⟨hj, e⟩] at e1
    rcases Nat.eq_zero_or_pos n with z | z
    · rw [z, Nat.zero_testBit] at e1
      exact absurd e1 (by decide)
    · exact z
  · apply Nat.lt_pow_two_of_testBit
    intro i hi
    by_cases h8 : i < 8
    · have e1 := fb_su_b h (show i < 32 by omega)
      rw [h2, fb_nI (by omega)] at e1
      rw [e1]
      apply decide_eq_false
      intro z
      have := hx i h8 z.2
      omega
    · apply Nat.testBit_lt_two_pow
      have : 2 ^ 8 ≤ 2 ^ i := Nat.pow_le_pow_right (by omega) (by omega)
      omega
theorem fb_shr1 {s : Int32} {j : Nat} (hj : j < 8) : ((s >>> (nI j &&& 31)) &&& 1) = 1 ↔ fb s j = true := by
  have key : ∀ i, i < 32 → fb ((s >>> (nI j &&& 31)) &&& 1) i = (decide (i = 0) && fb s j) := by
    intro i hi
    rw [fb_and, fb_one]
    by_cases e : i = 0
    · rw [e, fb_sshr j (by omega) s (by omega), if_pos (by omega), Nat.add_zero]
      simp
    · rw [decide_eq_false e]
      simp
  constructor
  · intro h
    have h1 := key 0 (by omega)
    rw [h] at h1
    simpa [fb_one] using h1.symm
  · intro h
    apply fb_ext
    intro i hi
    rw [key i hi, h, fb_one, Bool.and_true]
/-- one support inside another -/
theorem fb_inn {k l : Int32} {x y : Nat → Int} (hk : fb_mk k x) (hl : fb_mk l y) (h : (fb_su k &&& fb_su l) = fb_su k) {j : Nat} (hj : j < 8) (hx : x j ≠ 0) : y j ≠ 0 := by
  have e : fb (fb_su k &&& fb_su l) j = fb (fb_su k) j := by rw [h]
  rw [fb_and, fb_su_b hk (by omega), fb_su_b hl (by omega), decide_eq_true (show j < 8 ∧ x j ≠ 0 from ⟨hj, hx⟩), Bool.true_and] at e
  exact (of_decide_eq_true e).2
/-! turned marks and the lowest bit -/
def fb_tu (k : Int32) : Int32 := ((k &&& 255) <<< ((8 : Int32) &&& 31)) ||| (k >>> ((8 : Int32) &&& 31))
theorem fb_turn {k l : Int32} {x y : Nat → Int} (hk : fb_mk k x) (hl : fb_mk l y) (h : ∀ j, j < 8 → (0 < x j ↔ y j < 0) ∧ (x j < 0 ↔ 0 < y j)) : l = fb_tu k := by
  apply fb_ext
  intro i hi
  unfold fb_tu
  rw [fb_or, fb_shl8 _ hi, fb_and, fb_255, fb_sshr8 _ hi]
  by_cases h8 : i < 8
  · rw [decide_eq_false (show ¬ 8 ≤ i by omega), Bool.false_and, Bool.false_or, if_pos (by omega), (hk.1 i h8).2, (hl.1 i h8).1]
    exact decide_eq_decide.mpr (h i h8).2.symm
  · by_cases h16 : i < 16
    · obtain ⟨c, rfl⟩ : ∃ c, i = 8 + c := ⟨i - 8, by omega⟩
      rw [decide_eq_true (show 8 ≤ 8 + c by omega), Bool.true_and, show 8 + c - 8 = c by omega, decide_eq_true (show c < 8 by omega), Bool.and_true, if_pos (by omega), hk.2 (8 + (8 + c)) (by omega), Bool.or_false, (hk.1 c (by omega)).1, (hl.1 c (by omega)).2]
      exact decide_eq_decide.mpr (h c (by omega)).1.symm
    · rw [hl.2 i (by omega), decide_eq_false (show ¬ i - 8 < 8 by omega), Bool.and_false, Bool.and_false, Bool.false_or]
      by_cases h24 : 8 + i < 32
      · rw [if_pos h24, hk.2 _ (by omega)]
      · rw [if_neg h24, hk.2 _ (by omega)]
theorem fb_low : ∀ n, n < 256 → ∃ j, j < 8 ∧ (nI n &&& (-nI n) = 0 ∨ nI n &&& (-nI n) = (1 : Int32) <<< (nI j &&& 31)) := by decide +kernel
theorem fb_lowb {k : Int32} {j : Nat} (hj : j < 8) (h : ¬ (k &&& ((1 : Int32) <<< (nI j &&& 31))) = 0) : fb k j = true := by
  cases e : fb k j
  · exfalso
    apply h
    rw [fb_z]
    intro i hi
    rw [fb_and, fb_1sh j hj i hi]
    by_cases e2 : i = j
    · rw [e2, e]
      rfl
    · rw [decide_eq_false e2, Bool.and_false]
  · rfl
/-- two opposite ones don't both hold the lowest bit -/
theorem fb_low2 {k l : Int32} {x y : Nat → Int} (hk : fb_mk k x) (hl : fb_mk l y) (h : ∀ j, j < 8 → (0 < x j ↔ y j < 0) ∧ (x j < 0 ↔ 0 < y j)) (hs : fb_su k = fb_su l) (h1 : ¬ (k &&& (fb_su k &&& (- fb_su k))) = 0) (h2 : ¬ (l &&& (fb_su l &&& (- fb_su l))) = 0) : False := by
  rw [← hs] at h2
  obtain ⟨n, hn, e⟩ := fb_su_n hk
  rw [e] at h1 h2
  obtain ⟨j, hj, g | g⟩ := fb_low n hn
  · rw [g] at h1
    apply h1
    rw [fb_z]
    intro i hi
    rw [fb_and, fb_0, Bool.and_false]
  · rw [g] at h1 h2
    have a1 := fb_lowb hj h1
    have a2 := fb_lowb hj h2
    rw [(hk.1 j hj).1] at a1
    rw [(hl.1 j hj).1] at a2
    have b1 := of_decide_eq_true a1
    have b2 := of_decide_eq_true a2
    have b3 := h j hj
    omega
end
section
/-! the walk: places, the divisor, the sides, the turning marks -/
def fw_v (a : Nat → Int32) (k j : Nat) : Int := (a (8 * k + j)).toInt
theorem fw_ix (s j : Nat) : (8 : Int32) * nI s + nI j = nI (8 * s + j) := by
  show nI 8 * nI s + nI j = _
  rw [pk_mul, nI_add]
theorem fw_cl {s j : Nat} (h : 8 * s + j < 2 ^ 31) : ((8 : Int32) * nI s + nI j).toNatClampNeg = 8 * s + j := by rw [fw_ix, nI_clamp h]
theorem fw_in {s j N : Nat} (h : 8 * s + j < N) (hN : N < 2 ^ 31) : vp_in ((8 : Int32) * nI s + nI j) N := by
  rw [fw_ix]
  exact vp_in_nI h hN
theorem fw_up {f : Nat → Int32} {i : Int32} {x : Int32} {P : (Nat → Int32) → Prop} (k : Nat) (hi : i.toNatClampNeg = k) (h : P (upd f k x)) : ∀ a, a = upd f i.toNatClampNeg x → P a := by
  intro a e
  rw [e, hi]
  exact h
/-- Euclid's rounds: 62 are enough -/
theorem fw_d25 {post : Int32 → Prop} {a b : Nat} (ha : a < 2 ^ 31) (hb : b < 2 ^ 31) (H : post (nI (Nat.gcd a b))) : ∃ n, wX_divisor_25 post n (nI a) (nI b) 0 := by
  refine pk_loop (σ := Nat × Nat) (fun n c s => wX_divisor_25 post n (nI s.1) (nI s.2) (nI c)) (fun c s => s.1 < 2 ^ 31 ∧ s.2 < 2 ^ 31 ∧ Nat.gcd s.1 s.2 = Nat.gcd a b ∧ ∃ i, (c = 2 * i ∧ s.2 * 2 ^ i < 2 ^ 31) ∨ (c = 2 * i + 1 ∧ s.1 * 2 ^ i < 2 ^ 31 ∧ s.2 < s.1)) 64 0 (a, b) (by omega) ⟨ha, hb, rfl, 0, Or.inl ⟨rfl, by simpa using hb⟩⟩ ?_ ?_
  · intro n s h
    obtain ⟨x, y⟩ := s
    obtain ⟨h1, h2, h3, i, h4⟩ := h
    dsimp only at h1 h2 h3 h4
    have h5 : y = 0 := by
      rcases h4 with ⟨e, h4⟩ | ⟨e, h4⟩
      · rw [show i = 32 by omega] at h4
        omega
      · omega
    refine pk_le 64 64 (fun _ => ?_) (fun z => absurd z (by omega))
    rw [h5, Nat.gcd_zero_right] at h3
    show post (nI x)
    rw [h3]
    exact H
  · intro n c s hc h hw
    obtain ⟨x, y⟩ := s
    obtain ⟨h1, h2, h3, i, h4⟩ := h
    dsimp only at h1 h2 h3 h4
    refine pk_le 64 c (fun z => absurd z (by omega)) (fun _ => ?_)
    by_cases hy : y = 0
    · refine br_t (show nI y = 0 by rw [hy]; rfl) ?_
      rw [hy, Nat.gcd_zero_right] at h3
      show post (nI x)
      rw [h3]
      exact H
    · have hy' : ¬ nI y = 0 := nI_ne0 (by omega) h2
      have hm : x % y < y := Nat.mod_lt _ (by omega)
      refine br_f hy' ⟨hy', nm_r (pk_rem h1 (by omega) h2) (nm_r (nI_1 c) (hw (y, x % y) ⟨h2, by show x % y < 2 ^ 31; omega, ?_, ?_⟩))⟩
      · show Nat.gcd y (x % y) = Nat.gcd a b
        rw [← h3, Nat.gcd_comm y, ← Nat.gcd_rec, Nat.gcd_comm]
      · show ∃ i, (c + 1 = 2 * i ∧ (x % y) * 2 ^ i < 2 ^ 31) ∨ (c + 1 = 2 * i + 1 ∧ y * 2 ^ i < 2 ^ 31 ∧ x % y < y)
        rcases h4 with ⟨e, h4⟩ | ⟨e, h4, h5⟩
        · exact ⟨i, Or.inr ⟨by omega, h4, hm⟩⟩
        · refine ⟨i + 1, Or.inl ⟨by omega, ?_⟩⟩
          have h6 : 2 * (x % y) < x := by
            have h7 := Nat.div_add_mod x y
            have h8 : 1 ≤ x / y := (Nat.one_le_div_iff (by omega)).mpr (by omega)
            have h9 := Nat.mul_le_mul_left y h8
            omega
          have h7 : (2 * (x % y)) * 2 ^ i ≤ x * 2 ^ i := Nat.mul_le_mul_right _ (by omega)
          rw [Nat.pow_succ, show (x % y) * (2 ^ i * 2) = (2 * (x % y)) * 2 ^ i by grind]
          omega
theorem fw_ab {p : Int32} (h : p.toInt.natAbs < 2 ^ 31) : (0 ≤ p → p = nI p.toInt.natAbs) ∧ (¬ 0 ≤ p → -p = nI p.toInt.natAbs) := by
  constructor
  · intro z
    exact fb_of (fb_ge0.mp z)
  · intro z
    rw [fb_ge0] at z
    apply Int32.toInt_inj.mp
    rw [fb_neg h, nI_toInt h]
    omega
theorem fw_d10 {post : Int32 → Prop} {p : Int32} {a : Nat} (ha : a < 2 ^ 31) (hp : p.toInt.natAbs < 2 ^ 31) (H : post (nI (Nat.gcd a p.toInt.natAbs))) : wX_divisor_10 post p (nI a) := by
  refine br_c (fun z => ?_) (fun z => nm_r ((fw_ab hp).2 z) (fw_d25 ha hp H))
  rw [(fw_ab hp).1 z]
  rw [(fw_ab hp).1 z, nI_toInt hp, Int.natAbs_natCast] at H
  exact fw_d25 ha hp H
theorem fw_div {post : Int32 → Prop} {p q : Int32} (hp : p.toInt.natAbs < 2 ^ 31) (hq : q.toInt.natAbs < 2 ^ 31) (H : post (nI (Nat.gcd p.toInt.natAbs q.toInt.natAbs))) : wpX_divisor post () p q := by
  refine br_c (fun z => ?_) (fun z => ?_)
  · rw [(fw_ab hp).1 z]
    exact fw_d10 hp hq H
  · rw [(fw_ab hp).2 z]
    exact fw_d10 hp hq H
/-- one side -/
theorem fw_w15 {post : St2 → Prop} {J : Int32 → (Nat → Int32) → (Nat → Int32) → (Nat → Int32) → (Nat → Int32) → (Nat → Int32) → (Nat → Int32) → (Nat → Int32) → (Nat → Int32) → Prop} {fm fn fc fu : Int32} {a1 a2 a3 a4 a5 a6 a7 a8 : Nat → Int32} {s k r : Nat} (hs : s < 4) (hk : k < 300) (hr : r ≤ 8)
    (hT : ∀ j, j < r → (fw_v a1 s j).natAbs ≤ 3) (hB : 3 * fx_l1 (fw_v a4 k) 8 < 2 ^ 31)
    (H : ∀ x : Int32, x.toInt = fx_dot (fw_v a1 s) (fw_v a4 k) r → J (nI (k + 1)) a1 a2 a3 a4 a5 (upd a6 k x) a7 a8) :
    ∃ n, wX_weigh_15 post J (nI s) (nI k) fm (nI r) fn fc fu a1 a2 a3 a4 a5 a6 a7 a8 n 0 0 := by
  refine pk_loop (fun n i x => wX_weigh_15 post J (nI s) (nI k) fm (nI r) fn fc fu a1 a2 a3 a4 a5 a6 a7 a8 n x (nI i)) (fun i x => x.toInt = fx_dot (fw_v a1 s) (fw_v a4 k) i) r 0 0 (by omega) rfl ?_ ?_
  · intro n x h
    exact pk_le r r (fun _ => ⟨pk_in k 300 hk, fw_up k (nI_clamp (by omega)) (nm_r (nI_1 k) (H x h))⟩) (fun z => absurd z (by omega))
  · intro n i x hi h hw
    refine pk_le r i (fun z => absurd z (by omega)) (fun _ => ⟨fw_in (by omega) (by omega), fw_in (by omega) (by omega), nm_e (nm_r (nI_1 i) (hw _ ?_))⟩)
    rw [fw_cl (by omega), fw_cl (by omega)]
    have e1 : (a1 (8 * s + i) * a4 (8 * k + i)).toInt = fw_v a1 s i * fw_v a4 k i := by
      apply fb_mul
      have h2 := Nat.mul_le_mul_right (fw_v a4 k i).natAbs (hT i hi)
      have h3 : fx_l1 (fw_v a4 k) i + (fw_v a4 k i).natAbs ≤ fx_l1 (fw_v a4 k) 8 := fx_l1_mono (i + 1) 8 (by omega)
      rw [← Int.natAbs_mul] at h2
      have h4 : (fw_v a1 s i * fw_v a4 k i).natAbs < 2 ^ 31 := by omega
      exact h4
    have e2 : fx_dot (fw_v a1 s) (fw_v a4 k) (i + 1) = fx_dot (fw_v a1 s) (fw_v a4 k) i + fw_v a1 s i * fw_v a4 k i := rfl
    have e3 := fx_dot_ab (t := fw_v a1 s) (x := fw_v a4 k) (i + 1) (fun j hj => hT j (by omega))
    have e4 : fx_l1 (fw_v a4 k) (i + 1) ≤ fx_l1 (fw_v a4 k) 8 := fx_l1_mono (i + 1) 8 (by omega)
    rw [e2] at e3 ⊢
    rw [fb_add, e1, h]
    rw [e1, h]
    omega
/-- all sides -/
theorem fw_weigh {post : St2 → Prop} {fm fc fu : Int32} {a1 a2 a3 a4 a5 a6 a7 a8 : Nat → Int32} {s n r : Nat} (hs : s < 4) (hn : n ≤ 300) (hr : r ≤ 8)
    (hT : ∀ j, j < r → (fw_v a1 s j).natAbs ≤ 3) (hB : ∀ k, k < n → 3 * fx_l1 (fw_v a4 k) 8 < 2 ^ 31)
    (H : ∀ a, (∀ k, k < n → (a k).toInt = fx_dot (fw_v a1 s) (fw_v a4 k) r) → post (fm, nI r, nI n, fc, fu, a1, a2, a3, a4, a5, a, a7, a8)) :
    wpX_weigh post (fm, nI r, nI n, fc, fu, a1, a2, a3, a4, a5, a6, a7, a8) (nI s) := by
  refine pk_loop (fun f i a => wX_weigh_2 post (nI s) fm (nI r) (nI n) fc fu f (nI i) a1 a2 a3 a4 a5 a a7 a8) (fun i a => ∀ k, k < i → (a k).toInt = fx_dot (fw_v a1 s) (fw_v a4 k) r) n 0 a6 (by omega) lt_0 ?_ ?_
  · intro f a h
    exact pk_le n n (fun _ => H a h) (fun z => absurd z (by omega))
  · intro f i a hi h hw
    refine pk_le n i (fun z => absurd z (by omega)) (fun _ => fw_w15 hs (by omega) hr hT (hB i hi) (fun x hx => hw _ (lt_s (fun k hk => ?_) ?_)))
    · rw [pk_un (by omega)]
      exact h k hk
    · rw [pk_us]
      exact hx
theorem fw_sup {post : Int32 → Prop} {fm fr fn fc fu : Int32} {a1 a2 a3 a4 a5 a6 a7 a8 : Nat → Int32} {k : Nat} (hk : k < 300) (h : post (fb_su (a5 k))) : wpX_supportOf post (fm, fr, fn, fc, fu, a1, a2, a3, a4, a5, a6, a7, a8) (nI k) := by
  refine ⟨pk_in k 300 hk, pk_in k 300 hk, ?_⟩
  rw [nI_clamp (by omega)]
  exact h
/-- the turning marks -/
theorem fw_ft {post : St2 → Prop} {fm fr fc fu : Int32} {a1 a2 a3 a4 a5 a6 a7 a8 : Nat → Int32} {n : Nat} (hn : n ≤ 300)
    (H : ∀ a, (∀ k, k < n → (∃ i, i < n ∧ a5 i = fb_tu (a5 k)) → a k ≠ 0) → post (fm, fr, nI n, fc, fu, a1, a2, a3, a4, a5, a6, a, a8)) :
    wpX_findTurning post (fm, fr, nI n, fc, fu, a1, a2, a3, a4, a5, a6, a7, a8) := by
  refine pk_loop (fun f i a => wX_findTurning_2 post fm fr (nI n) fc fu f (nI i) a1 a2 a3 a4 a5 a6 a a8) (fun c a => ∀ k, k < c → (∃ i, i < n ∧ a5 i = fb_tu (a5 k)) → a k ≠ 0) n 0 a7 (by omega) lt_0 ?_ ?_
  · intro f a h
    exact pk_le n n (fun _ => H a h) (fun z => absurd z (by omega))
  · intro f c a hc h hw
    refine pk_le n c (fun z => absurd z (by omega)) (fun _ => ⟨pk_in c 300 (by omega), pk_in c 300 (by omega), nm_r (e' := fb_tu (a5 c)) (by rw [nI_clamp (by omega)]; rfl) ⟨pk_in c 300 (by omega), fw_up c (nI_clamp (by omega)) ?_⟩⟩)
    refine pk_loop (fun g i b => wX_findTurning_43 post (wX_findTurning_2 post fm fr (nI n) fc fu f) (nI c) (fb_tu (a5 c)) fm fr (nI n) fc fu g (nI i) a1 a2 a3 a4 a5 a6 b a8) (fun i b => (∀ j, j < i → a5 j = fb_tu (a5 c) → b c ≠ 0) ∧ ∀ k, k < c → b k = a k) n 0 (upd a c 0) (by omega) ⟨lt_0, fun k hk => pk_un (by omega)⟩ ?_ ?_
    · intro g b hb
      refine pk_le n n (fun _ => nm_r (nI_1 c) (hw b (lt_s (fun k hk hi => ?_) (fun hi => ?_)))) (fun z => absurd z (by omega))
      · rw [hb.2 k hk]
        exact h k hk hi
      · obtain ⟨i, hi, e⟩ := hi
        exact hb.1 i hi e
    · intro g i b hi hb hv
      refine pk_le n i (fun z => absurd z (by omega)) (fun _ => ⟨pk_in i 300 (by omega), ?_⟩)
      rw [nI_clamp (by omega)]
      refine br_c (fun z => ⟨pk_in c 300 (by omega), fw_up c (nI_clamp (by omega)) (nm_r (nI_1 i) (hv _ ⟨fun j hj e => ?_, fun k hk => ?_⟩))⟩) (fun z => nm_r (nI_1 i) (hv b ⟨lt_s hb.1 (fun e => absurd e z), hb.2⟩))
      · rw [pk_us]
        decide
      · rw [pk_un (by omega)]
        exact hb.2 k hk
end
section
/-! the order of the modes -/
def fw_og (a : Nat → Int32) (i : Nat) : Nat := (a i).toNatClampNeg
def fw_sn (a5 : Nat → Int32) (k : Nat) : Int := (fb_su (a5 k)).toInt
def fw_inc (a5 a7 : Nat → Int32) (k : Nat) : Prop := a7 k = 0 ∨ ¬ (a5 k &&& (fb_su (a5 k) &&& (- fb_su (a5 k)))) = 0
def fw_A (a5 a7 : Nat → Int32) (k c : Nat) (a : Nat → Int32) : Prop :=
  c ≤ k ∧ (∀ i, i < c → a i = nI (fw_og a i) ∧ fw_og a i < k ∧ fw_inc a5 a7 (fw_og a i)) ∧ ∀ i i', i < i' → i' < c → fw_og a i ≠ fw_og a i' ∧ fw_sn a5 (fw_og a i) ≤ fw_sn a5 (fw_og a i')
theorem fw_og_e {a b : Nat → Int32} {i j : Nat} (h : a i = b j) : fw_og a i = fw_og b j := by
  unfold fw_og
  rw [h]
theorem fw_A_up {a5 a7 a : Nat → Int32} {k c : Nat} (h : fw_A a5 a7 k c a) : fw_A a5 a7 (k + 1) c a :=
  ⟨by have := h.1; omega, fun i hi => ⟨(h.2.1 i hi).1, by have := (h.2.1 i hi).2.1; omega, (h.2.1 i hi).2.2⟩, h.2.2⟩
theorem fw_A_ins {a5 a7 a b : Nat → Int32} {k c t : Nat} (h : fw_A a5 a7 k c b) (hk : k < 2 ^ 31) (ht : t ≤ c) (h1 : ∀ i, i < t → a i = b i) (h2 : a t = nI k) (h3 : ∀ i, t < i → i ≤ c → a i = b (i - 1))
    (h4 : ∀ i, t ≤ i → i < c → fw_sn a5 k < fw_sn a5 (fw_og b i)) (h5 : ∀ i, i + 1 = t → fw_sn a5 (fw_og b i) ≤ fw_sn a5 k) (hi : fw_inc a5 a7 k) : fw_A a5 a7 (k + 1) (c + 1) a := by
  obtain ⟨g1, g2, g3⟩ := h
  have ek : fw_og a t = k := by
    unfold fw_og
    rw [h2, nI_clamp hk]
  refine ⟨by omega, fun i hc => ?_, fun i i' hii hc => ?_⟩
  · rcases Nat.lt_trichotomy i t with e | e | e
    · rw [fw_og_e (h1 i e), h1 i e]
      have := g2 i (by omega)
      exact ⟨this.1, by omega, this.2.2⟩
    · rw [e, ek]
      exact ⟨h2, by omega, hi⟩
    · rw [fw_og_e (h3 i e (by omega)), h3 i e (by omega)]
      have := g2 (i - 1) (by omega)
      exact ⟨this.1, by omega, this.2.2⟩
  · rcases Nat.lt_trichotomy i t with e | e | e
    · rw [fw_og_e (h1 i e)]
      rcases Nat.lt_trichotomy i' t with e' | e' | e'
      · rw [fw_og_e (h1 i' e')]
        exact g3 i i' hii (by omega)
      · rw [e', ek]
        have k1 := (g2 i (by omega)).2.1
        refine ⟨by omega, ?_⟩
        by_cases z : i + 1 = t
        · exact h5 i z
        · have k2 := h5 (t - 1) (by omega)
          have k3 := (g3 i (t - 1) (by omega) (by omega)).2
          omega
      · rw [fw_og_e (h3 i' e' (by omega))]
        exact g3 i (i' - 1) (by omega) (by omega)
    · rw [e, ek, fw_og_e (h3 i' (by omega) (by omega))]
      have k1 := (g2 (i' - 1) (by omega)).2.1
      have k2 := h4 (i' - 1) (by omega) (by omega)
      exact ⟨by omega, by omega⟩
    · rw [fw_og_e (h3 i e (by omega)), fw_og_e (h3 i' (by omega) (by omega))]
      exact g3 (i - 1) (i' - 1) (by omega) (by omega)
theorem fw_96 {post : St2 → Prop} {J : Int32 → Int32 → (Nat → Int32) → (Nat → Int32) → (Nat → Int32) → (Nat → Int32) → (Nat → Int32) → (Nat → Int32) → (Nat → Int32) → (Nat → Int32) → Prop} {fm fr fn fu : Int32} {a1 a2 a3 a4 a5 a6 a7 a8 : Nat → Int32} {k c t : Nat} (ht : t < 300)
    (h : J (nI (k + 1)) (nI (c + 1)) a1 a2 a3 a4 a5 a6 a7 (upd a8 t (nI k))) : wX_arrange_96 post J (nI k) (nI t) fm fr fn (nI c) fu a1 a2 a3 a4 a5 a6 a7 a8 :=
  ⟨pk_in t 300 ht, fw_up t (nI_clamp (by omega)) (nm_r (nI_1 c) (nm_r (nI_1 k) h))⟩
theorem fw_52 {post : St2 → Prop} {J : Int32 → Int32 → (Nat → Int32) → (Nat → Int32) → (Nat → Int32) → (Nat → Int32) → (Nat → Int32) → (Nat → Int32) → (Nat → Int32) → (Nat → Int32) → Prop} {fm fr fn fu : Int32} {a1 a2 a3 a4 a5 a6 a7 b : Nat → Int32} {k c : Nat} (hk : k < 300) (hA : fw_A a5 a7 k c b) (hi : fw_inc a5 a7 k)
    (H : ∀ a, fw_A a5 a7 (k + 1) (c + 1) a → J (nI (k + 1)) (nI (c + 1)) a1 a2 a3 a4 a5 a6 a7 a) : ∃ f, wX_arrange_52 post J (nI k) (fb_su (a5 k)) fm fr fn (nI c) fu f (nI c) a1 a2 a3 a4 a5 a6 a7 b := by
  have hck := hA.1
  have fin : ∀ t s, t ≤ c → (∀ i, i < t → s i = b i) → (∀ i, t < i → i ≤ c → s i = b (i - 1)) → (∀ i, t ≤ i → i < c → fw_sn a5 k < fw_sn a5 (fw_og b i)) → (∀ i, i + 1 = t → fw_sn a5 (fw_og b i) ≤ fw_sn a5 k) → wX_arrange_96 post J (nI k) (nI t) fm fr fn (nI c) fu a1 a2 a3 a4 a5 a6 a7 s := by
    intro t s h0 h1 h2 h3 h4
    refine fw_96 (by omega) (H _ (fw_A_ins hA (by omega) h0 (fun i hi => ?_) pk_us (fun i hi hc => ?_) h3 h4 hi))
    · rw [pk_un (by omega)]
      exact h1 i hi
    · rw [pk_un (by omega)]
      exact h2 i hi hc
  refine ⟨c + 1, pk_loopD (fun f t s => wX_arrange_52 post J (nI k) (fb_su (a5 k)) fm fr fn (nI c) fu f (nI t) a1 a2 a3 a4 a5 a6 a7 s) (fun t s => t ≤ c ∧ (∀ i, i < t → s i = b i) ∧ (∀ i, t < i → i ≤ c → s i = b (i - 1)) ∧ (∀ i, t ≤ i → i < c → fw_sn a5 k < fw_sn a5 (fw_og b i))) ?_ ?_ c b ⟨Nat.le_refl c, fun i _ => rfl, fun i h1 h2 => absurd h1 (by omega), fun i h1 h2 => absurd h1 (by omega)⟩⟩
  · intro f s h
    exact pk_le 0 0 (fun _ => fin 0 s (by omega) h.2.1 h.2.2.1 h.2.2.2 (fun i z => absurd z (by omega))) (fun z => absurd z (by omega))
  · intro f t s h hw
    obtain ⟨h0, h1, h2, h3⟩ := h
    have hb := hA.2.1 t (by omega)
    have e1 : s (nI (t + 1) - 1).toNatClampNeg = nI (fw_og b t) := by
      rw [nI_pred, nI_clamp (by omega), h1 t (by omega)]
      exact hb.1
    have v1 : vp_in (nI (t + 1) - 1) 300 := by
      rw [nI_pred]
      exact pk_in t 300 (by omega)
    refine pk_le (t + 1) 0 (fun z => absurd z (by omega)) (fun _ => ⟨v1, ?_⟩)
    rw [e1]
    refine fw_sup (by omega) (br_c (fun z => ?_) (fun z => ⟨v1, pk_in (t + 1) 300 (by omega), fw_up (t + 1) (nI_clamp (by omega)) (nm_r (pk_m1 t) (hw _ ⟨by omega, fun i hi => ?_, fun i hi hc => ?_, fun i hi hc => ?_⟩))⟩))
    · refine fin (t + 1) s h0 h1 h2 h3 (fun i hi => ?_)
      rw [show i = t by omega]
      exact Int32.le_iff_toInt_le.mp z
    · rw [pk_un (by omega)]
      exact h1 i (by omega)
    · by_cases e : i = t + 1
      · rw [e, pk_us, show t + 1 - 1 = t by omega]
        exact hb.1.symm
      · rw [pk_un e]
        exact h2 i (by omega) hc
    · by_cases e : i = t
      · rw [e]
        rw [Int32.le_iff_toInt_le] at z
        show (fb_su (a5 k)).toInt < (fb_su (a5 (fw_og b t))).toInt
        omega
      · exact h3 i (by omega) hc
theorem fw_arr {post : St2 → Prop} {fm fr fc fu : Int32} {a1 a2 a3 a4 a5 a6 a7 a8 : Nat → Int32} {n : Nat} (hn : n ≤ 300)
    (H : ∀ c a, fw_A a5 a7 n c a → post (fm, fr, nI n, nI c, fu, a1, a2, a3, a4, a5, a6, a7, a)) :
    wpX_arrange post (fm, fr, nI n, fc, fu, a1, a2, a3, a4, a5, a6, a7, a8) := by
  refine pk_loop (σ := Nat × (Nat → Int32)) (fun f k s => wX_arrange_7 post fm fr (nI n) fu f (nI k) (nI s.1) a1 a2 a3 a4 a5 a6 a7 s.2) (fun k s => fw_A a5 a7 k s.1 s.2) n 0 (0, a8) (by omega) ⟨Nat.le_refl 0, lt_0, fun i i' _ h => absurd h (by omega)⟩ ?_ ?_
  · intro f s h
    exact pk_le n n (fun _ => H s.1 s.2 h) (fun z => absurd z (by omega))
  · intro f k s hk h hw
    refine pk_le n k (fun z => absurd z (by omega)) (fun _ => fw_sup (by omega) (nm_e ⟨pk_in k 300 (by omega), ?_⟩))
    rw [nI_clamp (by omega)]
    refine br_c (fun z => fw_52 (by omega) h (Or.inl z) (fun a ha => hw (s.1 + 1, a) ha)) (fun z => ⟨pk_in k 300 (by omega), br_c (fun y => nm_r (nI_1 k) (hw s (fw_A_up h))) (fun y => fw_52 (by omega) h (Or.inr y) (fun a ha => hw (s.1 + 1, a) ha))⟩)
end
section
/-! the unit directions -/
def fw_un (a4 : Nat → Int32) (k i : Nat) (g : Int) : Prop := ∀ j, j < 8 → fw_v a4 k j = if j = i then g else 0
def fw_R (Q : Nat → Int → Prop) (n : Nat) (a4 a5 : Nat → Int32) : Prop :=
  (∀ k, k < n → ∃ i g, i < 8 ∧ (g = 1 ∨ g = -1) ∧ Q i g ∧ fw_un a4 k i g ∧ fb_mk (a5 k) (fw_v a4 k)) ∧ (∀ i g, Q i g → ∃ k, k < n ∧ fw_un a4 k i g) ∧
  (∀ k l i g, k < n → l < n → i < 8 → (g = 1 ∨ g = -1) → fw_un a4 k i g → fw_un a4 l i g → k = l)
theorem fw_un_cg {a b : Nat → Int32} {k i : Nat} {g : Int} (h : ∀ j, j < 8 → a (8 * k + j) = b (8 * k + j)) (hu : fw_un a k i g) : fw_un b k i g := by
  intro j hj
  rw [← hu j hj]
  unfold fw_v
  rw [h j hj]
theorem fw_un_eq {a : Nat → Int32} {k i i' : Nat} {g g' : Int} (hi : i < 8) (hg : g = 1 ∨ g = -1) (h : fw_un a k i g) (h' : fw_un a k i' g') : i = i' ∧ g = g' := by
  have h1 := h i hi
  have h2 := h' i hi
  rw [if_pos rfl] at h1
  by_cases e : i = i'
  · rw [if_pos e] at h2
    exact ⟨e, by omega⟩
  · rw [if_neg e] at h2
    omega
theorem fw_R_add {Q Q' : Nat → Int → Prop} {n : Nat} {a4 a5 b4 b5 : Nat → Int32} {i0 : Nat} {g0 : Int} (h : fw_R Q n a4 a5) (hq : ∀ i g, Q' i g ↔ Q i g ∨ (i = i0 ∧ g = g0)) (hn : ¬ Q i0 g0) (hi : i0 < 8) (hg : g0 = 1 ∨ g0 = -1)
    (h4 : ∀ q, q < 8 * n → b4 q = a4 q) (h5 : ∀ k, k < n → b5 k = a5 k) (hu : fw_un b4 n i0 g0) (hm : fb_mk (b5 n) (fw_v b4 n)) : fw_R Q' (n + 1) b4 b5 := by
  obtain ⟨r1, r2, r3⟩ := h
  have c1 : ∀ k i g, k < n → fw_un a4 k i g → fw_un b4 k i g := fun k i g hk h => fw_un_cg (fun j hj => (h4 _ (by omega)).symm) h
  have c2 : ∀ k i g, k < n → fw_un b4 k i g → fw_un a4 k i g := fun k i g hk h => fw_un_cg (fun j hj => h4 _ (by omega)) h
  have c3 : ∀ k, k < n → ¬ fw_un b4 k i0 g0 := by
    intro k hk z
    obtain ⟨i, g, q1, q2, q3, q4, _⟩ := r1 k hk
    obtain ⟨e1, e2⟩ := fw_un_eq q1 q2 q4 (c2 k i0 g0 hk z)
    rw [e1, e2] at q3
    exact hn q3
  refine ⟨fun k hk => ?_, fun i g hqi => ?_, fun k l i g hk hl hi8 hg1 hu1 hu2 => ?_⟩
  · by_cases e : k = n
    · rw [e]
      exact ⟨i0, g0, hi, hg, (hq i0 g0).mpr (Or.inr ⟨rfl, rfl⟩), hu, hm⟩
    · obtain ⟨i, g, q1, q2, q3, q4, q5⟩ := r1 k (by omega)
      refine ⟨i, g, q1, q2, (hq i g).mpr (Or.inl q3), c1 k i g (by omega) q4, ?_⟩
      rw [h5 k (by omega)]
      refine fb_mk_cg (fun j hj => ?_) q5
      unfold fw_v
      rw [h4 _ (by omega)]
  · rcases (hq i g).mp hqi with z | ⟨z1, z2⟩
    · obtain ⟨k, hk, hu3⟩ := r2 i g z
      exact ⟨k, by omega, c1 k i g hk hu3⟩
    · rw [z1, z2]
      exact ⟨n, by omega, hu⟩
  · by_cases ek : k = n
    · by_cases el : l = n
      · omega
      · rw [ek] at hu1
        obtain ⟨e1, e2⟩ := fw_un_eq hi8 hg1 hu1 hu
        rw [e1, e2] at hu2
        exact absurd hu2 (c3 l (by omega))
    · by_cases el : l = n
      · rw [el] at hu2
        obtain ⟨e1, e2⟩ := fw_un_eq hi8 hg1 hu2 hu
        rw [e1, e2] at hu1
        exact absurd hu1 (c3 k (by omega))
      · exact r3 k l i g (by omega) (by omega) hi8 hg1 (c2 k i g (by omega) hu1) (c2 l i g (by omega) hu2)
theorem fw_au {post : St2 → Prop} {fm fr fc fu : Int32} {a1 a2 a3 a4 a5 a6 a7 a8 : Nat → Int32} {n j : Nat} {sg mk : Int32} (hn : n < 300) (hj : j < 8) (hm1 : sg ≤ 0 → mk = (256 : Int32) <<< (nI j &&& 31)) (hm2 : ¬ sg ≤ 0 → mk = (1 : Int32) <<< (nI j &&& 31))
    (H : ∀ a, (∀ i, i < 8 → a (8 * n + i) = if i = j then sg else 0) → (∀ q, q < 8 * n → a q = a4 q) → post (fm, fr, nI (n + 1), fc, fu, a1, a2, a3, a, upd a5 n mk, a6, a7, a8)) :
    wpX_addUnit post (fm, fr, nI n, fc, fu, a1, a2, a3, a4, a5, a6, a7, a8) (nI j) sg := by
  refine pk_loop (fun f i a => wX_addUnit_2 post (nI j) sg fm fr (nI n) fc fu f (nI i) a1 a2 a3 a a5 a6 a7 a8) (fun i a => (∀ l, l < i → a (8 * n + l) = if l = j then sg else 0) ∧ ∀ q, q < 8 * n → a q = a4 q) 8 0 a4 (by omega) ⟨lt_0, fun _ _ => rfl⟩ ?_ ?_
  · intro f a h
    refine pk_le 8 8 (fun _ => br_c (fun z => ?_) (fun z => ?_)) (fun z => absurd z (by omega))
    · rw [← hm1 z]
      exact ⟨pk_in n 300 hn, fw_up n (nI_clamp (by omega)) (nm_r (nI_1 n) (H a h.1 h.2))⟩
    · rw [← hm2 z]
      exact ⟨pk_in n 300 hn, fw_up n (nI_clamp (by omega)) (nm_r (nI_1 n) (H a h.1 h.2))⟩
  · intro f i a hi h hw
    refine pk_le 8 i (fun z => absurd z (by omega)) (fun _ => pk_eq i j (fun e => ⟨fw_in (by omega) (by omega), fw_up (8 * n + i) (fw_cl (by omega)) (nm_r (nI_1 i) (hw _ ⟨lt_s (fun l hl => ?_) ?_, fun q hq => ?_⟩))⟩) (fun e => ⟨fw_in (by omega) (by omega), fw_up (8 * n + i) (fw_cl (by omega)) (nm_r (nI_1 i) (hw _ ⟨lt_s (fun l hl => ?_) ?_, fun q hq => ?_⟩))⟩))
    · rw [pk_un (by omega)]
      exact h.1 l hl
    · rw [pk_us, if_pos e]
    · rw [pk_un (by omega)]
      exact h.2 q hq
    · rw [pk_un (by omega)]
      exact h.1 l hl
    · rw [pk_us, if_neg e]
    · rw [pk_un (by omega)]
      exact h.2 q hq
def fw_Q (a2 a3 : Nat → Int32) (j i : Nat) (g : Int) : Prop := i < j ∧ a3 i ≠ 0 ∧ (g = 1 ∨ (g = -1 ∧ a2 i ≠ 0))
theorem fw_unS {a : Nat → Int32} {n j : Nat} {sg : Int32} {g : Int} (hg : sg.toInt = g) (h : ∀ i, i < 8 → a (8 * n + i) = if i = j then sg else 0) : fw_un a n j g := by
  intro i hi
  unfold fw_v
  rw [h i hi]
  split
  · exact hg
  · rfl
theorem fw_start {post : St2 → Prop} {fm fn fc fu : Int32} {a1 a2 a3 a4 a5 a6 a7 a8 : Nat → Int32} {r : Nat} (hr : r ≤ 8)
    (H : ∀ n b4 b5, n ≤ 16 → fw_R (fw_Q a2 a3 r) n b4 b5 → post (fm, nI r, nI n, fc, fu, a1, a2, a3, b4, b5, a6, a7, a8)) :
    wpX_start post (fm, nI r, fn, fc, fu, a1, a2, a3, a4, a5, a6, a7, a8) := by
  refine pk_loop (σ := Nat × (Nat → Int32) × (Nat → Int32)) (fun f j s => wX_start_7 post f (nI j) fm (nI r) (nI s.1) fc fu a1 a2 a3 s.2.1 s.2.2 a6 a7 a8) (fun j s => s.1 ≤ 2 * j ∧ fw_R (fw_Q a2 a3 j) s.1 s.2.1 s.2.2) r 0 (0, a4, a5) (by omega) ⟨by omega, lt_0, fun i g h => absurd h.1 (by omega), fun k l i g h => absurd h (by omega)⟩ ?_ ?_
  · intro f s h
    exact pk_le r r (fun _ => H s.1 s.2.1 s.2.2 (by have := h.1; omega) h.2) (fun z => absurd z (by omega))
  · intro f j s hj h hw
    obtain ⟨n, b4, b5⟩ := s
    obtain ⟨h1, h2⟩ := h
    dsimp only at h1 h2
    have c8 : (nI j).toNatClampNeg = j := nI_clamp (by omega)
    refine pk_le r j (fun z => absurd z (by omega)) (fun _ => ⟨pk_in j 8 (by omega), ?_⟩)
    rw [c8]
    refine br_c (fun z => nm_r (nI_1 j) (hw (n, b4, b5) ⟨by show n ≤ _; omega, ?_⟩)) (fun z => ?_)
    · have e : fw_Q a2 a3 (j + 1) = fw_Q a2 a3 j := by
        funext i g
        apply propext
        constructor
        · intro y
          refine ⟨?_, y.2⟩
          by_cases e : i = j
          · rw [e] at y
            exact absurd z y.2.1
          · have := y.1
            omega
        · intro y
          exact ⟨by have := y.1; omega, y.2⟩
      show fw_R (fw_Q a2 a3 (j + 1)) n b4 b5
      rw [e]
      exact h2
    · refine fw_au (mk := (1 : Int32) <<< (nI j &&& 31)) (by omega) (by omega) (fun y => absurd y (by decide)) (fun _ => rfl) (fun c4 k1 k2 => ⟨pk_in j 8 (by omega), ?_⟩)
      have u1 : fw_un c4 n j 1 := fw_unS rfl k1
      have r1 : fw_R (fun i g => fw_Q a2 a3 j i g ∨ (i = j ∧ g = 1)) (n + 1) c4 (upd b5 n ((1 : Int32) <<< (nI j &&& 31))) := by
        refine fw_R_add h2 (fun i g => Iff.rfl) (fun y => absurd y.1 (by omega)) (by omega) (Or.inl rfl) k2 (fun k hk => pk_un (by omega)) u1 ?_
        rw [pk_us]
        exact fb_unit1 (by omega) u1
      refine br_c (fun y => nm_r (nI_1 j) (hw (n + 1, c4, upd b5 n ((1 : Int32) <<< (nI j &&& 31))) ⟨by show n + 1 ≤ _; omega, ?_⟩)) (fun y => ?_)
      · have e : fw_Q a2 a3 (j + 1) = fun i g => fw_Q a2 a3 j i g ∨ (i = j ∧ g = 1) := by
          funext i g
          apply propext
          constructor
          · intro q
            by_cases e : i = j
            · rw [e] at q ⊢
              rcases q.2.2 with e2 | e2
              · exact Or.inr ⟨rfl, e2⟩
              · exact absurd y e2.2
            · exact Or.inl ⟨by have := q.1; omega, q.2⟩
          · intro q
            rcases q with q | ⟨q1, q2⟩
            · exact ⟨by have := q.1; omega, q.2⟩
            · rw [q1]
              exact ⟨by omega, z, Or.inl q2⟩
        show fw_R (fw_Q a2 a3 (j + 1)) (n + 1) c4 _
        rw [e]
        exact r1
      · refine fw_au (mk := (256 : Int32) <<< (nI j &&& 31)) (by omega) (by omega) (fun _ => rfl) (fun q => absurd (by decide) q) (fun d4 k3 k4 => nm_r (nI_1 j) (hw (n + 1 + 1, d4, upd (upd b5 n ((1 : Int32) <<< (nI j &&& 31))) (n + 1) ((256 : Int32) <<< (nI j &&& 31))) ⟨by show n + 1 + 1 ≤ _; omega, ?_⟩))
        have u2 : fw_un d4 (n + 1) j (-1) := fw_unS rfl k3
        refine fw_R_add r1 (fun i g => ?_) (fun q => ?_) (by omega) (Or.inr rfl) k4 (fun k hk => pk_un (by omega)) u2 ?_
        · constructor
          · intro q
            by_cases e : i = j
            · rw [e] at q ⊢
              rcases q.2.2 with e2 | e2
              · exact Or.inl (Or.inr ⟨rfl, e2⟩)
              · exact Or.inr ⟨rfl, e2.1⟩
            · exact Or.inl (Or.inl ⟨by have := q.1; omega, q.2⟩)
          · intro q
            rcases q with (q | ⟨q1, q2⟩) | ⟨q1, q2⟩
            · exact ⟨by have := q.1; omega, q.2⟩
            · rw [q1]
              exact ⟨by omega, z, Or.inl q2⟩
            · rw [q1]
              exact ⟨by omega, z, Or.inr ⟨q2, y⟩⟩
        · rcases q with q | q
          · exact absurd q.1 (by omega)
          · exact absurd q.2 (by decide)
        · dsimp only
          rw [pk_us]
          exact fb_unit2 (by omega) u2
/-- the units are the family of level 0 -/
theorem fw_R0 {T : Nat → Nat → Int} {a2 a3 a4 a5 : Nat → Int32} {r n : Nat} (hr : r ≤ 8) (h : fw_R (fw_Q a2 a3 r) n a4 a5) :
    fx_I T r (fun j => j < r ∧ a3 j ≠ 0) (fun j => j < r ∧ a3 j ≠ 0 ∧ a2 j ≠ 0) 0 (fun k => k < n) (fw_v a4) := by
  obtain ⟨r1, r2, r3⟩ := h
  refine ⟨fun k hk => ⟨fun j hj => ?_, fun t ht => absurd ht (by omega)⟩, fun k hk => ?_, fun x hx hn => ?_, fun k l hk hl hs => ?_⟩
  · obtain ⟨i, g, q1, q2, q3, q4, _⟩ := r1 k hk
    rw [q4 j hj]
    by_cases e : j = i
    · rw [if_pos e, e]
      refine ⟨fun z => ⟨q3.1, q3.2.1⟩, fun z => ⟨q3.1, q3.2.1, ?_⟩⟩
      rcases q3.2.2 with w | w
      · omega
      · exact w.2
    · rw [if_neg e]
      exact ⟨fun z => absurd z (by omega), fun z => absurd z (by omega)⟩
  · obtain ⟨i, g, q1, q2, q3, q4, _⟩ := r1 k hk
    refine ⟨i, q1, ?_⟩
    rw [q4 i q1, if_pos rfl]
    omega
  · obtain ⟨i, hi, e⟩ := hn
    have h1 := hx.1 i hi
    rcases Int.lt_or_gt_of_ne e with g | g
    · obtain ⟨p1, p2, p3⟩ := h1.2 g
      obtain ⟨k, hk, hu⟩ := r2 i (-1) ⟨p1, p2, Or.inr ⟨rfl, p3⟩⟩
      refine ⟨k, hk, fun j hj => ?_⟩
      rw [hu j hj]
      by_cases e2 : j = i
      · rw [if_pos e2, e2]
        omega
      · rw [if_neg e2]
        omega
    · obtain ⟨p1, p2⟩ := h1.1 g
      obtain ⟨k, hk, hu⟩ := r2 i 1 ⟨p1, p2, Or.inl rfl⟩
      refine ⟨k, hk, fun j hj => ?_⟩
      rw [hu j hj]
      by_cases e2 : j = i
      · rw [if_pos e2, e2]
        omega
      · rw [if_neg e2]
        omega
  · obtain ⟨i, g, q1, q2, q3, q4, _⟩ := r1 k hk
    obtain ⟨i', g', q1', q2', q3', q4', _⟩ := r1 l hl
    have h1 := hs i q1
    rw [q4 i q1, q4' i q1, if_pos rfl] at h1
    by_cases e : i = i'
    · rw [if_pos e] at h1
      have e2 : g = g' := by omega
      rw [← e, ← e2] at q4'
      exact r3 k l i g hk hl q1 q2 q4 q4'
    · rw [if_neg e] at h1
      omega
end
section
/-! keepBalanced, areNeighbours, combine -/
theorem fw_k29 {post : St2 → Prop} {J : Int32 → Int32 → (Nat → Int32) → (Nat → Int32) → (Nat → Int32) → (Nat → Int32) → (Nat → Int32) → (Nat → Int32) → (Nat → Int32) → (Nat → Int32) → Prop} {x1 fm fr fn fc fu : Int32} {a1 a2 a3 a4 a5 a6 a7 a8 : Nat → Int32} {t k : Nat} (ht : t ≤ k) (hk : k < 300)
    (H : ∀ b, (∀ j, j < 8 → b (8 * t + j) = a4 (8 * k + j)) → (∀ q, (q < 8 * t ∨ 8 * t + 8 ≤ q) → b q = a4 q) → J (nI (t + 1)) (nI (k + 1)) a1 a2 a3 b (upd a5 t (a5 k)) a6 a7 a8) :
    ∃ f, wX_keepBalanced_29 post J x1 (nI t) (nI k) fm fr fn fc fu f 0 a1 a2 a3 a4 a5 a6 a7 a8 := by
  refine pk_loop (fun f i b => wX_keepBalanced_29 post J x1 (nI t) (nI k) fm fr fn fc fu f (nI i) a1 a2 a3 b a5 a6 a7 a8) (fun i b => (∀ j, j < i → b (8 * t + j) = a4 (8 * k + j)) ∧ (∀ q, (q < 8 * t ∨ 8 * t + i ≤ q) → b q = a4 q)) 8 0 a4 (by omega) ⟨lt_0, fun _ _ => rfl⟩ ?_ ?_
  · intro f b h
    refine pk_le 8 8 (fun _ => ⟨pk_in k 300 hk, pk_in t 300 (by omega), ?_⟩) (fun z => absurd z (by omega))
    refine fw_up t (nI_clamp (by omega)) (nm_r (nI_1 t) (nm_r (nI_1 k) ?_))
    rw [nI_clamp (by omega)]
    exact H b h.1 h.2
  · intro f i b hi h hw
    refine pk_le 8 i (fun z => absurd z (by omega)) (fun _ => ⟨fw_in (by omega) (by omega), fw_in (by omega) (by omega), fw_up (8 * t + i) (fw_cl (by omega)) (nm_r (nI_1 i) (hw _ ⟨lt_s (fun j hj => ?_) ?_, fun q hq => ?_⟩))⟩)
    · rw [pk_un (by omega)]
      exact h.1 j hj
    · rw [pk_us, fw_cl (by omega)]
      exact h.2 _ (by omega)
    · rw [pk_un (by omega)]
      exact h.2 q (by omega)
def fw_M (o : Nat) (a4 a5 a6 : Nat → Int32) (k t : Nat) (b4 b5 : Nat → Int32) (g : Nat → Nat) : Prop :=
  t ≤ k ∧ (∀ i, i < t → g i < k ∧ (o ≤ g i ∨ a6 (g i) = 0) ∧ b5 i = a5 (g i) ∧ ∀ j, j < 8 → b4 (8 * i + j) = a4 (8 * g i + j)) ∧ (∀ i i', i < t → i' < t → g i = g i' → i = i') ∧ (∀ q, q < k → (o ≤ q ∨ a6 q = 0) → ∃ i, i < t ∧ g i = q) ∧ (∀ i, t ≤ i → b5 i = a5 i) ∧ (∀ q, 8 * t ≤ q → b4 q = a4 q)
theorem fw_M_add {o : Nat} {a4 a5 a6 : Nat → Int32} {k t : Nat} {b4 b5 c4 : Nat → Int32} {g : Nat → Nat} (h : fw_M o a4 a5 a6 k t b4 b5 g) (hk : o ≤ k ∨ a6 k = 0) (h1 : ∀ j, j < 8 → c4 (8 * t + j) = b4 (8 * k + j)) (h2 : ∀ q, (q < 8 * t ∨ 8 * t + 8 ≤ q) → c4 q = b4 q) :
    ∃ g', fw_M o a4 a5 a6 (k + 1) (t + 1) c4 (upd b5 t (b5 k)) g' := by
  obtain ⟨m1, m2, m3, m4, m5, m6⟩ := h
  have e1 : (if t = t then k else g t) = k := if_pos rfl
  have e2 : ∀ i, i ≠ t → (if i = t then k else g i) = g i := fun i hi => if_neg hi
  refine ⟨fun i => if i = t then k else g i, by omega, fun i hi => ?_, fun i i' hi hi' e => ?_, fun q hq hkp => ?_, fun i hi => ?_, fun q hq => ?_⟩
  · by_cases e : i = t
    · dsimp only
      rw [e, e1, pk_us]
      refine ⟨by omega, hk, m5 k m1, fun j hj => ?_⟩
      rw [h1 j hj, m6 _ (by omega)]
    · dsimp only
      rw [e2 i e, pk_un e]
      obtain ⟨p1, p2, p3, p4⟩ := m2 i (by omega)
      refine ⟨by omega, p2, p3, fun j hj => ?_⟩
      rw [h2 _ (by omega)]
      exact p4 j hj
  · dsimp only at e
    by_cases k1 : i = t
    · by_cases k2 : i' = t
      · omega
      · rw [if_pos k1, if_neg k2] at e
        have := (m2 i' (by omega)).1
        omega
    · by_cases k2 : i' = t
      · rw [if_neg k1, if_pos k2] at e
        have := (m2 i (by omega)).1
        omega
      · rw [if_neg k1, if_neg k2] at e
        exact m3 i i' (by omega) (by omega) e
  · by_cases e : q = k
    · exact ⟨t, by omega, by rw [e]; exact e1⟩
    · obtain ⟨i, hi, e3⟩ := m4 q (by omega) hkp
      exact ⟨i, by omega, by dsimp only; rw [e2 i (by omega)]; exact e3⟩
  · rw [pk_un (by omega)]
    exact m5 i (by omega)
  · rw [h2 _ (by omega)]
    exact m6 q (by omega)
theorem fw_keep {post : St2 → Prop} {fm fr fc fu : Int32} {a1 a2 a3 a4 a5 a6 a7 a8 : Nat → Int32} {o N : Nat} (ho : o < 2 ^ 31) (hN : N ≤ 300)
    (H : ∀ t b4 b5 g, fw_M o a4 a5 a6 N t b4 b5 g → post (fm, fr, nI t, fc, fu, a1, a2, a3, b4, b5, a6, a7, a8)) :
    wpX_keepBalanced post (fm, fr, nI N, fc, fu, a1, a2, a3, a4, a5, a6, a7, a8) (nI o) := by
  refine pk_loop (σ := Nat × (Nat → Int32) × (Nat → Int32)) (fun f k s => wX_keepBalanced_4 post (nI o) fm fr (nI N) fc fu f (nI s.1) (nI k) a1 a2 a3 s.2.1 s.2.2 a6 a7 a8) (fun k s => ∃ g, fw_M o a4 a5 a6 k s.1 s.2.1 s.2.2 g) N 0 (0, a4, a5) (by omega) ⟨fun i => i, Nat.le_refl 0, lt_0, fun i i' h => absurd h (by omega), lt_0, fun _ _ => rfl, fun _ _ => rfl⟩ ?_ ?_
  · intro f s h
    obtain ⟨g, h⟩ := h
    exact pk_le N N (fun _ => H s.1 s.2.1 s.2.2 g h) (fun z => absurd z (by omega))
  · intro f k s hk h hw
    obtain ⟨t, b4, b5⟩ := s
    obtain ⟨g, h⟩ := h
    dsimp only at h
    have ht := h.1
    refine pk_le N k (fun z => absurd z (by omega)) (fun _ => pk_le o k (fun z => fw_k29 ht (by omega) (fun b h1 h2 => hw (t + 1, b, upd b5 t (b5 k)) (fw_M_add h (Or.inl z) h1 h2))) (fun z => ⟨pk_in k 300 (by omega), ?_⟩))
    rw [nI_clamp (by omega)]
    refine br_c (fun y => fw_k29 ht (by omega) (fun b h1 h2 => hw (t + 1, b, upd b5 t (b5 k)) (fw_M_add h (Or.inr y) h1 h2))) (fun y => nm_r (nI_1 k) (hw (t, b4, b5) ⟨g, by show t ≤ _; omega, fun i hi => ?_, h.2.2.1, fun q hq hkp => ?_, h.2.2.2.2.1, h.2.2.2.2.2⟩))
    · obtain ⟨p1, p2⟩ := h.2.1 i hi
      exact ⟨by omega, p2⟩
    · by_cases e : q = k
      · rw [e] at hkp
        rcases hkp with w | w
        · omega
        · exact absurd w y
      · exact h.2.2.2.1 q (by omega) hkp
theorem fw_nei {post : Int32 → Prop} {fm fr fn fc fu : Int32} {a1 a2 a3 a4 a5 a6 a7 a8 : Nat → Int32} {V : Nat → Nat → Int} {n p q : Nat} (hn : n ≤ 300) (hp : p < n) (hq : q < n) (hm : ∀ k, k < n → fb_mk (a5 k) (V k))
    (H1 : fx_adj (fun k => k < n) V p q → post 1) (H0 : ¬ fx_adj (fun k => k < n) V p q → post 0) : wpX_areNeighbours post (fm, fr, fn, fc, fu, a1, a2, a3, a4, a5, a6, a7, a8) (nI p) (nI q) (nI n) := by
  refine ⟨pk_in p 300 (by omega), pk_in q 300 (by omega), nm_r (e' := a5 p ||| a5 q) (by rw [nI_clamp (by omega), nI_clamp (by omega)]) (br_c (fun z => ?_) (fun z => H0 (fun hc => z ((fb_cl (hm p hp) (hm q hq)).mpr hc.1))))⟩
  have hf := (fb_cl (hm p hp) (hm q hq)).mp z
  refine pk_loop (σ := Unit) (fun f i _ => wX_areNeighbours_35 post (nI p) (nI q) (nI n) (a5 p ||| a5 q) fm fr fn fc fu a1 a2 a3 a4 a5 a6 a7 a8 f (nI i)) (fun i _ => ∀ k, k < i → k ≠ p → k ≠ q → ¬ (∀ j, j < 8 → (0 < V k j → 0 < V p j ∨ 0 < V q j) ∧ (V k j < 0 → V p j < 0 ∨ V q j < 0))) n 0 () (by omega) lt_0 ?_ ?_
  · intro f _ h
    exact pk_le n n (fun _ => H1 ⟨hf, h⟩) (fun z => absurd z (by omega))
  · intro f i _ hi h hw
    refine pk_le n i (fun z => absurd z (by omega)) (fun _ => pk_eq i p (fun e => nm_r (nI_1 i) (hw () (lt_s h (fun e2 => absurd e e2)))) (fun e => pk_eq i q (fun e2 => nm_r (nI_1 i) (hw () (lt_s h (fun _ e3 => absurd e2 e3)))) (fun e2 => ⟨pk_in i 300 (by omega), ?_⟩)))
    rw [nI_clamp (by omega)]
    refine br_c (fun y => H0 (fun hc => ?_)) (fun y => nm_r (nI_1 i) (hw () (lt_s h (fun _ _ hin => y ((fb_third (hm i hi) (hm p hp) (hm q hq)).mpr hin)))))
    exact hc.2 i hi e e2 ((fb_third (hm i hi) (hm p hp) (hm q hq)).mp y)
theorem fw_gcd_lt {x : Nat → Int} {M : Nat} (hM : 0 < M) : ∀ n, (∀ j, j < n → (x j).natAbs < M) → fx_gcd x n < M
  | 0, _ => hM
  | n + 1, h => by
    have h1 := fw_gcd_lt hM n (fun j hj => h j (by omega))
    show Nat.gcd (fx_gcd x n) (x n).natAbs < M
    rcases Nat.eq_zero_or_pos (fx_gcd x n) with e | e
    · rw [e, Nat.gcd_zero_left]
      exact h n (by omega)
    · exact Nat.lt_of_le_of_lt (Nat.gcd_le_left _ e) h1
theorem fw_147 {post : St2 → Prop} {fm fr fc fu : Int32} {a1 a2 a3 a4 a5 a6 a7 a8 : Nat → Int32} {N p q : Nat} (hN : N < 300) (hp : p < N) (hq : q < N)
    (H : post (fm, fr, nI (N + 1), fc, fu, a1, a2, a3, a4, upd a5 N (a5 p ||| a5 q), a6, a7, a8)) : wX_combine_147 post (nI p) (nI q) fm fr (nI N) fc fu a1 a2 a3 a4 a5 a6 a7 a8 := by
  refine ⟨pk_in p 300 (by omega), pk_in q 300 (by omega), pk_in N 300 hN, fw_up N (nI_clamp (by omega)) (nm_r (nI_1 N) ?_)⟩
  rw [nI_clamp (by omega), nI_clamp (by omega)]
  exact H
theorem fw_102 {post : St2 → Prop} {fm fr fc fu : Int32} {a1 a2 a3 a4 b4 a5 a6 a7 a8 : Nat → Int32} {N p q g : Nat} {x : Nat → Int} (hN : N < 300) (hp : p < N) (hq : q < N) (hg : 0 < g) (hg2 : g < 2 ^ 31) (hd : ∀ j, j < 8 → (g : Int) ∣ x j) (hx : ∀ j, j < 8 → (x j).natAbs < 2 ^ 31) (h0 : ∀ j, j < 8 → fw_v b4 N j = x j) (h1 : ∀ l, l < 8 * N → b4 l = a4 l)
    (H : ∀ c4, (∀ l, l < 8 * N → c4 l = a4 l) → (∀ j, j < 8 → (g : Int) * fw_v c4 N j = x j) → post (fm, fr, nI (N + 1), fc, fu, a1, a2, a3, c4, upd a5 N (a5 p ||| a5 q), a6, a7, a8)) :
    ∃ f, wX_combine_102 post (nI p) (nI q) (nI g) fm fr (nI N) fc fu f 0 a1 a2 a3 b4 a5 a6 a7 a8 := by
  refine pk_loop (fun f i c => wX_combine_102 post (nI p) (nI q) (nI g) fm fr (nI N) fc fu f (nI i) a1 a2 a3 c a5 a6 a7 a8) (fun i c => (∀ j, j < i → (g : Int) * fw_v c N j = x j) ∧ (∀ j, i ≤ j → j < 8 → fw_v c N j = x j) ∧ ∀ l, l < 8 * N → c l = a4 l) 8 0 b4 (by omega) ⟨lt_0, fun j _ hj => h0 j hj, h1⟩ ?_ ?_
  · intro f c h
    exact pk_le 8 8 (fun _ => fw_147 hN hp hq (H c h.2.2 h.1)) (fun z => absurd z (by omega))
  · intro f i c hi h hw
    obtain ⟨k1, k2, k3⟩ := h
    refine pk_le 8 i (fun z => absurd z (by omega)) (fun _ => ⟨fw_in (by omega) (by omega), nI_ne0 hg hg2, fw_in (by omega) (by omega), fw_up (8 * N + i) (fw_cl (by omega)) (nm_r (nI_1 i) (hw _ ⟨lt_s (fun j hj => ?_) ?_, fun j hj hj8 => ?_, fun l hl => ?_⟩))⟩)
    · rw [← k1 j hj]
      unfold fw_v
      rw [pk_un (by omega)]
    · unfold fw_v
      rw [pk_us, fw_cl (by omega)]
      have e := k2 i (Nat.le_refl i) hi
      unfold fw_v at e
      rw [fb_div (by rw [e]; exact hx i hi), e, nI_toInt hg2]
      exact Int.mul_tdiv_cancel' (hd i hi)
    · rw [← k2 j (by omega) hj8]
      unfold fw_v
      rw [pk_un (by omega)]
    · rw [pk_un (by omega)]
      exact k3 l hl
theorem fw_comb {post : St2 → Prop} {fm fr fc fu : Int32} {a1 a2 a3 a4 a5 a6 a7 a8 : Nat → Int32} {w : Nat → Int} {r N p q S B : Nat} (hN : N < 300) (hp : p < N) (hq : q < N)
    (hsp : (a6 p).toInt = fx_dot w (fw_v a4 p) r) (hsq : (a6 q).toInt = fx_dot w (fw_v a4 q) r) (bp : (a6 p).toInt.natAbs ≤ S) (bq : (a6 q).toInt.natAbs ≤ S) (vp : ∀ j, j < 8 → (fw_v a4 p j).natAbs ≤ B) (vq : ∀ j, j < 8 → (fw_v a4 q j).natAbs ≤ B) (hSB : 2 * (S * B) < 2 ^ 31)
    (hg : 0 < fx_gcd (fx_cb w r (fw_v a4) p q) 8)
    (H : ∀ c4, (∀ l, l < 8 * N → c4 l = a4 l) → (∀ j, j < 8 → (fx_gcd (fx_cb w r (fw_v a4) p q) 8 : Int) * fw_v c4 N j = fx_cb w r (fw_v a4) p q j) → (∀ j, j < 8 → (fx_cb w r (fw_v a4) p q j).natAbs ≤ 2 * (S * B)) → post (fm, fr, nI (N + 1), fc, fu, a1, a2, a3, c4, upd a5 N (a5 p ||| a5 q), a6, a7, a8)) :
    wpX_combine post (fm, fr, nI N, fc, fu, a1, a2, a3, a4, a5, a6, a7, a8) (nI p) (nI q) := by
  have m1 : ∀ j, j < 8 → ((a6 p).toInt * fw_v a4 q j).natAbs ≤ S * B := fun j hj => by
    rw [Int.natAbs_mul]
    exact Nat.mul_le_mul bp (vq j hj)
  have m2 : ∀ j, j < 8 → ((a6 q).toInt * fw_v a4 p j).natAbs ≤ S * B := fun j hj => by
    rw [Int.natAbs_mul]
    exact Nat.mul_le_mul bq (vp j hj)
  have ex : ∀ j, fx_cb w r (fw_v a4) p q j = (a6 p).toInt * fw_v a4 q j - (a6 q).toInt * fw_v a4 p j := fun j => by
    unfold fx_cb
    rw [hsp, hsq]
    grind
  have mx : ∀ j, j < 8 → (fx_cb w r (fw_v a4) p q j).natAbs ≤ 2 * (S * B) := fun j hj => by
    rw [ex j]
    have := m1 j hj
    have := m2 j hj
    omega
  have mx2 : ∀ j, j < 8 → (fx_cb w r (fw_v a4) p q j).natAbs < 2 ^ 31 := fun j hj => Nat.lt_of_le_of_lt (mx j hj) hSB
  refine pk_eq N 300 (fun z => absurd z (by omega)) (fun _ => ?_)
  refine pk_loop (fun f i c => wX_combine_16 post (nI p) (nI q) fm fr (nI N) fc fu f (nI (fx_gcd (fx_cb w r (fw_v a4) p q) i)) (nI i) a1 a2 a3 c a5 a6 a7 a8) (fun i c => (∀ j, j < i → fw_v c N j = fx_cb w r (fw_v a4) p q j) ∧ ∀ l, l < 8 * N → c l = a4 l) 8 0 a4 (by omega) ⟨lt_0, fun _ _ => rfl⟩ ?_ ?_
  · intro f c h
    have hgl := fw_gcd_lt (x := fx_cb w r (fw_v a4) p q) (M := 2 ^ 31) (by decide) 8 mx2
    refine pk_le 8 8 (fun _ => pk_le (fx_gcd (fx_cb w r (fw_v a4) p q) 8) 1 (fun z => ?_) (fun z => ?_)) (fun z => absurd z (by omega))
    · refine fw_147 hN hp hq (H c h.2 (fun j hj => ?_) mx)
      rw [show fx_gcd (fx_cb w r (fw_v a4) p q) 8 = 1 by omega, h.1 j hj]
      omega
    · exact fw_102 hN hp hq hg hgl (fun j hj => Int.ofNat_dvd_left.mpr (fx_gcd_dvd 8 j hj)) mx2 h.1 h.2 (fun c4 k1 k2 => H c4 k1 k2 mx)
  · intro f i c hi h hw
    obtain ⟨k1, k2⟩ := h
    have c1 : (nI p).toNatClampNeg = p := nI_clamp (by omega)
    have c2 : (nI q).toNatClampNeg = q := nI_clamp (by omega)
    have ev : (a6 (nI p).toNatClampNeg * c ((8 : Int32) * nI q + nI i).toNatClampNeg - a6 (nI q).toNatClampNeg * c ((8 : Int32) * nI p + nI i).toNatClampNeg).toInt = fx_cb w r (fw_v a4) p q i := by
      rw [c1, c2, fw_cl (by omega), fw_cl (by omega), k2 _ (by omega), k2 _ (by omega), ex i]
      have n1 := m1 i hi
      have n2 := m2 i hi
      have f1 : (a6 p * a4 (8 * q + i)).toInt = (a6 p).toInt * fw_v a4 q i := fb_mul (by
        have : ((a6 p).toInt * fw_v a4 q i).natAbs < 2 ^ 31 := by omega
        exact this)
      have f2 : (a6 q * a4 (8 * p + i)).toInt = (a6 q).toInt * fw_v a4 p i := fb_mul (by
        have : ((a6 q).toInt * fw_v a4 p i).natAbs < 2 ^ 31 := by omega
        exact this)
      rw [fb_sub, f1, f2]
      rw [f1, f2]
      omega
    refine pk_le 8 i (fun z => absurd z (by omega)) (fun _ => ⟨pk_in p 300 (by omega), fw_in (by omega) (by omega), pk_in q 300 (by omega), fw_in (by omega) (by omega), fun v hv => ⟨fw_in (by omega) (by omega), fw_up (8 * N + i) (fw_cl (by omega)) ?_⟩⟩)
    rw [← hv] at ev
    have hgl := fw_gcd_lt (x := fx_cb w r (fw_v a4) p q) (M := 2 ^ 31) (by decide) i (fun j hj => mx2 j (by omega))
    refine fw_div (by rw [nI_toInt hgl, Int.natAbs_natCast]; exact hgl) (by rw [ev]; exact mx2 i hi) ?_
    rw [ev, nI_toInt hgl, Int.natAbs_natCast]
    refine nm_r (nI_1 i) (hw _ ⟨lt_s (fun j hj => ?_) ?_, fun l hl => ?_⟩)
    · rw [← k1 j hj]
      unfold fw_v
      rw [pk_un (by omega)]
    · unfold fw_v
      rw [pk_us]
      exact ev
    · rw [pk_un (by omega)]
      exact k2 l hl
end
section
/-! the levels: what stands after s balances; the new directions of one balance -/
def fw_B : Nat → Nat
  | 0 => 1
  | 1 => 48
  | 2 => 18
  | 3 => 5832
  | _ => 1632586752
def fw_S : Nat → Nat
  | 0 => 24
  | 1 => 1152
  | 2 => 162
  | _ => 139968
def fw_P (a3 : Nat → Int32) (r j : Nat) : Prop := j < r ∧ a3 j ≠ 0
def fw_N (a2 a3 : Nat → Int32) (r j : Nat) : Prop := j < r ∧ a3 j ≠ 0 ∧ a2 j ≠ 0
def fw_L (a1 a2 a3 : Nat → Int32) (r s n : Nat) (a4 a5 : Nat → Int32) : Prop :=
  fx_I (fw_v a1) r (fw_P a3 r) (fw_N a2 a3 r) s (fun k => k < n) (fw_v a4) ∧ ∀ k, k < n → fb_mk (a5 k) (fw_v a4 k) ∧ fx_prim (fw_v a4 k) ∧ (∀ j, j < 8 → (fw_v a4 k j).natAbs ≤ fw_B s) ∧ (s < 4 → 3 * fx_l1 (fw_v a4 k) 8 ≤ fw_S s)
theorem fw_SB : ∀ s, s < 4 → 2 * (fw_S s * fw_B s) < 2 ^ 31 ∧ fw_S s < 2 ^ 31 := by decide +kernel
theorem fw_L0 {a1 a2 a3 a4 a5 : Nat → Int32} {r n : Nat} (hr : r ≤ 8) (h : fw_R (fw_Q a2 a3 r) n a4 a5) : fw_L a1 a2 a3 r 0 n a4 a5 := by
  refine ⟨fw_R0 hr h, fun k hk => ?_⟩
  obtain ⟨i, g, q1, q2, q3, q4, q5⟩ := h.1 k hk
  have b : ∀ j, j < 8 → (fw_v a4 k j).natAbs ≤ 1 := by
    intro j hj
    rw [q4 j hj]
    split <;> omega
  refine ⟨q5, fx_prim_1 q1 ?_, b, fun _ => ?_⟩
  · rw [q4 i q1, if_pos rfl]
    exact q2
  · have := fx_l1_le 8 b
    show _ ≤ 24
    omega
theorem fw_L_n {a1 a2 a3 a4 a5 : Nat → Int32} {r s n : Nat} (h : fw_L a1 a2 a3 r s n a4 a5) : n ≤ 140 := fx_140 h.1 (fun k => k) n (fun _ hk => hk) (fun _ _ _ _ e => e)
theorem fw_sup_r {a2 a3 : Nat → Int32} {T : Nat → Nat → Int} {r s : Nat} {x : Nat → Int} (h : fx_K T r (fw_P a3 r) (fw_N a2 a3 r) s x) : ∀ j, j < 8 → x j ≠ 0 → j < r := by
  intro j hj hx
  rcases Int.lt_or_gt_of_ne hx with g | g
  · exact ((h.1 j hj).2 g).1
  · exact ((h.1 j hj).1 g).1
theorem fw_L_fin {a1 a2 a3 a4 a5 : Nat → Int32} {r s n : Nat} (hr : r ≤ 8) (hs : s < 4) (hT : ∀ t, t < 4 → ∀ j, j < r → (fw_v a1 t j).natAbs ≤ 3) (hI : fx_I (fw_v a1) r (fw_P a3 r) (fw_N a2 a3 r) (s + 1) (fun k => k < n) (fw_v a4))
    (h : ∀ k, k < n → fb_mk (a5 k) (fw_v a4 k) ∧ fx_prim (fw_v a4 k) ∧ (∀ j, j < 8 → (fw_v a4 k j).natAbs ≤ fw_B s ∨ (fw_v a4 k j).natAbs ≤ 2 * (fw_S s * fw_B s))) : fw_L a1 a2 a3 r (s + 1) n a4 a5 := by
  refine ⟨hI, fun k hk => ?_⟩
  obtain ⟨h1, h2, h3⟩ := h k hk
  refine ⟨h1, h2, ?_⟩
  rcases (by omega : s = 0 ∨ s = 1 ∨ s = 2 ∨ s = 3) with e | e | e | e
  · rw [e] at h3 ⊢
    have b : ∀ j, j < 8 → (fw_v a4 k j).natAbs ≤ 48 := by
      intro j hj
      have := h3 j hj
      simp only [fw_B, fw_S] at this
      omega
    refine ⟨b, fun _ => ?_⟩
    have := fx_l1_le 8 b
    show _ ≤ 1152
    omega
  · rw [e] at hI ⊢
    obtain ⟨b1, b2⟩ := fx_18 hr hI (fun t ht => hT t (by omega)) hk h2 (fw_sup_r (hI.1 k hk))
    refine ⟨b1, fun _ => ?_⟩
    show _ ≤ 162
    omega
  · rw [e] at h3 ⊢
    have b : ∀ j, j < 8 → (fw_v a4 k j).natAbs ≤ 5832 := by
      intro j hj
      have := h3 j hj
      simp only [fw_B, fw_S] at this
      omega
    refine ⟨b, fun _ => ?_⟩
    have := fx_l1_le 8 b
    show _ ≤ 139968
    omega
  · rw [e] at h3 ⊢
    refine ⟨fun j hj => ?_, fun z => absurd z (by omega)⟩
    have := h3 j hj
    simp only [fw_B, fw_S] at this
    show _ ≤ 1632586752
    omega
/-- the new directions so far: those of the pairs ahead of (p, q) -/
def fw_C (w : Nat → Int) (r n M : Nat) (a4 a5 : Nat → Int32) (p q c : Nat) (b4 b5 : Nat → Int32) (lab : Nat → Nat × Nat) : Prop :=
  (∀ l, l < 8 * n → b4 l = a4 l) ∧ (∀ k, k < n → b5 k = a5 k) ∧
  (∀ i, i < c → ((lab i).1 < n ∧ (lab i).2 < n ∧ 0 < fx_dot w (fw_v a4 (lab i).1) r ∧ fx_dot w (fw_v a4 (lab i).2) r < 0 ∧ fx_adj (fun k => k < n) (fw_v a4) (lab i).1 (lab i).2) ∧ ((lab i).1 < p ∨ ((lab i).1 = p ∧ (lab i).2 < q)) ∧
    fb_mk (b5 (n + i)) (fw_v b4 (n + i)) ∧ fx_prim (fw_v b4 (n + i)) ∧ (∀ j, j < 8 → (fw_v b4 (n + i) j).natAbs ≤ M) ∧ ∃ g : Int, 0 < g ∧ ∀ j, j < 8 → g * fw_v b4 (n + i) j = fx_cb w r (fw_v a4) (lab i).1 (lab i).2 j) ∧
  (∀ i i', i < c → i' < c → lab i = lab i' → i = i') ∧
  (∀ p' q', p' < n → q' < n → 0 < fx_dot w (fw_v a4 p') r → fx_dot w (fw_v a4 q') r < 0 → fx_adj (fun k => k < n) (fw_v a4) p' q' → (p' < p ∨ (p' = p ∧ q' < q)) → ∃ i, i < c ∧ lab i = (p', q'))
theorem fw_C_skip {w : Nat → Int} {r n M : Nat} {a4 a5 : Nat → Int32} {p q c : Nat} {b4 b5 : Nat → Int32} {lab : Nat → Nat × Nat} (h : fw_C w r n M a4 a5 p q c b4 b5 lab) (hv : 0 < fx_dot w (fw_v a4 p) r → fx_dot w (fw_v a4 q) r < 0 → fx_adj (fun k => k < n) (fw_v a4) p q → False) : fw_C w r n M a4 a5 p (q + 1) c b4 b5 lab := by
  obtain ⟨h1, h2, h3, h4, h5⟩ := h
  refine ⟨h1, h2, fun i hi => ?_, h4, fun p' q' hp hq v1 v2 v3 hl => ?_⟩
  · obtain ⟨k1, k2, k3⟩ := h3 i hi
    exact ⟨k1, by omega, k3⟩
  · by_cases e : p' = p ∧ q' = q
    · rw [e.1] at v1 v3
      rw [e.2] at v2 v3
      exact absurd v3 (hv v1 v2)
    · exact h5 p' q' hp hq v1 v2 v3 (by omega)
theorem fw_C_row {w : Nat → Int} {r n M : Nat} {a4 a5 : Nat → Int32} {p c : Nat} {b4 b5 : Nat → Int32} {lab : Nat → Nat × Nat} (h : fw_C w r n M a4 a5 p n c b4 b5 lab) : fw_C w r n M a4 a5 (p + 1) 0 c b4 b5 lab := by
  obtain ⟨h1, h2, h3, h4, h5⟩ := h
  refine ⟨h1, h2, fun i hi => ?_, h4, fun p' q' hp hq v1 v2 v3 hl => ?_⟩
  · obtain ⟨k1, k2, k3⟩ := h3 i hi
    exact ⟨k1, by omega, k3⟩
  · exact h5 p' q' hp hq v1 v2 v3 (by omega)
theorem fw_C_add {w : Nat → Int} {r n M : Nat} {a4 a5 : Nat → Int32} {p q c : Nat} {b4 b5 c4 c5 : Nat → Int32} {lab : Nat → Nat × Nat} (h : fw_C w r n M a4 a5 p q c b4 b5 lab) (hp : p < n) (hq : q < n) (v1 : 0 < fx_dot w (fw_v a4 p) r) (v2 : fx_dot w (fw_v a4 q) r < 0) (v3 : fx_adj (fun k => k < n) (fw_v a4) p q)
    (g4 : ∀ l, l < 8 * (n + c) → c4 l = b4 l) (g5 : ∀ k, k < n + c → c5 k = b5 k) (m1 : fb_mk (c5 (n + c)) (fw_v c4 (n + c))) (m2 : fx_prim (fw_v c4 (n + c))) (m3 : ∀ j, j < 8 → (fw_v c4 (n + c) j).natAbs ≤ M) (m4 : ∃ g : Int, 0 < g ∧ ∀ j, j < 8 → g * fw_v c4 (n + c) j = fx_cb w r (fw_v a4) p q j) :
    fw_C w r n M a4 a5 p (q + 1) (c + 1) c4 c5 (fun i => if i = c then (p, q) else lab i) := by
  obtain ⟨h1, h2, h3, h4, h5⟩ := h
  have e1 : (fun i => if i = c then (p, q) else lab i) c = (p, q) := if_pos rfl
  have e2 : ∀ i, i ≠ c → (fun i => if i = c then (p, q) else lab i) i = lab i := fun i hi => if_neg hi
  have hv : ∀ i, i < c → ∀ j, j < 8 → fw_v c4 (n + i) j = fw_v b4 (n + i) j := by
    intro i hi j hj
    unfold fw_v
    rw [g4 _ (by omega)]
  refine ⟨fun l hl => by rw [g4 l (by omega), h1 l hl], fun k hk => by rw [g5 k (by omega), h2 k hk], fun i hi => ?_, fun i i' hi hi' e => ?_, fun p' q' hp' hq' w1 w2 w3 hl => ?_⟩
  · by_cases e : i = c
    · rw [e, e1]
      exact ⟨⟨hp, hq, v1, v2, v3⟩, Or.inr ⟨rfl, by show q < q + 1; omega⟩, m1, m2, m3, m4⟩
    · rw [e2 i e]
      have hi' : i < c := by omega
      obtain ⟨k1, k2, k3, k4, k5, g, k6, k7⟩ := h3 i hi'
      refine ⟨k1, by omega, ?_, fx_prim_cg (fun j hj => (hv i hi' j hj).symm) k4, fun j hj => ?_, g, k6, fun j hj => ?_⟩
      · rw [g5 _ (by omega)]
        exact fb_mk_cg (fun j hj => (hv i hi' j hj).symm) k3
      · rw [hv i hi' j hj]
        exact k5 j hj
      · rw [hv i hi' j hj]
        exact k7 j hj
  · by_cases ei : i = c
    · by_cases ei' : i' = c
      · omega
      · rw [ei, e1, e2 i' ei'] at e
        have k2 := (h3 i' (by omega)).2.1
        rw [← e] at k2
        dsimp only at k2
        omega
    · by_cases ei' : i' = c
      · rw [ei', e1, e2 i ei] at e
        have k2 := (h3 i (by omega)).2.1
        rw [e] at k2
        dsimp only at k2
        omega
      · rw [e2 i ei, e2 i' ei'] at e
        exact h4 i i' (by omega) (by omega) e
  · by_cases e : p' = p ∧ q' = q
    · refine ⟨c, by omega, ?_⟩
      rw [e1, e.1, e.2]
    · obtain ⟨i, hi, e3⟩ := h5 p' q' hp' hq' w1 w2 w3 (by omega)
      exact ⟨i, by omega, by rw [e2 i (by omega)]; exact e3⟩
/-- one balance done -/
theorem fw_next {a1 a2 a3 a4 a5 a6 b4 b5 d4 d5 : Nat → Int32} {r s n c t : Nat} {lab : Nat → Nat × Nat} {g : Nat → Nat} (hr : r ≤ 8) (hs : s < 4) (hT : ∀ t, t < 4 → ∀ j, j < r → (fw_v a1 t j).natAbs ≤ 3) (hL : fw_L a1 a2 a3 r s n a4 a5) (h6 : ∀ k, k < n → (a6 k).toInt = fx_dot (fw_v a1 s) (fw_v a4 k) r)
    (hC : fw_C (fw_v a1 s) r n (2 * (fw_S s * fw_B s)) a4 a5 n 0 c b4 b5 lab) (hM : fw_M n b4 b5 a6 (n + c) t d4 d5 g) : fw_L a1 a2 a3 r (s + 1) t d4 d5 := by
  obtain ⟨hI, hk⟩ := hL
  obtain ⟨c1, c2, c3, c4, c5⟩ := hC
  obtain ⟨m1, m2, m3, m4, m5, m6⟩ := hM
  have z6 : ∀ k, k < n → a6 k = 0 → fx_dot (fw_v a1 s) (fw_v a4 k) r = 0 := fun k hk e => by
    rw [← h6 k hk, e]
    rfl
  have rw1 : ∀ k, k < t → ∀ j, j < 8 → fw_v d4 k j = fw_v b4 (g k) j := fun k hk j hj => by
    unfold fw_v
    rw [(m2 k hk).2.2.2 j hj]
  have rw2 : ∀ k, k < n → ∀ j, j < 8 → fw_v b4 k j = fw_v a4 k j := fun k hk j hj => by
    unfold fw_v
    rw [c1 _ (by omega)]
  have lo : ∀ k, k < t → g k < n → a6 (g k) = 0 := fun k hk e => by
    rcases (m2 k hk).2.1 with z | z
    · omega
    · exact z
  have f1 : ∀ k, g k < n → (if g k < n then (g k, g k) else lab (g k - n)) = (g k, g k) := fun k e => if_pos e
  have f2 : ∀ k, ¬ g k < n → (if g k < n then (g k, g k) else lab (g k - n)) = lab (g k - n) := fun k e => if_neg e
  have hI' : fx_I (fw_v a1) r (fw_P a3 r) (fw_N a2 a3 r) (s + 1) (fun k => k < t) (fw_v d4) := by
    refine fx_move hr (fx_step hr hI) (fun k => if g k < n then (g k, g k) else lab (g k - n)) (fun k hkt => ?_) (fun l hl => ?_) (fun k l hkt hlt e => ?_) (fun k hkt => ?_)
    · skip
      by_cases e : g k < n
      · rw [f1 k e]
        exact ⟨e, e, Or.inl ⟨rfl, z6 _ e (lo k hkt e)⟩⟩
      · rw [f2 k e]
        have := (m2 k hkt).1
        obtain ⟨⟨v1, v2, v3, v4, v5⟩, _⟩ := c3 (g k - n) (by omega)
        exact ⟨v1, v2, Or.inr ⟨v3, v4, v5⟩⟩
    · obtain ⟨p, q⟩ := l
      obtain ⟨dp, dq, ⟨e, h0⟩ | ⟨v1, v2, v3⟩⟩ := hl
      · dsimp only at dp dq e h0
        obtain ⟨k, hkt, e2⟩ := m4 p (by omega) (Or.inr (fb_eq0.mpr (by rw [h6 p dp]; exact h0)))
        refine ⟨k, hkt, ?_⟩
        rw [f1 k (by omega), e2, e]
      · dsimp only at dp dq v1 v2 v3
        obtain ⟨i, hi, e2⟩ := c5 p q dp dq v1 v2 v3 (by omega)
        obtain ⟨k, hkt, e3⟩ := m4 (n + i) (by omega) (Or.inl (by omega))
        refine ⟨k, hkt, ?_⟩
        rw [f2 k (by omega), e3, show n + i - n = i by omega, e2]
    · skip
      have hk1 := (m2 k hkt).1
      have hl1 := (m2 l hlt).1
      apply m3 k l hkt hlt
      by_cases ek : g k < n
      · rw [f1 k ek] at e
        by_cases el : g l < n
        · rw [f1 l el] at e
          exact (Prod.mk.inj e).1
        · rw [f2 l el] at e
          have v := (c3 (g l - n) (by omega)).1.2.2.1
          rw [← e] at v
          dsimp only at v
          rw [z6 _ ek (lo k hkt ek)] at v
          omega
      · rw [f2 k ek] at e
        by_cases el : g l < n
        · rw [f1 l el] at e
          have v := (c3 (g k - n) (by omega)).1.2.2.1
          rw [e] at v
          dsimp only at v
          rw [z6 _ el (lo l hlt el)] at v
          omega
        · rw [f2 l el] at e
          have := c4 (g k - n) (g l - n) (by omega) (by omega) e
          omega
    · skip
      by_cases e : g k < n
      · rw [f1 k e]
        refine ⟨1, by omega, fun j hj => ?_⟩
        rw [fx_Z0 (show fx_dot (fw_v a1 s) (fw_v a4 (g k)) r = 0 from z6 _ e (lo k hkt e)), rw1 k hkt j hj, rw2 _ e j hj, Int.one_mul]
      · rw [f2 k e]
        have := (m2 k hkt).1
        obtain ⟨⟨v1, v2, v3, v4, v5⟩, _, _, _, _, gg, w1, w2⟩ := c3 (g k - n) (by omega)
        refine ⟨gg, w1, fun j hj => ?_⟩
        have w3 := w2 j hj
        rw [show n + (g k - n) = g k by omega] at w3
        rw [fx_Z1 (by omega), rw1 k hkt j hj, w3]
  refine fw_L_fin hr hs hT hI' (fun k hkt => ?_)
  have hk1 := (m2 k hkt).1
  rw [(m2 k hkt).2.2.1]
  by_cases e : g k < n
  · obtain ⟨q1, q2, q3, _⟩ := hk (g k) e
    have ev : ∀ j, j < 8 → fw_v a4 (g k) j = fw_v d4 k j := fun j hj => by rw [rw1 k hkt j hj, rw2 _ e j hj]
    rw [c2 _ e]
    exact ⟨fb_mk_cg ev q1, fx_prim_cg ev q2, fun j hj => Or.inl (by rw [← ev j hj]; exact q3 j hj)⟩
  · obtain ⟨_, _, q1, q2, q3, _⟩ := c3 (g k - n) (by omega)
    rw [show n + (g k - n) = g k by omega] at q1 q2 q3
    have ev : ∀ j, j < 8 → fw_v b4 (g k) j = fw_v d4 k j := fun j hj => (rw1 k hkt j hj).symm
    exact ⟨fb_mk_cg ev q1, fx_prim_cg ev q2, fun j hj => Or.inr (by rw [← ev j hj]; exact q3 j hj)⟩
end
section
/-! refresh -/
abbrev fw_J6 : Type := Int32 → Int32 → Int32 → Int32 → Int32 → Int32 → (Nat → Int32) → (Nat → Int32) → (Nat → Int32) → (Nat → Int32) → (Nat → Int32) → (Nat → Int32) → (Nat → Int32) → (Nat → Int32) → Prop
/-- what the law asks of a fresh state: c modes -/
def fw_Fr (m r c : Nat) (a1 a4 a5 a8 : Nat → Int32) : Prop :=
  c ≤ 140 ∧ (∀ i, i < c → a8 i = nI (fw_og a8 i) ∧ fw_og a8 i < 300 ∧ fb_mk (a5 (fw_og a8 i)) (fw_v a4 (fw_og a8 i)) ∧ fx_nz (fw_v a4 (fw_og a8 i)) ∧ (∀ j, j < 8 → fw_v a4 (fw_og a8 i) j ≠ 0 → j < r) ∧ (∀ s, s < m → fx_dot (fw_v a1 s) (fw_v a4 (fw_og a8 i)) r = 0)) ∧
  (∀ i i', i < i' → i' < c → fw_sn a5 (fw_og a8 i) < fw_sn a5 (fw_og a8 i')) ∧
  (∀ i i', i < c → i' < c → i ≠ i' → ¬ (fb_su (a5 (fw_og a8 i)) &&& fb_su (a5 (fw_og a8 i'))) = fb_su (a5 (fw_og a8 i)))
theorem fw_two {a1 a2 a3 a4 a5 a7 : Nat → Int32} {r m n : Nat} (hL : fw_L a1 a2 a3 r m n a4 a5) (h7 : ∀ k, k < n → (∃ i, i < n ∧ a5 i = fb_tu (a5 k)) → a7 k ≠ 0) {k l : Nat} (hk : k < n) (hl : l < n) (hkl : k ≠ l) (ik : fw_inc a5 a7 k) (il : fw_inc a5 a7 l) :
    ¬ (fb_su (a5 k) &&& fb_su (a5 l)) = fb_su (a5 k) := by
  intro e
  have mk := (hL.2 k hk).1
  have ml := (hL.2 l hl).1
  rcases fx_opp hL.1 hk hl (fun j hj => fb_inn mk ml e hj) with z | z
  · exact hkl z
  · have z' : ∀ j, j < 8 → (0 < fw_v a4 l j ↔ fw_v a4 k j < 0) ∧ (fw_v a4 l j < 0 ↔ 0 < fw_v a4 k j) := fun j hj => ⟨(z j hj).2.symm, (z j hj).1.symm⟩
    have t1 := h7 k hk ⟨l, hl, fb_turn mk ml z⟩
    have t2 := h7 l hl ⟨k, hk, fb_turn ml mk z'⟩
    have es : fb_su (a5 k) = fb_su (a5 l) := by
      apply fb_ext
      intro i hi
      rw [fb_su_b mk hi, fb_su_b ml hi]
      apply decide_eq_decide.mpr
      by_cases h8 : i < 8
      · have := z i h8
        omega
      · omega
    rcases ik with q | q
    · exact t1 q
    · rcases il with q' | q'
      · exact t2 q'
      · exact fb_low2 mk ml z es q q'
theorem fw_fresh {a1 a2 a3 a4 a5 a7 a8 : Nat → Int32} {r m n c : Nat} (hL : fw_L a1 a2 a3 r m n a4 a5) (h7 : ∀ k, k < n → (∃ i, i < n ∧ a5 i = fb_tu (a5 k)) → a7 k ≠ 0) (hA : fw_A a5 a7 n c a8) : fw_Fr m r c a1 a4 a5 a8 := by
  have hn := fw_L_n hL
  obtain ⟨g1, g2, g3⟩ := hA
  have key : ∀ i i', i < c → i' < c → i ≠ i' → ¬ (fb_su (a5 (fw_og a8 i)) &&& fb_su (a5 (fw_og a8 i'))) = fb_su (a5 (fw_og a8 i)) := by
    intro i i' hi hi' hne
    refine fw_two hL h7 (g2 i hi).2.1 (g2 i' hi').2.1 ?_ (g2 i hi).2.2 (g2 i' hi').2.2
    rcases Nat.lt_or_gt_of_ne hne with z | z
    · exact (g3 i i' z hi').1
    · exact Ne.symm (g3 i' i z hi).1
  refine ⟨by omega, fun i hi => ?_, fun i i' hii hi' => ?_, key⟩
  · obtain ⟨p1, p2, p3⟩ := g2 i hi
    exact ⟨p1, by omega, (hL.2 _ p2).1, hL.1.2.1 _ p2, fw_sup_r (hL.1.1 _ p2), (hL.1.1 _ p2).2⟩
  · have h1 := (g3 i i' hii hi').2
    by_cases e : fw_sn a5 (fw_og a8 i) = fw_sn a5 (fw_og a8 i')
    · have e2 : fb_su (a5 (fw_og a8 i)) = fb_su (a5 (fw_og a8 i')) := Int32.toInt_inj.mp e
      exfalso
      apply key i i' (by omega) hi' (by omega)
      rw [← e2]
      apply fb_ext
      intro j _
      rw [fb_and, Bool.and_self]
    · omega
theorem fw_r42 {post : St2 → Prop} {J14 J34 : fw_J6} {x1 fm fc fu : Int32} {a1 a2 a3 a4 a5 a6 a7 a8 b4 b5 : Nat → Int32} {r s n p c : Nat} {lab : Nat → Nat × Nat} (hr : r ≤ 8) (hs : s < 4) (hT : ∀ j, j < r → (fw_v a1 s j).natAbs ≤ 3) (hL : fw_L a1 a2 a3 r s n a4 a5) (h6 : ∀ k, k < n → (a6 k).toInt = fx_dot (fw_v a1 s) (fw_v a4 k) r) (hp : p < n)
    (hC : fw_C (fw_v a1 s) r n (2 * (fw_S s * fw_B s)) a4 a5 p 0 c b4 b5 lab)
    (H : ∀ c d4 d5 lab, fw_C (fw_v a1 s) r n (2 * (fw_S s * fw_B s)) a4 a5 (p + 1) 0 c d4 d5 lab → J34 (nI (p + 1)) fm (nI r) (nI (n + c)) fc fu a1 a2 a3 d4 d5 a6 a7 a8) :
    ∃ f, wX_refresh_42 post J14 J34 x1 (nI n) (nI p) f 0 fm (nI r) (nI (n + c)) fc fu a1 a2 a3 b4 b5 a6 a7 a8 := by
  have hn := fw_L_n hL
  refine pk_loop (σ := Nat × (Nat → Int32) × (Nat → Int32)) (fun f q st => wX_refresh_42 post J14 J34 x1 (nI n) (nI p) f (nI q) fm (nI r) (nI (n + st.1)) fc fu a1 a2 a3 st.2.1 st.2.2 a6 a7 a8) (fun q st => ∃ lab, fw_C (fw_v a1 s) r n (2 * (fw_S s * fw_B s)) a4 a5 p q st.1 st.2.1 st.2.2 lab) n 0 (c, b4, b5) (by omega) ⟨lab, hC⟩ ?_ ?_
  · intro f st h
    obtain ⟨lab, h⟩ := h
    exact pk_le n n (fun _ => nm_r (nI_1 p) (H st.1 st.2.1 st.2.2 lab (fw_C_row h))) (fun z => absurd z (by omega))
  · intro f q st hq h hw
    obtain ⟨c, b4, b5⟩ := st
    obtain ⟨lab, h⟩ := h
    dsimp only at h
    have hc : c ≤ 140 := fx_140 (fx_step hr hL.1) lab c (fun i hi => by
      obtain ⟨⟨v1, v2, v3, v4, v5⟩, _⟩ := h.2.2.1 i hi
      exact ⟨v1, v2, Or.inr ⟨v3, v4, v5⟩⟩) (fun k l hk hl e => h.2.2.2.1 k l hk hl e)
    have skip : (0 < fx_dot (fw_v a1 s) (fw_v a4 p) r → fx_dot (fw_v a1 s) (fw_v a4 q) r < 0 → fx_adj (fun k => k < n) (fw_v a4) p q → False) → ∀ x, x = nI q + 1 → wX_refresh_42 post J14 J34 x1 (nI n) (nI p) f x fm (nI r) (nI (n + c)) fc fu a1 a2 a3 b4 b5 a6 a7 a8 := fun hv => nm_r (nI_1 q) (hw (c, b4, b5) ⟨lab, fw_C_skip h hv⟩)
    have cp : (nI p).toNatClampNeg = p := nI_clamp (by omega)
    have cq : (nI q).toNatClampNeg = q := nI_clamp (by omega)
    refine pk_le n q (fun z => absurd z (by omega)) (fun _ => ⟨pk_in p 300 (by omega), ?_⟩)
    rw [cp]
    refine br_c (fun z => skip (fun v1 _ _ => ?_)) (fun z => ⟨pk_in q 300 (by omega), ?_⟩)
    · rw [fb_le0, h6 p hp] at z
      omega
    · rw [cq]
      rw [fb_le0, h6 p hp] at z
      refine br_c (fun y => skip (fun _ v2 _ => ?_)) (fun y => ?_)
      · rw [fb_ge0, h6 q hq] at y
        omega
      · rw [fb_ge0, h6 q hq] at y
        have v1 : 0 < fx_dot (fw_v a1 s) (fw_v a4 p) r := by omega
        have v2 : fx_dot (fw_v a1 s) (fw_v a4 q) r < 0 := by omega
        have rows : ∀ k, k < n → ∀ j, j < 8 → fw_v b4 k j = fw_v a4 k j := fun k hk j hj => by
          unfold fw_v
          rw [h.1 _ (by omega)]
        refine fw_nei (V := fw_v a4) (by omega) hp hq (fun k hk => by show fb_mk (b5 k) (fw_v a4 k); rw [h.2.1 k hk]; exact (hL.2 k hk).1) (fun ha => br_f (by decide) ?_) (fun ha => br_t rfl (skip (fun _ _ v3 => ha v3)))
        have d1 : fx_dot (fw_v a1 s) (fw_v b4 p) r = fx_dot (fw_v a1 s) (fw_v a4 p) r := fx_dot_congr r (fun j hj => rows p hp j (by omega))
        have d2 : fx_dot (fw_v a1 s) (fw_v b4 q) r = fx_dot (fw_v a1 s) (fw_v a4 q) r := fx_dot_congr r (fun j hj => rows q hq j (by omega))
        have ec : ∀ j, j < 8 → fx_cb (fw_v a1 s) r (fw_v b4) p q j = fx_cb (fw_v a1 s) r (fw_v a4) p q j := fun j hj => by
          unfold fx_cb
          rw [d1, d2, rows p hp j hj, rows q hq j hj]
        have nzc : fx_nz (fx_cb (fw_v a1 s) r (fw_v b4) p q) := by
          obtain ⟨j, hj, e⟩ := fx_sub_nz (fx_cb_l v1 v2 ha.1) (hL.1.2.1 p hp)
          exact ⟨j, hj, by rw [ec j hj]; exact e⟩
        have hg := fx_gcd_pos 8 nzc
        have sb : ∀ k, k < n → (a6 k).toInt.natAbs ≤ fw_S s := fun k hk => by
          rw [h6 k hk]
          have e1 := fx_dot_ab (x := fw_v a4 k) r hT
          have e2 : fx_l1 (fw_v a4 k) r ≤ fx_l1 (fw_v a4 k) 8 := fx_l1_mono r 8 hr
          have e3 := (hL.2 k hk).2.2.2 hs
          omega
        have vb : ∀ k, k < n → ∀ j, j < 8 → (fw_v b4 k j).natAbs ≤ fw_B s := fun k hk j hj => by
          rw [rows k hk j hj]
          exact (hL.2 k hk).2.2.1 j hj
        refine fw_comb (w := fw_v a1 s) (r := r) (S := fw_S s) (B := fw_B s) (by omega) (by omega) (by omega) (by rw [h6 p hp, d1]) (by rw [h6 q hq, d2]) (sb p hp) (sb q hq) (vb p hp) (vb q hq) (fw_SB s hs).1 hg (fun d4 k1 k2 k3 => nm_r (nI_1 q) (hw (c + 1, d4, upd b5 (n + c) (b5 p ||| b5 q)) ⟨_, fw_C_add h hp hq v1 v2 ha k1 (fun k hk => pk_un (by omega)) ?_ (fx_prim_of hg k2) (fun j hj => ?_) ⟨_, Int.ofNat_lt.mpr hg, fun j hj => by rw [k2 j hj, ec j hj]⟩⟩))
        · dsimp only at k2 ⊢
          rw [pk_us, h.2.1 p hp, h.2.1 q hq]
          refine fb_mk_or (hL.2 p hp).1 (hL.2 q hq).1 (fun j hj => ?_)
          have e1 := fx_cb_sg v1 v2 ha.1 hj
          rw [← ec j hj, ← k2 j hj] at e1
          have hg' : (0 : Int) < (fx_gcd (fx_cb (fw_v a1 s) r (fw_v b4) p q) 8 : Int) := Int.ofNat_lt.mpr hg
          refine ⟨Iff.trans ⟨fun y => Int.mul_pos hg' y, fun y => fx_pp hg' y⟩ e1.1, Iff.trans ⟨fun y => Int.mul_neg_of_pos_of_neg hg' y, fun y => fx_pn hg' y⟩ e1.2⟩
        · dsimp only at k2 k3 ⊢
          have e1 := k3 j hj
          rw [← k2 j hj, Int.natAbs_mul, Int.natAbs_natCast] at e1
          have e2 := Nat.le_mul_of_pos_left (fw_v d4 (n + c) j).natAbs hg
          omega
theorem fw_r34 {post : St2 → Prop} {J14 : fw_J6} {fm fc fu : Int32} {a1 a2 a3 a4 a5 a6 a7 a8 : Nat → Int32} {r s n : Nat} (hr : r ≤ 8) (hs : s < 4) (hT : ∀ t, t < 4 → ∀ j, j < r → (fw_v a1 t j).natAbs ≤ 3) (hL : fw_L a1 a2 a3 r s n a4 a5) (h6 : ∀ k, k < n → (a6 k).toInt = fx_dot (fw_v a1 s) (fw_v a4 k) r)
    (H : ∀ t d4 d5, fw_L a1 a2 a3 r (s + 1) t d4 d5 → J14 (nI (s + 1)) fm (nI r) (nI t) fc fu a1 a2 a3 d4 d5 a6 a7 a8) :
    ∃ f, wX_refresh_34 post J14 (nI s) (nI n) f 0 fm (nI r) (nI n) fc fu a1 a2 a3 a4 a5 a6 a7 a8 := by
  have hn := fw_L_n hL
  refine pk_loop (σ := Nat × (Nat → Int32) × (Nat → Int32)) (fun f p st => wX_refresh_34 post J14 (nI s) (nI n) f (nI p) fm (nI r) (nI (n + st.1)) fc fu a1 a2 a3 st.2.1 st.2.2 a6 a7 a8) (fun p st => ∃ lab, fw_C (fw_v a1 s) r n (2 * (fw_S s * fw_B s)) a4 a5 p 0 st.1 st.2.1 st.2.2 lab) n 0 (0, a4, a5) (by omega) ⟨fun _ => (0, 0), fun _ _ => rfl, fun _ _ => rfl, lt_0, fun i i' h => absurd h (by omega), fun p' q' _ _ _ _ _ h => absurd h (by omega)⟩ ?_ ?_
  · intro f st h
    obtain ⟨c, b4, b5⟩ := st
    obtain ⟨lab, h⟩ := h
    dsimp only at h
    have hc : c ≤ 140 := fx_140 (fx_step hr hL.1) lab c (fun i hi => by
      obtain ⟨⟨v1, v2, v3, v4, v5⟩, _⟩ := h.2.2.1 i hi
      exact ⟨v1, v2, Or.inr ⟨v3, v4, v5⟩⟩) (fun k l hk hl e => h.2.2.2.1 k l hk hl e)
    exact pk_le n n (fun _ => fw_keep (by omega) (by omega) (fun t d4 d5 g hM => nm_r (nI_1 s) (H t d4 d5 (fw_next hr hs hT hL h6 h hM)))) (fun z => absurd z (by omega))
  · intro f p st hp h hw
    obtain ⟨lab, h⟩ := h
    exact pk_le n p (fun z => absurd z (by omega)) (fun _ => fw_r42 hr hs (hT s hs) hL h6 hp h (fun c d4 d5 lab' h' => hw (c, d4, d5) ⟨lab', h'⟩))
theorem fw_r14 {post : St2 → Prop} {fc fu : Int32} {a1 a2 a3 a4 a5 a6 a7 a8 : Nat → Int32} {m r n : Nat} (hm : m ≤ 4) (hr : r ≤ 8) (hT : ∀ t, t < 4 → ∀ j, j < r → (fw_v a1 t j).natAbs ≤ 3) (hL : fw_L a1 a2 a3 r 0 n a4 a5)
    (H : ∀ n' c b4 b5 b6 b7 b8, fw_Fr m r c a1 b4 b5 b8 → post (nI m, nI r, nI n', nI c, 1, a1, a2, a3, b4, b5, b6, b7, b8)) :
    ∃ f, wX_refresh_14 post f 0 (nI m) (nI r) (nI n) fc fu a1 a2 a3 a4 a5 a6 a7 a8 := by
  refine pk_loop (σ := Nat × (Nat → Int32) × (Nat → Int32) × (Nat → Int32)) (fun f s st => wX_refresh_14 post f (nI s) (nI m) (nI r) (nI st.1) fc fu a1 a2 a3 st.2.1 st.2.2.1 st.2.2.2 a7 a8) (fun s st => fw_L a1 a2 a3 r s st.1 st.2.1 st.2.2.1) m 0 (n, a4, a5, a6) (by omega) hL ?_ ?_
  · intro f st h
    obtain ⟨n, b4, b5, b6⟩ := st
    dsimp only at h
    have hn := fw_L_n h
    exact pk_le m m (fun _ => fw_ft (by omega) (fun b7 h7 => fw_arr (by omega) (fun c b8 hA => H n c b4 b5 b6 b7 b8 (fw_fresh h h7 hA)))) (fun z => absurd z (by omega))
  · intro f s st hs h hw
    obtain ⟨n, b4, b5, b6⟩ := st
    dsimp only at h
    have hn := fw_L_n h
    refine pk_le m s (fun z => absurd z (by omega)) (fun _ => fw_weigh (by omega) (by omega) hr (hT s (by omega)) (fun k hk => ?_) (fun c6 h6 => fw_r34 hr (by omega) hT h h6 (fun t d4 d5 h' => hw (t, d4, d5, c6) h')))
    have e1 := (h.2 k hk).2.2.2 (by omega)
    have e2 := (fw_SB s (by omega)).2
    show 3 * fx_l1 (fw_v b4 k) 8 < 2 ^ 31
    omega
theorem fw_refresh {post : St2 → Prop} {fn fc fu : Int32} {a1 a2 a3 a4 a5 a6 a7 a8 : Nat → Int32} {m r : Nat} (hm : m ≤ 4) (hr : r ≤ 8) (hT : ∀ t, t < 4 → ∀ j, j < r → (fw_v a1 t j).natAbs ≤ 3) (hF : fu ≠ 0 → ∃ c, fc = nI c ∧ fw_Fr m r c a1 a4 a5 a8)
    (H : ∀ fn' c fu' b4 b5 b6 b7 b8, fu' ≠ 0 → fw_Fr m r c a1 b4 b5 b8 → post (nI m, nI r, fn', nI c, fu', a1, a2, a3, b4, b5, b6, b7, b8)) :
    wpX_refresh post (nI m, nI r, fn, fc, fu, a1, a2, a3, a4, a5, a6, a7, a8) := by
  refine br_c (fun z => fw_start hr (fun n b4 b5 hn hR => fw_r14 hm hr hT (fw_L0 hr hR) (fun n' c b4 b5 b6 b7 b8 h => H _ c 1 b4 b5 b6 b7 b8 (by decide) h))) (fun z => ?_)
  obtain ⟨c, e, h⟩ := hF z
  rw [e]
  exact H _ c fu a4 a5 a6 a7 a8 z h
end
section
/-! the fresh state: its answers; balanced and holds -/
theorem fw_mode {post : Int32 → Prop} {fm fr fn fu : Int32} {a1 a2 a3 a4 a5 a6 a7 a8 : Nat → Int32} {c i : Nat} (hc : c ≤ 140) (hi : i < c) (H : post 1) : wpX_isMode post (fm, fr, fn, nI c, fu, a1, a2, a3, a4, a5, a6, a7, a8) (nI i) :=
  br_f (nI_pos (by omega)) (br_f (nI_ge hi (by omega)) H)
theorem fw_reac {post : Int32 → Prop} {fm fn fc fu : Int32} {a1 a2 a3 a4 a5 a6 a7 a8 : Nat → Int32} {r j : Nat} (hr : r ≤ 8) (hj : j < r) (H : post 1) : wpX_isReaction post (fm, nI r, fn, fc, fu, a1, a2, a3, a4, a5, a6, a7, a8) (nI j) :=
  br_f (nI_pos (by omega)) (br_f (nI_ge hj (by omega)) H)
theorem fw_subs {post : Int32 → Prop} {fr fn fc fu : Int32} {a1 a2 a3 a4 a5 a6 a7 a8 : Nat → Int32} {m s : Nat} (hm : m ≤ 4) (hs : s < m) (H : post 1) : wpX_isSubstance post (nI m, fr, fn, fc, fu, a1, a2, a3, a4, a5, a6, a7, a8) (nI s) :=
  br_f (nI_pos (by omega)) (br_f (nI_ge hs (by omega)) H)
theorem fw_10 : ¬ (1 : Int32) = 0 := by decide
theorem fw_suppt {post : Int32 → St2 → Prop} {fm fr fn fu : Int32} {a1 a2 a3 a4 a5 a6 a7 a8 : Nat → Int32} {c i : Nat} (hu : fu ≠ 0) (hc : c ≤ 140) (hi : i < c) (h8 : a8 i = nI (fw_og a8 i)) (hk : fw_og a8 i < 300)
    (H : post (fb_su (a5 (fw_og a8 i))) (fm, fr, fn, nI c, fu, a1, a2, a3, a4, a5, a6, a7, a8)) : wpX_support post (fm, fr, fn, nI c, fu, a1, a2, a3, a4, a5, a6, a7, a8) (nI i) := by
  refine br_f hu (fw_mode hc hi (br_f fw_10 ⟨pk_in i 300 (by omega), ?_⟩))
  rw [nI_clamp (by omega), h8]
  exact fw_sup hk H
theorem fw_flux {post : Int32 → St2 → Prop} {fm fn fu : Int32} {a1 a2 a3 a4 a5 a6 a7 a8 : Nat → Int32} {r c i j : Nat} (hr : r ≤ 8) (hj : j < r) (hu : fu ≠ 0) (hc : c ≤ 140) (hi : i < c) (h8 : a8 i = nI (fw_og a8 i)) (hk : fw_og a8 i < 300)
    (H : post (a4 (8 * fw_og a8 i + j)) (fm, nI r, fn, nI c, fu, a1, a2, a3, a4, a5, a6, a7, a8)) : wpX_flux post (fm, nI r, fn, nI c, fu, a1, a2, a3, a4, a5, a6, a7, a8) (nI i) (nI j) := by
  refine br_f hu (fw_mode hc hi (br_f fw_10 (fw_reac hr hj (br_f fw_10 ⟨pk_in i 300 (by omega), ?_⟩))))
  rw [nI_clamp (show i < 2 ^ 31 by omega), h8]
  refine ⟨fw_in (by omega) (by omega), ?_⟩
  rw [fw_cl (by omega)]
  exact H
theorem fw_get {post : Int32 → Prop} {fn fc fu : Int32} {a1 a2 a3 a4 a5 a6 a7 a8 : Nat → Int32} {m r s j : Nat} (hm : m ≤ 4) (hr : r ≤ 8) (hs : s < m) (hj : j < r) (H : post (a1 (8 * s + j))) : wpX_get post (nI m, nI r, fn, fc, fu, a1, a2, a3, a4, a5, a6, a7, a8) (nI s) (nI j) := by
  unfold wpX_get
  dsimp only
  refine fw_subs hm hs (br_f fw_10 (fw_reac hr hj (br_f fw_10 ⟨fw_in (by omega) (by omega), ?_⟩)))
  rw [fw_cl (by omega)]
  exact H
theorem fw_b77 {post : Int32 → St2 → Prop} {J : fw_J6} {fn fu : Int32} {a1 a2 a3 a4 a5 a6 a7 a8 : Nat → Int32} {m r c i s : Nat} (hm : m ≤ 4) (hr : r ≤ 8) (hu : fu ≠ 0) (hF : fw_Fr m r c a1 a4 a5 a8) (hi : i < c) (hs : s < m)
    (H : J (nI (s + 1)) (nI m) (nI r) fn (nI c) fu a1 a2 a3 a4 a5 a6 a7 a8) :
    ∃ f, wL_balanced_77 post J (nI i) (nI m) (nI r) (nI s) f 0 0 (nI m) (nI r) fn (nI c) fu a1 a2 a3 a4 a5 a6 a7 a8 := by
  obtain ⟨h8, hk, _, _, _, hd⟩ := hF.2.1 i hi
  refine pk_loop (fun f j x => wL_balanced_77 post J (nI i) (nI m) (nI r) (nI s) f x (nI j) (nI m) (nI r) fn (nI c) fu a1 a2 a3 a4 a5 a6 a7 a8) (fun j x => x = Int64.ofInt (fx_dot (fw_v a1 s) (fw_v a4 (fw_og a8 i)) j)) r 0 0 (by omega) rfl ?_ ?_
  · intro f x h
    refine pk_le r r (fun _ => br_t ?_ (nm_r (nI_1 s) H)) (fun z => absurd z (by omega))
    rw [h, hd s hs]
    rfl
  · intro f j x hj h hw
    refine pk_le r j (fun z => absurd z (by omega)) (fun _ => fw_get hm hr hs hj (fw_flux hr hj hu hF.1 hi h8 hk (nm_e (nm_r (nI_1 j) (hw _ ?_)))))
    show x + (a1 (8 * s + j)).toInt64 * (a4 (8 * fw_og a8 i + j)).toInt64 = Int64.ofInt (fx_dot (fw_v a1 s) (fw_v a4 (fw_og a8 i)) j + fw_v a1 s j * fw_v a4 (fw_og a8 i) j)
    rw [Int64.ofInt_add, Int64.ofInt_mul, h]
    rfl
theorem fw_b65 {post : Int32 → St2 → Prop} {fn fu : Int32} {a1 a2 a3 a4 a5 a6 a7 a8 : Nat → Int32} {m r c i : Nat} (hm : m ≤ 4) (hr : r ≤ 8) (hu : fu ≠ 0) (hF : fw_Fr m r c a1 a4 a5 a8) (hi : i < c)
    (H : post 1 (nI m, nI r, fn, nI c, fu, a1, a2, a3, a4, a5, a6, a7, a8)) :
    ∃ f, wL_balanced_65 post (nI i) (nI m) (nI r) f 0 (nI m) (nI r) fn (nI c) fu a1 a2 a3 a4 a5 a6 a7 a8 := by
  refine pk_loop (σ := Unit) (fun f s _ => wL_balanced_65 post (nI i) (nI m) (nI r) f (nI s) (nI m) (nI r) fn (nI c) fu a1 a2 a3 a4 a5 a6 a7 a8) (fun _ _ => True) m 0 () (by omega) trivial ?_ ?_
  · intro f _ _
    exact pk_le m m (fun _ => H) (fun z => absurd z (by omega))
  · intro f s _ hs _ hw
    exact pk_le m s (fun z => absurd z (by omega)) (fun _ => fw_b77 hm hr hu hF hi hs (hw () trivial))
theorem fw_b10 {post : Int32 → St2 → Prop} {fn fu : Int32} {a1 a2 a3 a4 a5 a6 a7 a8 : Nat → Int32} {m r c i : Nat} (hm : m ≤ 4) (hr : r ≤ 8) (hu : fu ≠ 0) (hF : fw_Fr m r c a1 a4 a5 a8) (hi : i < c)
    (H : post 1 (nI m, nI r, fn, nI c, fu, a1, a2, a3, a4, a5, a6, a7, a8)) :
    wpL_balanced post (nI m, nI r, fn, nI c, fu, a1, a2, a3, a4, a5, a6, a7, a8) (nI i) (nI m) (nI r) := by
  obtain ⟨h8, hk, hmk, _, _, _⟩ := hF.2.1 i hi
  unfold wpL_balanced
  dsimp only
  refine fw_suppt hu hF.1 hi h8 hk ?_
  refine pk_loop (σ := Unit) (fun f j _ => wL_balanced_10 post (nI i) (nI m) (nI r) (fb_su (a5 (fw_og a8 i))) f (nI j) (nI m) (nI r) fn (nI c) fu a1 a2 a3 a4 a5 a6 a7 a8) (fun _ _ => True) r 0 () (by omega) trivial ?_ ?_
  · intro f _ _
    exact pk_le r r (fun _ => fw_b65 hm hr hu hF hi H) (fun z => absurd z (by omega))
  · intro f j _ hj _ hw
    have eb := fb_su_b hmk (show j < 32 by omega)
    have e0 : a4 (8 * fw_og a8 i + j) = 0 ↔ fw_v a4 (fw_og a8 i) j = 0 := fb_eq0
    refine pk_le r j (fun z => absurd z (by omega)) (fun _ => br_c (fun z => ?_) (fun z => ?_))
    · rw [fb_shr1 (by omega), eb] at z
      have z2 := (of_decide_eq_true z).2
      exact fw_flux hr hj hu hF.1 hi h8 hk (br_f (fun y => z2 (e0.mp y)) (br_t rfl (nm_r (nI_1 j) (hw () trivial))))
    · rw [fb_shr1 (by omega), eb] at z
      have z2 : fw_v a4 (fw_og a8 i) j = 0 := by
        by_cases e : fw_v a4 (fw_og a8 i) j = 0
        · exact e
        · exact absurd (decide_eq_true ⟨by omega, e⟩) z
      exact fw_flux hr hj hu hF.1 hi h8 hk (br_t (e0.mpr z2) (br_t rfl (nm_r (nI_1 j) (hw () trivial))))
theorem fw_h75 {post : Int32 → St2 → Prop} {J : Int32 → fw_J6} {fn fu : Int32} {a1 a2 a3 a4 a5 a6 a7 a8 : Nat → Int32} {m r c i : Nat} {x1 x2 x4 : Int32} (hu : fu ≠ 0) (hF : fw_Fr m r c a1 a4 a5 a8) (hi : i < c)
    (H : J x4 (nI (i + 1)) (nI m) (nI r) fn (nI c) fu a1 a2 a3 a4 a5 a6 a7 a8) :
    ∃ f, wL_holds_75 post J x1 x2 (nI c) x4 (nI i) (fb_su (a5 (fw_og a8 i))) f 0 (nI m) (nI r) fn (nI c) fu a1 a2 a3 a4 a5 a6 a7 a8 := by
  have hc := hF.1
  refine pk_loop (σ := Unit) (fun f k _ => wL_holds_75 post J x1 x2 (nI c) x4 (nI i) (fb_su (a5 (fw_og a8 i))) f (nI k) (nI m) (nI r) fn (nI c) fu a1 a2 a3 a4 a5 a6 a7 a8) (fun _ _ => True) c 0 () (by omega) trivial ?_ ?_
  · intro f _ _
    exact pk_le c c (fun _ => nm_r (nI_1 i) H) (fun z => absurd z (by omega))
  · intro f k _ hk _ hw
    exact pk_le c k (fun z => absurd z (by omega)) (fun _ => fw_suppt hu hc hk (hF.2.1 k hk).1 (hF.2.1 k hk).2.1 (pk_eq k i (fun e => nm_r (nI_1 k) (hw () trivial)) (fun e => br_f (hF.2.2.2 k i hk hi e) (nm_r (nI_1 k) (hw () trivial)))))
theorem fw_1sh : ∀ r, r ≤ 8 → (1 : Int32) <<< (nI r &&& 31) = nI (2 ^ r) := by decide +kernel
theorem fw_h24 {post : Int32 → St2 → Prop} {fn fu : Int32} {a1 a2 a3 a4 a5 a6 a7 a8 : Nat → Int32} {m r c : Nat} (hm : m ≤ 4) (hr : r ≤ 8) (hu : fu ≠ 0) (hF : fw_Fr m r c a1 a4 a5 a8)
    (H : post 1 (nI m, nI r, fn, nI c, fu, a1, a2, a3, a4, a5, a6, a7, a8)) :
    ∃ f, wL_holds_24 post (nI m) (nI r) (nI c) f 0 0 (nI m) (nI r) fn (nI c) fu a1 a2 a3 a4 a5 a6 a7 a8 := by
  have hc := hF.1
  have hsu : ∀ i, i < c → ∃ n, 0 < n ∧ n < 2 ^ r ∧ fb_su (a5 (fw_og a8 i)) = nI n := fun i hi => by
    obtain ⟨h8, hk, hmk, hnz, hs, _⟩ := hF.2.1 i hi
    exact fb_su_r hmk hr hs hnz
  have h2r : 2 ^ r ≤ 256 := Nat.pow_le_pow_right (n := 2) (by omega) hr
  refine pk_loop (fun f i x => wL_holds_24 post (nI m) (nI r) (nI c) f x (nI i) (nI m) (nI r) fn (nI c) fu a1 a2 a3 a4 a5 a6 a7 a8) (fun i x => ∀ i', i ≤ i' → i' < c → x.toInt < fw_sn a5 (fw_og a8 i')) c 0 0 (by omega) (fun i' _ hi' => ?_) ?_ ?_
  · obtain ⟨n, n1, n2, n3⟩ := hsu i' hi'
    unfold fw_sn
    rw [n3, nI_toInt (by omega)]
    show (0 : Int) < n
    omega
  · intro f x h
    exact pk_le c c (fun _ => H) (fun z => absurd z (by omega))
  · intro f i x hi h hw
    obtain ⟨n, n1, n2, n3⟩ := hsu i hi
    refine pk_le c i (fun z => absurd z (by omega)) (fun _ => fw_suppt hu hc hi (hF.2.1 i hi).1 (hF.2.1 i hi).2.1 (br_f (fun z => ?_) (br_t ?_ (fw_b10 hm hr hu hF hi (br_f fw_10 (fw_h75 hu hF hi (hw _ (fun i' h1 h2 => ?_))))))))
    · rw [Int32.le_iff_toInt_le] at z
      have := h i (Nat.le_refl i) hi
      unfold fw_sn at this
      omega
    · rw [fw_1sh r hr, n3]
      exact nI_lt n2 (by omega)
    · exact hF.2.2.1 i i' (by omega) h2
/-- the state between the law's calls -/
def fw_Ok (m r : Nat) (fc fu : Int32) (a1 a4 a5 a8 : Nat → Int32) : Prop :=
  (∀ q, q < 32 → (a1 q).toInt.natAbs ≤ 3) ∧ (fu ≠ 0 → ∃ c, fc = nI c ∧ fw_Fr m r c a1 a4 a5 a8)
theorem fw_holds {post : Int32 → St2 → Prop} {fn fc fu : Int32} {a1 a2 a3 a4 a5 a6 a7 a8 : Nat → Int32} {m r : Nat} (hm : m ≤ 4) (hr : r ≤ 8) (hO : fw_Ok m r fc fu a1 a4 a5 a8)
    (H : ∀ fn' fc' fu' b4 b5 b6 b7 b8, fw_Ok m r fc' fu' a1 b4 b5 b8 → post 1 (nI m, nI r, fn', fc', fu', a1, a2, a3, b4, b5, b6, b7, b8)) :
    wpL_holds post (nI m, nI r, fn, fc, fu, a1, a2, a3, a4, a5, a6, a7, a8) (nI m) (nI r) := by
  refine fw_refresh hm hr (fun t ht j hj => hO.1 _ (by omega)) hO.2 (fun fn' c fu' b4 b5 b6 b7 b8 hu hF => ?_)
  have hc := hF.1
  refine br_f (nI_pos (by omega)) (br_t (nI_le (b := 256) (by omega) (by decide)) (fw_h24 hm hr hu hF (H _ _ _ _ _ _ _ _ ⟨hO.1, fun _ => ⟨c, rfl, hF⟩⟩)))
end
section
/-! the law -/
theorem fw_set {post : Int32 → St2 → Prop} {fn fc fu : Int32} {a1 a2 a3 a4 a5 a6 a7 a8 : Nat → Int32} {m r s j : Nat} {v : Int32} (hm : m ≤ 4) (hr : r ≤ 8) (hs : s < m) (hj : j < r) (hO : fw_Ok m r fc fu a1 a4 a5 a8)
    (H : ∀ y b1 fu', fw_Ok m r fc fu' b1 a4 a5 a8 → post y (nI m, nI r, fn, fc, fu', b1, a2, a3, a4, a5, a6, a7, a8)) :
    wpX_set post (nI m, nI r, fn, fc, fu, a1, a2, a3, a4, a5, a6, a7, a8) (nI s) (nI j) v := by
  unfold wpX_set
  dsimp only
  refine fw_subs hm hs (br_f fw_10 (fw_reac hr hj (br_f fw_10 (br_c (fun z => H _ a1 fu hO) (fun z => br_c (fun y => ⟨fw_in (by omega) (by omega), fw_up (8 * s + j) (fw_cl (by omega)) (H _ (upd a1 (8 * s + j) v) 0 ⟨fun q hq => ?_, fun h => absurd rfl h⟩)⟩) (fun y => H _ a1 fu hO))))))
  by_cases e : q = 8 * s + j
  · rw [e, pk_us]
    rw [Int32.lt_iff_toInt_lt, show (-3 : Int32).toInt = -3 from rfl] at z
    rw [Int32.le_iff_toInt_le, show (3 : Int32).toInt = 3 from rfl] at y
    omega
  · rw [pk_un e]
    exact hO.1 q hq
theorem fw_turn {post : Int32 → St2 → Prop} {fm fn fc fu : Int32} {a1 a2 a3 a4 a5 a6 a7 a8 : Nat → Int32} {r j : Nat} {v : Int32} (hr : r ≤ 8) (hj : j < r)
    (H : ∀ y b3, post y (fm, nI r, fn, fc, 0, a1, a2, b3, a4, a5, a6, a7, a8)) :
    wpX_turn post (fm, nI r, fn, fc, fu, a1, a2, a3, a4, a5, a6, a7, a8) (nI j) v := by
  unfold wpX_turn
  dsimp only
  have k : ∀ z, wX_turn_24 post (nI j) v z fm (nI r) fn fc fu a1 a2 a3 a4 a5 a6 a7 a8 := fun z =>
    br_c (fun _ => ⟨pk_in j 8 (by omega), nm_e (H _ _)⟩) (fun _ => ⟨pk_in j 8 (by omega), nm_e (H _ _)⟩)
  exact fw_reac hr hj (br_f fw_10 ⟨pk_in j 8 (by omega), br_c (fun _ => k 0) (fun _ => k 1)⟩)
theorem fw_twoWay {post : Int32 → St2 → Prop} {fm fn fc fu : Int32} {a1 a2 a3 a4 a5 a6 a7 a8 : Nat → Int32} {r j : Nat} {v : Int32} (hr : r ≤ 8) (hj : j < r)
    (H : ∀ y b2, post y (fm, nI r, fn, fc, 0, a1, b2, a3, a4, a5, a6, a7, a8)) :
    wpX_twoWay post (fm, nI r, fn, fc, fu, a1, a2, a3, a4, a5, a6, a7, a8) (nI j) v := by
  unfold wpX_twoWay
  dsimp only
  have k : ∀ z, wX_twoWay_24 post (nI j) v z fm (nI r) fn fc fu a1 a2 a3 a4 a5 a6 a7 a8 := fun z =>
    br_c (fun _ => ⟨pk_in j 8 (by omega), nm_e (H _ _)⟩) (fun _ => ⟨pk_in j 8 (by omega), nm_e (H _ _)⟩)
  exact fw_reac hr hj (br_f fw_10 ⟨pk_in j 8 (by omega), br_c (fun _ => k 0) (fun _ => k 1)⟩)
theorem fw_init {post : St2 → Prop} {m r : Nat} (hm1 : 1 ≤ m) (hm : m ≤ 4) (hr1 : 2 ≤ r) (hr : r ≤ 8)
    (H : ∀ a3, post (nI m, nI r, 0, 0, 0, fun _ => 0, fun _ => 0, a3, fun _ => 0, fun _ => 0, fun _ => 0, fun _ => 0, fun _ => 0)) : wpX_init post 8 3648 (0, 0, 0, 0, 0) (nI m) (nI r) := by
  refine ⟨by omega, by omega, by omega, by omega, by omega, by omega, by omega, by omega, by omega, by omega, by omega, by omega, by omega, by omega, by omega, by omega, ?_⟩
  refine pk_le 1 m (fun _ => ?_) (fun z => absurd z (by omega))
  refine pk_le m 4 (fun _ => ?_) (fun z => absurd z (by omega))
  refine pk_le 2 r (fun _ => ?_) (fun z => absurd z (by omega))
  refine pk_le r 8 (fun _ => ?_) (fun z => absurd z (by omega))
  refine pk_loop (fun f i a => wX_init_131 post 8 3648 8 3648 (nI m) (nI r) 0 0 0 f (nI i) (fun _ => 0) (fun _ => 0) a (fun _ => 0) (fun _ => 0) (fun _ => 0) (fun _ => 0) (fun _ => 0)) (fun _ _ => True) 8 0 (fun _ => 0) (by omega) trivial ?_ ?_
  · intro f a _
    exact pk_le 8 8 (fun _ => H a) (fun z => absurd z (by omega))
  · intro f i a hi _ hw
    exact pk_le 8 i (fun z => absurd z (by omega)) (fun _ => ⟨pk_in i 8 hi, nm_e (nm_r (nI_1 i) (hw _ trivial))⟩)
theorem fw_cell {post : Int32 → Prop} {L : Nat} {xs : Nat → Int32} {k : Nat} (hL : L ≤ 260) (hk : k < 2 ^ 31) (H : ∀ y, post y) : wpL_cell post L xs () (nI k) :=
  pk_le L k (fun _ => H _) (fun z => ⟨pk_in k L z, H _⟩)
theorem fw_155 {post : Int32 → Prop} {L : Nat} {xs : Nat → Int32} {J : fw_J6} {x5 : Int32} {kc ks k : Nat} {fn fc fu : Int32} {a1 a2 a3 a4 a5 a6 a7 a8 : Nat → Int32} {m r : Nat} (hm : m ≤ 4) (hr : r ≤ 8) (hO : fw_Ok m r fc fu a1 a4 a5 a8)
    (H : ∀ fn' fc' fu' b4 b5 b6 b7 b8, fw_Ok m r fc' fu' a1 b4 b5 b8 → J (nI (k + 2)) (nI m) (nI r) fn' fc' fu' a1 a2 a3 b4 b5 b6 b7 b8) :
    wL_law_155 post L xs J (nI m) (nI r) (nI k) x5 kc ks (nI m) (nI r) fn fc fu a1 a2 a3 a4 a5 a6 a7 a8 :=
  br_c (fun _ => fw_holds hm hr hO (fun fn' fc' fu' b4 b5 b6 b7 b8 h => br_f fw_10 (nm_r (nI_add k 2) (H fn' fc' fu' b4 b5 b6 b7 b8 h)))) (fun _ => nm_r (nI_add k 2) (H _ _ _ _ _ _ _ _ hO))
abbrev fw_T11 : Type := Int32 × Int32 × Int32 × (Nat → Int32) × (Nat → Int32) × (Nat → Int32) × (Nat → Int32) × (Nat → Int32) × (Nat → Int32) × (Nat → Int32) × (Nat → Int32)
theorem fw_law {L : Nat} {xs : Nat → Int32} {kc ks : Nat} {fn fc fu : Int32} {a1 a2 a3 a4 a5 a6 a7 a8 : Nat → Int32} {m r : Nat} (hL : L ≤ 260) (hm1 : 1 ≤ m) (hm : m ≤ 4) (hr1 : 2 ≤ r) (hr : r ≤ 8) (hO : fw_Ok m r fc fu a1 a4 a5 a8) :
    ∃ f, wL_law_37 (fun r => r = 1) L xs (nI m) (nI r) kc ks f 2 (nI m) (nI r) fn fc fu a1 a2 a3 a4 a5 a6 a7 a8 := by
  refine pk_loop (σ := fw_T11) (fun f i st => wL_law_37 (fun r => r = 1) L xs (nI m) (nI r) kc ks f (nI (2 + 2 * i)) (nI m) (nI r) st.1 st.2.1 st.2.2.1 st.2.2.2.1 st.2.2.2.2.1 st.2.2.2.2.2.1 st.2.2.2.2.2.2.1 st.2.2.2.2.2.2.2.1 st.2.2.2.2.2.2.2.2.1 st.2.2.2.2.2.2.2.2.2.1 st.2.2.2.2.2.2.2.2.2.2) (fun _ st => fw_Ok m r st.2.1 st.2.2.1 st.2.2.2.1 st.2.2.2.2.2.2.1 st.2.2.2.2.2.2.2.1 st.2.2.2.2.2.2.2.2.2.2) ((L - 1) / 2) 0 (fn, fc, fu, a1, a2, a3, a4, a5, a6, a7, a8) (by omega) hO ?_ ?_
  · intro f st h
    exact pk_le L (2 + 2 * ((L - 1) / 2)) (fun _ => fw_holds hm hr h (fun fn' fc' fu' b4 b5 b6 b7 b8 _ => rfl)) (fun z => absurd z (by omega))
  · intro f i st hi h hw
    obtain ⟨fn, fc, fu, a1, a2, a3, a4, a5, a6, a7, a8⟩ := st
    dsimp only at h
    refine pk_le L (2 + 2 * i) (fun z => absurd z (by omega)) (fun _ => fw_cell hL (by omega) (fun y => ?_))
    rw [nI_1]
    refine fw_cell hL (by omega) (fun x => ?_)
    obtain ⟨d, hd, ed⟩ := pk_andE x (m := 7) 3 (by decide)
    obtain ⟨t, ht, et⟩ := pk_andE (x >>> ((3 : Int32) &&& 31)) (m := 3) 2 (by decide)
    have jlt : d % r < r := Nat.mod_lt _ (by omega)
    have slt : t % m < m := Nat.mod_lt _ (by omega)
    have ej : (x &&& 7) - (x &&& 7) / nI r * nI r = nI (d % r) := by
      rw [ed]
      exact pk_rem (by omega) (by omega) (by omega)
    have es : ((x >>> ((3 : Int32) &&& 31)) &&& 3) - ((x >>> ((3 : Int32) &&& 31)) &&& 3) / nI m * nI m = nI (t % m) := by
      rw [et]
      exact pk_rem (by omega) (by omega) (by omega)
    have nx : ∀ fn' fc' fu' b1 b2 b3 b4 b5 b6 b7 b8, fw_Ok m r fc' fu' b1 b4 b5 b8 → wL_law_37 (fun r => r = 1) L xs (nI m) (nI r) kc ks f (nI (2 + 2 * i + 2)) (nI m) (nI r) fn' fc' fu' b1 b2 b3 b4 b5 b6 b7 b8 := fun fn' fc' fu' b1 b2 b3 b4 b5 b6 b7 b8 h' => hw (fn', fc', fu', b1, b2, b3, b4, b5, b6, b7, b8) h'
    refine ⟨nI_ne0 (by omega) (by omega), nm_r ej ⟨nI_ne0 (by omega) (by omega), nm_r es (nm_e ?_)⟩⟩
    refine br_c (fun _ => br_c (fun _ => ?_) (fun _ => ?_)) (fun _ => ?_)
    · exact fw_twoWay hr jlt (fun y b2 => fw_155 hm hr ⟨h.1, fun e => absurd rfl e⟩ (fun fn' fc' fu' b4 b5 b6 b7 b8 h' => nx _ _ _ _ _ _ _ _ _ _ _ h'))
    · exact fw_turn hr jlt (fun y b3 => fw_155 hm hr ⟨h.1, fun e => absurd rfl e⟩ (fun fn' fc' fu' b4 b5 b6 b7 b8 h' => nx _ _ _ _ _ _ _ _ _ _ _ h'))
    · exact fw_set hm hr slt jlt h (fun y b1 fu' h2 => fw_155 hm hr h2 (fun fn' fc' fu' b4 b5 b6 b7 b8 h' => nx _ _ _ _ _ _ _ _ _ _ _ h'))
theorem i_vc (xs : Nat → Int32) (L : Nat) (hL : L ≤ 260) : wpL_law (fun r => r = 1) L xs := by
  refine fw_cell (k := 0) hL (by decide) (fun y => ?_)
  obtain ⟨a, ha, ea⟩ := pk_andE y (m := 3) 2 (by decide)
  refine nm_r (e' := nI (1 + a)) (by rw [ea]; exact nI_add 1 a) ?_
  refine fw_cell (k := 1) hL (by decide) (fun x => ?_)
  obtain ⟨b, hb, eb⟩ := pk_andE x (m := 2147483647) 31 (by decide)
  have hb7 : b % 7 < 7 := Nat.mod_lt _ (by omega)
  refine ⟨by decide, nm_r (e' := nI (2 + b % 7)) ?_ ⟨8, 3648, by omega, by omega, ?_⟩⟩
  · rw [eb, show nI b - nI b / 7 * 7 = nI (b % 7) from pk_rem (d := 7) hb (by omega) (by omega)]
    exact nI_add 2 (b % 7)
  · exact fw_init (by omega) (by omega) (by omega) (by omega) (fun a3 => fw_law hL (by omega) (by omega) (by omega) (by omega) ⟨fun q _ => by show (0 : Int32).toInt.natAbs ≤ 3; decide, fun e => absurd rfl e⟩)
end
