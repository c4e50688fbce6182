section
/-! ===== walks, potentials, the least ratio: no program in sight ===== -/
/-- a walk of k arcs from u to v, of weight x and time y -/
def mc_Wk (E : Nat → Nat → Prop) (w t : Nat → Nat → Int) : Nat → Nat → Nat → Int → Int → Prop
  | 0 => fun u v x y => u = v ∧ x = 0 ∧ y = 0
  | k + 1 => fun u v x y => ∃ (m : Nat) (x' y' : Int), mc_Wk E w t k u m x' y' ∧ E m v ∧ x = x' + w m v ∧ y = y' + t m v
theorem mc_Wk_one {E : Nat → Nat → Prop} {w t : Nat → Nat → Int} {u v : Nat} (h : E u v) : mc_Wk E w t 1 u v (w u v) (t u v) :=
  ⟨u, 0, 0, ⟨rfl, rfl, rfl⟩, h, by omega, by omega⟩
theorem mc_Wk_cat {E : Nat → Nat → Prop} {w t : Nat → Nat → Int} {k u m : Nat} {x y : Int} (h : mc_Wk E w t k u m x y) :
    ∀ (l v : Nat) (x' y' : Int), mc_Wk E w t l m v x' y' → mc_Wk E w t (k + l) u v (x + x') (y + y') := by
  intro l
  induction l with
  | zero =>
    intro v x' y' g
    obtain ⟨e1, e2, e3⟩ := g
    subst e1 e2 e3
    rw [Int.add_zero, Int.add_zero]
    exact h
  | succ l ih =>
    intro v x' y' g
    obtain ⟨m', a, b, g1, g2, g3, g4⟩ := g
    exact ⟨m', x + a, y + b, ih m' a b g1, g2, by omega, by omega⟩
theorem mc_Wk_front {E : Nat → Nat → Prop} {w t : Nat → Nat → Int} {k u m v : Nat} {x y : Int} (e : E u m) (h : mc_Wk E w t k m v x y) :
    mc_Wk E w t (k + 1) u v (x + w u m) (y + t u m) := by
  have g := mc_Wk_cat (mc_Wk_one (w := w) (t := t) e) k v x y h
  rw [Nat.add_comm 1 k, Int.add_comm _ x, Int.add_comm _ y] at g
  exact g
theorem mc_Wk_mono {E F : Nat → Nat → Prop} {w t : Nat → Nat → Int} (H : ∀ u v, E u v → F u v) :
    ∀ (k u v : Nat) (x y : Int), mc_Wk E w t k u v x y → mc_Wk F w t k u v x y := by
  intro k
  induction k with
  | zero => intro u v x y h; exact h
  | succ k ih =>
    intro u v x y h
    obtain ⟨m, a, b, h1, h2, h3, h4⟩ := h
    exact ⟨m, a, b, ih u m a b h1, H m v h2, h3, h4⟩
/-- a walk keeps, whatever is weighed beside it -/
theorem mc_Wk_any {E : Nat → Nat → Prop} {w t w' t' : Nat → Nat → Int} :
    ∀ (k u v : Nat) (x y : Int), mc_Wk E w t k u v x y → ∃ x' y', mc_Wk E w' t' k u v x' y' := by
  intro k
  induction k with
  | zero => intro u v x y h; exact ⟨0, 0, h.1, rfl, rfl⟩
  | succ k ih =>
    intro u v x y h
    obtain ⟨m, a, b, h1, h2, h3, h4⟩ := h
    obtain ⟨a', b', g⟩ := ih u m a b h1
    exact ⟨_, _, m, a', b', g, h2, rfl, rfl⟩
theorem mc_Wk_time {E : Nat → Nat → Prop} {w t : Nat → Nat → Int} (ht : ∀ u v, E u v → 1 ≤ t u v) :
    ∀ (k u v : Nat) (x y : Int), mc_Wk E w t k u v x y → (k : Int) ≤ y := by
  intro k
  induction k with
  | zero => intro u v x y h; obtain ⟨e1, e2, e3⟩ := h; omega
  | succ k ih =>
    intro u v x y h
    obtain ⟨m, a, b, h1, h2, h3, h4⟩ := h
    have := ih u m a b h1
    have := ht m v h2
    omega
/-- times that agree on the arcs give the same walks -/
theorem mc_Wk_cong {E : Nat → Nat → Prop} {w t t' : Nat → Nat → Int} (H : ∀ u v, E u v → t u v = t' u v) :
    ∀ (k u v : Nat) (x y : Int), mc_Wk E w t k u v x y → mc_Wk E w t' k u v x y := by
  intro k
  induction k with
  | zero => intro u v x y h; exact h
  | succ k ih =>
    intro u v x y h
    obtain ⟨m, a, b, h1, h2, h3, h4⟩ := h
    exact ⟨m, a, b, ih u m a b h1, h2, h3, by rw [h4, H m v h2]⟩
/-- a potential: no arc shortens -/
def mc_pot (E : Nat → Nat → Prop) (w t : Nat → Nat → Int) (p q : Int) (d : Nat → Int) : Prop :=
  ∀ u v, E u v → d v ≤ d u + (w u v * q - p * t u v)
theorem mc_pot_Wk {E : Nat → Nat → Prop} {w t : Nat → Nat → Int} {p q : Int} {d : Nat → Int} (hd : mc_pot E w t p q d) :
    ∀ (k u v : Nat) (x y : Int), mc_Wk E w t k u v x y → d v ≤ d u + (x * q - p * y) := by
  intro k
  induction k with
  | zero =>
    intro u v x y h
    obtain ⟨e1, e2, e3⟩ := h
    subst e1 e2 e3
    rw [Int.zero_mul, Int.mul_zero]
    omega
  | succ k ih =>
    intro u v x y h
    obtain ⟨m, a, b, h1, h2, h3, h4⟩ := h
    have i1 := ih u m a b h1
    have i2 := hd m v h2
    rw [h3, h4, Int.add_mul, Int.mul_add]
    omega
/-- a walk as short as the potential allows has tight arcs alone -/
theorem mc_tight {E : Nat → Nat → Prop} {w t : Nat → Nat → Int} {p q : Int} {d : Nat → Int} (hd : mc_pot E w t p q d) :
    ∀ (k u v : Nat) (x y : Int), mc_Wk E w t k u v x y → d u + (x * q - p * y) ≤ d v →
      mc_Wk (fun a b => E a b ∧ d b = d a + (w a b * q - p * t a b)) w t k u v x y := by
  intro k
  induction k with
  | zero => intro u v x y h _; exact h
  | succ k ih =>
    intro u v x y h hl
    obtain ⟨m, a, b, h1, h2, h3, h4⟩ := h
    have i1 := mc_pot_Wk hd k u m a b h1
    have i2 := hd m v h2
    rw [h3, h4, Int.add_mul, Int.mul_add] at hl
    exact ⟨m, a, b, ih u m a b h1 (by omega), ⟨h2, by omega⟩, h3, h4⟩
/-- a walk goes by the arc a0 b0 or it doesn't -/
theorem mc_split {E : Nat → Nat → Prop} {w t : Nat → Nat → Int} (a0 b0 : Nat) :
    ∀ (k u v : Nat) (x y : Int), mc_Wk E w t k u v x y →
      mc_Wk (fun a b => E a b ∧ ¬ (a = a0 ∧ b = b0)) w t k u v x y ∨
      (∃ (k1 k2 : Nat) (x1 y1 x2 y2 : Int), mc_Wk E w t k1 u a0 x1 y1 ∧ E a0 b0 ∧ mc_Wk E w t k2 b0 v x2 y2) := by
  intro k
  induction k with
  | zero => intro u v x y h; exact Or.inl h
  | succ k ih =>
    intro u v x y h
    obtain ⟨m, a, b, h1, h2, h3, h4⟩ := h
    rcases ih u m a b h1 with g | g
    · by_cases c : m = a0 ∧ v = b0
      · obtain ⟨c1, c2⟩ := c
        subst c1 c2
        exact Or.inr ⟨k, 0, a, b, 0, 0, h1, h2, rfl, rfl, rfl⟩
      · exact Or.inl ⟨m, a, b, g, ⟨h2, c⟩, h3, h4⟩
    · obtain ⟨k1, k2, x1, y1, x2, y2, g1, g2, g3⟩ := g
      exact Or.inr ⟨k1, k2 + 1, x1, y1, x2 + w m v, y2 + t m v, g1, g2, m, x2, y2, g3, h2, rfl, rfl⟩
/-- p / q is the least ratio, in lowest terms -/
def mc_Min (E : Nat → Nat → Prop) (w t : Nat → Nat → Int) (p q : Int) : Prop :=
  1 ≤ q ∧ Nat.Coprime p.natAbs q.natAbs ∧ (∃ d, mc_pot E w t p q d) ∧ ∃ (k u : Nat) (x y : Int), mc_Wk E w t (k + 1) u u x y ∧ x * q = p * y
/-- no circle -/
def mc_No (E : Nat → Nat → Prop) : Prop := ∀ (w t : Nat → Nat → Int) (k u : Nat) (x y : Int), ¬ mc_Wk E w t (k + 1) u u x y
theorem mc_low {p q p' q' : Int} (hq : 1 ≤ q) (hq' : 1 ≤ q') (c : Nat.Coprime p.natAbs q.natAbs) (c' : Nat.Coprime p'.natAbs q'.natAbs)
    (e : p * q' = p' * q) : p = p' ∧ q = q' := by
  have en : p.natAbs * q'.natAbs = p'.natAbs * q.natAbs := by
    rw [← Int.natAbs_mul, ← Int.natAbs_mul, e]
  have d1 : q.natAbs ∣ q'.natAbs := Nat.Coprime.dvd_of_dvd_mul_left c.symm (by rw [en]; exact Nat.dvd_mul_left _ _)
  have d2 : q'.natAbs ∣ q.natAbs := Nat.Coprime.dvd_of_dvd_mul_left c'.symm (by rw [← en]; exact Nat.dvd_mul_left _ _)
  have e1 : q.natAbs = q'.natAbs := Nat.dvd_antisymm d1 d2
  have e2 : q = q' := by omega
  subst e2
  exact ⟨Int.eq_of_mul_eq_mul_right (by omega) e, rfl⟩
theorem mc_le {E : Nat → Nat → Prop} {w t : Nat → Nat → Int} {p q p' q' : Int} {d : Nat → Int} (ht : ∀ u v, E u v → 1 ≤ t u v) (hq : 1 ≤ q)
    (hd : mc_pot E w t p' q' d) {k u : Nat} {x y : Int} (hw : mc_Wk E w t (k + 1) u u x y) (e : x * q = p * y) : p' * q ≤ p * q' := by
  have h1 := mc_pot_Wk hd _ _ _ _ _ hw
  have h2 := mc_Wk_time ht _ _ _ _ _ hw
  have h3 : p' * y ≤ x * q' := by omega
  have h4 : p' * y * q ≤ x * q' * q := Int.mul_le_mul_of_nonneg_right h3 (by omega)
  have e1 : p' * q * y = p' * y * q := Int.mul_right_comm _ _ _
  have e2 : p * q' * y = x * q' * q := by rw [Int.mul_right_comm p q' y, ← e, Int.mul_right_comm x q q']
  exact Int.le_of_mul_le_mul_right (a := y) (by rw [e1, e2]; exact h4) (by omega)
theorem mc_uniq {E : Nat → Nat → Prop} {w t : Nat → Nat → Int} {p q p' q' : Int} (ht : ∀ u v, E u v → 1 ≤ t u v) (h : mc_Min E w t p q)
    (h' : mc_Min E w t p' q') : p = p' ∧ q = q' := by
  obtain ⟨q1, c1, ⟨d1, p1⟩, k1, u1, x1, y1, w1, e1⟩ := h
  obtain ⟨q2, c2, ⟨d2, p2⟩, k2, u2, x2, y2, w2, e2⟩ := h'
  have a := mc_le ht q1 p2 w1 e1
  have b := mc_le ht q2 p1 w2 e2
  exact mc_low q1 q2 c1 c2 (by omega)
theorem mc_Min_cong {E : Nat → Nat → Prop} {w t t' : Nat → Nat → Int} {p q : Int} (H : ∀ u v, E u v → t u v = t' u v) (h : mc_Min E w t p q) : mc_Min E w t' p q := by
  obtain ⟨q1, c1, ⟨d, p1⟩, k1, u1, x1, y1, w1, e1⟩ := h
  refine ⟨q1, c1, ⟨d, fun u v e => ?_⟩, k1, u1, x1, y1, mc_Wk_cong H _ _ _ _ _ w1, e1⟩
  rw [← H u v e]
  exact p1 u v e
theorem mc_Min_yes {E : Nat → Nat → Prop} {w t : Nat → Nat → Int} {p q : Int} (h : mc_Min E w t p q) : ¬ mc_No E := by
  obtain ⟨_, _, _, k1, u1, x1, y1, w1, _⟩ := h
  exact fun n => n w t k1 u1 x1 y1 w1
theorem mc_No_mono {E F : Nat → Nat → Prop} (H : ∀ u v, E u v → F u v) (h : mc_No F) : mc_No E :=
  fun w t k u x y g => h w t k u x y (mc_Wk_mono H _ _ _ _ _ g)
/-- some walk of one arc or more -/
def mc_Re (E : Nat → Nat → Prop) (a b : Nat) : Prop := ∃ (k : Nat) (x y : Int), mc_Wk E (fun _ _ => 0) (fun _ _ => 0) (k + 1) a b x y
theorem mc_Re_one {E : Nat → Nat → Prop} {a b : Nat} (h : E a b) : mc_Re E a b := ⟨0, _, _, mc_Wk_one h⟩
theorem mc_Re_tr {E : Nat → Nat → Prop} {a b c : Nat} (h : mc_Re E a b) (g : mc_Re E b c) : mc_Re E a c := by
  obtain ⟨k, x, y, h⟩ := h
  obtain ⟨l, x', y', g⟩ := g
  have t := mc_Wk_cat h (l + 1) c x' y' g
  rw [show k + 1 + (l + 1) = (k + l + 1) + 1 by omega] at t
  exact ⟨k + l + 1, _, _, t⟩
theorem mc_Re_mono {E F : Nat → Nat → Prop} (H : ∀ u v, E u v → F u v) {a b : Nat} (h : mc_Re E a b) : mc_Re F a b := by
  obtain ⟨k, x, y, h⟩ := h
  exact ⟨k, x, y, mc_Wk_mono H _ _ _ _ _ h⟩
/-- what holds the arcs and goes through holds the walks -/
theorem mc_Re_in {E S : Nat → Nat → Prop} (h1 : ∀ a b, E a b → S a b) (h2 : ∀ a b c, S a b → S b c → S a c) {w t : Nat → Nat → Int} :
    ∀ (k a b : Nat) (x y : Int), mc_Wk E w t (k + 1) a b x y → S a b := by
  intro k
  induction k with
  | zero =>
    intro a b x y h
    obtain ⟨m, x', y', ⟨e, _, _⟩, g, _, _⟩ := h
    rw [e]
    exact h1 m b g
  | succ k ih =>
    intro a b x y h
    obtain ⟨m, x', y', g1, g2, _, _⟩ := h
    exact h2 a m b (ih a m x' y' g1) (h1 m b g2)
theorem mc_Re_No {E : Nat → Nat → Prop} : mc_No E ↔ ∀ u, ¬ mc_Re E u u := by
  constructor
  · intro h u ⟨k, x, y, g⟩
    exact h _ _ k u x y g
  · intro h w t k u x y g
    obtain ⟨x', y', g'⟩ := mc_Wk_any (w' := fun _ _ => 0) (t' := fun _ _ => 0) _ _ _ _ _ g
    exact h u ⟨k, x', y', g'⟩
/-- cutting an arc that is not tight, or that no tight walk closes, leaves the least ratio -/
theorem mc_idle {E : Nat → Nat → Prop} {w t : Nat → Nat → Int} {p q : Int} {d : Nat → Int} (hm : mc_Min E w t p q) (hd : mc_pot E w t p q d) {a0 b0 : Nat}
    (hn : ¬ ((E a0 b0 ∧ d b0 = d a0 + (w a0 b0 * q - p * t a0 b0)) ∧ (a0 = b0 ∨ mc_Re (fun a b => E a b ∧ d b = d a + (w a b * q - p * t a b)) b0 a0))) :
    mc_Min (fun a b => E a b ∧ ¬ (a = a0 ∧ b = b0)) w t p q := by
  obtain ⟨q1, c1, _, k, u, x, y, w1, e1⟩ := hm
  refine ⟨q1, c1, ⟨d, fun u v h => hd u v h.1⟩, k, u, x, y, ?_, e1⟩
  have t1 := mc_tight hd _ _ _ _ _ w1 (by omega)
  rcases mc_split a0 b0 _ _ _ _ _ t1 with g | g
  · exact mc_Wk_mono (fun a b h => ⟨h.1.1, h.2⟩) _ _ _ _ _ g
  · obtain ⟨k1, k2, x1, y1, x2, y2, g1, g2, g3⟩ := g
    refine absurd ⟨g2, ?_⟩ hn
    have g4 := mc_Wk_cat g3 k1 a0 x1 y1 g1
    rcases Nat.eq_zero_or_pos (k2 + k1) with z | z
    · rw [z] at g4
      exact Or.inl g4.1.symm
    · obtain ⟨j, hj⟩ : ∃ j, k2 + k1 = j + 1 := ⟨k2 + k1 - 1, by omega⟩
      rw [hj] at g4
      obtain ⟨x', y', g'⟩ := mc_Wk_any (w' := fun _ _ => 0) (t' := fun _ _ => 0) _ _ _ _ _ g4
      exact Or.inr ⟨j, x', y', g'⟩
/-! ===== counting ===== -/
theorem mc_pigeon : ∀ (n : Nat) (f : Nat → Nat), (∀ i, i ≤ n → f i < n) → ∃ i j, i < j ∧ j ≤ n ∧ f i = f j := by
  intro n
  induction n with
  | zero => intro f h; exact absurd (h 0 (Nat.le_refl 0)) (by omega)
  | succ n ih =>
    intro f h
    by_cases hc : ∃ i, i < n + 1 ∧ f i = f (n + 1)
    · obtain ⟨i, hi, e⟩ := hc
      exact ⟨i, n + 1, hi, Nat.le_refl _, e⟩
    · have hne : ∀ i, i < n + 1 → f i ≠ f (n + 1) := fun i hi e => hc ⟨i, hi, e⟩
      obtain ⟨i, j, hij, hj, e⟩ := ih (fun i => if f i = n then f (n + 1) else f i) (fun i hi => by
        have h1 := h i (by omega)
        have h2 := h (n + 1) (Nat.le_refl _)
        have h3 := hne i (by omega)
        show (if f i = n then f (n + 1) else f i) < n
        split <;> omega)
      have hi3 := hne i (by omega)
      have hj3 := hne j (by omega)
      refine ⟨i, j, hij, by omega, ?_⟩
      have e' : (if f i = n then f (n + 1) else f i) = (if f j = n then f (n + 1) else f j) := e
      by_cases ci : f i = n
      · by_cases cj : f j = n
        · rw [ci, cj]
        · rw [if_pos ci, if_neg cj] at e'
          exact absurd e'.symm hj3
      · by_cases cj : f j = n
        · rw [if_neg ci, if_pos cj] at e'
          exact absurd e' hi3
        · rw [if_neg ci, if_neg cj] at e'
          exact e'
theorem mc_least (F : Nat → Prop) (g : Nat → Int) (h0 : F 0) : ∀ m, 1 ≤ m → ∃ k, k < m ∧ F k ∧ ∀ j, j < m → F j → g k ≤ g j := by
  intro m
  induction m with
  | zero => intro hm; omega
  | succ m ih =>
    intro hm
    rcases Nat.eq_zero_or_pos m with z | z
    · subst z
      refine ⟨0, by omega, h0, fun j hj _ => ?_⟩
      have e : j = 0 := by omega
      rw [e]
      exact Int.le_refl _
    · obtain ⟨k, hk, fk, hm'⟩ := ih z
      by_cases c : F m ∧ g m < g k
      · refine ⟨m, by omega, c.1, fun j hj fj => ?_⟩
        by_cases e : j = m
        · rw [e]
          exact Int.le_refl _
        · have := hm' j (by omega) fj
          have := c.2
          omega
      · refine ⟨k, by omega, fk, fun j hj fj => ?_⟩
        by_cases e : j = m
        · subst e
          by_cases l : g j < g k
          · exact absurd ⟨fj, l⟩ c
          · omega
        · exact hm' j (by omega) fj
/-! ===== Karp's table ===== -/
/-- D k v: the least weight of walks of k arcs that end at v, 10^9 or more where there is none -/
def mc_K (n : Nat) (E : Nat → Nat → Prop) (w : Nat → Nat → Int) (D : Nat → Nat → Int) : Prop :=
  (∀ v, v < 6 → D 0 v = 0) ∧
  (∀ k u v, k < n → E u v → D k u < 1000000000 → D (k + 1) v ≤ D k u + w u v) ∧
  (∀ k v, k < n → v < 6 → D (k + 1) v < 1000000000 → ∃ u, E u v ∧ D k u < 1000000000 ∧ D (k + 1) v = D k u + w u v) ∧
  (∀ k v, k ≤ n → v < 6 → D k v < 1000000000 → -20 * (k : Int) ≤ D k v ∧ D k v ≤ 20 * (k : Int))
theorem mc_K_next {n : Nat} {E : Nat → Nat → Prop} {w : Nat → Nat → Int} {D : Nat → Nat → Int} (hn : n ≤ 6) (hE : ∀ u v, E u v → u < n ∧ v < n)
    (hw : ∀ u v, E u v → -20 ≤ w u v ∧ w u v ≤ 20) (K : mc_K n E w D) {k u v : Nat} (hk : k < n) (e : E u v) (h : D k u < 1000000000) :
    D (k + 1) v < 1000000000 ∧ D (k + 1) v ≤ D k u + w u v := by
  obtain ⟨K0, K1, K2, K3⟩ := K
  have h1 := K1 k u v hk e h
  have h2 := hE u v e
  have h3 := K3 k u (by omega) (by omega) h
  have h4 := hw u v e
  exact ⟨by omega, h1⟩
theorem mc_karp_pot {n : Nat} {E : Nat → Nat → Prop} {w : Nat → Nat → Int} {D : Nat → Nat → Int} {p q : Int} (h1n : 1 ≤ n) (hn : n ≤ 6)
    (hE : ∀ u v, E u v → u < n ∧ v < n) (hw : ∀ u v, E u v → -20 ≤ w u v ∧ w u v ≤ 20) (K : mc_K n E w D) (hq : 1 ≤ q)
    (H : ∀ v, v < n → D n v < 1000000000 → ∃ k, k < n ∧ D k v < 1000000000 ∧ p * ((n : Int) - (k : Int)) ≤ (D n v - D k v) * q) :
    ∃ d, mc_pot E w (fun _ _ => 1) p q d := by
  have hc : ∀ v, ∃ d : Int, v < 6 → (∃ k, k < n ∧ D k v < 1000000000 ∧ d = D k v * q - p * (k : Int)) ∧ ∀ j, j < n → D j v < 1000000000 → d ≤ D j v * q - p * (j : Int) := by
    intro v
    by_cases hv : v < 6
    · obtain ⟨k, hk, fk, hm⟩ := mc_least (fun k => D k v < 1000000000) (fun k => D k v * q - p * (k : Int)) (show D 0 v < 1000000000 by rw [K.1 v hv]; decide) n h1n
      exact ⟨_, fun _ => ⟨⟨k, hk, fk, rfl⟩, hm⟩⟩
    · exact ⟨0, fun z => absurd z hv⟩
  obtain ⟨d, hd⟩ := Classical.axiomOfChoice hc
  refine ⟨d, fun u v e => ?_⟩
  have hh := hE u v e
  obtain ⟨⟨k, hk, fk, ek⟩, _⟩ := hd u (by omega)
  obtain ⟨_, hv⟩ := hd v (by omega)
  obtain ⟨f1, l1⟩ := mc_K_next hn hE hw K hk e fk
  have m1 : D (k + 1) v * q ≤ (D k u + w u v) * q := Int.mul_le_mul_of_nonneg_right l1 (by omega)
  rw [Int.add_mul] at m1
  show d v ≤ d u + (w u v * q - p * 1)
  rw [Int.mul_one]
  by_cases c : k + 1 < n
  · have m2 := hv (k + 1) c f1
    rw [Int.natCast_add, Int.mul_add] at m2
    have m3 : p * ((1 : Nat) : Int) = p := Int.mul_one p
    omega
  · have en : k + 1 = n := by omega
    rw [en] at f1 m1
    obtain ⟨j, hj, fj, ej⟩ := H v (by omega) f1
    have m2 := hv j hj fj
    rw [Int.mul_sub, Int.sub_mul] at ej
    have m3 : p * (n : Int) = p * (k : Int) + p := by rw [← en, Int.natCast_add, Int.mul_add]; exact congrArg (p * (k : Int) + ·) (Int.mul_one p)
    omega
theorem mc_K_seq {n : Nat} {E : Nat → Nat → Prop} {w : Nat → Nat → Int} {D : Nat → Nat → Int} (hn : n ≤ 6) (hE : ∀ u v, E u v → u < n ∧ v < n) (K : mc_K n E w D) :
    ∀ k v, k ≤ n → v < 6 → D k v < 1000000000 → ∃ P : Nat → Nat, P k = v ∧ ∀ i, i < k → E (P i) (P (i + 1)) ∧ D i (P i) < 1000000000 ∧ D (i + 1) (P (i + 1)) = D i (P i) + w (P i) (P (i + 1)) := by
  intro k
  induction k with
  | zero => intro v _ _ _; exact ⟨fun _ => v, rfl, fun i hi => absurd hi (by omega)⟩
  | succ k ih =>
    intro v hk hv hf
    obtain ⟨u, e, fu, eq⟩ := K.2.2.1 k v (by omega) hv hf
    have hh := hE u v e
    obtain ⟨P, hP, h⟩ := ih u (by omega) (by omega) fu
    refine ⟨fun i => if i = k + 1 then v else P i, if_pos rfl, fun i hi => ?_⟩
    have e1 : (if i = k + 1 then v else P i) = P i := if_neg (by omega)
    show E (if i = k + 1 then v else P i) (if i + 1 = k + 1 then v else P (i + 1)) ∧ D i (if i = k + 1 then v else P i) < 1000000000 ∧ D (i + 1) (if i + 1 = k + 1 then v else P (i + 1)) = D i (if i = k + 1 then v else P i) + w (if i = k + 1 then v else P i) (if i + 1 = k + 1 then v else P (i + 1))
    rw [e1]
    by_cases c : i = k
    · rw [if_pos (by omega : i + 1 = k + 1), c, hP]
      exact ⟨e, fu, eq⟩
    · rw [if_neg (by omega : ¬ i + 1 = k + 1)]
      exact h i (by omega)
theorem mc_karp_cyc {n : Nat} {E : Nat → Nat → Prop} {w : Nat → Nat → Int} {D : Nat → Nat → Int} {p q : Int} {d : Nat → Int} (hn : n ≤ 6)
    (hE : ∀ u v, E u v → u < n ∧ v < n) (hw : ∀ u v, E u v → -20 ≤ w u v ∧ w u v ≤ 20) (K : mc_K n E w D) (hq : 1 ≤ q)
    (hd : mc_pot E w (fun _ _ => 1) p q d) {v : Nat} (hv : v < n) (hf : D n v < 1000000000)
    (H : ∀ k, k < n → D k v < 1000000000 → (D n v - D k v) * q ≤ p * ((n : Int) - (k : Int))) :
    ∃ (k u : Nat) (x y : Int), mc_Wk E w (fun _ _ => 1) (k + 1) u u x y ∧ x * q = p * y := by
  obtain ⟨P, hP, hs⟩ := mc_K_seq hn hE K n v (Nat.le_refl n) (by omega) hf
  have hlt : ∀ i, i ≤ n → P i < n := by
    intro i hi
    by_cases c : i = n
    · rw [c, hP]
      exact hv
    · exact (hE _ _ (hs i (by omega)).1).1
  obtain ⟨i, j, hij, hj, e⟩ := mc_pigeon n P hlt
  have low : ∀ m, j + m ≤ n → D (i + m) (P (j + m)) < 1000000000 ∧ D (i + m) (P (j + m)) ≤ D i (P i) + (D (j + m) (P (j + m)) - D j (P j)) := by
    intro m
    induction m with
    | zero =>
      intro _
      have f := (hs i (by omega)).2.1
      show D i (P j) < 1000000000 ∧ D i (P j) ≤ D i (P i) + (D j (P j) - D j (P j))
      rw [← e]
      exact ⟨f, by omega⟩
    | succ m ih =>
      intro hm
      obtain ⟨f, l⟩ := ih (by omega)
      obtain ⟨s1, s2, s3⟩ := hs (j + m) (by omega)
      obtain ⟨n1, n2⟩ := mc_K_next hn hE hw K (show i + m < n by omega) s1 f
      show D (i + m + 1) (P (j + m + 1)) < 1000000000 ∧ D (i + m + 1) (P (j + m + 1)) ≤ D i (P i) + (D (j + m + 1) (P (j + m + 1)) - D j (P j))
      exact ⟨n1, by omega⟩
  have seg : ∀ m, i + m ≤ n → mc_Wk E w (fun _ _ => 1) m (P i) (P (i + m)) (D (i + m) (P (i + m)) - D i (P i)) (m : Int) := by
    intro m
    induction m with
    | zero =>
      intro _
      exact ⟨rfl, by show D i (P i) - D i (P i) = 0; omega, rfl⟩
    | succ m ih =>
      intro hm
      obtain ⟨s1, s2, s3⟩ := hs (i + m) (by omega)
      refine ⟨P (i + m), _, _, ih (by omega), s1, ?_, Int.natCast_add m 1⟩
      show D (i + m + 1) (P (i + m + 1)) - D i (P i) = D (i + m) (P (i + m)) - D i (P i) + w (P (i + m)) (P (i + m + 1))
      omega
  obtain ⟨f, l⟩ := low (n - j) (by omega)
  rw [show j + (n - j) = n by omega, hP] at f l
  have h1 := H (i + (n - j)) (by omega) f
  obtain ⟨k, hk⟩ : ∃ k, j - i = k + 1 := ⟨j - i - 1, by omega⟩
  have g := seg (j - i) (by omega)
  rw [show i + (j - i) = j by omega, ← e, hk] at g
  refine ⟨k, P i, _, _, g, ?_⟩
  have g1 := mc_pot_Wk hd _ _ _ _ _ g
  have m1 : (D j (P i) - D i (P i)) * q ≤ (D n v - D (i + (n - j)) v) * q := Int.mul_le_mul_of_nonneg_right (by rw [← e] at l; omega) (by omega)
  have e3 : ((n : Int) - ((i + (n - j) : Nat) : Int)) = ((k + 1 : Nat) : Int) := by omega
  rw [e3] at h1
  omega
theorem mc_karp_none {n : Nat} {E : Nat → Nat → Prop} {w : Nat → Nat → Int} {D : Nat → Nat → Int} (hn : n ≤ 6)
    (hE : ∀ u v, E u v → u < n ∧ v < n) (hw : ∀ u v, E u v → -20 ≤ w u v ∧ w u v ≤ 20) (K : mc_K n E w D)
    (H : ∀ v, v < n → ¬ D n v < 1000000000) : mc_No E := by
  intro w' t' k u x y g
  have all : ∀ m, m ≤ n → ∀ (a k : Nat) (x y : Int), mc_Wk E w' t' (k + 1) a a x y → D m a < 1000000000 ∧ a < n := by
    intro m
    induction m with
    | zero =>
      intro _ a k x y g
      obtain ⟨b, x', y', _, g2, _, _⟩ := g
      have hh := hE b a g2
      rw [K.1 a (by omega)]
      exact ⟨by decide, hh.2⟩
    | succ m ih =>
      intro hm a k x y g
      obtain ⟨b, x', y', g1, g2, _, _⟩ := g
      obtain ⟨f, _⟩ := ih (by omega) b k _ _ (mc_Wk_front g2 g1)
      exact ⟨(mc_K_next hn hE hw K (by omega) g2 f).1, (hE b a g2).2⟩
  obtain ⟨f, l⟩ := all n (Nat.le_refl n) u k x y g
  exact H u l f
end
section
/-! ===== Bellman and Ford in place, 36 arcs a round; τ v: the event (36 * round + arc + 1) at which v was bettered last, 0 if never ===== -/
def mc_BF (n : Nat) (E : Nat → Nat → Prop) (c : Nat → Nat → Int) (r a : Nat) (d : Nat → Int) (f : Nat → Int32) (τ : Nat → Nat) : Prop :=
  (∀ v, v < n → τ v ≤ 36 * r + a) ∧
  (∀ v, v < n → τ v = 0 ∨ ∃ u, u < n ∧ f v = nI u ∧ E u v ∧ τ v ≤ τ u + 36 ∧ d u + c u v ≤ d v ∧ (τ u < τ v ∨ d u + c u v < d v)) ∧
  (∀ u v, E u v → d v ≤ d u + c u v ∨ (6 * u + v < a ∧ 36 * r + (6 * u + v) + 1 ≤ τ u) ∨ (a ≤ 6 * u + v ∧ 36 * r + (6 * u + v) + 1 ≤ τ u + 36))
/-- the point bettered last in this round, or -1 -/
def mc_BB (n : Nat) (E : Nat → Nat → Prop) (c : Nat → Nat → Int) (r a : Nat) (d : Nat → Int) (τ : Nat → Nat) (b : Int32) : Prop :=
  (b = -1 ∧ ∀ u v, E u v → 6 * u + v < a → d v ≤ d u + c u v) ∨ (∃ v, v < n ∧ b = nI v ∧ 36 * r + 1 ≤ τ v)
/-- the distances stay small -/
def mc_BD (T : Nat) (d : Nat → Int) : Prop := ∀ v, v < 6 → -4000 * (T : Int) ≤ d v ∧ d v ≤ 0
theorem mc_BF_0 {n : Nat} {E : Nat → Nat → Prop} {c : Nat → Nat → Int} {d : Nat → Int} {f : Nat → Int32} (hn : n ≤ 6) (hE : ∀ u v, E u v → u < n ∧ v < n) : mc_BF n E c 0 0 d f (fun _ => 0) := by
  refine ⟨fun v _ => Nat.zero_le _, fun v _ => Or.inl rfl, fun u v e => Or.inr (Or.inr ⟨Nat.zero_le _, ?_⟩)⟩
  have h := hE u v e
  show 36 * 0 + (6 * u + v) + 1 ≤ 0 + 36
  omega
theorem mc_BF_next {n : Nat} {E : Nat → Nat → Prop} {c : Nat → Nat → Int} {r : Nat} {d : Nat → Int} {f : Nat → Int32} {τ : Nat → Nat} (hn : n ≤ 6) (hE : ∀ u v, E u v → u < n ∧ v < n)
    (h : mc_BF n E c r 36 d f τ) : mc_BF n E c (r + 1) 0 d f τ := by
  obtain ⟨h1, h2, h3⟩ := h
  refine ⟨fun v hv => by have := h1 v hv; omega, h2, fun u v e => ?_⟩
  have g := hE u v e
  rcases h3 u v e with k | k | k
  · exact Or.inl k
  · exact Or.inr (Or.inr ⟨Nat.zero_le _, by omega⟩)
  · exact absurd k.1 (by omega)
theorem mc_BF_skip {n : Nat} {E : Nat → Nat → Prop} {c : Nat → Nat → Int} {r a : Nat} {d : Nat → Int} {f : Nat → Int32} {τ : Nat → Nat}
    (H : ∀ u v, E u v → 6 * u + v = a → d v ≤ d u + c u v) (h : mc_BF n E c r a d f τ) : mc_BF n E c r (a + 1) d f τ := by
  obtain ⟨h1, h2, h3⟩ := h
  refine ⟨fun v hv => by have := h1 v hv; omega, h2, fun u v e => ?_⟩
  by_cases z : 6 * u + v = a
  · exact Or.inl (H u v e z)
  · rcases h3 u v e with k | k | k
    · exact Or.inl k
    · exact Or.inr (Or.inl ⟨by omega, k.2⟩)
    · exact Or.inr (Or.inr ⟨by omega, k.2⟩)
theorem mc_BB_skip {n : Nat} {E : Nat → Nat → Prop} {c : Nat → Nat → Int} {r a : Nat} {d : Nat → Int} {τ : Nat → Nat} {b : Int32}
    (H : ∀ u v, E u v → 6 * u + v = a → d v ≤ d u + c u v) (h : mc_BB n E c r a d τ b) : mc_BB n E c r (a + 1) d τ b := by
  rcases h with ⟨h1, h2⟩ | h
  · refine Or.inl ⟨h1, fun u v e l => ?_⟩
    by_cases z : 6 * u + v = a
    · exact H u v e z
    · exact h2 u v e (by omega)
  · exact Or.inr h
theorem mc_BF_step {n : Nat} {E : Nat → Nat → Prop} {c : Nat → Nat → Int} {r a : Nat} {d d' : Nat → Int} {f f' : Nat → Int32} {τ : Nat → Nat} {u v : Nat} (hn : n ≤ 6)
    (hE : ∀ u v, E u v → u < n ∧ v < n) (e : E u v) (ha : 6 * u + v = a) (hl : d u + c u v < d v) (hd : d' v = d u + c u v) (hd' : ∀ j, j ≠ v → d' j = d j)
    (hf : f' v = nI u) (hf' : ∀ j, j ≠ v → f' j = f j) (h : mc_BF n E c r a d f τ) :
    mc_BF n E c r (a + 1) d' f' (fun j => if j = v then 36 * r + a + 1 else τ j) := by
  obtain ⟨h1, h2, h3⟩ := h
  have huv := hE u v e
  have tv : ∀ j, (if j = v then 36 * r + a + 1 else τ j) = if j = v then 36 * r + a + 1 else τ j := fun _ => rfl
  refine ⟨fun z hz => ?_, fun z hz => ?_, fun x y exy => ?_⟩
  · show (if z = v then 36 * r + a + 1 else τ z) ≤ _
    have := h1 z hz
    split <;> omega
  · show (if z = v then 36 * r + a + 1 else τ z) = 0 ∨ ∃ u', u' < n ∧ f' z = nI u' ∧ E u' z ∧ (if z = v then 36 * r + a + 1 else τ z) ≤ (if u' = v then 36 * r + a + 1 else τ u') + 36 ∧ d' u' + c u' z ≤ d' z ∧ ((if u' = v then 36 * r + a + 1 else τ u') < (if z = v then 36 * r + a + 1 else τ z) ∨ d' u' + c u' z < d' z)
    by_cases cz : z = v
    · subst cz
      refine Or.inr ⟨u, huv.1, hf, e, ?_⟩
      rw [if_pos rfl, hd]
      by_cases cu : u = z
      · subst cu
        rw [if_pos rfl, hd]
        exact ⟨by omega, by omega, Or.inr (by omega)⟩
      · rw [if_neg cu, hd' u cu]
        have t := h1 u huv.1
        refine ⟨?_, by omega, Or.inl (by omega)⟩
        rcases h3 u z e with k | k | k
        · omega
        · omega
        · omega
    · rw [if_neg cz, hf' z cz, hd' z cz]
      rcases h2 z hz with k | ⟨u', k1, k2, k3, k4, k5, k6⟩
      · exact Or.inl k
      · refine Or.inr ⟨u', k1, k2, k3, ?_⟩
        by_cases cu : u' = v
        · subst cu
          rw [if_pos rfl, hd]
          have t := h1 z hz
          have t' := h1 u' k1
          exact ⟨by omega, by omega, Or.inr (by omega)⟩
        · rw [if_neg cu, hd' u' cu]
          exact ⟨k4, k5, k6⟩
  · show d' y ≤ d' x + c x y ∨ (6 * x + y < a + 1 ∧ 36 * r + (6 * x + y) + 1 ≤ (if x = v then 36 * r + a + 1 else τ x)) ∨ (a + 1 ≤ 6 * x + y ∧ 36 * r + (6 * x + y) + 1 ≤ (if x = v then 36 * r + a + 1 else τ x) + 36)
    have hxy := hE x y exy
    by_cases cx : x = v
    · rw [if_pos cx]
      by_cases l : 6 * x + y < a + 1
      · exact Or.inr (Or.inl ⟨l, by omega⟩)
      · exact Or.inr (Or.inr ⟨by omega, by omega⟩)
    · rw [if_neg cx, hd' x cx]
      by_cases s : 6 * x + y = a
      · have e1 : x = u := by omega
        have e2 : y = v := by omega
        subst e1 e2
        exact Or.inl (by omega)
      · have dy : d' y ≤ d y := by
          by_cases cy : y = v
          · rw [cy, hd]
            omega
          · rw [hd' y cy]
            exact Int.le_refl _
        rcases h3 x y exy with k | k | k
        · exact Or.inl (by omega)
        · exact Or.inr (Or.inl ⟨by omega, k.2⟩)
        · exact Or.inr (Or.inr ⟨by omega, k.2⟩)
theorem mc_BD_step {T : Nat} {d d' : Nat → Int} {x : Int} {u v : Nat} (hu : u < 6) (h : mc_BD T d) (hx : -4000 ≤ x) (hl : d u + x < d v) (hv : v < 6) (hd : d' v = d u + x) (hd' : ∀ j, j ≠ v → d' j = d j) : mc_BD (T + 1) d' := by
  intro j hj
  have h1 := h u hu
  have h2 := h j hj
  have h3 := h v hv
  by_cases c : j = v
  · rw [c, hd]
    omega
  · rw [hd' j c]
    omega
theorem mc_BD_mono {T T' : Nat} {d : Nat → Int} (h : mc_BD T d) (l : T ≤ T') : mc_BD T' d := by
  intro j hj
  have h2 := h j hj
  omega
/-! ===== back along the points come from ===== -/
def mc_it (g : Nat → Nat) (v : Nat) : Nat → Nat
  | 0 => v
  | k + 1 => g (mc_it g v k)
theorem mc_it_shift {g : Nat → Nat} {v i j : Nat} (h : mc_it g v i = mc_it g v j) : ∀ m, mc_it g v (i + m) = mc_it g v (j + m) := by
  intro m
  induction m with
  | zero => exact h
  | succ m ih => exact congrArg g ih
/-- sums along the way back -/
def mc_X (w : Nat → Nat → Int) (o : Nat → Nat) : Nat → Int
  | 0 => 0
  | k + 1 => mc_X w o k + w (o (k + 1)) (o k)
theorem mc_X_Wk {E : Nat → Nat → Prop} {w t : Nat → Nat → Int} {o : Nat → Nat} (h : ∀ k, E (o (k + 1)) (o k)) : ∀ k, mc_Wk E w t k (o k) (o 0) (mc_X w o k) (mc_X t o k) := by
  intro k
  induction k with
  | zero => exact ⟨rfl, rfl, rfl⟩
  | succ k ih => exact mc_Wk_front (h k) ih
theorem mc_X_neg {w t : Nat → Nat → Int} {p q : Int} {o : Nat → Nat} {d : Nat → Int} {τ : Nat → Nat}
    (h : ∀ k, d (o (k + 1)) + (w (o (k + 1)) (o k) * q - p * t (o (k + 1)) (o k)) ≤ d (o k))
    (h' : ∀ k, τ (o (k + 1)) < τ (o k) ∨ d (o (k + 1)) + (w (o (k + 1)) (o k) * q - p * t (o (k + 1)) (o k)) < d (o k)) :
    ∀ k, d (o (k + 1)) + (mc_X w o (k + 1) * q - p * mc_X t o (k + 1)) ≤ d (o 0) ∧ (τ (o (k + 1)) < τ (o 0) ∨ d (o (k + 1)) + (mc_X w o (k + 1) * q - p * mc_X t o (k + 1)) < d (o 0)) := by
  intro k
  induction k with
  | zero =>
    have a := h 0
    have b := h' 0
    show d (o 1) + ((0 + w (o 1) (o 0)) * q - p * (0 + t (o 1) (o 0))) ≤ d (o 0) ∧ (τ (o 1) < τ (o 0) ∨ d (o 1) + ((0 + w (o 1) (o 0)) * q - p * (0 + t (o 1) (o 0))) < d (o 0))
    rw [Int.zero_add, Int.zero_add]
    exact ⟨a, b⟩
  | succ k ih =>
    have a := h (k + 1)
    have b := h' (k + 1)
    show d (o (k + 1 + 1)) + ((mc_X w o (k + 1) + w (o (k + 1 + 1)) (o (k + 1))) * q - p * (mc_X t o (k + 1) + t (o (k + 1 + 1)) (o (k + 1)))) ≤ d (o 0) ∧ (τ (o (k + 1 + 1)) < τ (o 0) ∨ d (o (k + 1 + 1)) + ((mc_X w o (k + 1) + w (o (k + 1 + 1)) (o (k + 1))) * q - p * (mc_X t o (k + 1) + t (o (k + 1 + 1)) (o (k + 1)))) < d (o 0))
    rw [Int.add_mul, Int.mul_add]
    obtain ⟨i1, i2⟩ := ih
    refine ⟨by omega, ?_⟩
    rcases i2 with i2 | i2
    · rcases b with b | b
      · exact Or.inl (by omega)
      · exact Or.inr (by omega)
    · exact Or.inr (by omega)
/-- a point bettered in the last round: n steps back, and one is on a circle below 0 -/
theorem mc_chain {n : Nat} {E : Nat → Nat → Prop} {w t : Nat → Nat → Int} {p q : Int} {r a : Nat} {d : Nat → Int} {f : Nat → Int32} {τ : Nat → Nat} {v : Nat}
    (h : mc_BF n E (fun u v => w u v * q - p * t u v) r a d f τ) (hv : v < n) (ht : 36 * n + 1 ≤ τ v) :
    ∃ o : Nat → Nat, o 0 = v ∧ (∀ k, o k < n ∧ f (o k) = nI (o (k + 1)) ∧ E (o (k + 1)) (o k)) ∧
      ∃ L, 1 ≤ L ∧ L ≤ n ∧ o (n + L) = o n ∧ (∀ l, 1 ≤ l → l < L → o (n + l) ≠ o n) ∧
        mc_X w (fun k => o (n + k)) L * q - p * mc_X t (fun k => o (n + k)) L < 0 := by
  obtain ⟨h1, h2, h3⟩ := h
  have hc : ∀ z, ∃ u, z < n → τ z ≠ 0 → u < n ∧ f z = nI u ∧ E u z ∧ τ z ≤ τ u + 36 ∧ d u + (w u z * q - p * t u z) ≤ d z ∧ (τ u < τ z ∨ d u + (w u z * q - p * t u z) < d z) := by
    intro z
    by_cases hz : z < n
    · rcases h2 z hz with k | ⟨u, k⟩
      · exact ⟨0, fun _ c => absurd k c⟩
      · exact ⟨u, fun _ _ => k⟩
    · exact ⟨0, fun c => absurd c hz⟩
  obtain ⟨g, hg⟩ := Classical.axiomOfChoice hc
  have low : ∀ k, k ≤ n → mc_it g v k < n ∧ 36 * (n - k) + 1 ≤ τ (mc_it g v k) := by
    intro k
    induction k with
    | zero => intro _; exact ⟨hv, ht⟩
    | succ k ih =>
      intro hk
      obtain ⟨i1, i2⟩ := ih (by omega)
      obtain ⟨g1, g2, g3, g4, g5, g6⟩ := hg _ i1 (by omega)
      show g (mc_it g v k) < n ∧ 36 * (n - (k + 1)) + 1 ≤ τ (g (mc_it g v k))
      exact ⟨g1, by omega⟩
  obtain ⟨i, j, hij, hj, e⟩ := mc_pigeon n (mc_it g v) (fun i hi => (low i hi).1)
  have good : ∀ m, mc_it g v m < n ∧ τ (mc_it g v m) ≠ 0 := by
    intro m
    induction m using Nat.strongRecOn with
    | ind m ih =>
      by_cases c : m ≤ n
      · have l := low m c
        exact ⟨l.1, by omega⟩
      · have s := mc_it_shift e (m - j)
        rw [show j + (m - j) = m by omega] at s
        rw [← s]
        exact ih (i + (m - j)) (by omega)
  have st := fun k => hg (mc_it g v k) (good k).1 (good k).2
  have per : mc_it g v (n + (j - i)) = mc_it g v n := by
    have s := mc_it_shift e (n - i)
    rw [show i + (n - i) = n by omega, show j + (n - i) = n + (j - i) by omega] at s
    exact s.symm
  obtain ⟨L, ⟨l1, l2⟩, l3⟩ := pk_least (fun L => 1 ≤ L ∧ mc_it g v (n + L) = mc_it g v n) ⟨j - i, by omega, per⟩
  have hL : L ≤ j - i := by
    rcases Nat.lt_or_ge (j - i) L with z | z
    · exact absurd ⟨by omega, per⟩ (l3 (j - i) z)
    · exact z
  refine ⟨mc_it g v, rfl, fun k => ⟨(good k).1, (st k).2.1, (st k).2.2.1⟩, L, l1, by omega, l2, fun l a1 a2 a3 => l3 l a2 ⟨a1, a3⟩, ?_⟩
  obtain ⟨k, hk⟩ : ∃ k, L = k + 1 := ⟨L - 1, by omega⟩
  have ng := mc_X_neg (w := w) (t := t) (p := p) (q := q) (d := d) (τ := τ) (o := fun k => mc_it g v (n + k)) (fun k => (st (n + k)).2.2.2.2.1) (fun k => (st (n + k)).2.2.2.2.2) k
  rw [← hk] at ng
  have e0 : mc_it g v (n + L) = mc_it g v (n + 0) := l2
  have ng' : d (mc_it g v (n + L)) + (mc_X w (fun k => mc_it g v (n + k)) L * q - p * mc_X t (fun k => mc_it g v (n + k)) L) ≤ d (mc_it g v (n + 0)) ∧ (τ (mc_it g v (n + L)) < τ (mc_it g v (n + 0)) ∨ d (mc_it g v (n + L)) + (mc_X w (fun k => mc_it g v (n + k)) L * q - p * mc_X t (fun k => mc_it g v (n + k)) L) < d (mc_it g v (n + 0))) := ng
  rw [e0] at ng'
  omega
/-- sums along the way back are bounded -/
theorem mc_X_bd {w : Nat → Nat → Int} {o : Nat → Nat} {lo hi : Int} (h : ∀ k, lo ≤ w (o (k + 1)) (o k) ∧ w (o (k + 1)) (o k) ≤ hi) : ∀ k : Nat, (k : Int) * lo ≤ mc_X w o k ∧ mc_X w o k ≤ (k : Int) * hi := by
  intro k
  induction k with
  | zero => exact ⟨by rw [show ((0 : Nat) : Int) = 0 from rfl, Int.zero_mul]; exact Int.le_refl _, by rw [show ((0 : Nat) : Int) = 0 from rfl, Int.zero_mul]; exact Int.le_refl _⟩
  | succ k ih =>
    have a := h k
    show ((k + 1 : Nat) : Int) * lo ≤ mc_X w o k + w (o (k + 1)) (o k) ∧ mc_X w o k + w (o (k + 1)) (o k) ≤ ((k + 1 : Nat) : Int) * hi
    rw [Int.natCast_add, Int.add_mul, Int.add_mul, show ((1 : Nat) : Int) = 1 from rfl, Int.one_mul, Int.one_mul]
    omega
/-! ===== a smaller ratio: the measure falls ===== -/
def mc_mu (p q : Int) : Nat := (900 * p / q + 200000).toNat
theorem mc_mu_lt {p q p' q' : Int} (hq : 1 ≤ q) (hq1 : q ≤ 30) (hq' : 1 ≤ q') (hq1' : q' ≤ 30) (hp : -200 ≤ p') (h : p' * q < p * q') : mc_mu p' q' < mc_mu p q := by
  unfold mc_mu
  have d1 : 900 * p' / q' * q' ≤ 900 * p' := Int.ediv_mul_le _ (by omega)
  have m1 : q * q' ≤ 30 * 30 := Int.mul_le_mul hq1 hq1' (by omega) (by omega)
  have key : (900 * p' / q' + 1) * q ≤ 900 * p := by
    apply Int.le_of_mul_le_mul_right (a := q') _ (by omega)
    have m2 : 900 * p' / q' * q' * q ≤ 900 * p' * q := Int.mul_le_mul_of_nonneg_right d1 (by omega)
    have e1 : (900 * p' / q' + 1) * q * q' = 900 * p' / q' * q' * q + q * q' := by rw [Int.add_mul, Int.add_mul, Int.one_mul, Int.mul_right_comm]
    have e2 : 900 * p' * q = 900 * (p' * q) := Int.mul_assoc _ _ _
    have e3 : 900 * p * q' = 900 * (p * q') := Int.mul_assoc _ _ _
    rw [e1, e3]
    rw [e2] at m2
    omega
  have k2 : 900 * p' / q' + 1 ≤ 900 * p / q := (Int.le_ediv_iff_mul_le (by omega)).mpr key
  have k3 : -180000 ≤ 900 * p' / q' := by
    apply (Int.le_ediv_iff_mul_le (by omega)).mpr
    omega
  omega
/-- a fraction is scaled down -/
theorem mc_scale {x y g p q P Q : Int} (hg : 1 ≤ g) (ex : x = g * p) (ey : y = g * q) (h : x * Q - P * y < 0) : p * Q < P * q := by
  apply Int.lt_of_mul_lt_mul_left (a := g) _ (by omega)
  rw [ex, ey] at h
  have e1 : g * p * Q = g * (p * Q) := Int.mul_assoc _ _ _
  have e2 : P * (g * q) = g * (P * q) := Int.mul_left_comm _ _ _
  rw [e1, e2] at h
  omega
end
section
/-! ===== Int64 and Int32 by their values ===== -/
theorem mq_b64 {n : Int} (h1 : -9223372036854775808 ≤ n) (h2 : n < 9223372036854775808) : n.bmod (2 ^ 64) = n := by
  rw [Int.bmod_def]; omega
theorem mq_b32 {n : Int} (h1 : -2147483648 ≤ n) (h2 : n < 2147483648) : n.bmod (2 ^ 32) = n := by
  rw [Int.bmod_def]; omega
theorem mq_b8 {n : Int} (h1 : -128 ≤ n) (h2 : n < 128) : n.bmod (2 ^ 8) = n := by
  rw [Int.bmod_def]; omega
theorem mq_add {a b : Int64} {x y : Int} (ha : a.toInt = x) (hb : b.toInt = y) (h1 : -9223372036854775808 ≤ x + y) (h2 : x + y < 9223372036854775808) : (a + b).toInt = x + y := by
  rw [Int64.toInt_add, ha, hb, mq_b64 h1 h2]
theorem mq_sub {a b : Int64} {x y : Int} (ha : a.toInt = x) (hb : b.toInt = y) (h1 : -9223372036854775808 ≤ x - y) (h2 : x - y < 9223372036854775808) : (a - b).toInt = x - y := by
  rw [Int64.toInt_sub, ha, hb, mq_b64 h1 h2]
theorem mq_mb {x y : Int} (A B : Nat) (hx : -(A : Int) ≤ x ∧ x ≤ (A : Int)) (hy : -(B : Int) ≤ y ∧ y ≤ (B : Int)) : -((A * B : Nat) : Int) ≤ x * y ∧ x * y ≤ ((A * B : Nat) : Int) := by
  have h1 : x.natAbs ≤ A := by omega
  have h2 : y.natAbs ≤ B := by omega
  have h3 : (x * y).natAbs ≤ A * B := by rw [Int.natAbs_mul]; exact Nat.mul_le_mul h1 h2
  omega
theorem mq_mul {a b : Int64} {x y : Int} (ha : a.toInt = x) (hb : b.toInt = y) (hx : -1000000 ≤ x ∧ x ≤ 1000000) (hy : -1000000 ≤ y ∧ y ≤ 1000000) : (a * b).toInt = x * y := by
  have h := mq_mb 1000000 1000000 hx hy
  rw [Int64.toInt_mul, ha, hb, mq_b64 (by omega) (by omega)]
theorem mq_lt {a b : Int64} {A B : Prop} (x y : Int) (ha : a.toInt = x) (hb : b.toInt = y) (f : x < y → A) (g : y ≤ x → B) : (a < b → A) ∧ (¬ a < b → B) := by
  rw [Int64.lt_iff_toInt_lt, ha, hb]
  exact ⟨f, fun h => g (by omega)⟩
theorem mq_le {a b : Int64} {A B : Prop} (x y : Int) (ha : a.toInt = x) (hb : b.toInt = y) (f : x ≤ y → A) (g : y < x → B) : (a ≤ b → A) ∧ (¬ a ≤ b → B) := by
  rw [Int64.le_iff_toInt_le, ha, hb]
  exact ⟨f, fun h => g (by omega)⟩
theorem mq_eq {a b : Int64} {A B : Prop} (x y : Int) (ha : a.toInt = x) (hb : b.toInt = y) (f : x = y → A) (g : x ≠ y → B) : (a = b → A) ∧ (¬ a = b → B) := by
  rw [← Int64.toInt_inj, ha, hb]
  exact ⟨f, g⟩
theorem mq_far : (1000000000 : Int64).toInt = 1000000000 := by decide
theorem mq_z : (0 : Int64).toInt = 0 := by decide
theorem mq_i32 {x : Int64} (h1 : -2147483648 ≤ x.toInt) (h2 : x.toInt < 2147483648) : x.toInt32.toInt = x.toInt := by
  rw [Int64.toInt_toInt32, mq_b32 h1 h2]
theorem mq_div {x : Int64} {g : Nat} (hg : 1 ≤ g) (hg2 : g < 2 ^ 31) (h1 : -1000000 ≤ x.toInt) (h2 : x.toInt ≤ 1000000) (hd : (g : Int) ∣ x.toInt) : x.toInt = (g : Int) * (x / lN g).toInt := by
  have e : (x / lN g).toInt = x.toInt.tdiv (g : Int) := by
    rw [Int64.toInt_div, lN_toInt hg2]
    have a := Int.natAbs_tdiv_le_natAbs x.toInt (g : Int)
    exact mq_b64 (by omega) (by omega)
  rw [e]
  exact (Int.mul_tdiv_cancel_of_dvd hd).symm
theorem mq_ix (u v : Nat) : 6 * nI u + nI v = nI (6 * u + v) := by
  show nI 6 * nI u + nI v = _
  rw [pk_mul, nI_add]
theorem mq_ix' (l u : Nat) : 6 * nI (l + 1) - 6 + nI u = nI (6 * l + u) := by
  show nI 6 * nI (l + 1) - nI 6 + nI u = _
  rw [pk_mul, pk_sub (by omega), nI_add, show 6 * (l + 1) - 6 + u = 6 * l + u by omega]
/-! ===== bits of an int ===== -/
def mb_t (x : Int32) (i : Nat) : Bool := x.toBitVec.getLsbD i
theorem mb_ext {x y : Int32} (h : ∀ i, i < 32 → mb_t x i = mb_t y i) : x = y := Int32.toBitVec_inj.mp (BitVec.eq_of_getLsbD_eq (fun i hi => h i hi))
theorem mb_or (x y : Int32) (i : Nat) : mb_t (x ||| y) i = (mb_t x i || mb_t y i) := by unfold mb_t; rw [Int32.toBitVec_or, BitVec.getLsbD_or]
theorem mb_and (x y : Int32) (i : Nat) : mb_t (x &&& y) i = (mb_t x i && mb_t y i) := by unfold mb_t; rw [Int32.toBitVec_and, BitVec.getLsbD_and]
theorem mb_0 (i : Nat) : mb_t 0 i = false := BitVec.getLsbD_zero
theorem mb_l : ∀ n, n < 6 → ((nI n &&& 31).toBitVec.smod 32).toNat = n := by decide +kernel
theorem mb_shr {n : Nat} (hn : n < 6) (x : Int32) : mb_t (x >>> (nI n &&& 31)) 0 = mb_t x n := by
  unfold mb_t
  rw [Int32.toBitVec_shiftRight]
  show (x.toBitVec.sshiftRight ((nI n &&& 31).toBitVec.smod 32).toNat).getLsbD 0 = _
  rw [mb_l n hn, BitVec.getLsbD_sshiftRight]
  simp [show n < 32 by omega]
theorem mb_one1 : ∀ i, i < 32 → mb_t 1 i = decide (i = 0) := by decide +kernel
theorem mb_and1 (x : Int32) : (x &&& 1) = 0 ↔ mb_t x 0 = false := by
  constructor
  · intro h
    have t := congrArg (fun z => mb_t z 0) h
    rw [mb_and, mb_0, mb_one1 0 (by omega)] at t
    simpa using t
  · intro h
    apply mb_ext
    intro i hi
    rw [mb_and, mb_0, mb_one1 i hi]
    by_cases c : i = 0
    · rw [c, h]
      rfl
    · simp [c]
theorem mb_bit {n : Nat} (hn : n < 6) (x : Int32) : ((x >>> (nI n &&& 31)) &&& 1) = 0 ↔ mb_t x n = false := by
  rw [mb_and1, mb_shr hn]
theorem mb_bit2 {u v : Nat} (hu : u < 6) (hv : v < 6) (x : Int32) : (((x >>> (nI u &&& 31)) &&& (x >>> (nI v &&& 31))) &&& 1) = 0 ↔ (mb_t x u && mb_t x v) = false := by
  rw [mb_and1, mb_and, mb_shr hu, mb_shr hv]
theorem mb_one : ∀ n, n < 6 → ∀ i, i < 32 → mb_t ((1 : Int32) <<< (nI n &&& 31)) i = decide (i = n) := by decide +kernel
/-! ===== bits of a long ===== -/
def ml_t (x : Int64) (i : Nat) : Bool := x.toBitVec.getLsbD i
theorem ml_u : ∀ k, k < 36 → ((nI k).toInt64.toUInt64 &&& Int64.toUInt64 63).toNat = k := by decide +kernel
theorem ml_s : ∀ k, k < 36 → ((1 : Int64) <<< ((nI k).toInt64 &&& 63)).toBitVec = BitVec.twoPow 64 k := by decide +kernel
theorem ml_bit {k : Nat} (hk : k < 36) (x : Int64) : ((x.toUInt64 >>> ((nI k).toInt64.toUInt64 &&& Int64.toUInt64 63)).toInt64 &&& 1) = 1 ↔ ml_t x k = true := by
  have e : (x.toUInt64 >>> ((nI k).toInt64.toUInt64 &&& Int64.toUInt64 63)).toInt64.toBitVec = x.toBitVec >>> k := by
    apply BitVec.eq_of_toNat_eq
    show (x.toUInt64 >>> ((nI k).toInt64.toUInt64 &&& Int64.toUInt64 63)).toNat = _
    rw [UInt64.toNat_shiftRight, ml_u k hk, Nat.mod_eq_of_lt (by omega), BitVec.toNat_ushiftRight]
    rfl
  rw [← Int64.toBitVec_inj, Int64.toBitVec_and, e]
  show x.toBitVec >>> k &&& 1#64 = 1#64 ↔ x.toBitVec.getLsbD k = true
  constructor
  · intro h
    have t := congrArg (fun z => z.getLsbD 0) h
    simpa using t
  · intro h
    apply BitVec.eq_of_getLsbD_eq
    intro i hi
    cases i with
    | zero => simp [h]
    | succ i => simp
theorem ml_or {k : Nat} (hk : k < 36) (x : Int64) {i : Nat} (hi : i < 36) : ml_t (x ||| ((1 : Int64) <<< ((nI k).toInt64 &&& 63))) i = (ml_t x i || decide (i = k)) := by
  unfold ml_t
  rw [Int64.toBitVec_or, ml_s k hk, BitVec.getLsbD_or, BitVec.getLsbD_twoPow]
  by_cases c : i = k
  · simp [c, show k < 64 by omega]
  · simp [c, show ¬ k = i from fun z => c z.symm]
theorem ml_and {k : Nat} (hk : k < 36) (x : Int64) {i : Nat} (hi : i < 36) : ml_t (x &&& (((1 : Int64) <<< ((nI k).toInt64 &&& 63)) ^^^ (-1))) i = (ml_t x i && !decide (i = k)) := by
  unfold ml_t
  have ha : (-1 : Int64).toBitVec = BitVec.allOnes 64 := by decide
  rw [Int64.toBitVec_and, Int64.toBitVec_xor, ml_s k hk, ha, BitVec.getLsbD_and, BitVec.getLsbD_xor, BitVec.getLsbD_twoPow, BitVec.getLsbD_allOnes]
  by_cases c : i = k
  · simp [c, show k < 64 by omega]
  · simp [c, show ¬ k = i from fun z => c z.symm, show i < 64 by omega]
theorem ml_0 (i : Nat) : ml_t 0 i = false := BitVec.getLsbD_zero
/-! ===== the graph in the state ===== -/
def mc_E (a : Nat → Int32) (u v : Nat) : Prop := u < 6 ∧ v < 6 ∧ ¬ a (6 * u + v) = 0
def mc_w (a : Nat → Int32) (u v : Nat) : Int := (a (6 * u + v)).toInt
def mc_tm (x : Int32) (a : Nat → Int32) (u v : Nat) : Int := if x = 0 then 1 else mc_w a u v
def mc_dI (a : Nat → Int64) (v : Nat) : Int := (a v).toInt
def mc_D (a : Nat → Int64) (k v : Nat) : Int := (a (6 * k + v)).toInt
def mc_G (n : Nat) (a1 a2 a3 : Nat → Int32) : Prop := 1 ≤ n ∧ n ≤ 6 ∧ ∀ u v, mc_E a1 u v → (u < n ∧ v < n) ∧ (-20 ≤ mc_w a2 u v ∧ mc_w a2 u v ≤ 20) ∧ (1 ≤ mc_w a3 u v ∧ mc_w a3 u v ≤ 5)
theorem mc_G_E {n : Nat} {a1 a2 a3 : Nat → Int32} (G : mc_G n a1 a2 a3) : ∀ u v, mc_E a1 u v → u < n ∧ v < n := fun u v e => (G.2.2 u v e).1
theorem mc_G_w {n : Nat} {a1 a2 a3 : Nat → Int32} (G : mc_G n a1 a2 a3) : ∀ u v, mc_E a1 u v → -20 ≤ mc_w a2 u v ∧ mc_w a2 u v ≤ 20 := fun u v e => (G.2.2 u v e).2.1
theorem mc_G_t {n : Nat} {a1 a2 a3 : Nat → Int32} (G : mc_G n a1 a2 a3) (x : Int32) : ∀ u v, mc_E a1 u v → 1 ≤ mc_tm x a3 u v ∧ mc_tm x a3 u v ≤ 5 := by
  intro u v e
  unfold mc_tm
  split
  · omega
  · exact (G.2.2 u v e).2.2
/-- 36 places: a place is a pair -/
theorem mc_pair {u v u' v' : Nat} (hv : v < 6) (hv' : v' < 6) (h : 6 * u + v = 6 * u' + v') : u = u' ∧ v = v' := by omega
end
section
/-! ===== lowest terms ===== -/
theorem mq_lN {x : Int64} {m : Nat} (hm : m < 2 ^ 31) (h : x.toInt = (m : Int)) : x = lN m := Int64.toInt_inj.mp (by rw [h, lN_toInt hm])
theorem mw_low27 {post : St2 → Prop} {pc : Int32} {t b : Int64} {a1 a2 a3 : Nat → Int32} {a4 a5 : Nat → Int64} {a6 a7 : Nat → Int32} {g : Nat}
    (H : post (pc, t / lN g, b / lN g, a1, a2, a3, a4, a5, a6, a7)) :
    ∀ m k : Nat, m < 2 ^ 31 → 0 < k → k < 2 ^ 31 → Nat.gcd m k = g → ∃ fu, wX_lowest_27 post pc t b a1 a2 a3 a4 a5 a6 a7 fu (lN m) (lN k) := by
  intro m
  induction m using Nat.strongRecOn with
  | ind m ih =>
    intro k hm hk0 hk e
    rcases Nat.eq_zero_or_pos m with z | z
    · subst z
      rw [Nat.gcd_zero_left] at e
      subst e
      have hn : ¬ lN k = 0 := fun z => absurd ((lN_eq (b := 0) hk (by decide)).mp z) (by omega)
      refine ⟨1, br_t rfl ⟨hn, ?_⟩⟩
      intro f4 e4
      subst e4
      refine ⟨hn, ?_⟩
      intro f6 e6
      subst e6
      exact H
    · obtain ⟨fu, h⟩ := ih (k % m) (Nat.mod_lt _ z) m (Nat.lt_trans (Nat.mod_lt _ z) hm) z hm (by rw [← Nat.gcd_rec]; exact e)
      have hn : ¬ lN m = 0 := fun y => absurd ((lN_eq (b := 0) hm (by decide)).mp y) (by omega)
      exact ⟨fu + 1, br_f hn ⟨hn, nm_r (pk_lRem (by omega) z (by omega)) h⟩⟩
theorem mw_low {post : St2 → Prop} {pc : Int32} {t b : Int64} {a1 a2 a3 : Nat → Int32} {a4 a5 : Nat → Int64} {a6 a7 : Nat → Int32}
    (ht : -1000 ≤ t.toInt ∧ t.toInt ≤ 1000) (hb : 1 ≤ b.toInt ∧ b.toInt ≤ 1000)
    (H : ∀ (t' b' : Int64) (g : Int), 1 ≤ g → t.toInt = g * t'.toInt → b.toInt = g * b'.toInt → 1 ≤ b'.toInt → Nat.Coprime t'.toInt.natAbs b'.toInt.natAbs →
      post (pc, t', b', a1, a2, a3, a4, a5, a6, a7)) :
    wpX_lowest post (pc, t, b, a1, a2, a3, a4, a5, a6, a7) := by
  obtain ⟨g, eg⟩ : ∃ g, Nat.gcd t.toInt.natAbs b.toInt.natAbs = g := ⟨_, rfl⟩
  have hg : 1 ≤ g := by rw [← eg]; exact Nat.gcd_pos_of_pos_right _ (by omega)
  have hd1 : g ∣ t.toInt.natAbs := by rw [← eg]; exact Nat.gcd_dvd_left _ _
  have hd2 : g ∣ b.toInt.natAbs := by rw [← eg]; exact Nat.gcd_dvd_right _ _
  have hgl : g ≤ b.toInt.natAbs := Nat.le_of_dvd (by omega) hd2
  have g31 : g < 2 ^ 31 := by omega
  have e1 := mq_div (x := t) hg g31 (by omega) (by omega) (Int.ofNat_dvd_left.mpr hd1)
  have e2 := mq_div (x := b) hg g31 (by omega) (by omega) (Int.ofNat_dvd_left.mpr hd2)
  have n1 : (t / lN g).toInt.natAbs = t.toInt.natAbs / g := by rw [e1, Int.natAbs_mul, Int.natAbs_natCast, Nat.mul_div_cancel_left _ hg]
  have n2 : (b / lN g).toInt.natAbs = b.toInt.natAbs / g := by rw [e2, Int.natAbs_mul, Int.natAbs_natCast, Nat.mul_div_cancel_left _ hg]
  have hb' : 1 ≤ (b / lN g).toInt := by
    rcases Int.lt_or_le 0 (b / lN g).toInt with z | z
    · omega
    · have := Int.mul_le_mul_of_nonneg_left z (show (0 : Int) ≤ (g : Int) by omega)
      rw [Int.mul_zero] at this
      omega
  have P : post (pc, t / lN g, b / lN g, a1, a2, a3, a4, a5, a6, a7) := by
    refine H _ _ (g : Int) (by omega) e1 e2 hb' ?_
    rw [n1, n2, ← eg]
    exact Nat.coprime_div_gcd_div_gcd (by rw [eg]; exact hg)
  have eb : b = lN b.toInt.natAbs := mq_lN (by omega) (by omega)
  refine mq_le 0 t.toInt mq_z rfl (fun z => ?_) (fun z => ?_)
  · have et : t = lN t.toInt.natAbs := mq_lN (by omega) (by omega)
    obtain ⟨fu, h⟩ := mw_low27 (post := post) P t.toInt.natAbs b.toInt.natAbs (by omega) (by omega) (by omega) eg
    rw [← et, ← eb] at h
    exact ⟨fu, h⟩
  · have et : -t = lN t.toInt.natAbs := by
      refine mq_lN (by omega) ?_
      rw [Int64.toInt_neg, mq_b64 (by omega) (by omega)]
      omega
    obtain ⟨fu, h⟩ := mw_low27 (post := post) P t.toInt.natAbs b.toInt.natAbs (by omega) (by omega) (by omega) eg
    rw [← et, ← eb] at h
    exact nm_e ⟨fu, h⟩
/-! ===== the table of walks ===== -/
theorem mw_extend {post : St2 → Prop} {pc : Int32} {l u v : Nat} {t b : Int64} {a1 a2 a3 : Nat → Int32} {a4 a5 : Nat → Int64} {a6 a7 : Nat → Int32} {p3 : Int32} (hl : l < 6) (hu : u < 6) (hv : v < 6)
    (hb : mc_D a4 l u < 1000000000 → -1000 ≤ mc_D a4 l u) (hp : -20 ≤ p3.toInt ∧ p3.toInt ≤ 20)
    (H0 : (mc_D a4 l u < 1000000000 → mc_D a4 (l + 1) v ≤ mc_D a4 l u + p3.toInt) → post (pc, t, b, a1, a2, a3, a4, a5, a6, a7))
    (H1 : mc_D a4 l u < 1000000000 → mc_D a4 l u + p3.toInt < mc_D a4 (l + 1) v → ∀ z : Int64, z.toInt = mc_D a4 l u + p3.toInt → post (pc, t, b, a1, a2, a3, vp_updL a4 (6 * (l + 1) + v) z, a5, a6, a7)) :
    wpX_extendWalk post (pc, t, b, a1, a2, a3, a4, a5, a6, a7) (nI (l + 1)) (nI u) (nI v) p3 := by
  unfold wpX_extendWalk
  rw [mq_ix' l u, mq_ix (l + 1) v, nI_clamp (show 6 * l + u < 2 ^ 31 by omega), nI_clamp (show 6 * (l + 1) + v < 2 ^ 31 by omega)]
  refine ⟨vp_in_nI (by omega) (by decide), ?_⟩
  intro x5 e5
  subst e5
  refine mq_le 1000000000 (mc_D a4 l u) mq_far rfl (fun g => H0 (fun z => absurd z (by omega))) (fun g => ⟨vp_in_nI (by omega) (by decide), ?_⟩)
  have hb' := hb g
  have es : (a4 (6 * l + u) + p3.toInt64).toInt = mc_D a4 l u + p3.toInt := mq_add rfl (Int32.toInt_toInt64 p3) (by omega) (by omega)
  refine mq_le (mc_D a4 (l + 1) v) _ rfl es (fun g2 => H0 (fun _ => g2)) (fun g2 => ⟨vp_in_nI (by omega) (by decide), ?_⟩)
  intro a7' e7
  subst e7
  exact H1 g g2 _ es
/-- the row l + 1 is being made, arcs below a are done -/
def mc_KR (E : Nat → Nat → Prop) (w : Nat → Nat → Int) (l a : Nat) (D : Nat → Nat → Int) : Prop :=
  mc_K l E w D ∧
  (∀ u v, E u v → 6 * u + v < a → D l u < 1000000000 → D (l + 1) v ≤ D l u + w u v) ∧
  (∀ v, v < 6 → D (l + 1) v < 1000000000 → ∃ u, E u v ∧ D l u < 1000000000 ∧ D (l + 1) v = D l u + w u v) ∧
  (∀ k v, l + 1 < k → k ≤ 6 → v < 6 → 1000000000 ≤ D k v)
theorem mc_KR_0 {E : Nat → Nat → Prop} {w : Nat → Nat → Int} {l : Nat} {D : Nat → Nat → Int} (hl : l < 6) (K : mc_K l E w D) (h : ∀ k v, l < k → k ≤ 6 → v < 6 → 1000000000 ≤ D k v) : mc_KR E w l 0 D :=
  ⟨K, fun u v _ z => absurd z (by omega), fun v hv z => absurd z (by have := h (l + 1) v (by omega) (by omega) hv; omega), fun k v a b c => h k v (by omega) b c⟩
theorem mc_KR_36 {E : Nat → Nat → Prop} {w : Nat → Nat → Int} {l : Nat} {D : Nat → Nat → Int} (hE : ∀ u v, E u v → u < 6 ∧ v < 6)
    (hw : ∀ u v, E u v → -20 ≤ w u v ∧ w u v ≤ 20) (h : mc_KR E w l 36 D) : mc_K (l + 1) E w D ∧ (∀ k v, l + 1 < k → k ≤ 6 → v < 6 → 1000000000 ≤ D k v) := by
  obtain ⟨⟨K0, K1, K2, K3⟩, P1, P2, P3⟩ := h
  refine ⟨⟨K0, fun k u v hk e f => ?_, fun k v hk hv f => ?_, fun k v hk hv f => ?_⟩, P3⟩
  · by_cases c : k = l
    · subst c
      have := hE u v e
      exact P1 u v e (by omega) f
    · exact K1 k u v (by omega) e f
  · by_cases c : k = l
    · subst c
      exact P2 v hv f
    · exact K2 k v (by omega) hv f
  · by_cases c : k = l + 1
    · subst c
      obtain ⟨u, e, f1, f2⟩ := P2 v hv f
      have h1 := K3 l u (Nat.le_refl l) (hE u v e).1 f1
      have h2 := hw u v e
      omega
    · exact K3 k v (by omega) hv f
theorem mc_KR_skip {E : Nat → Nat → Prop} {w : Nat → Nat → Int} {l a : Nat} {D : Nat → Nat → Int} (H : ∀ u v, E u v → 6 * u + v = a → D l u < 1000000000 → D (l + 1) v ≤ D l u + w u v)
    (h : mc_KR E w l a D) : mc_KR E w l (a + 1) D := by
  obtain ⟨K, P1, P2, P3⟩ := h
  refine ⟨K, fun u v e z f => ?_, P2, P3⟩
  by_cases c : 6 * u + v = a
  · exact H u v e c f
  · exact P1 u v e (by omega) f
theorem mc_K_ext {E : Nat → Nat → Prop} {w : Nat → Nat → Int} {l : Nat} {D D' : Nat → Nat → Int} (hE : ∀ u v, E u v → u < 6 ∧ v < 6) (h : ∀ k y, k ≤ l → y < 6 → D' k y = D k y)
    (K : mc_K l E w D) : mc_K l E w D' := by
  obtain ⟨K0, K1, K2, K3⟩ := K
  refine ⟨fun v hv => ?_, fun k u v hk e f => ?_, fun k v hk hv f => ?_, fun k v hk hv f => ?_⟩
  · rw [h 0 v (Nat.zero_le _) hv]
    exact K0 v hv
  · have hh := hE u v e
    rw [h k u (by omega) hh.1] at f ⊢
    rw [h (k + 1) v (by omega) hh.2]
    exact K1 k u v hk e f
  · rw [h (k + 1) v (by omega) hv] at f ⊢
    obtain ⟨u, e, f1, f2⟩ := K2 k v hk hv f
    refine ⟨u, e, ?_⟩
    rw [h k u (by omega) (hE u v e).1]
    exact ⟨f1, f2⟩
  · rw [h k v hk hv] at f ⊢
    exact K3 k v hk hv f
theorem mc_KR_put {E : Nat → Nat → Prop} {w : Nat → Nat → Int} {l a : Nat} {D D' : Nat → Nat → Int} {u v : Nat} (hE : ∀ u v, E u v → u < 6 ∧ v < 6) (e : E u v) (ha : 6 * u + v = a)
    (f : D l u < 1000000000) (hs : D' (l + 1) v = D l u + w u v) (hlt : D l u + w u v < D (l + 1) v) (ho : ∀ k y, y < 6 → ¬ (k = l + 1 ∧ y = v) → D' k y = D k y)
    (h : mc_KR E w l a D) : mc_KR E w l (a + 1) D' := by
  obtain ⟨K, P1, P2, P3⟩ := h
  have huv := hE u v e
  have rl : ∀ k y, k ≤ l → y < 6 → D' k y = D k y := fun k y hk hy => ho k y hy (by omega)
  refine ⟨mc_K_ext hE rl K, fun x y exy z f' => ?_, fun y hy f' => ?_, fun k y hk hk6 hy => ?_⟩
  · have hxy := hE x y exy
    rw [rl l x (Nat.le_refl l) hxy.1] at f' ⊢
    by_cases c : 6 * x + y = a
    · have p := mc_pair hxy.2 huv.2 (c.trans ha.symm)
      obtain ⟨p1, p2⟩ := p
      subst p1 p2
      rw [hs]
      exact Int.le_refl _
    · have q := P1 x y exy (by omega) f'
      by_cases cy : y = v
      · subst cy
        rw [hs]
        omega
      · rw [ho (l + 1) y hxy.2 (by omega)]
        exact q
  · by_cases cy : y = v
    · subst cy
      refine ⟨u, e, ?_⟩
      rw [rl l u (Nat.le_refl l) huv.1]
      exact ⟨f, hs⟩
    · rw [ho (l + 1) y hy (by omega)] at f' ⊢
      obtain ⟨x, ex, f1, f2⟩ := P2 y hy f'
      refine ⟨x, ex, ?_⟩
      rw [rl l x (Nat.le_refl l) (hE x y ex).1]
      exact ⟨f1, f2⟩
  · rw [ho k y hy (by omega)]
    exact P3 k y hk hk6 hy
end
section
/-! ===== the greatest mean of what a full walk has more than a shorter one ===== -/
theorem mc_cross {A B T M s m : Int} (hB : 1 ≤ B) (hM : 0 ≤ M) (hs : 0 ≤ s) (h1 : A * B ≤ T * M) (h2 : T * s ≤ m * B) : A * s ≤ m * M := by
  apply Int.le_of_mul_le_mul_right (a := B) _ (by omega)
  have a1 : A * B * s ≤ T * M * s := Int.mul_le_mul_of_nonneg_right h1 hs
  have a2 : T * s * M ≤ m * B * M := Int.mul_le_mul_of_nonneg_right h2 hM
  rw [Int.mul_right_comm A B s, Int.mul_right_comm T M s] at a1
  rw [Int.mul_right_comm m B M] at a2
  exact Int.le_trans a1 a2
theorem mc_cross2 {A B T M t b : Int} (hb : 1 ≤ b) (hM : 0 ≤ M) (hB : 0 ≤ B) (h1 : t * M ≤ A * b) (h2 : T * b ≤ t * B) : T * M ≤ A * B := by
  apply Int.le_of_mul_le_mul_right (a := b) _ (by omega)
  have a1 : T * b * M ≤ t * B * M := Int.mul_le_mul_of_nonneg_right h2 hM
  have a2 : t * M * B ≤ A * b * B := Int.mul_le_mul_of_nonneg_right h1 hB
  rw [Int.mul_right_comm T b M, Int.mul_right_comm t B M] at a1
  rw [Int.mul_right_comm A b B] at a2
  exact Int.le_trans a1 a2
theorem mc_sc1 {A g p q M : Int} (hg : 1 ≤ g) (h : A * (g * q) ≤ g * p * M) : A * q ≤ p * M := by
  apply Int.le_of_mul_le_mul_left (a := g) _ (by omega)
  rw [Int.mul_left_comm, Int.mul_assoc] at h
  exact h
theorem mc_sc2 {A g p q M : Int} (hg : 1 ≤ g) (h : g * p * M ≤ A * (g * q)) : p * M ≤ A * q := by
  apply Int.le_of_mul_le_mul_left (a := g) _ (by omega)
  rw [Int.mul_left_comm A, Int.mul_assoc g] at h
  exact h
theorem mc_gle {x g y : Int} (hg : 1 ≤ g) (h : x = g * y) : y.natAbs ≤ x.natAbs := by
  rw [h, Int.natAbs_mul]
  exact Nat.le_mul_of_pos_left _ (by omega)
theorem mq_subN {n i : Nat} (h : i ≤ n) (hn : n < 2 ^ 31) : ((nI n - nI i).toInt64).toInt = (n : Int) - (i : Int) := by
  rw [pk_sub h, Int32.toInt_toInt64, nI_toInt (by omega)]
  omega
theorem mq_nar0 : narrow .boolean (.int 0) = .int 0 := congrArg Value.int (by decide : (0 : Int32) &&& 1 = 0)
theorem mq_nar1 : narrow .boolean (.int 1) = .int 1 := congrArg Value.int (by decide : (1 : Int32) &&& 1 = 1)
def mc_OM (n : Nat) (D : Nat → Nat → Int) (v i : Nat) (x y : Int) : Prop :=
  (y = 0 ∧ ∀ k, k < i → ¬ D k v < 1000000000) ∨
  ((∃ k, k < i ∧ D k v < 1000000000 ∧ x = D n v - D k v ∧ y = (n : Int) - (k : Int)) ∧ ∀ k, k < i → D k v < 1000000000 → (D n v - D k v) * y ≤ x * ((n : Int) - (k : Int)))
theorem mc_OM_skip {n : Nat} {D : Nat → Nat → Int} {v i : Nat} {x y : Int} (h : mc_OM n D v i x y) (hf : ¬ D i v < 1000000000) : mc_OM n D v (i + 1) x y := by
  rcases h with ⟨h1, h2⟩ | ⟨⟨k, k1, k2⟩, h2⟩
  · refine Or.inl ⟨h1, fun k hk => ?_⟩
    by_cases c : k = i
    · rw [c]; exact hf
    · exact h2 k (by omega)
  · refine Or.inr ⟨⟨k, by omega, k2⟩, fun j hj fj => ?_⟩
    by_cases c : j = i
    · exact absurd (c ▸ fj) hf
    · exact h2 j (by omega) fj
theorem mc_OM_first {n : Nat} {D : Nat → Nat → Int} {v i : Nat} {x y : Int} (h : mc_OM n D v i x y) (hi : i < n) (hy : y = 0) (hf : D i v < 1000000000) : mc_OM n D v (i + 1) (D n v - D i v) ((n : Int) - (i : Int)) := by
  rcases h with ⟨h1, h2⟩ | ⟨⟨k, k1, k2, k3, k4⟩, h2⟩
  · refine Or.inr ⟨⟨i, by omega, hf, rfl, rfl⟩, fun j hj fj => ?_⟩
    by_cases c : j = i
    · rw [c]; exact Int.le_refl _
    · exact absurd fj (h2 j (by omega))
  · omega
theorem mc_OM_new {n : Nat} {D : Nat → Nat → Int} {v i : Nat} {x y : Int} (h : mc_OM n D v i x y) (hi : i < n) (hy : y ≠ 0) (hf : D i v < 1000000000) (hl : x * ((n : Int) - (i : Int)) < (D n v - D i v) * y) :
    mc_OM n D v (i + 1) (D n v - D i v) ((n : Int) - (i : Int)) := by
  rcases h with ⟨h1, h2⟩ | ⟨⟨k, k1, k2, k3, k4⟩, h2⟩
  · exact absurd h1 hy
  · refine Or.inr ⟨⟨i, by omega, hf, rfl, rfl⟩, fun j hj fj => ?_⟩
    by_cases c : j = i
    · rw [c]; exact Int.le_refl _
    · exact mc_cross (B := y) (T := x) (by omega) (by omega) (by omega) (h2 j (by omega) fj) (by omega)
theorem mc_OM_keep {n : Nat} {D : Nat → Nat → Int} {v i : Nat} {x y : Int} (h : mc_OM n D v i x y) (hy : y ≠ 0) (hl : (D n v - D i v) * y ≤ x * ((n : Int) - (i : Int))) :
    mc_OM n D v (i + 1) x y := by
  rcases h with ⟨h1, h2⟩ | ⟨⟨k, k1, k2⟩, h2⟩
  · exact absurd h1 hy
  · refine Or.inr ⟨⟨k, by omega, k2⟩, fun j hj fj => ?_⟩
    by_cases c : j = i
    · rw [c]; exact hl
    · exact h2 j (by omega) fj
theorem mw_offer {post : St2 → Prop} {n v : Nat} {t b : Int64} {x2 : Int32} {a1 a2 a3 : Nat → Int32} {a4 a5 : Nat → Int64} {a6 a7 : Nat → Int32} (h1n : 1 ≤ n) (hn : n ≤ 6) (hv : v < n)
    (hD : ∀ k, k ≤ n → mc_D a4 k v < 1000000000 → -120 ≤ mc_D a4 k v ∧ mc_D a4 k v ≤ 120) (h0 : mc_D a4 0 v = 0) (hf : mc_D a4 n v < 1000000000)
    (hx : x2 = 0 ∨ (1 ≤ b.toInt ∧ b.toInt ≤ 6 ∧ -300 ≤ t.toInt ∧ t.toInt ≤ 300))
    (H : ∀ t' b' : Int64, (∃ k, k < n ∧ mc_D a4 k v < 1000000000 ∧ t'.toInt = mc_D a4 n v - mc_D a4 k v ∧ b'.toInt = (n : Int) - (k : Int)) →
      (∀ k, k < n → mc_D a4 k v < 1000000000 → (mc_D a4 n v - mc_D a4 k v) * b'.toInt ≤ t'.toInt * ((n : Int) - (k : Int))) → (x2 = 0 ∨ t'.toInt * b.toInt < t.toInt * b'.toInt) →
      post (nI n, t', b', a1, a2, a3, a4, a5, a6, a7))
    (H' : ∀ t' b' : Int, (∃ k, k < n ∧ mc_D a4 k v < 1000000000 ∧ t' = mc_D a4 n v - mc_D a4 k v ∧ b' = (n : Int) - (k : Int)) → ¬ x2 = 0 → t.toInt * b' ≤ t' * b.toInt → post (nI n, t, b, a1, a2, a3, a4, a5, a6, a7)) :
    wpX_offerMean post (nI n, t, b, a1, a2, a3, a4, a5, a6, a7) (nI v) x2 := by
  unfold wpX_offerMean
  dsimp only
  rw [mq_ix n v, nI_clamp (show 6 * n + v < 2 ^ 31 by omega)]
  refine ⟨vp_in_nI (by omega) (by decide), ?_⟩
  intro x3 e3
  have h3 : x3.toInt = mc_D a4 n v := by rw [e3]; rfl
  have hDn := hD n (Nat.le_refl n) hf
  refine pk_loop (fun k i (s : Int64 × Int64) => wX_offerMean_24 post (nI v) x2 x3 (nI n) t b a1 a2 a3 a4 a5 a6 a7 k s.1 s.2 (nI i)) (fun i s => mc_OM n (mc_D a4) v i s.1.toInt s.2.toInt) n 0 (0, 0) (by omega) ?_ ?_ ?_
  · exact Or.inl ⟨mq_z, fun k hk => absurd hk (by omega)⟩
  · intro k s hs
    rcases hs with ⟨_, z⟩ | ⟨hk, hb⟩
    · exact absurd (show mc_D a4 0 v < 1000000000 by rw [h0]; decide) (z 0 (by omega))
    · refine pk_le n n (fun _ => ?_) (fun z => absurd z (by omega))
      refine br_c (fun hx2 => H s.1 s.2 hk hb (Or.inl hx2)) (fun hx2 => ?_)
      obtain ⟨k', k1, k2, k3, k4⟩ := hk
      have hDk := hD k' (by omega) k2
      have hx' : 1 ≤ b.toInt ∧ b.toInt ≤ 6 ∧ -300 ≤ t.toInt ∧ t.toInt ≤ 300 := by
        rcases hx with z | z
        · exact absurd z hx2
        · exact z
      have m1 : (s.1 * b).toInt = s.1.toInt * b.toInt := mq_mul rfl rfl (by omega) (by omega)
      have m2 : (t * s.2).toInt = t.toInt * s.2.toInt := mq_mul rfl rfl (by omega) (by omega)
      exact mq_lt _ _ m1 m2 (fun g => H s.1 s.2 ⟨k', k1, k2, k3, k4⟩ hb (Or.inr g)) (fun g => H' _ _ ⟨k', k1, k2, k3, k4⟩ hx2 g)
  · intro k i s hi hs hw
    refine pk_le n i (fun z => absurd z (by omega)) (fun _ => ?_)
    rw [mq_ix i v, nI_clamp (show 6 * i + v < 2 ^ 31 by omega)]
    refine ⟨vp_in_nI (by omega) (by decide), ?_⟩
    intro x10 e10
    have h10 : x10.toInt = mc_D a4 i v := by rw [e10]; rfl
    refine mq_lt (mc_D a4 i v) 1000000000 h10 mq_far (fun g => ?_) (fun g => nm_r (nI_1 i) (hw s (mc_OM_skip hs (by omega))))
    have hDi := hD i (by omega) g
    intro x12 e12 x14 e14
    have h12 : x12.toInt = mc_D a4 n v - mc_D a4 i v := by rw [e12]; exact mq_sub h3 h10 (by omega) (by omega)
    have h14 : x14.toInt = (n : Int) - (i : Int) := by rw [e14]; exact mq_subN (by omega) (by omega)
    refine mq_eq s.2.toInt 0 rfl mq_z (fun z => nm_r (nI_1 i) (hw (x12, x14) ?_)) (fun z => ?_)
    · show mc_OM n (mc_D a4) v (i + 1) x12.toInt x14.toInt
      rw [h12, h14]
      exact mc_OM_first hs hi z g
    · have hb : -1000 ≤ s.1.toInt ∧ s.1.toInt ≤ 1000 ∧ -1000 ≤ s.2.toInt ∧ s.2.toInt ≤ 1000 := by
        rcases hs with ⟨z', _⟩ | ⟨⟨k', k1, k2, k3, k4⟩, _⟩
        · exact absurd z' z
        · have hDk := hD k' (by omega) k2
          omega
      have m1 : (s.1 * x14).toInt = s.1.toInt * ((n : Int) - (i : Int)) := mq_mul rfl h14 (by omega) (by omega)
      have m2 : (x12 * s.2).toInt = (mc_D a4 n v - mc_D a4 i v) * s.2.toInt := mq_mul h12 rfl (by omega) (by omega)
      refine mq_lt _ _ m1 m2 (fun z2 => nm_r (nI_1 i) (hw (x12, x14) ?_)) (fun z2 => nm_r (nI_1 i) (hw s (mc_OM_keep hs z z2)))
      show mc_OM n (mc_D a4) v (i + 1) x12.toInt x14.toInt
      rw [h12, h14]
      exact mc_OM_new hs hi z g z2
/-! ===== the least of them ===== -/
def mc_FM (n : Nat) (D : Nat → Nat → Int) (i : Nat) (x : Int32) (t b : Int) : Prop :=
  (x = 0 ∧ ∀ v, v < i → ¬ D n v < 1000000000) ∨
  (x = 1 ∧ (1 ≤ b ∧ b ≤ 6 ∧ -300 ≤ t ∧ t ≤ 300) ∧ (∃ v, v < n ∧ D n v < 1000000000 ∧ ∀ k, k < n → D k v < 1000000000 → (D n v - D k v) * b ≤ t * ((n : Int) - (k : Int))) ∧
    ∀ v, v < i → D n v < 1000000000 → ∃ k, k < n ∧ D k v < 1000000000 ∧ t * ((n : Int) - (k : Int)) ≤ (D n v - D k v) * b)
theorem mw_fm95 {post : Int32 → St2 → Prop} {n : Nat} {t b : Int64} {a1 a2 a3 : Nat → Int32} {a4 a5 : Nat → Int64} {a6 a7 : Nat → Int32} (G : mc_G n a1 a2 a3) (K : mc_K n (mc_E a1) (mc_w a2) (mc_D a4))
    (H0 : mc_No (mc_E a1) → ∀ t b, post 0 (nI n, t, b, a1, a2, a3, a4, a5, a6, a7))
    (H1 : ∀ t b : Int64, mc_Min (mc_E a1) (mc_w a2) (fun _ _ => 1) t.toInt b.toInt → (1 ≤ b.toInt ∧ b.toInt ≤ 6 ∧ -300 ≤ t.toInt ∧ t.toInt ≤ 300) → post 1 (nI n, t, b, a1, a2, a3, a4, a5, a6, a7)) :
    ∃ fu, wX_findMean_95 post fu 0 0 (nI n) t b a1 a2 a3 a4 a5 a6 a7 := by
  have hE := mc_G_E G
  have hw' := mc_G_w G
  obtain ⟨h1n, hn, _⟩ := G
  have hD : ∀ v, v < n → ∀ k, k ≤ n → mc_D a4 k v < 1000000000 → -120 ≤ mc_D a4 k v ∧ mc_D a4 k v ≤ 120 := by
    intro v hv k hk f
    have := K.2.2.2 k v hk (by omega) f
    omega
  refine pk_loop (fun k i (s : Int32 × Int64 × Int64) => wX_findMean_95 post k s.1 (nI i) (nI n) s.2.1 s.2.2 a1 a2 a3 a4 a5 a6 a7) (fun i s => mc_FM n (mc_D a4) i s.1 s.2.1.toInt s.2.2.toInt) n 0 (0, t, b) (by omega) ?_ ?_ ?_
  · exact Or.inl ⟨rfl, fun v hv => absurd hv (by omega)⟩
  · intro k s hs
    obtain ⟨x, t, b⟩ := s
    have hs : mc_FM n (mc_D a4) n x t.toInt b.toInt := hs
    show wX_findMean_95 post (k + 1) x (nI n) (nI n) t b a1 a2 a3 a4 a5 a6 a7
    refine pk_le n n (fun _ => ?_) (fun z => absurd z (by omega))
    rcases hs with ⟨e, z⟩ | ⟨e, ⟨b1, b2, b3, b4⟩, ⟨v, v1, v2, v3⟩, z⟩
    · have e' : x = 0 := e
      subst e'
      exact br_t rfl ⟨mq_nar0, H0 (mc_karp_none hn hE hw' K z) t b⟩
    · have e' : x = 1 := e
      subst e'
      refine br_f (by decide) (mw_low (by omega) (by omega) ?_)
      intro t' b' g hg et eb hb' cop
      have g1 := mc_gle hg et
      have g2 := mc_gle hg eb
      have b1' : 1 ≤ b.toInt := b1
      have b2' : b.toInt ≤ 6 := b2
      have b3' : -300 ≤ t.toInt := b3
      have b4' : t.toInt ≤ 300 := b4
      have v3' : ∀ k, k < n → mc_D a4 k v < 1000000000 → (mc_D a4 n v - mc_D a4 k v) * b'.toInt ≤ t'.toInt * ((n : Int) - (k : Int)) := by
        intro k hk f
        have y : (mc_D a4 n v - mc_D a4 k v) * b.toInt ≤ t.toInt * ((n : Int) - (k : Int)) := v3 k hk f
        rw [et, eb] at y
        exact mc_sc1 hg y
      have z' : ∀ v, v < n → mc_D a4 n v < 1000000000 → ∃ k, k < n ∧ mc_D a4 k v < 1000000000 ∧ t'.toInt * ((n : Int) - (k : Int)) ≤ (mc_D a4 n v - mc_D a4 k v) * b'.toInt := by
        intro v hv f
        obtain ⟨k, k1, k2, k3⟩ := z v hv f
        have y : t.toInt * ((n : Int) - (k : Int)) ≤ (mc_D a4 n v - mc_D a4 k v) * b.toInt := k3
        rw [et, eb] at y
        exact ⟨k, k1, k2, mc_sc2 hg y⟩
      obtain ⟨d, hd⟩ := mc_karp_pot h1n hn hE hw' K hb' z'
      have cyc := mc_karp_cyc hn hE hw' K hb' hd v1 v2 v3'
      exact ⟨mq_nar1, H1 t' b' ⟨hb', cop, ⟨d, hd⟩, cyc⟩ ⟨hb', by omega, by omega, by omega⟩⟩
  · intro k i s hi hs hw
    obtain ⟨x, t, b⟩ := s
    have hs : mc_FM n (mc_D a4) i x t.toInt b.toInt := hs
    show wX_findMean_95 post (k + 1) x (nI i) (nI n) t b a1 a2 a3 a4 a5 a6 a7
    refine pk_le n i (fun z => absurd z (by omega)) (fun _ => ?_)
    rw [mq_ix n i, nI_clamp (show 6 * n + i < 2 ^ 31 by omega)]
    refine ⟨vp_in_nI (by omega) (by decide), ?_⟩
    refine mq_lt (mc_D a4 n i) 1000000000 rfl mq_far (fun f => ?_) (fun f => ?_)
    · refine mw_offer h1n hn hi (hD i hi) (K.1 i (by omega)) f ?_ ?_ ?_
      · rcases hs with ⟨e, z⟩ | ⟨e, z, _⟩
        · exact Or.inl e
        · exact Or.inr z
      · intro t' b' hk hb hor
        obtain ⟨j, j1, j2, j3, j4⟩ := hk
        have hj := hD i hi j (by omega) j2
        have hni := hD i hi n (Nat.le_refl n) f
        have bd : 1 ≤ b'.toInt ∧ b'.toInt ≤ 6 ∧ -300 ≤ t'.toInt ∧ t'.toInt ≤ 300 := by omega
        refine nm_r (nI_1 i) (hw (1, t', b') (Or.inr ⟨rfl, bd, ⟨i, hi, f, hb⟩, fun v hv fv => ?_⟩))
        show ∃ k, k < n ∧ mc_D a4 k v < 1000000000 ∧ t'.toInt * ((n : Int) - (k : Int)) ≤ (mc_D a4 n v - mc_D a4 k v) * b'.toInt
        by_cases c : v = i
        · subst c
          exact ⟨j, j1, j2, by rw [← j3, ← j4]; exact Int.le_refl _⟩
        · rcases hs with ⟨e, z⟩ | ⟨e, z, _, y⟩
          · exact absurd fv (z v (by omega))
          · obtain ⟨k, k1, k2, k3⟩ := y v (by omega) fv
            have z1 : 1 ≤ b.toInt := z.1
            rcases hor with o | o
            · have e' : x = 1 := e
              rw [e'] at o
              exact absurd o (by decide)
            · exact ⟨k, k1, k2, mc_cross2 (t := t.toInt) (b := b.toInt) z1 (by omega) (by omega) k3 (by omega)⟩
      · intro t' b' hk hx2 hl
        obtain ⟨j, j1, j2, j3, j4⟩ := hk
        rcases hs with ⟨e, z⟩ | ⟨e, z, y1, y⟩
        · exact absurd e hx2
        · refine nm_r (nI_1 i) (hw (1, t, b) (Or.inr ⟨rfl, z, y1, fun v hv fv => ?_⟩))
          by_cases c : v = i
          · subst c
            exact ⟨j, j1, j2, by rw [← j3, ← j4]; exact hl⟩
          · exact y v (by omega) fv
    · refine nm_r (nI_1 i) (hw (x, t, b) ?_)
      rcases hs with ⟨e, z⟩ | ⟨e, z, y1, y⟩
      · refine Or.inl ⟨e, fun v hv => ?_⟩
        by_cases c : v = i
        · rw [c]; omega
        · exact z v (by omega)
      · refine Or.inr ⟨e, z, y1, fun v hv fv => ?_⟩
        by_cases c : v = i
        · rw [c] at fv; omega
        · exact y v (by omega) fv
/-! ===== the whole search ===== -/
theorem mw_fm45 {post : Int32 → St2 → Prop} {J : Int32 → Int32 → Int64 → Int64 → (Nat → Int32) → (Nat → Int32) → (Nat → Int32) → (Nat → Int64) → (Nat → Int64) → (Nat → Int32) → (Nat → Int32) → Prop} {n l : Nat} {t b : Int64} {a1 a2 a3 : Nat → Int32} {a4 a5 : Nat → Int64} {a6 a7 : Nat → Int32} (G : mc_G n a1 a2 a3) (hl : l < 6)
    (h0 : mc_KR (mc_E a1) (mc_w a2) l 0 (mc_D a4)) (H : ∀ a4, mc_KR (mc_E a1) (mc_w a2) l 36 (mc_D a4) → J (nI (l + 1 + 1)) (nI n) t b a1 a2 a3 a4 a5 a6 a7) :
    ∃ fu, wX_findMean_45 post J (nI (l + 1)) fu 0 (nI n) t b a1 a2 a3 a4 a5 a6 a7 := by
  have hE6 : ∀ u v, mc_E a1 u v → u < 6 ∧ v < 6 := fun u v e => ⟨e.1, e.2.1⟩
  refine pk_loop (fun k i s => wX_findMean_45 post J (nI (l + 1)) k (nI i) (nI n) t b a1 a2 a3 s a5 a6 a7) (fun i s => mc_KR (mc_E a1) (mc_w a2) l i (mc_D s)) 36 0 a4 (by omega) h0 ?_ ?_
  · intro k s hs
    exact pk_le 36 36 (fun _ => nm_r (nI_1 (l + 1)) (H s hs)) (fun z => absurd z (by omega))
  · intro k i s hi hs hw
    refine pk_le 36 i (fun z => absurd z (by omega)) (fun _ => ⟨pk_in i 36 hi, ?_⟩)
    rw [nI_clamp (show i < 2 ^ 31 by omega)]
    have ei : 6 * (i / 6) + i % 6 = i := by omega
    refine br_c (fun z => nm_r (nI_1 i) (hw s (mc_KR_skip (fun u v e h _ => ?_) hs))) (fun z => ⟨by decide, by decide, pk_in i 36 hi, ?_⟩)
    · exact absurd z (h ▸ e.2.2)
    · have d1 : nI i / 6 = nI (i / 6) := pk_div (d := 6) (by omega) (by decide) (by decide)
      have d2 : nI i - nI i / 6 * 6 = nI (i % 6) := pk_rem (d := 6) (by omega) (by decide) (by decide)
      rw [d2, d1]
      have e : mc_E a1 (i / 6) (i % 6) := ⟨by omega, by omega, by rw [ei]; exact z⟩
      have hg := G.2.2 _ _ e
      have ew : mc_w a2 (i / 6) (i % 6) = (a2 i).toInt := by unfold mc_w; rw [ei]
      rw [ew] at hg
      refine mw_extend hl (by omega) (by omega) ?_ hg.2.1 ?_ ?_
      · intro f
        have := hs.1.2.2.2 l (i / 6) (Nat.le_refl l) (by omega) f
        omega
      · intro h
        refine nm_r (nI_1 i) (hw s (mc_KR_skip (fun u v e' h' f => ?_) hs))
        have p := mc_pair (u' := i / 6) (v' := i % 6) e'.2.1 (by omega) (h'.trans ei.symm)
        rw [p.1] at f
        rw [p.1, p.2, ew]
        exact h f
      · intro f h zz hz
        refine nm_r (nI_1 i) (hw _ (mc_KR_put hE6 e ei f (D' := mc_D (vp_updL s (6 * (l + 1) + i % 6) zz)) ?_ (by rw [ew]; exact h) ?_ hs))
        · rw [ew, ← hz]
          unfold mc_D
          rw [pk_uLs]
        · intro k' y hy hne
          unfold mc_D
          rw [pk_uLn (by omega)]
theorem mw_mean {post : Int32 → St2 → Prop} {n : Nat} {t b : Int64} {a1 a2 a3 : Nat → Int32} {a4 a5 : Nat → Int64} {a6 a7 : Nat → Int32} (G : mc_G n a1 a2 a3)
    (H0 : mc_No (mc_E a1) → ∀ t b a4, post 0 (nI n, t, b, a1, a2, a3, a4, a5, a6, a7))
    (H1 : ∀ (t b : Int64) a4, mc_Min (mc_E a1) (mc_w a2) (fun _ _ => 1) t.toInt b.toInt → (1 ≤ b.toInt ∧ b.toInt ≤ 6 ∧ -300 ≤ t.toInt ∧ t.toInt ≤ 300) → post 1 (nI n, t, b, a1, a2, a3, a4, a5, a6, a7)) :
    wpX_findMean post (nI n, t, b, a1, a2, a3, a4, a5, a6, a7) := by
  have h1n := G.1
  have hn := G.2.1
  have hE6 : ∀ u v, mc_E a1 u v → u < 6 ∧ v < 6 := fun u v e => ⟨e.1, e.2.1⟩
  show ∃ fu, wX_findMean_2 post (nI n) t b fu 0 a1 a2 a3 a4 a5 a6 a7
  refine pk_loop (fun k i s => wX_findMean_2 post (nI n) t b k (nI i) a1 a2 a3 s a5 a6 a7) (fun i s => ∀ j, j < i → (s j).toInt = if j < 6 then 0 else 1000000000) 42 0 a4 (by omega) (fun j hj => absurd hj (by omega)) ?_ ?_
  · intro k s hs
    refine pk_le 42 42 (fun _ => ?_) (fun z => absurd z (by omega))
    have K0 : mc_K 0 (mc_E a1) (mc_w a2) (mc_D s) ∧ ∀ k v, 0 < k → k ≤ 6 → v < 6 → 1000000000 ≤ mc_D s k v := by
      refine ⟨⟨fun v hv => ?_, fun k u v hk => absurd hk (by omega), fun k v hk => absurd hk (by omega), fun k v hk hv _ => ?_⟩, fun k v h1 h2 h3 => ?_⟩
      · show (s (6 * 0 + v)).toInt = 0
        rw [hs _ (by omega), if_pos (by omega)]
      · have ek : k = 0 := by omega
        subst ek
        show -20 * ((0 : Nat) : Int) ≤ (s (6 * 0 + v)).toInt ∧ (s (6 * 0 + v)).toInt ≤ 20 * ((0 : Nat) : Int)
        rw [hs _ (by omega), if_pos (by omega)]
        omega
      · show 1000000000 ≤ (s (6 * k + v)).toInt
        rw [hs _ (by omega), if_neg (by omega)]
        omega
    refine pk_loop (fun k i s => wX_findMean_35 post k (nI i) (nI n) t b a1 a2 a3 s a5 a6 a7) (fun i s => 1 ≤ i ∧ mc_K (i - 1) (mc_E a1) (mc_w a2) (mc_D s) ∧ ∀ k v, i - 1 < k → k ≤ 6 → v < 6 → 1000000000 ≤ mc_D s k v) (n + 1) 1 s (by omega) ⟨Nat.le_refl 1, K0⟩ ?_ ?_
    · intro k s hs
      refine pk_lt n (n + 1) (fun _ => ?_) (fun z => absurd z (by omega))
      exact mw_fm95 G hs.2.1 (fun h t b => H0 h t b s) (fun t b h h' => H1 t b s h h')
    · intro k i s hi hs hw
      refine pk_lt n i (fun z => absurd z (by omega)) (fun hi1 => ?_)
      obtain ⟨l, el⟩ : ∃ l, i = l + 1 := ⟨i - 1, by have := hs.1; omega⟩
      subst el
      refine mw_fm45 G (by omega) (mc_KR_0 (by omega) hs.2.1 hs.2.2) (fun s' hs' => hw s' ?_)
      exact ⟨by omega, mc_KR_36 hE6 (mc_G_w G) hs'⟩
  · intro k i s hi hs hw
    refine pk_le 42 i (fun z => absurd z (by omega)) (fun _ => ?_)
    have fill : ∀ z : Int64, z.toInt = (if i < 6 then 0 else 1000000000) → ∀ j, j < i + 1 → (vp_updL s i z j).toInt = if j < 6 then 0 else 1000000000 := by
      intro z hz j hj
      by_cases c : j = i
      · subst c
        rw [pk_uLs]
        exact hz
      · rw [pk_uLn c]
        exact hs j (by omega)
    rw [nI_clamp (show i < 2 ^ 31 by omega)]
    refine pk_le 6 i (fun z => ⟨pk_in i 42 hi, nm_e (nm_r (nI_1 i) (hw _ (fill _ ?_)))⟩) (fun z => ⟨pk_in i 42 hi, nm_e (nm_r (nI_1 i) (hw _ (fill _ ?_)))⟩)
    · rw [if_neg (by omega)]
      exact mq_far
    · rw [if_pos (by omega)]
      exact mq_z
end
section
/-! ===== reducedWeight, relax ===== -/
theorem mw_rw {post : Int64 → Prop} {pc x1 : Int32} {u v k : Nat} {t b : Int64} {a1 a2 a3 : Nat → Int32} {a4 a5 : Nat → Int64} {a6 a7 : Nat → Int32} (hk : 6 * u + v = k) (hk2 : k < 36)
    (hw : -20 ≤ mc_w a2 u v ∧ mc_w a2 u v ≤ 20) (ht : 1 ≤ mc_tm x1 a3 u v ∧ mc_tm x1 a3 u v ≤ 5) (hb : 1 ≤ b.toInt ∧ b.toInt ≤ 30 ∧ -300 ≤ t.toInt ∧ t.toInt ≤ 300)
    (H : ∀ r : Int64, r.toInt = mc_w a2 u v * b.toInt - t.toInt * mc_tm x1 a3 u v → -4000 ≤ r.toInt → r.toInt ≤ 4000 → post r) :
    wpX_reducedWeight post (pc, t, b, a1, a2, a3, a4, a5, a6, a7) (nI k) x1 := by
  unfold wpX_reducedWeight
  dsimp only
  rw [nI_clamp (show k < 2 ^ 31 by omega)]
  have ew : (a2 k).toInt = mc_w a2 u v := by unfold mc_w; rw [hk]
  have b1 := mq_mb 20 30 hw (show -((30 : Nat) : Int) ≤ b.toInt ∧ b.toInt ≤ ((30 : Nat) : Int) by omega)
  have b2 := mq_mb 300 5 (show -((300 : Nat) : Int) ≤ t.toInt ∧ t.toInt ≤ ((300 : Nat) : Int) by omega) (show -((5 : Nat) : Int) ≤ mc_tm x1 a3 u v ∧ mc_tm x1 a3 u v ≤ ((5 : Nat) : Int) by omega)
  have m1 : ((a2 k).toInt64 * b).toInt = mc_w a2 u v * b.toInt := mq_mul ((Int32.toInt_toInt64 _).trans ew) rfl (by omega) (by omega)
  have key : ∀ tt : Int64, tt.toInt = mc_tm x1 a3 u v → post ((a2 k).toInt64 * b - t * tt) := by
    intro tt e
    have m2 : (t * tt).toInt = t.toInt * mc_tm x1 a3 u v := mq_mul rfl e (by omega) (by omega)
    have m3 := mq_sub m1 m2 (by omega) (by omega)
    exact H _ m3 (by omega) (by omega)
  refine ⟨vp_in_nI hk2 (by decide), br_c (fun z => key _ ?_) (fun z => ⟨vp_in_nI hk2 (by decide), key _ ?_⟩)⟩
  · unfold mc_tm
    rw [if_pos z]
    decide
  · unfold mc_tm mc_w
    rw [if_neg z, hk]
    exact Int32.toInt_toInt64 _
theorem mq_by : ∀ u, u < 6 → (nI u).toInt8.toInt32 = nI u := by decide +kernel
theorem mw_r45 {post : Int32 → St2 → Prop} {J : Int32 → Int32 → (Nat → Int32) → (Nat → Int32) → (Nat → Int32) → (Nat → Int64) → (Nat → Int64) → (Nat → Int32) → (Nat → Int32) → Prop}
    {n r : Nat} {x1 : Int32} {t b : Int64} {a1 a2 a3 : Nat → Int32} {a4 a5 : Nat → Int64} {a6 a7 : Nat → Int32} {τ : Nat → Nat} (G : mc_G n a1 a2 a3) (hb : 1 ≤ b.toInt ∧ b.toInt ≤ 30 ∧ -300 ≤ t.toInt ∧ t.toInt ≤ 300) (hr : r ≤ 6)
    (h0 : mc_BF n (mc_E a1) (fun u v => mc_w a2 u v * b.toInt - t.toInt * mc_tm x1 a3 u v) r 0 (mc_dI a5) a6 τ) (hd0 : mc_BD (36 * r) (mc_dI a5))
    (H : ∀ (x2 : Int32) a5 a6 τ, mc_BF n (mc_E a1) (fun u v => mc_w a2 u v * b.toInt - t.toInt * mc_tm x1 a3 u v) r 36 (mc_dI a5) a6 τ →
      mc_BB n (mc_E a1) (fun u v => mc_w a2 u v * b.toInt - t.toInt * mc_tm x1 a3 u v) r 36 (mc_dI a5) τ x2 → mc_BD (36 * r + 36) (mc_dI a5) → J x2 (nI (r + 1)) a1 a2 a3 a4 a5 a6 a7) :
    ∃ fu, wX_relax_45 post J x1 (nI r) (nI n) t b fu (-1) 0 a1 a2 a3 a4 a5 a6 a7 := by
  have hn := G.2.1
  have hE := mc_G_E G
  refine pk_loop (fun k i (s : Int32 × (Nat → Int64) × (Nat → Int32)) => wX_relax_45 post J x1 (nI r) (nI n) t b k s.1 (nI i) a1 a2 a3 a4 s.2.1 s.2.2 a7)
    (fun i s => ∃ τ, mc_BF n (mc_E a1) (fun u v => mc_w a2 u v * b.toInt - t.toInt * mc_tm x1 a3 u v) r i (mc_dI s.2.1) s.2.2 τ ∧ mc_BB n (mc_E a1) (fun u v => mc_w a2 u v * b.toInt - t.toInt * mc_tm x1 a3 u v) r i (mc_dI s.2.1) τ s.1 ∧ mc_BD (36 * r + i) (mc_dI s.2.1))
    36 0 (-1, a5, a6) (by omega) ⟨τ, h0, Or.inl ⟨rfl, fun u v _ z => absurd z (by omega)⟩, hd0⟩ ?_ ?_
  · intro k s hs
    obtain ⟨τ, s1, s2, s3⟩ := hs
    exact pk_le 36 36 (fun _ => nm_r (nI_1 r) (H _ _ _ τ s1 s2 s3)) (fun z => absurd z (by omega))
  · intro k i s hi hs hw
    obtain ⟨x2, a5, a6⟩ := s
    obtain ⟨τ, s1, s2, s3⟩ := hs
    have s1 : mc_BF n (mc_E a1) (fun u v => mc_w a2 u v * b.toInt - t.toInt * mc_tm x1 a3 u v) r i (mc_dI a5) a6 τ := s1
    have s2 : mc_BB n (mc_E a1) (fun u v => mc_w a2 u v * b.toInt - t.toInt * mc_tm x1 a3 u v) r i (mc_dI a5) τ x2 := s2
    have s3 : mc_BD (36 * r + i) (mc_dI a5) := s3
    show wX_relax_45 post J x1 (nI r) (nI n) t b (k + 1) x2 (nI i) a1 a2 a3 a4 a5 a6 a7
    have ei : 6 * (i / 6) + i % 6 = i := by omega
    have d1 : nI i / 6 = nI (i / 6) := pk_div (d := 6) (by omega) (by decide) (by decide)
    have d2 : nI i - nI i / 6 * 6 = nI (i % 6) := pk_rem (d := 6) (by omega) (by decide) (by decide)
    refine pk_le 36 i (fun z => absurd z (by omega)) (fun _ => ⟨pk_in i 36 hi, ?_⟩)
    rw [d2, d1, nI_clamp (show i < 2 ^ 31 by omega)]
    have skip : (∀ u v, mc_E a1 u v → 6 * u + v = i → mc_dI a5 v ≤ mc_dI a5 u + (mc_w a2 u v * b.toInt - t.toInt * mc_tm x1 a3 u v)) → wX_relax_45 post J x1 (nI r) (nI n) t b k x2 (nI (i + 1)) a1 a2 a3 a4 a5 a6 a7 :=
      fun h => hw (x2, a5, a6) ⟨τ, mc_BF_skip h s1, mc_BB_skip h s2, mc_BD_mono s3 (by omega)⟩
    refine br_c (fun z => nm_r (nI_1 i) (skip (fun u v e h => absurd z (h ▸ e.2.2)))) (fun z => ⟨by decide, ?_⟩)
    intro x5 e5
    subst e5
    rw [nI_clamp (show i / 6 < 2 ^ 31 by omega), nI_clamp (show i % 6 < 2 ^ 31 by omega), mq_by (i / 6) (by omega)]
    have e : mc_E a1 (i / 6) (i % 6) := ⟨by omega, by omega, by rw [ei]; exact z⟩
    have hg := G.2.2 _ _ e
    refine ⟨by decide, pk_in (i / 6) 6 (by omega), mw_rw ei hi hg.2.1 (mc_G_t G x1 _ _ e) hb ?_⟩
    intro rr hr0 hr1 hr2
    have hd := s3 (i / 6) (by omega)
    intro x6 e6
    have h6 : x6.toInt = mc_dI a5 (i / 6) + rr.toInt := by
      rw [e6]
      exact mq_add rfl rfl (by show -9223372036854775808 ≤ mc_dI a5 (i / 6) + rr.toInt; omega) (by show mc_dI a5 (i / 6) + rr.toInt < 9223372036854775808; omega)
    refine ⟨pk_in (i % 6) 6 (by omega), mq_lt _ (mc_dI a5 (i % 6)) h6 rfl (fun g => ?_) (fun g => nm_r (nI_1 i) (skip (fun u v e' h => ?_)))⟩
    · refine ⟨pk_in (i % 6) 6 (by omega), nm_e ⟨by decide, pk_in (i % 6) 6 (by omega), nm_e (nm_r (nI_1 i) (hw (nI (i % 6), vp_updL a5 (i % 6) x6, upd a6 (i % 6) (nI (i / 6))) ?_))⟩⟩
      have u1 : mc_dI (vp_updL a5 (i % 6) x6) (i % 6) = mc_dI a5 (i / 6) + rr.toInt := by unfold mc_dI; rw [pk_uLs]; exact h6
      have u2 : ∀ j, j ≠ i % 6 → mc_dI (vp_updL a5 (i % 6) x6) j = mc_dI a5 j := fun j hj => by unfold mc_dI; rw [pk_uLn hj]
      refine ⟨_, mc_BF_step hn hE e ei (by rw [← hr0]; exact g) (by rw [← hr0]; exact u1) u2 pk_us (fun j hj => pk_un hj) s1, Or.inr ⟨i % 6, hg.1.2, rfl, ?_⟩, mc_BD_step (x := rr.toInt) (by omega) s3 (by omega) g (by omega) u1 u2⟩
      show 36 * r + 1 ≤ (if i % 6 = i % 6 then 36 * r + i + 1 else τ (i % 6))
      rw [if_pos rfl]
      omega
    · have p := mc_pair (u' := i / 6) (v' := i % 6) e'.2.1 (by omega) (h.trans ei.symm)
      rw [p.1, p.2, ← hr0]
      exact g
theorem mw_relax {post : Int32 → St2 → Prop} {n : Nat} {x1 : Int32} {t b : Int64} {a1 a2 a3 : Nat → Int32} {a4 a5 : Nat → Int64} {a6 a7 : Nat → Int32} (G : mc_G n a1 a2 a3) (hb : 1 ≤ b.toInt ∧ b.toInt ≤ 30 ∧ -300 ≤ t.toInt ∧ t.toInt ≤ 300)
    (H0 : ∀ a5 a6, mc_pot (mc_E a1) (mc_w a2) (mc_tm x1 a3) t.toInt b.toInt (mc_dI a5) → mc_BD 300 (mc_dI a5) → post (-1) (nI n, t, b, a1, a2, a3, a4, a5, a6, a7))
    (H1 : ∀ v a5 a6 τ, v < n → mc_BF n (mc_E a1) (fun u v => mc_w a2 u v * b.toInt - t.toInt * mc_tm x1 a3 u v) (n + 1) 0 (mc_dI a5) a6 τ → 36 * n + 1 ≤ τ v → post (nI v) (nI n, t, b, a1, a2, a3, a4, a5, a6, a7)) :
    wpX_relax post (nI n, t, b, a1, a2, a3, a4, a5, a6, a7) x1 := by
  have hn := G.2.1
  have hE := mc_G_E G
  show ∃ fu, wX_relax_2 post x1 (nI n) t b fu 0 a1 a2 a3 a4 a5 a6 a7
  refine pk_loop (fun k i (s : (Nat → Int64) × (Nat → Int32)) => wX_relax_2 post x1 (nI n) t b k (nI i) a1 a2 a3 a4 s.1 s.2 a7) (fun i s => ∀ j, j < i → s.1 j = 0) 6 0 (a5, a6) (by omega) (fun j hj => absurd hj (by omega)) ?_ ?_
  · intro k s hs
    obtain ⟨a5, a6⟩ := s
    have hs : ∀ j, j < 6 → a5 j = 0 := hs
    show wX_relax_2 post x1 (nI n) t b (k + 1) (nI 6) a1 a2 a3 a4 a5 a6 a7
    refine pk_le 6 6 (fun _ => ?_) (fun z => absurd z (by omega))
    refine pk_loop (fun k r (s : Int32 × (Nat → Int64) × (Nat → Int32)) => wX_relax_32 post x1 (nI n) t b k s.1 (nI r) a1 a2 a3 a4 s.2.1 s.2.2 a7)
      (fun r s => ∃ τ, mc_BF n (mc_E a1) (fun u v => mc_w a2 u v * b.toInt - t.toInt * mc_tm x1 a3 u v) r 0 (mc_dI s.2.1) s.2.2 τ ∧ mc_BD (36 * r) (mc_dI s.2.1) ∧ (r = 0 ∨ ∃ r', r = r' + 1 ∧ mc_BB n (mc_E a1) (fun u v => mc_w a2 u v * b.toInt - t.toInt * mc_tm x1 a3 u v) r' 36 (mc_dI s.2.1) τ s.1))
      (n + 1) 0 (-1, a5, a6) (by omega) ⟨_, mc_BF_0 hn hE, ?_, Or.inl rfl⟩ ?_ ?_
    · intro v hv
      show -4000 * ((36 * 0 : Nat) : Int) ≤ (a5 v).toInt ∧ (a5 v).toInt ≤ 0
      rw [hs v hv, mq_z]
      omega
    · intro k s hs
      obtain ⟨x2, a5, a6⟩ := s
      obtain ⟨τ, s1, s2, s3⟩ := hs
      refine pk_lt n (n + 1) (fun _ => ?_) (fun z => absurd z (by omega))
      rcases s3 with z | ⟨r', e, s3⟩
      · exact absurd z (by omega)
      · have e' : r' = n := by omega
        subst e'
        rcases s3 with ⟨e1, s3⟩ | ⟨v, v1, v2, v3⟩
        · have e1 : x2 = -1 := e1
          subst e1
          refine H0 a5 a6 (fun u v e => s3 u v e ?_) (mc_BD_mono s2 (by omega))
          have := e.1
          have := e.2.1
          omega
        · have v2 : x2 = nI v := v2
          subst v2
          exact H1 v a5 a6 τ v1 s1 v3
    · intro k r s hr hs hw
      obtain ⟨x2, a5, a6⟩ := s
      obtain ⟨τ, s1, s2, s3⟩ := hs
      refine pk_lt n r (fun z => absurd z (by omega)) (fun _ => ?_)
      refine mw_r45 G hb (by omega) s1 s2 (fun x2 a5 a6 τ h1 h2 h3 => hw (x2, a5, a6) ⟨τ, mc_BF_next hn hE h1, mc_BD_mono h3 (by omega), Or.inr ⟨r, rfl, h2⟩⟩)
  · intro k i s hi hs hw
    obtain ⟨a5, a6⟩ := s
    have hs : ∀ j, j < i → a5 j = 0 := hs
    show wX_relax_2 post x1 (nI n) t b (k + 1) (nI i) a1 a2 a3 a4 a5 a6 a7
    refine pk_le 6 i (fun z => absurd z (by omega)) (fun _ => ?_)
    rw [nI_clamp (show i < 2 ^ 31 by omega)]
    refine ⟨pk_in i 6 hi, nm_e ⟨pk_in i 6 hi, nm_e (nm_r (nI_1 i) (hw (vp_updL a5 i 0, upd a6 i (-1)) ?_))⟩⟩
    intro j hj
    show vp_updL a5 i 0 j = 0
    by_cases c : j = i
    · rw [c, pk_uLs]
    · rw [pk_uLn c]
      exact hs j (by omega)
end
section
/-! ===== takeCircle ===== -/
theorem mc_tm1 (a3 : Nat → Int32) : mc_tm 1 a3 = mc_w a3 := by
  funext u v
  exact if_neg (by decide)
theorem mc_tm0 (a3 : Nat → Int32) : mc_tm 0 a3 = fun _ _ => 1 := by
  funext u v
  exact if_pos rfl
theorem mw_take {post : St2 → Prop} {n : Nat} {t b : Int64} {a1 a2 a3 : Nat → Int32} {a4 a5 : Nat → Int64} {a6 a7 : Nat → Int32} {o : Nat → Nat} {L : Nat} (G : mc_G n a1 a2 a3)
    (ho : ∀ k, o k < n ∧ a6 (o k) = nI (o (k + 1)) ∧ mc_E a1 (o (k + 1)) (o k)) (hL1 : 1 ≤ L) (hL : L ≤ n) (hc : o (n + L) = o n) (hne : ∀ l, 1 ≤ l → l < L → o (n + l) ≠ o n)
    (H : ∀ (t' b' : Int64) (g : Int), 1 ≤ g → mc_X (mc_w a2) (fun k => o (n + k)) L = g * t'.toInt → mc_X (mc_w a3) (fun k => o (n + k)) L = g * b'.toInt → 1 ≤ b'.toInt → Nat.Coprime t'.toInt.natAbs b'.toInt.natAbs →
      post (nI n, t', b', a1, a2, a3, a4, a5, a6, a7)) :
    wpX_takeCircle post (nI n, t, b, a1, a2, a3, a4, a5, a6, a7) (nI (o 0)) := by
  have hn := G.2.1
  have bX := mc_X_bd (w := mc_w a2) (o := fun k => o (n + k)) (lo := -20) (hi := 20) (fun k => mc_G_w G _ _ (ho (n + k)).2.2)
  have bY := mc_X_bd (w := mc_w a3) (o := fun k => o (n + k)) (lo := 1) (hi := 5) (fun k => (G.2.2 _ _ (ho (n + k)).2.2).2.2)
  show ∃ fu, wX_takeCircle_4 post (nI n) t b a1 a2 a3 a4 a5 a6 a7 fu (nI (o 0)) 0
  refine pk_loop (σ := Unit) (fun k i _ => wX_takeCircle_4 post (nI n) t b a1 a2 a3 a4 a5 a6 a7 k (nI (o i)) (nI i)) (fun _ _ => True) n 0 () (by omega) trivial ?_ ?_
  · intro k _ _
    refine pk_le n n (fun _ => ?_) (fun z => absurd z (by omega))
    refine pk_loop (fun k i (s : Int64 × Int64) => wX_takeCircle_36 post (nI (o n)) (nI n) t b a1 a2 a3 a4 a5 a6 a7 k s.1 s.2 (nI (o (n + i))) (nI i))
      (fun i s => s.1.toInt = mc_X (mc_w a2) (fun k => o (n + k)) i ∧ s.2.toInt = mc_X (mc_w a3) (fun k => o (n + k)) i) L 0 (0, 0) (by omega) ⟨mq_z, mq_z⟩ ?_ ?_
    · intro k s hs
      obtain ⟨x, y⟩ := s
      obtain ⟨s1, s2⟩ := hs
      have s1 : x.toInt = mc_X (mc_w a2) (fun k => o (n + k)) L := s1
      have s2 : y.toInt = mc_X (mc_w a3) (fun k => o (n + k)) L := s2
      have hX := bX L
      have hY := bY L
      show wX_takeCircle_36 post (nI (o n)) (nI n) t b a1 a2 a3 a4 a5 a6 a7 (k + 1) x y (nI (o (n + L))) (nI L)
      rw [hc]
      refine br_f (nI_ne0 (by omega) (by omega)) (br_t rfl (mw_low (by omega) (by omega) ?_))
      intro t' b' g hg et eb hb' cop
      exact H t' b' g hg (by rw [← s1]; exact et) (by rw [← s2]; exact eb) hb' cop
    · intro k i s hi hs hw
      obtain ⟨x, y⟩ := s
      obtain ⟨s1, s2⟩ := hs
      have s1 : x.toInt = mc_X (mc_w a2) (fun k => o (n + k)) i := s1
      have s2 : y.toInt = mc_X (mc_w a3) (fun k => o (n + k)) i := s2
      have hX := bX i
      have hY := bY i
      obtain ⟨h1, h2, h3⟩ := ho (n + i)
      have h1' := (ho (n + i + 1)).1
      show wX_takeCircle_36 post (nI (o n)) (nI n) t b a1 a2 a3 a4 a5 a6 a7 (k + 1) x y (nI (o (n + i))) (nI i)
      have stp : wX_takeCircle_47 post (wX_takeCircle_36 post (nI (o n)) (nI n) t b a1 a2 a3 a4 a5 a6 a7 k) (nI (o n)) x y (nI (o (n + i))) (nI i) (nI n) t b a1 a2 a3 a4 a5 a6 a7 := by
        unfold wX_takeCircle_47
        rw [nI_clamp (show o (n + i) < 2 ^ 31 by omega), h2]
        refine ⟨pk_in (o (n + i)) 6 (by omega), ?_⟩
        intro x9 e9
        subst e9
        rw [mq_ix (o (n + i + 1)) (o (n + i)), nI_clamp (show 6 * o (n + i + 1) + o (n + i) < 2 ^ 31 by omega)]
        have hg := G.2.2 _ _ h3
        refine ⟨vp_in_nI (by omega) (by decide), nm_e ⟨vp_in_nI (by omega) (by decide), nm_e (nm_r (nI_1 i) (hw (_, _) ⟨?_, ?_⟩))⟩⟩
        · show (x + (a2 (6 * o (n + i + 1) + o (n + i))).toInt64).toInt = mc_X (mc_w a2) (fun k => o (n + k)) i + mc_w a2 (o (n + i + 1)) (o (n + i))
          exact mq_add s1 (Int32.toInt_toInt64 _) (by show -9223372036854775808 ≤ _ + mc_w a2 (o (n + i + 1)) (o (n + i)); omega) (by show _ + mc_w a2 (o (n + i + 1)) (o (n + i)) < 9223372036854775808; omega)
        · show (y + (a3 (6 * o (n + i + 1) + o (n + i))).toInt64).toInt = mc_X (mc_w a3) (fun k => o (n + k)) i + mc_w a3 (o (n + i + 1)) (o (n + i))
          exact mq_add s2 (Int32.toInt_toInt64 _) (by show -9223372036854775808 ≤ _ + mc_w a3 (o (n + i + 1)) (o (n + i)); omega) (by show _ + mc_w a3 (o (n + i + 1)) (o (n + i)) < 9223372036854775808; omega)
      have hcmp : i ≠ 0 → ¬ nI (o (n + i)) = nI (o n) := fun z1 z2 => hne i (by omega) hi ((nI_eq (by omega) (by have := (ho n).1; omega)).mp z2)
      exact pk_eq i 0 (fun _ => stp) (fun z => br_f (hcmp z) stp)
  · intro k i _ hi _ hw
    obtain ⟨h1, h2, h3⟩ := ho i
    refine pk_le n i (fun z => absurd z (by omega)) (fun _ => ⟨pk_in (o i) 6 (by omega), nm_r (by rw [nI_clamp (by omega)]; exact h2) (nm_r (nI_1 i) (hw () trivial))⟩)
/-! ===== findRatio ===== -/
theorem mc_fall {E : Nat → Nat → Prop} {w t : Nat → Nat → Int} {d : Nat → Int} (h : ∀ u v, E u v → d v ≤ d u - 1) : ∀ (k u v : Nat) (x y : Int), mc_Wk E w t k u v x y → d v ≤ d u - (k : Int) := by
  intro k
  induction k with
  | zero => intro u v x y g; obtain ⟨e, _, _⟩ := g; subst e; omega
  | succ k ih =>
    intro u v x y g
    obtain ⟨m, x', y', g1, g2, _, _⟩ := g
    have := ih u m x' y' g1
    have := h m v g2
    omega
def mc_RI (n : Nat) (a1 a2 a3 : Nat → Int32) (x1 x2 : Int32) (t b : Int64) (a5 : Nat → Int64) (a6 : Nat → Int32) : Prop :=
  (1 ≤ b.toInt ∧ b.toInt ≤ 30 ∧ -300 ≤ t.toInt ∧ t.toInt ≤ 300) ∧
  ((x1 = 0 ∧ t.toInt = 21 ∧ b.toInt = 1) ∨ (x1 = 1 ∧ Nat.Coprime t.toInt.natAbs b.toInt.natAbs ∧ ∃ (k u : Nat) (x y : Int), mc_Wk (mc_E a1) (mc_w a2) (mc_tm 1 a3) (k + 1) u u x y ∧ x * b.toInt = t.toInt * y)) ∧
  ((x2 = -1 ∧ mc_pot (mc_E a1) (mc_w a2) (mc_tm 1 a3) t.toInt b.toInt (mc_dI a5)) ∨
    (∃ v τ, v < n ∧ x2 = nI v ∧ mc_BF n (mc_E a1) (fun u v => mc_w a2 u v * b.toInt - t.toInt * mc_tm 1 a3 u v) (n + 1) 0 (mc_dI a5) a6 τ ∧ 36 * n + 1 ≤ τ v))
theorem mw_r20 {post : Int32 → St2 → Prop} {n : Nat} {x1 x2 : Int32} {t b : Int64} {a1 a2 a3 : Nat → Int32} {a4 a5 : Nat → Int64} {a6 a7 : Nat → Int32} (G : mc_G n a1 a2 a3)
    (H0 : mc_No (mc_E a1) → ∀ t b a5 a6, post 0 (nI n, t, b, a1, a2, a3, a4, a5, a6, a7))
    (H1 : ∀ (t b : Int64) a5 a6, mc_Min (mc_E a1) (mc_w a2) (mc_tm 1 a3) t.toInt b.toInt → (1 ≤ b.toInt ∧ b.toInt ≤ 30 ∧ -300 ≤ t.toInt ∧ t.toInt ≤ 300) → post 1 (nI n, t, b, a1, a2, a3, a4, a5, a6, a7))
    (h : mc_RI n a1 a2 a3 x1 x2 t b a5 a6) :
    ∃ fu, wX_findRatio_20 post fu x1 x2 (nI n) t b a1 a2 a3 a4 a5 a6 a7 := by
  refine loop_m (fun k (s : Int32 × Int32 × Int64 × Int64 × (Nat → Int64) × (Nat → Int32)) => wX_findRatio_20 post k s.1 s.2.1 (nI n) s.2.2.1 s.2.2.2.1 a1 a2 a3 a4 s.2.2.2.2.1 s.2.2.2.2.2 a7)
    (fun s => mc_RI n a1 a2 a3 s.1 s.2.1 s.2.2.1 s.2.2.2.1 s.2.2.2.2.1 s.2.2.2.2.2) (fun s => mc_mu s.2.2.1.toInt s.2.2.2.1.toInt) ?_ (x1, x2, t, b, a5, a6) h
  intro k s hs hw
  obtain ⟨x1, x2, t, b, a5, a6⟩ := s
  have hs : mc_RI n a1 a2 a3 x1 x2 t b a5 a6 := hs
  show wX_findRatio_20 post (k + 1) x1 x2 (nI n) t b a1 a2 a3 a4 a5 a6 a7
  obtain ⟨hb, hf, hr⟩ := hs
  have hn := G.2.1
  rcases hr with ⟨e, hp⟩ | ⟨v, τ, hv, e, hB, hτ⟩
  · subst e
    refine br_t (by decide) ?_
    rcases hf with ⟨f1, f2, f3⟩ | ⟨f1, f2, f3⟩
    · subst f1
      refine ⟨mq_nar0, H0 (fun w' t' k' u x y g => ?_) t b a5 a6⟩
      have fl : ∀ u v, mc_E a1 u v → mc_dI a5 v ≤ mc_dI a5 u - 1 := by
        intro u v e
        have h1 := hp u v e
        have h2 := mc_G_w G u v e
        have h3 := mc_G_t G 1 u v e
        rw [f2, f3, Int.mul_one] at h1
        omega
      have := mc_fall fl _ _ _ _ _ g
      omega
    · subst f1
      exact ⟨mq_nar1, H1 t b a5 a6 ⟨hb.1, f2, ⟨_, hp⟩, f3⟩ hb⟩
  · subst e
    obtain ⟨o, o0, ho, L, l1, l2, l3, l4, neg⟩ := mc_chain hB hv hτ
    rw [← o0]
    refine br_f (nI_pos (by have := (ho 0).1; omega)) (mw_take G ho l1 l2 l3 l4 ?_)
    intro t' b' g hg et eb hb' cop
    rw [← mc_tm1] at eb
    have bX := mc_X_bd (w := mc_w a2) (o := fun k => o (n + k)) (lo := -20) (hi := 20) (fun k => mc_G_w G _ _ (ho (n + k)).2.2) L
    have bY := mc_X_bd (w := mc_tm 1 a3) (o := fun k => o (n + k)) (lo := 1) (hi := 5) (fun k => mc_G_t G 1 _ _ (ho (n + k)).2.2) L
    have g1 := mc_gle hg et
    have g2 := mc_gle hg eb
    have hbn : 1 ≤ b'.toInt ∧ b'.toInt ≤ 30 ∧ -300 ≤ t'.toInt ∧ t'.toInt ≤ 300 := by omega
    have lt := mc_scale hg et eb neg
    have mu : mc_mu t'.toInt b'.toInt < mc_mu t.toInt b.toInt := mc_mu_lt hb.1 hb.2.1 hbn.1 hbn.2.1 (by omega) lt
    have cyc : ∃ (k u : Nat) (x y : Int), mc_Wk (mc_E a1) (mc_w a2) (mc_tm 1 a3) (k + 1) u u x y ∧ x * b'.toInt = t'.toInt * y := by
      obtain ⟨j, ej⟩ : ∃ j, L = j + 1 := ⟨L - 1, by omega⟩
      have wk := mc_X_Wk (E := mc_E a1) (w := mc_w a2) (t := mc_tm 1 a3) (o := fun k => o (n + k)) (fun k => (ho (n + k)).2.2) L
      have wk' : mc_Wk (mc_E a1) (mc_w a2) (mc_tm 1 a3) L (o (n + L)) (o n) (mc_X (mc_w a2) (fun k => o (n + k)) L) (mc_X (mc_tm 1 a3) (fun k => o (n + k)) L) := wk
      rw [l3] at wk'
      refine ⟨j, o n, _, _, ej ▸ wk', ?_⟩
      rw [← ej, et, eb, Int.mul_comm g t'.toInt, Int.mul_assoc]
    refine mw_relax G hbn (fun a5' a6' p _ => hw (1, -1, t', b', a5', a6') ⟨hbn, Or.inr ⟨rfl, cop, cyc⟩, Or.inl ⟨rfl, p⟩⟩ mu) (fun v' a5' a6' τ' v1 v2 v3 => hw (1, nI v', t', b', a5', a6') ⟨hbn, Or.inr ⟨rfl, cop, cyc⟩, Or.inr ⟨v', τ', v1, rfl, v2, v3⟩⟩ mu)
theorem mw_ratio {post : Int32 → St2 → Prop} {n : Nat} {t b : Int64} {a1 a2 a3 : Nat → Int32} {a4 a5 : Nat → Int64} {a6 a7 : Nat → Int32} (G : mc_G n a1 a2 a3)
    (H0 : mc_No (mc_E a1) → ∀ t b a5 a6, post 0 (nI n, t, b, a1, a2, a3, a4, a5, a6, a7))
    (H1 : ∀ (t b : Int64) a5 a6, mc_Min (mc_E a1) (mc_w a2) (mc_tm 1 a3) t.toInt b.toInt → (1 ≤ b.toInt ∧ b.toInt ≤ 30 ∧ -300 ≤ t.toInt ∧ t.toInt ≤ 300) → post 1 (nI n, t, b, a1, a2, a3, a4, a5, a6, a7)) :
    wpX_findRatio post (nI n, t, b, a1, a2, a3, a4, a5, a6, a7) := by
  have e1 : (21 : Int64).toInt = 21 := by decide
  have e2 : (1 : Int64).toInt = 1 := by decide
  have hb : 1 ≤ (1 : Int64).toInt ∧ (1 : Int64).toInt ≤ 30 ∧ -300 ≤ (21 : Int64).toInt ∧ (21 : Int64).toInt ≤ 300 := by decide
  unfold wpX_findRatio
  exact mw_relax G hb (fun a5' a6' p _ => mw_r20 G H0 H1 ⟨hb, Or.inl ⟨rfl, e1, e2⟩, Or.inl ⟨rfl, p⟩⟩) (fun v' a5' a6' τ' v1 v2 v3 => mw_r20 G H0 H1 ⟨hb, Or.inl ⟨rfl, e1, e2⟩, Or.inr ⟨v', τ', v1, rfl, v2, v3⟩⟩)
end
section
/-! ===== what can be come to: rows of bits ===== -/
def mc_R (s : Nat → Int32) (a b : Nat) : Prop := mb_t (s a) b = true
/-- s holds R0, goes through the points below m, and is in every relation that holds R0 and goes through -/
def mc_CL (R0 : Nat → Nat → Prop) (m : Nat) (s : Nat → Int32) : Prop :=
  (∀ a b, a < 6 → b < 6 → R0 a b → mc_R s a b) ∧
  (∀ j a b, j < m → a < 6 → b < 6 → mc_R s a j → mc_R s j b → mc_R s a b) ∧
  (∀ C : Nat → Nat → Prop, (∀ a b c, C a b → C b c → C a c) → (∀ a b, a < 6 → b < 6 → R0 a b → C a b) → ∀ a b, a < 6 → b < 6 → mc_R s a b → C a b)
theorem mc_CL_0 (s : Nat → Int32) : mc_CL (mc_R s) 0 s := ⟨fun _ _ _ _ h => h, fun j a b h => absurd h (by omega), fun C _ h => h⟩
theorem mc_CL_cong {R0 R1 : Nat → Nat → Prop} {m : Nat} {s : Nat → Int32} (e : ∀ a b, a < 6 → b < 6 → (R0 a b ↔ R1 a b)) (h : mc_CL R0 m s) : mc_CL R1 m s := by
  obtain ⟨h1, h2, h3⟩ := h
  exact ⟨fun a b ha hb r => h1 a b ha hb ((e a b ha hb).mpr r), h2, fun C t c => h3 C t (fun a b ha hb r => c a b ha hb ((e a b ha hb).mp r))⟩
theorem mc_CL_step {R0 : Nat → Nat → Prop} {m : Nat} {s s' : Nat → Int32} (hm : m < 6) (h : mc_CL R0 m s)
    (e : ∀ a b, a < 6 → b < 6 → (mc_R s' a b ↔ mc_R s a b ∨ (mc_R s a m ∧ mc_R s m b))) : mc_CL R0 (m + 1) s' := by
  obtain ⟨h1, h2, h3⟩ := h
  refine ⟨fun a b ha hb r => (e a b ha hb).mpr (Or.inl (h1 a b ha hb r)), fun j a b hj ha hb r1 r2 => ?_, fun C t c a b ha hb r => ?_⟩
  · have q1 := (e a j ha (by omega)).mp r1
    have q2 := (e j b (by omega) hb).mp r2
    by_cases z : j = m
    · subst z
      have p1 : mc_R s a j := by
        rcases q1 with q | q
        · exact q
        · exact q.1
      have p2 : mc_R s j b := by
        rcases q2 with q | q
        · exact q
        · exact q.2
      exact (e a b ha hb).mpr (Or.inr ⟨p1, p2⟩)
    · have hj' : j < m := by omega
      rcases q1 with q1 | q1
      · rcases q2 with q2 | q2
        · exact (e a b ha hb).mpr (Or.inl (h2 j a b hj' ha hb q1 q2))
        · exact (e a b ha hb).mpr (Or.inr ⟨h2 j a m hj' ha hm q1 q2.1, q2.2⟩)
      · rcases q2 with q2 | q2
        · exact (e a b ha hb).mpr (Or.inr ⟨q1.1, h2 j m b hj' hm hb q1.2 q2⟩)
        · exact (e a b ha hb).mpr (Or.inr ⟨q1.1, q2.2⟩)
  · rcases (e a b ha hb).mp r with q | q
    · exact h3 C t c a b ha hb q
    · exact t a m b (h3 C t c a m ha hm q.1) (h3 C t c m b hm hb q.2)
theorem mc_CL_Re {R0 : Nat → Nat → Prop} {s : Nat → Int32} (h6 : ∀ a b, R0 a b → a < 6 ∧ b < 6) (h : mc_CL R0 6 s) {a b : Nat} (ha : a < 6) (hb : b < 6) : mc_R s a b ↔ mc_Re R0 a b := by
  obtain ⟨h1, h2, h3⟩ := h
  constructor
  · exact h3 (mc_Re R0) (fun _ _ _ => mc_Re_tr) (fun a b _ _ r => mc_Re_one r) a b ha hb
  · intro ⟨k, x, y, g⟩
    exact (mc_Re_in (S := fun a b => a < 6 ∧ b < 6 ∧ mc_R s a b) (fun a b r => ⟨(h6 a b r).1, (h6 a b r).2, h1 a b (h6 a b r).1 (h6 a b r).2 r⟩)
      (fun a b c p q => ⟨p.1, q.2.1, h2 b a c p.2.1 p.1 q.2.1 p.2.2 q.2.2⟩) k a b x y g).2.2
theorem mb_nf {x : Bool} (h : ¬ x = false) : x = true := by cases x <;> first | rfl | exact absurd rfl h
theorem mw_close {post : St2 → Prop} {pc : Int32} {t b : Int64} {a1 a2 a3 : Nat → Int32} {a4 a5 : Nat → Int64} {a6 a7 : Nat → Int32}
    (H : ∀ s, mc_CL (mc_R a7) 6 s → post (pc, t, b, a1, a2, a3, a4, a5, a6, s)) : wpX_closeReach post (pc, t, b, a1, a2, a3, a4, a5, a6, a7) := by
  show ∃ fu, wX_closeReach_2 post pc t b fu 0 a1 a2 a3 a4 a5 a6 a7
  refine pk_loop (fun k i s => wX_closeReach_2 post pc t b k (nI i) a1 a2 a3 a4 a5 a6 s) (fun i s => mc_CL (mc_R a7) i s) 6 0 a7 (by omega) (mc_CL_0 a7) ?_ ?_
  · intro k s hs
    exact pk_le 6 6 (fun _ => H s hs) (fun z => absurd z (by omega))
  · intro k m s0 hm hs0 hw0
    refine pk_le 6 m (fun z => absurd z (by omega)) (fun _ => ?_)
    refine pk_loop (fun k i s => wX_closeReach_10 post (wX_closeReach_2 post pc t b _) (nI m) pc t b k (nI i) a1 a2 a3 a4 a5 a6 s)
      (fun i s => (∀ a b, a < i → b < 6 → (mc_R s a b ↔ mc_R s0 a b ∨ (mc_R s0 a m ∧ mc_R s0 m b))) ∧ ∀ a, i ≤ a → s a = s0 a) 6 0 s0 (by omega) ⟨fun a b h => absurd h (by omega), fun _ _ => rfl⟩ ?_ ?_
    · intro k s hs
      exact pk_le 6 6 (fun _ => nm_r (nI_1 m) (hw0 s (mc_CL_step hm hs0 (fun a b ha hb => hs.1 a b ha hb)))) (fun z => absurd z (by omega))
    · intro k i s hi hs hw
      obtain ⟨h1, h2⟩ := hs
      refine pk_le 6 i (fun z => absurd z (by omega)) (fun _ => ⟨pk_in i 6 hi, ?_⟩)
      rw [nI_clamp (show i < 2 ^ 31 by omega), nI_clamp (show m < 2 ^ 31 by omega)]
      have ei := h2 i (Nat.le_refl i)
      refine ek_if (mb_bit hm (s i)) (fun z => nm_r (nI_1 i) (hw s ⟨fun a b ha hb => ?_, fun a ha => h2 a (by omega)⟩)) (fun z => ⟨pk_in i 6 hi, pk_in m 6 hm, pk_in i 6 hi, nm_e (nm_r (nI_1 i) (hw _ ⟨fun a b ha hb => ?_, fun a ha => ?_⟩))⟩)
      · by_cases c : a = i
        · subst c
          rw [ei] at z
          unfold mc_R
          rw [ei, z]
          simp
        · exact h1 a b (by omega) hb
      · by_cases c : a = i
        · subst c
          have em : mb_t (s m) b = true ↔ mc_R s0 m b := by
            rcases Nat.lt_or_ge m a with l | l
            · have q := h1 m b l hb
              unfold mc_R at q ⊢
              rw [q]
              exact ⟨fun y => y.elim id And.right, Or.inl⟩
            · rw [h2 m l]
              rfl
          have zi : mc_R s0 a m := by
            unfold mc_R
            rw [← ei]
            exact mb_nf z
          show mb_t (upd s a (s a ||| s m) a) b = true ↔ _
          rw [pk_us, mb_or, Bool.or_eq_true, em, ei]
          exact ⟨fun y => y.elim Or.inl (fun y => Or.inr ⟨zi, y⟩), fun y => y.elim Or.inl (fun y => Or.inr y.2)⟩
        · show mb_t (upd s i (s i ||| s m) a) b = true ↔ _
          rw [pk_un c]
          exact h1 a b (by omega) hb
      · show upd s i (s i ||| s m) a = s0 a
        rw [pk_un (by omega)]
        exact h2 a (by omega)
theorem mw_onT {post : Int32 → Prop} {n : Nat} {t b : Int64} {a1 a2 a3 : Nat → Int32} {a4 a5 : Nat → Int64} {a6 a7 : Nat → Int32} (hn : n ≤ 6)
    (H : ∀ x, (∀ j, j < 32 → mb_t x j = (decide (j < n) && mb_t (a7 j) j)) → post x) : wpX_onTightCircle post (nI n, t, b, a1, a2, a3, a4, a5, a6, a7) := by
  show ∃ fu, wX_onTightCircle_4 post (nI n) t b a1 a2 a3 a4 a5 a6 a7 fu 0 0
  refine pk_loop (fun k i x => wX_onTightCircle_4 post (nI n) t b a1 a2 a3 a4 a5 a6 a7 k x (nI i)) (fun i x => ∀ j, j < 32 → mb_t x j = (decide (j < i) && mb_t (a7 j) j)) n 0 0 (by omega) (fun j hj => by rw [mb_0]; simp) ?_ ?_
  · intro k s hs
    exact pk_le n n (fun _ => H s hs) (fun z => absurd z (by omega))
  · intro k i x hi hs hw
    refine pk_le n i (fun z => absurd z (by omega)) (fun _ => ⟨pk_in i 6 (by omega), ?_⟩)
    rw [nI_clamp (show i < 2 ^ 31 by omega)]
    refine ek_if (mb_bit (by omega) (a7 i)) (fun z => nm_r (nI_1 i) (hw x (fun j hj => ?_))) (fun z => nm_e (nm_r (nI_1 i) (hw _ (fun j hj => ?_))))
    · rw [hs j hj]
      by_cases c : j = i
      · subst c
        rw [z]
        simp
      · rw [show decide (j < i + 1) = decide (j < i) from decide_eq_decide.mpr (by omega)]
    · rw [mb_or, hs j hj, mb_one i (by omega) j hj]
      by_cases c : j = i
      · subst c
        rw [mb_nf z]
        simp
      · rw [show decide (j < i + 1) = decide (j < i) from decide_eq_decide.mpr (by omega), decide_eq_false c, Bool.or_false]
/-- a bit is set in the row u -/
theorem mc_R_put {s : Nat → Int32} {u v a b : Nat} (hv : v < 6) (hb : b < 6) : mc_R (upd s u (s u ||| ((1 : Int32) <<< (nI v &&& 31)))) a b ↔ mc_R s a b ∨ (a = u ∧ b = v) := by
  unfold mc_R
  by_cases c : a = u
  · subst c
    rw [pk_us, mb_or, mb_one v hv b (by omega), Bool.or_eq_true, decide_eq_true_iff]
    exact ⟨fun y => y.elim Or.inl (fun y => Or.inr ⟨rfl, y⟩), fun y => y.elim Or.inl (fun y => Or.inr y.2)⟩
  · rw [pk_un c]
    exact ⟨Or.inl, fun y => y.elim id (fun y => absurd y.1 c)⟩
/-- rows below u are done, the row u below v -/
def mc_RW (F : Nat → Nat → Prop) (u v : Nat) (s : Nat → Int32) : Prop := (∀ a b, a < u → b < 6 → (mc_R s a b ↔ F a b)) ∧ (∀ b, b < 6 → (mc_R s u b ↔ b < v ∧ F u b))
theorem mc_RW_0 {F : Nat → Nat → Prop} {u : Nat} {s : Nat → Int32} (h : ∀ a b, a < u → b < 6 → (mc_R s a b ↔ F a b)) : mc_RW F u 0 (upd s u 0) := by
  refine ⟨fun a b ha hb => ?_, fun b hb => ?_⟩
  · unfold mc_R
    rw [pk_un (by omega)]
    exact h a b ha hb
  · unfold mc_R
    rw [pk_us, mb_0]
    exact ⟨fun y => absurd y (by decide), fun y => absurd y.1 (by omega)⟩
theorem mc_RW_yes {F : Nat → Nat → Prop} {u v : Nat} {s : Nat → Int32} (hv : v < 6) (f : F u v) (h : mc_RW F u v s) : mc_RW F u (v + 1) (upd s u (s u ||| ((1 : Int32) <<< (nI v &&& 31)))) := by
  obtain ⟨h1, h2⟩ := h
  refine ⟨fun a b ha hb => ?_, fun b hb => ?_⟩
  · rw [mc_R_put hv hb, h1 a b ha hb]
    exact ⟨fun y => y.elim id (fun y => absurd y.1 (by omega)), Or.inl⟩
  · rw [mc_R_put hv hb, h2 b hb]
    by_cases c : b = v
    · subst c
      exact ⟨fun _ => ⟨by omega, f⟩, fun _ => Or.inr ⟨rfl, rfl⟩⟩
    · exact ⟨fun y => y.elim (fun y => ⟨by omega, y.2⟩) (fun y => absurd y.2 c), fun y => Or.inl ⟨by omega, y.2⟩⟩
theorem mc_RW_no {F : Nat → Nat → Prop} {u v : Nat} {s : Nat → Int32} (f : ¬ F u v) (h : mc_RW F u v s) : mc_RW F u (v + 1) s := by
  obtain ⟨h1, h2⟩ := h
  refine ⟨h1, fun b hb => ?_⟩
  rw [h2 b hb]
  by_cases c : b = v
  · subst c
    exact ⟨fun y => absurd y.2 f, fun y => absurd y.2 f⟩
  · exact ⟨fun y => ⟨by omega, y.2⟩, fun y => ⟨by omega, y.2⟩⟩
theorem mc_RW_6 {F : Nat → Nat → Prop} {u : Nat} {s : Nat → Int32} (h : mc_RW F u 6 s) : ∀ a b, a < u + 1 → b < 6 → (mc_R s a b ↔ F a b) := by
  intro a b ha hb
  by_cases c : a = u
  · subst c
    rw [h.2 b hb]
    exact ⟨And.right, fun y => ⟨hb, y⟩⟩
  · exact h.1 a b (by omega) hb
theorem mw_onC {post : Int32 → St2 → Prop} {n : Nat} {t b : Int64} {a1 a2 a3 : Nat → Int32} {a4 a5 : Nat → Int64} {a6 a7 : Nat → Int32} (G : mc_G n a1 a2 a3)
    (H : ∀ x a7, (∀ j, j < 32 → (mb_t x j = true ↔ mc_Re (mc_E a1) j j)) → post x (nI n, t, b, a1, a2, a3, a4, a5, a6, a7)) : wpX_onCircle post (nI n, t, b, a1, a2, a3, a4, a5, a6, a7) := by
  have hn := G.2.1
  show ∃ fu, wX_onCircle_2 post (nI n) t b fu 0 a1 a2 a3 a4 a5 a6 a7
  refine pk_loop (fun k i s => wX_onCircle_2 post (nI n) t b k (nI i) a1 a2 a3 a4 a5 a6 s) (fun i s => ∀ a b, a < i → b < 6 → (mc_R s a b ↔ mc_E a1 a b)) 6 0 a7 (by omega) (fun a b h => absurd h (by omega)) ?_ ?_
  · intro k s hs
    refine pk_le 6 6 (fun _ => ?_) (fun z => absurd z (by omega))
    refine mw_close (fun s' hs' => mw_onT hn (fun x hx => H x s' (fun j hj => ?_)))
    have h6 : ∀ a b, mc_E a1 a b → a < 6 ∧ b < 6 := fun a b e => ⟨e.1, e.2.1⟩
    have cl := mc_CL_cong (R1 := mc_E a1) (fun a b ha hb => hs a b ha hb) hs'
    rw [hx j hj]
    constructor
    · intro y
      have y' := (Bool.and_eq_true _ _).mp y
      have jn : j < n := of_decide_eq_true y'.1
      exact (mc_CL_Re h6 cl (by omega) (by omega)).mp y'.2
    · intro y
      have jn : j < n := by
        obtain ⟨k, x, y, g⟩ := y
        obtain ⟨m, x', y', g1, g2, _, _⟩ := g
        exact (mc_G_E G _ _ g2).2
      have z : mc_R s' j j := (mc_CL_Re h6 cl (by omega) (by omega)).mpr y
      rw [decide_eq_true jn, Bool.true_and]
      exact z
  · intro k u s hu hs hw0
    refine pk_le 6 u (fun z => absurd z (by omega)) (fun _ => ⟨pk_in u 6 hu, ?_⟩)
    rw [nI_clamp (show u < 2 ^ 31 by omega)]
    intro s1 e1
    subst e1
    refine pk_loop (fun k i s => wX_onCircle_17 post (wX_onCircle_2 post (nI n) t b _) (nI u) (nI n) t b k (nI i) a1 a2 a3 a4 a5 a6 s) (fun i s => mc_RW (mc_E a1) u i s) 6 0 _ (by omega) (mc_RW_0 hs) ?_ ?_
    · intro k s hs
      exact pk_le 6 6 (fun _ => nm_r (nI_1 u) (hw0 s (mc_RW_6 hs))) (fun z => absurd z (by omega))
    · intro k v s hv hs hw
      refine pk_le 6 v (fun z => absurd z (by omega)) (fun _ => ?_)
      rw [mq_ix u v, nI_clamp (show 6 * u + v < 2 ^ 31 by omega), nI_clamp (show u < 2 ^ 31 by omega)]
      refine ⟨vp_in_nI (by omega) (by decide), br_c (fun z => nm_r (nI_1 v) (hw s (mc_RW_no (fun e => e.2.2 z) hs))) (fun z => ⟨pk_in u 6 hu, pk_in u 6 hu, nm_e (nm_r (nI_1 v) (hw _ (mc_RW_yes hv ⟨hu, hv, z⟩ hs)))⟩)⟩
end
section
/-! ===== tight arcs ===== -/
def mc_T (x1 : Int32) (t b : Int64) (a1 a2 a3 : Nat → Int32) (a5 : Nat → Int64) (u v : Nat) : Prop :=
  mc_E a1 u v ∧ mc_dI a5 v = mc_dI a5 u + (mc_w a2 u v * b.toInt - t.toInt * mc_tm x1 a3 u v)
theorem mw_isP {post : Int32 → Prop} {n u : Nat} {t b : Int64} {a1 a2 a3 : Nat → Int32} {a4 a5 : Nat → Int64} {a6 a7 : Nat → Int32} (hn : n ≤ 6) (hu : u < n) (H : post 1) :
    wpX_isPoint post (nI n, t, b, a1, a2, a3, a4, a5, a6, a7) (nI u) :=
  br_f (nI_pos (by omega)) (pk_le n u (fun z => absurd z (by omega)) (fun _ => H))
theorem mw_isT {post : Int32 → Prop} {n u v : Nat} {x1 : Int32} {t b : Int64} {a1 a2 a3 : Nat → Int32} {a4 a5 : Nat → Int64} {a6 a7 : Nat → Int32} (G : mc_G n a1 a2 a3) (hb : 1 ≤ b.toInt ∧ b.toInt ≤ 30 ∧ -300 ≤ t.toInt ∧ t.toInt ≤ 300)
    (hd : mc_BD 300 (mc_dI a5)) (hu : u < 6) (hv : v < 6) (H1 : mc_T x1 t b a1 a2 a3 a5 u v → post 1) (H0 : ¬ mc_T x1 t b a1 a2 a3 a5 u v → post 0) :
    wpX_isTight post (nI n, t, b, a1, a2, a3, a4, a5, a6, a7) (nI u) (nI v) x1 := by
  unfold wpX_isTight
  dsimp only
  rw [mq_ix u v, nI_clamp (show u < 2 ^ 31 by omega), nI_clamp (show v < 2 ^ 31 by omega)]
  intro x4 e4
  subst e4
  rw [nI_clamp (show 6 * u + v < 2 ^ 31 by omega)]
  refine ⟨vp_in_nI (by omega) (by decide), br_c (fun z => H0 (fun T => T.1.2.2 z)) (fun z => ⟨pk_in u 6 hu, ?_⟩)⟩
  have e : mc_E a1 u v := ⟨hu, hv, z⟩
  refine mw_rw rfl (by omega) (mc_G_w G u v e) (mc_G_t G x1 u v e) hb ?_
  intro r r0 r1 r2
  have hdu := hd u hu
  intro x5 e5
  have h5 : x5.toInt = mc_dI a5 u + r.toInt := by
    rw [e5]
    exact mq_add rfl rfl (by show -9223372036854775808 ≤ mc_dI a5 u + r.toInt; omega) (by show mc_dI a5 u + r.toInt < 9223372036854775808; omega)
  refine ⟨pk_in v 6 hv, mq_eq _ (mc_dI a5 v) h5 rfl (fun g => H1 ⟨e, ?_⟩) (fun g => H0 (fun T => g ?_))⟩
  · rw [← r0]
    exact g.symm
  · rw [r0]
    exact T.2.symm
theorem mw_findT {post : St2 → Prop} {n : Nat} {x1 : Int32} {t b : Int64} {a1 a2 a3 : Nat → Int32} {a4 a5 : Nat → Int64} {a6 a7 : Nat → Int32} (G : mc_G n a1 a2 a3) (hb : 1 ≤ b.toInt ∧ b.toInt ≤ 30 ∧ -300 ≤ t.toInt ∧ t.toInt ≤ 300)
    (hp : ∃ d, mc_pot (mc_E a1) (mc_w a2) (mc_tm x1 a3) t.toInt b.toInt d)
    (H : ∀ a5 a6 a7, mc_pot (mc_E a1) (mc_w a2) (mc_tm x1 a3) t.toInt b.toInt (mc_dI a5) → mc_BD 300 (mc_dI a5) → mc_CL (mc_T x1 t b a1 a2 a3 a5) 6 a7 → post (nI n, t, b, a1, a2, a3, a4, a5, a6, a7)) :
    wpX_findTight post (nI n, t, b, a1, a2, a3, a4, a5, a6, a7) x1 := by
  unfold wpX_findTight
  refine mw_relax G hb (fun a5 a6 p bd => ?_) (fun v a5 a6 τ hv hB hτ => ?_)
  · refine pk_loop (fun k i s => wX_findTight_8 post x1 (nI n) t b k (nI i) a1 a2 a3 a4 a5 a6 s) (fun i s => ∀ a b', a < i → b' < 6 → (mc_R s a b' ↔ mc_T x1 t b a1 a2 a3 a5 a b')) 6 0 a7 (by omega) (fun a b h => absurd h (by omega)) ?_ ?_
    · intro k s hs
      refine pk_le 6 6 (fun _ => ?_) (fun z => absurd z (by omega))
      exact mw_close (fun s' hs' => H a5 a6 s' p bd (mc_CL_cong (fun a b ha hb => hs a b ha hb) hs'))
    · intro k u s hu hs hw0
      refine pk_le 6 u (fun z => absurd z (by omega)) (fun _ => ⟨pk_in u 6 hu, ?_⟩)
      rw [nI_clamp (show u < 2 ^ 31 by omega)]
      intro s1 e1
      subst e1
      refine pk_loop (fun k i s => wX_findTight_23 post (wX_findTight_8 post x1 (nI n) t b _) x1 (nI u) (nI n) t b k (nI i) a1 a2 a3 a4 a5 a6 s) (fun i s => mc_RW (mc_T x1 t b a1 a2 a3 a5) u i s) 6 0 _ (by omega) (mc_RW_0 hs) ?_ ?_
      · intro k s hs
        exact pk_le 6 6 (fun _ => nm_r (nI_1 u) (hw0 s (mc_RW_6 hs))) (fun z => absurd z (by omega))
      · intro k v s hv hs hw
        refine pk_le 6 v (fun z => absurd z (by omega)) (fun _ => ?_)
        rw [nI_clamp (show u < 2 ^ 31 by omega)]
        exact mw_isT G hb bd hu hv (fun T => br_f (by decide) ⟨pk_in u 6 hu, pk_in u 6 hu, nm_e (nm_r (nI_1 v) (hw _ (mc_RW_yes hv T hs)))⟩) (fun T => br_t rfl (nm_r (nI_1 v) (hw s (mc_RW_no T hs))))
  · exfalso
    obtain ⟨d, hd⟩ := hp
    obtain ⟨o, o0, ho, L, l1, l2, l3, l4, neg⟩ := mc_chain hB hv hτ
    have wk := mc_X_Wk (E := mc_E a1) (w := mc_w a2) (t := mc_tm x1 a3) (o := fun k => o (n + k)) (fun k => (ho (n + k)).2.2) L
    have wk' : mc_Wk (mc_E a1) (mc_w a2) (mc_tm x1 a3) L (o (n + L)) (o n) (mc_X (mc_w a2) (fun k => o (n + k)) L) (mc_X (mc_tm x1 a3) (fun k => o (n + k)) L) := wk
    rw [l3] at wk'
    have := mc_pot_Wk hd _ _ _ _ _ wk'
    omega
/-- tight, and closed by tight arcs -/
theorem mw_tc {P0 P1 : Prop} {n u v : Nat} {x1 : Int32} {t b : Int64} {a1 a2 a3 : Nat → Int32} {a4 a5 : Nat → Int64} {a6 a7 : Nat → Int32} (G : mc_G n a1 a2 a3) (hb : 1 ≤ b.toInt ∧ b.toInt ≤ 30 ∧ -300 ≤ t.toInt ∧ t.toInt ≤ 300)
    (hd : mc_BD 300 (mc_dI a5)) (hu : u < 6) (hv : v < 6) (cl : mc_CL (mc_T x1 t b a1 a2 a3 a5) 6 a7)
    (H1 : mc_T x1 t b a1 a2 a3 a5 u v ∧ (u = v ∨ mc_Re (mc_T x1 t b a1 a2 a3 a5) v u) → P1) (H0 : ¬ (mc_T x1 t b a1 a2 a3 a5 u v ∧ (u = v ∨ mc_Re (mc_T x1 t b a1 a2 a3 a5) v u)) → P0) :
    wpX_isTight (fun r => (r = 0 → P0) ∧ (¬ r = 0 → wpX_closes (fun r' => (r' = 0 → P0) ∧ (¬ r' = 0 → P1)) (nI n, t, b, a1, a2, a3, a4, a5, a6, a7) (nI u) (nI v))) (nI n, t, b, a1, a2, a3, a4, a5, a6, a7) (nI u) (nI v) x1 := by
  have h6 : ∀ a b', mc_T x1 t b a1 a2 a3 a5 a b' → a < 6 ∧ b' < 6 := fun a b e => ⟨e.1.1, e.1.2.1⟩
  have re := mc_CL_Re h6 cl hv hu
  refine mw_isT G hb hd hu hv (fun T => br_f (by decide) ?_) (fun T => br_t rfl (H0 (fun z => T z.1)))
  refine pk_eq u v (fun z => br_f (by decide) (H1 ⟨T, Or.inl z⟩)) (fun z => ⟨pk_in v 6 hv, ?_⟩)
  rw [nI_clamp (show v < 2 ^ 31 by omega)]
  refine ek_if (mb_bit hu (a7 v)) (fun y => br_t rfl (H0 (fun w => ?_))) (fun y => br_f (by decide) (H1 ⟨T, Or.inr (re.mp (mb_nf y))⟩))
  rcases w.2 with q | q
  · exact z q
  · have q' : mb_t (a7 v) u = true := re.mpr q
    rw [y] at q'
    exact absurd q' (by decide)
/-- what an arc's answer says: it lies on a circle -/
theorem mc_on {x1 : Int32} {t b : Int64} {a1 a2 a3 : Nat → Int32} {a5 : Nat → Int64} {u v : Nat} (h : mc_T x1 t b a1 a2 a3 a5 u v ∧ (u = v ∨ mc_Re (mc_T x1 t b a1 a2 a3 a5) v u)) : mc_Re (mc_E a1) u u ∧ mc_Re (mc_E a1) v v := by
  obtain ⟨T, h⟩ := h
  rcases h with z | z
  · subst z
    exact ⟨mc_Re_one T.1, mc_Re_one T.1⟩
  · have z' : mc_Re (mc_E a1) v u := mc_Re_mono (fun a b e => e.1) z
    exact ⟨mc_Re_tr (mc_Re_one T.1) z', mc_Re_tr z' (mc_Re_one T.1)⟩
/-- an arc that isn't answered may be cut -/
def mc_may (x1 : Int32) (a1 a2 a3 : Nat → Int32) (u v : Nat) : Prop :=
  mc_E a1 u v → mc_No (mc_E a1) ∨ ∃ p q, mc_Min (mc_E a1) (mc_w a2) (mc_tm x1 a3) p q ∧ mc_Min (fun a b => mc_E a1 a b ∧ ¬ (a = u ∧ b = v)) (mc_w a2) (mc_tm x1 a3) p q
theorem mw_meanArc {post : Int32 → St2 → Prop} {n u v : Nat} {t b : Int64} {a1 a2 a3 : Nat → Int32} {a4 a5 : Nat → Int64} {a6 a7 : Nat → Int32} (G : mc_G n a1 a2 a3) (hu : u < n) (hv : v < n)
    (H1 : mc_E a1 u v → mc_Re (mc_E a1) u u → mc_Re (mc_E a1) v v → ∀ t b a4 a5 a6 a7, post 1 (nI n, t, b, a1, a2, a3, a4, a5, a6, a7))
    (H0 : mc_may 0 a1 a2 a3 u v → ∀ t b a4 a5 a6 a7, post 0 (nI n, t, b, a1, a2, a3, a4, a5, a6, a7)) :
    wpX_meanArc post (nI n, t, b, a1, a2, a3, a4, a5, a6, a7) (nI u) (nI v) := by
  have hn := G.2.1
  unfold wpX_meanArc
  dsimp only
  refine mw_isP hn hu (br_f (by decide) (mw_isP hn hv (br_f (by decide) ?_)))
  rw [mq_ix u v, nI_clamp (show 6 * u + v < 2 ^ 31 by omega)]
  refine ⟨vp_in_nI (by omega) (by decide), br_c (fun z => H0 (fun e => absurd z e.2.2) _ _ _ _ _ _) (fun z => ?_)⟩
  have e : mc_E a1 u v := ⟨by omega, by omega, z⟩
  refine mw_mean G (fun no t b a4 => br_t rfl (H0 (fun _ => Or.inl no) _ _ _ _ _ _)) (fun t b a4 mn bd => br_f (by decide) ?_)
  rw [← mc_tm0 a3] at mn
  have bd30 : 1 ≤ b.toInt ∧ b.toInt ≤ 30 ∧ -300 ≤ t.toInt ∧ t.toInt ≤ 300 := by omega
  refine mw_findT G bd30 mn.2.2.1 (fun a5 a6 a7 p bd' cl => mw_tc G bd30 bd' (by omega) (by omega) cl (fun h => H1 e (mc_on h).1 (mc_on h).2 _ _ _ _ _ _) (fun h => H0 (fun _ => Or.inr ⟨_, _, mn, mc_idle mn p h⟩) _ _ _ _ _ _))
theorem mw_ratioArc {post : Int32 → St2 → Prop} {n u v : Nat} {t b : Int64} {a1 a2 a3 : Nat → Int32} {a4 a5 : Nat → Int64} {a6 a7 : Nat → Int32} (G : mc_G n a1 a2 a3) (hu : u < n) (hv : v < n)
    (H1 : mc_E a1 u v → mc_Re (mc_E a1) u u → mc_Re (mc_E a1) v v → ∀ t b a4 a5 a6 a7, post 1 (nI n, t, b, a1, a2, a3, a4, a5, a6, a7))
    (H0 : mc_may 1 a1 a2 a3 u v → ∀ t b a4 a5 a6 a7, post 0 (nI n, t, b, a1, a2, a3, a4, a5, a6, a7)) :
    wpX_ratioArc post (nI n, t, b, a1, a2, a3, a4, a5, a6, a7) (nI u) (nI v) := by
  have hn := G.2.1
  unfold wpX_ratioArc
  dsimp only
  refine mw_isP hn hu (br_f (by decide) (mw_isP hn hv (br_f (by decide) ?_)))
  rw [mq_ix u v, nI_clamp (show 6 * u + v < 2 ^ 31 by omega)]
  refine ⟨vp_in_nI (by omega) (by decide), br_c (fun z => H0 (fun e => absurd z e.2.2) _ _ _ _ _ _) (fun z => ?_)⟩
  have e : mc_E a1 u v := ⟨by omega, by omega, z⟩
  refine mw_ratio G (fun no t b a5 a6 => br_t rfl (H0 (fun _ => Or.inl no) _ _ _ _ _ _)) (fun t b a5 a6 mn bd => br_f (by decide) ?_)
  refine mw_findT G bd mn.2.2.1 (fun a5 a6 a7 p bd' cl => mw_tc G bd bd' (by omega) (by omega) cl (fun h => H1 e (mc_on h).1 (mc_on h).2 _ _ _ _ _ _) (fun h => H0 (fun _ => Or.inr ⟨_, _, mn, mc_idle mn p h⟩) _ _ _ _ _ _))
/-! ===== the four answers ===== -/
/-- x is the answer's top (i = 0) or bottom (i = 1) for the ratio by times tm, or NONE -/
def mc_A (E : Nat → Nat → Prop) (w tm : Nat → Nat → Int) (i : Bool) (x : Int32) : Prop :=
  (mc_No E ∧ x = -1000) ∨ (∃ p q, mc_Min E w tm p q ∧ -300 ≤ p ∧ p ≤ 300 ∧ q ≤ 30 ∧ x.toInt = bif i then q else p)
theorem mc_A_uniq {E : Nat → Nat → Prop} {w tm : Nat → Nat → Int} {i : Bool} {x y : Int32} (ht : ∀ u v, E u v → 1 ≤ tm u v) (h : mc_A E w tm i x) (g : mc_A E w tm i y) : x = y := by
  rcases h with ⟨h1, h2⟩ | ⟨p, q, h1, _, _, _, h2⟩
  · rcases g with ⟨g1, g2⟩ | ⟨p', q', g1, _, _, _, g2⟩
    · rw [h2, g2]
    · exact absurd h1 (mc_Min_yes g1)
  · rcases g with ⟨g1, g2⟩ | ⟨p', q', g1, _, _, _, g2⟩
    · exact absurd g1 (mc_Min_yes h1)
    · obtain ⟨e1, e2⟩ := mc_uniq ht h1 g1
      subst e1 e2
      exact Int32.toInt_inj.mp (h2.trans g2.symm)
theorem mc_A_none {E : Nat → Nat → Prop} {w tm : Nat → Nat → Int} {x : Int32} (h : mc_A E w tm false x) : x = -1000 ↔ mc_No E := by
  rcases h with ⟨h1, h2⟩ | ⟨p, q, h1, b1, b2, _, h2⟩
  · exact ⟨fun _ => h1, fun _ => h2⟩
  · constructor
    · intro e
      rw [e] at h2
      have h2' : (-1000 : Int32).toInt = p := h2
      have e3 : (-1000 : Int32).toInt = -1000 := by decide
      omega
    · intro n
      exact absurd n (mc_Min_yes h1)
theorem mw_meanTop {post : Int32 → St2 → Prop} {n : Nat} {t b : Int64} {a1 a2 a3 : Nat → Int32} {a4 a5 : Nat → Int64} {a6 a7 : Nat → Int32} (G : mc_G n a1 a2 a3)
    (H : ∀ x t b a4, mc_A (mc_E a1) (mc_w a2) (mc_tm 0 a3) false x → post x (nI n, t, b, a1, a2, a3, a4, a5, a6, a7)) : wpX_meanTop post (nI n, t, b, a1, a2, a3, a4, a5, a6, a7) := by
  unfold wpX_meanTop
  refine mw_mean G (fun no t b a4 => br_t rfl (H _ _ _ _ (Or.inl ⟨no, rfl⟩))) (fun t b a4 mn bd => br_f (by decide) (H _ _ _ _ (Or.inr ⟨t.toInt, b.toInt, ?_, bd.2.2.1, bd.2.2.2, by omega, mq_i32 (by omega) (by omega)⟩)))
  rw [mc_tm0]
  exact mn
theorem mw_meanBot {post : Int32 → St2 → Prop} {n : Nat} {t b : Int64} {a1 a2 a3 : Nat → Int32} {a4 a5 : Nat → Int64} {a6 a7 : Nat → Int32} (G : mc_G n a1 a2 a3)
    (H : ∀ x t b a4, mc_A (mc_E a1) (mc_w a2) (mc_tm 0 a3) true x → post x (nI n, t, b, a1, a2, a3, a4, a5, a6, a7)) : wpX_meanBottom post (nI n, t, b, a1, a2, a3, a4, a5, a6, a7) := by
  unfold wpX_meanBottom
  refine mw_mean G (fun no t b a4 => br_t rfl (H _ _ _ _ (Or.inl ⟨no, rfl⟩))) (fun t b a4 mn bd => br_f (by decide) (H _ _ _ _ (Or.inr ⟨t.toInt, b.toInt, ?_, bd.2.2.1, bd.2.2.2, by omega, mq_i32 (by omega) (by omega)⟩)))
  rw [mc_tm0]
  exact mn
theorem mw_ratioTop {post : Int32 → St2 → Prop} {n : Nat} {t b : Int64} {a1 a2 a3 : Nat → Int32} {a4 a5 : Nat → Int64} {a6 a7 : Nat → Int32} (G : mc_G n a1 a2 a3)
    (H : ∀ x t b a5 a6, mc_A (mc_E a1) (mc_w a2) (mc_tm 1 a3) false x → post x (nI n, t, b, a1, a2, a3, a4, a5, a6, a7)) : wpX_ratioTop post (nI n, t, b, a1, a2, a3, a4, a5, a6, a7) := by
  unfold wpX_ratioTop
  exact mw_ratio G (fun no t b a5 a6 => br_t rfl (H _ _ _ _ _ (Or.inl ⟨no, rfl⟩))) (fun t b a5 a6 mn bd => br_f (by decide) (H _ _ _ _ _ (Or.inr ⟨t.toInt, b.toInt, mn, bd.2.2.1, bd.2.2.2, by omega, mq_i32 (by omega) (by omega)⟩)))
theorem mw_ratioBot {post : Int32 → St2 → Prop} {n : Nat} {t b : Int64} {a1 a2 a3 : Nat → Int32} {a4 a5 : Nat → Int64} {a6 a7 : Nat → Int32} (G : mc_G n a1 a2 a3)
    (H : ∀ x t b a5 a6, mc_A (mc_E a1) (mc_w a2) (mc_tm 1 a3) true x → post x (nI n, t, b, a1, a2, a3, a4, a5, a6, a7)) : wpX_ratioBottom post (nI n, t, b, a1, a2, a3, a4, a5, a6, a7) := by
  unfold wpX_ratioBottom
  exact mw_ratio G (fun no t b a5 a6 => br_t rfl (H _ _ _ _ _ (Or.inl ⟨no, rfl⟩))) (fun t b a5 a6 mn bd => br_f (by decide) (H _ _ _ _ _ (Or.inr ⟨t.toInt, b.toInt, mn, bd.2.2.1, bd.2.2.2, by omega, mq_i32 (by omega) (by omega)⟩)))
end
section
/-! ===== arc, cut ===== -/
theorem mi_lt {a b : Int32} {A B : Prop} (x y : Int) (ha : a.toInt = x) (hb : b.toInt = y) (f : x < y → A) (g : y ≤ x → B) : (a < b → A) ∧ (¬ a < b → B) := by
  rw [Int32.lt_iff_toInt_lt, ha, hb]
  exact ⟨f, fun h => g (by omega)⟩
theorem mi_le {a b : Int32} {A B : Prop} (x y : Int) (ha : a.toInt = x) (hb : b.toInt = y) (f : x ≤ y → A) (g : y < x → B) : (a ≤ b → A) ∧ (¬ a ≤ b → B) := by
  rw [Int32.le_iff_toInt_le, ha, hb]
  exact ⟨f, fun h => g (by omega)⟩
theorem mi_byte {x : Int32} (h1 : -128 ≤ x.toInt) (h2 : x.toInt < 128) : x.toInt8.toInt32.toInt = x.toInt := by
  rw [Int8.toInt_toInt32, Int32.toInt_toInt8, mq_b8 h1 h2]
theorem mw_arc {post : Int32 → St2 → Prop} {n u v : Nat} {p2 p3 : Int32} {t b : Int64} {a1 a2 a3 : Nat → Int32} {a4 a5 : Nat → Int64} {a6 a7 : Nat → Int32} (hn : n ≤ 6) (hu : u < n) (hv : v < n)
    (h2 : -20 ≤ p2.toInt ∧ p2.toInt ≤ 20) (h3 : 1 ≤ p3.toInt ∧ p3.toInt ≤ 5)
    (H : post 1 (nI n, t, b, upd a1 (6 * u + v) 1, upd a2 (6 * u + v) p2.toInt8.toInt32, upd a3 (6 * u + v) p3.toInt8.toInt32, a4, a5, a6, a7)) :
    wpX_arc post (nI n, t, b, a1, a2, a3, a4, a5, a6, a7) (nI u) (nI v) p2 p3 := by
  unfold wpX_arc
  dsimp only
  refine mw_isP hn hu (br_f (by decide) (mw_isP hn hv (br_f (by decide) ?_)))
  rw [mq_ix u v, nI_clamp (show 6 * u + v < 2 ^ 31 by omega)]
  have i36 : vp_in (nI (6 * u + v)) 36 := vp_in_nI (by omega) (by decide)
  exact mi_lt _ (-20) rfl (by decide) (fun z => absurd z (by omega)) (fun _ => mi_lt 20 _ (by decide) rfl (fun z => absurd z (by omega)) (fun _ => mi_lt _ 1 rfl (by decide) (fun z => absurd z (by omega)) (fun _ =>
    mi_le _ 5 rfl (by decide) (fun _ => ⟨i36, nm_e ⟨i36, nm_e ⟨i36, nm_e H⟩⟩⟩) (fun z => absurd z (by omega)))))
theorem mw_cut {post : Int32 → St2 → Prop} {n u v : Nat} {t b : Int64} {a1 a2 a3 : Nat → Int32} {a4 a5 : Nat → Int64} {a6 a7 : Nat → Int32} (hn : n ≤ 6) (hu : u < n) (hv : v < n)
    (H1 : ¬ a1 (6 * u + v) = 0 → post 1 (nI n, t, b, upd a1 (6 * u + v) 0, a2, a3, a4, a5, a6, a7)) (H0 : a1 (6 * u + v) = 0 → post 0 (nI n, t, b, a1, a2, a3, a4, a5, a6, a7)) :
    wpX_cut post (nI n, t, b, a1, a2, a3, a4, a5, a6, a7) (nI u) (nI v) := by
  unfold wpX_cut
  dsimp only
  refine mw_isP hn hu (br_f (by decide) (mw_isP hn hv (br_f (by decide) ?_)))
  rw [mq_ix u v, nI_clamp (show 6 * u + v < 2 ^ 31 by omega)]
  have i36 : vp_in (nI (6 * u + v)) 36 := vp_in_nI (by omega) (by decide)
  exact ⟨i36, br_c H0 (fun z => ⟨i36, nm_e (H1 z)⟩)⟩
/-! ===== the law's picture ===== -/
def mc_LI (n : Nat) (x3 : Int64) (x5 : Int32) (a1 a2 a3 : Nat → Int32) : Prop :=
  mc_G n a1 a2 a3 ∧ (∀ k, k < 36 → (ml_t x3 k = true ↔ ¬ a1 k = 0)) ∧ (¬ x5 = 0 → ∀ u v, mc_E a1 u v → mc_w a3 u v = 1)
theorem mc_A_cong {E : Nat → Nat → Prop} {w t t' : Nat → Nat → Int} {i : Bool} {x : Int32} (H : ∀ u v, E u v → t u v = t' u v) (h : mc_A E w t i x) : mc_A E w t' i x := by
  rcases h with h | ⟨p, q, h1, h2⟩
  · exact Or.inl h
  · exact Or.inr ⟨p, q, mc_Min_cong H h1, h2⟩
theorem mc_on0 {E : Nat → Nat → Prop} {x : Int32} (h6 : ∀ a b, E a b → a < 6 ∧ b < 6) (h : ∀ j, j < 32 → (mb_t x j = true ↔ mc_Re E j j)) : x = 0 ↔ mc_No E := by
  constructor
  · intro e
    refine mc_Re_No.mpr (fun u r => ?_)
    have hu : u < 32 := by
      obtain ⟨k, x, y, g⟩ := r
      obtain ⟨m, x', y', g1, g2, _, _⟩ := g
      have := h6 m u g2
      omega
    have z := (h u hu).mpr r
    rw [e, mb_0] at z
    exact absurd z (by decide)
  · intro no
    apply mb_ext
    intro i hi
    rw [mb_0]
    cases z : mb_t x i
    · rfl
    · exact absurd ((h i hi).mp z) (mc_Re_No.mp no i)
theorem mw_h143 {post : Int32 → St2 → Prop} {J106 J115 : Int32 → Int32 → Int64 → Int64 → (Nat → Int32) → (Nat → Int32) → (Nat → Int32) → (Nat → Int64) → (Nat → Int64) → (Nat → Int32) → (Nat → Int32) → Prop}
    {n u v : Nat} {x1 on z0 : Int32} {x2 : Int64} {t b : Int64} {a1 a2 a3 : Nat → Int32} {a4 a5 : Nat → Int64} {a6 a7 : Nat → Int32} (G : mc_G n a1 a2 a3) (hu : u < n) (hv : v < n) (hz : mc_E a1 u v → ¬ z0 = 0)
    (hon : ∀ j, j < 32 → (mb_t on j = true ↔ mc_Re (mc_E a1) j j)) (H : ∀ t b a4 a5 a6 a7, J115 (nI (v + 1)) (nI n) t b a1 a2 a3 a4 a5 a6 a7) :
    wL_holds_143 post J106 J115 x1 x2 on (nI u) (nI v) z0 (nI n) t b a1 a2 a3 a4 a5 a6 a7 := by
  have hn := G.2.1
  have best : mc_E a1 u v → mc_Re (mc_E a1) u u → mc_Re (mc_E a1) v v → ∀ t b a4 a5 a6 a7, wL_holds_167 post J106 J115 x1 x2 on (nI u) (nI v) z0 (nI n) t b a1 a2 a3 a4 a5 a6 a7 := by
    intro e ru rv t b a4 a5 a6 a7
    unfold wL_holds_167 wL_holds_172
    refine br_f (by decide) (br_f (hz e) (br_f ?_ (nm_r (nI_1 v) (H _ _ _ _ _ _))))
    rw [mb_bit2 (by omega) (by omega), (hon u (by omega)).mpr ru, (hon v (by omega)).mpr rv]
    decide
  unfold wL_holds_143
  exact mw_meanArc G hu hv (fun e ru rv t b a4 a5 a6 a7 => br_f (by decide) (best e ru rv _ _ _ _ _ _)) (fun _ t b a4 a5 a6 a7 => br_t rfl
    (mw_ratioArc G hu hv (fun e ru rv t b a4 a5 a6 a7 => br_f (by decide) (best e ru rv _ _ _ _ _ _)) (fun _ t b a4 a5 a6 a7 => br_t rfl (br_t rfl (nm_r (nI_1 v) (H _ _ _ _ _ _))))))
theorem mw_h106 {post : Int32 → St2 → Prop} {n : Nat} {x3 : Int64} {x5 on : Int32} {t b : Int64} {a1 a2 a3 : Nat → Int32} {a4 a5 : Nat → Int64} {a6 a7 : Nat → Int32} (hL : mc_LI n x3 x5 a1 a2 a3)
    (hon : ∀ j, j < 32 → (mb_t on j = true ↔ mc_Re (mc_E a1) j j)) (H : ∀ t b a4 a5 a6 a7, post 1 (nI n, t, b, a1, a2, a3, a4, a5, a6, a7)) :
    ∃ fu, wL_holds_106 post (nI n) x3 on fu 0 (nI n) t b a1 a2 a3 a4 a5 a6 a7 := by
  obtain ⟨G, hbit, _⟩ := hL
  have hn := G.2.1
  refine pk_loop (fun k i (s : Int64 × Int64 × (Nat → Int64) × (Nat → Int64) × (Nat → Int32) × (Nat → Int32)) => wL_holds_106 post (nI n) x3 on k (nI i) (nI n) s.1 s.2.1 a1 a2 a3 s.2.2.1 s.2.2.2.1 s.2.2.2.2.1 s.2.2.2.2.2) (fun _ _ => True) n 0 (t, b, a4, a5, a6, a7) (by omega) trivial ?_ ?_
  · intro k s _
    exact pk_le n n (fun _ => H _ _ _ _ _ _) (fun z => absurd z (by omega))
  · intro k u s hu _ hw0
    refine pk_le n u (fun z => absurd z (by omega)) (fun _ => ?_)
    refine pk_loop (fun k i (s : Int64 × Int64 × (Nat → Int64) × (Nat → Int64) × (Nat → Int32) × (Nat → Int32)) => wL_holds_115 post (wL_holds_106 post (nI n) x3 on _) (nI n) x3 on (nI u) k (nI i) (nI n) s.1 s.2.1 a1 a2 a3 s.2.2.1 s.2.2.2.1 s.2.2.2.2.1 s.2.2.2.2.2) (fun _ _ => True) n 0 s (by omega) trivial ?_ ?_
    · intro k s _
      exact pk_le n n (fun _ => nm_r (nI_1 u) (hw0 s trivial)) (fun z => absurd z (by omega))
    · intro k v s hv _ hw
      refine pk_le n v (fun z => absurd z (by omega)) (fun _ => ?_)
      rw [mq_ix u v]
      refine ek_if ((ml_bit (by omega) x3).trans (hbit (6 * u + v) (by omega))) (fun z => ?_) (fun z => ?_)
      · exact mw_h143 G hu hv (fun _ => by decide) hon (fun t b a4 a5 a6 a7 => hw (t, b, a4, a5, a6, a7) trivial)
      · exact mw_h143 G hu hv (fun e => absurd e.2.2 z) hon (fun t b a4 a5 a6 a7 => hw (t, b, a4, a5, a6, a7) trivial)
theorem mw_holds {post : Int32 → St2 → Prop} {n : Nat} {x3 : Int64} {x5 : Int32} {t b : Int64} {a1 a2 a3 : Nat → Int32} {a4 a5 : Nat → Int64} {a6 a7 : Nat → Int32} (hL : mc_LI n x3 x5 a1 a2 a3)
    (H : ∀ t b a4 a5 a6 a7, post 1 (nI n, t, b, a1, a2, a3, a4, a5, a6, a7)) : wpL_holds post (nI n, t, b, a1, a2, a3, a4, a5, a6, a7) (nI n) x3 x5 := by
  have G := hL.1
  have hpl := hL.2.2
  unfold wpL_holds
  refine mw_meanTop G (fun a _ _ _ ha => mw_meanBot G (fun b' _ _ _ hb => mw_ratioTop G (fun c _ _ _ _ hc => mw_ratioBot G (fun d _ _ _ _ hd => mw_onC G (fun on _ hon => ?_)))))
  dsimp only
  have h6 : ∀ a b, mc_E a1 a b → a < 6 ∧ b < 6 := fun a b e => ⟨e.1, e.2.1⟩
  have e1 := mc_A_none ha
  have e2 := mc_A_none hc
  have e3 := mc_on0 h6 hon
  have key : ∀ t b a4 a5 a6 a7, wL_holds_49 post (nI n) x3 a c on (nI n) t b a1 a2 a3 a4 a5 a6 a7 := by
    intro t b a4 a5 a6 a7
    have lp := mw_h106 (post := post) (t := t) (b := b) (a4 := a4) (a5 := a5) (a6 := a6) (a7 := a7) hL hon H
    unfold wL_holds_49 wL_holds_62 wL_holds_72 wL_holds_88 wL_holds_98
    by_cases no : mc_No (mc_E a1)
    · have q1 := e1.mpr no
      have q2 := e2.mpr no
      have q3 := e3.mpr no
      exact br_t q1 (br_t q3 (br_t rfl (br_t q2 (br_t q3 (br_t rfl lp)))))
    · have q1 : ¬ a = -1000 := fun z => no (e1.mp z)
      have q2 : ¬ c = -1000 := fun z => no (e2.mp z)
      have q3 : ¬ on = 0 := fun z => no (e3.mp z)
      exact br_f q1 (br_f q3 (br_t rfl (br_f q2 (br_f q3 (br_t rfl lp)))))
  refine br_c (fun _ => key _ _ _ _ _ _) (fun z => ?_)
  have te : ∀ u v, mc_E a1 u v → mc_tm 1 a3 u v = mc_tm 0 a3 u v := by
    intro u v e
    rw [mc_tm1, mc_tm0]
    exact hpl z u v e
  have ht : ∀ u v, mc_E a1 u v → 1 ≤ mc_tm 0 a3 u v := fun u v e => (mc_G_t G 0 u v e).1
  exact br_t (mc_A_uniq ht ha (mc_A_cong te hc)) (br_t (mc_A_uniq ht hb (mc_A_cong te hd)) (key _ _ _ _ _ _))
end
section
/-! ===== the law's turn ===== -/
theorem mc_A_same {E E' : Nat → Nat → Prop} {w t : Nat → Nat → Int} {i : Bool} {x y : Int32} (ht : ∀ u v, E u v → 1 ≤ t u v) (hs : ∀ u v, E' u v → E u v)
    (hm : mc_No E ∨ ∃ p q, mc_Min E w t p q ∧ mc_Min E' w t p q) (h : mc_A E w t i x) (g : mc_A E' w t i y) : y = x := by
  rcases hm with no | ⟨p, q, m1, m2⟩
  · have no' := mc_No_mono hs no
    rcases h with ⟨_, h⟩ | ⟨_, _, h, _⟩
    · rcases g with ⟨_, g⟩ | ⟨_, _, g, _⟩
      · rw [h, g]
      · exact absurd no' (mc_Min_yes g)
    · exact absurd no (mc_Min_yes h)
  · rcases h with ⟨h, _⟩ | ⟨p1, q1, h, _, _, _, h2⟩
    · exact absurd h (mc_Min_yes m1)
    · rcases g with ⟨g, _⟩ | ⟨p2, q2, g, _, _, _, g2⟩
      · exact absurd g (mc_Min_yes m2)
      · obtain ⟨e1, e2⟩ := mc_uniq ht h m1
        obtain ⟨f1, f2⟩ := mc_uniq (fun u v e => ht u v (hs u v e)) g m2
        subst e1 e2 f1 f2
        exact Int32.toInt_inj.mp (g2.trans h2.symm)
theorem mc_E_cut {a1 : Nat → Int32} {u v : Nat} (hv : v < 6) : mc_E (upd a1 (6 * u + v) 0) = fun a b => mc_E a1 a b ∧ ¬ (a = u ∧ b = v) := by
  funext a b
  apply propext
  unfold mc_E
  constructor
  · intro ⟨h1, h2, h3⟩
    have ne : ¬ (a = u ∧ b = v) := by
      intro ⟨e1, e2⟩
      subst e1 e2
      rw [pk_us] at h3
      exact h3 rfl
    rw [pk_un (fun z => ne (mc_pair h2 hv z))] at h3
    exact ⟨⟨h1, h2, h3⟩, ne⟩
  · intro ⟨⟨h1, h2, h3⟩, ne⟩
    rw [pk_un (fun z => ne (mc_pair h2 hv z))]
    exact ⟨h1, h2, h3⟩
theorem mc_G_cut {n u v : Nat} {a1 a2 a3 : Nat → Int32} (hv : v < 6) (G : mc_G n a1 a2 a3) : mc_G n (upd a1 (6 * u + v) 0) a2 a3 := by
  refine ⟨G.1, G.2.1, fun x y e => ?_⟩
  rw [mc_E_cut hv] at e
  exact G.2.2 x y e.1
/-- the mask after a cut -/
theorem mc_LI_cut {n u v : Nat} {x3 : Int64} {x5 : Int32} {a1 a2 a3 : Nat → Int32} (hu : u < 6) (hv : v < 6) (h : mc_LI n x3 x5 a1 a2 a3) :
    mc_LI n (x3 &&& (((1 : Int64) <<< ((nI (6 * u + v)).toInt64 &&& 63)) ^^^ (-1))) x5 (upd a1 (6 * u + v) 0) a2 a3 := by
  obtain ⟨G, hb, hp⟩ := h
  refine ⟨mc_G_cut hv G, fun k hk => ?_, fun z x y e => ?_⟩
  · rw [ml_and (by omega) x3 hk, Bool.and_eq_true, hb k hk]
    by_cases c : k = 6 * u + v
    · subst c
      rw [pk_us]
      simp
    · rw [pk_un c]
      simp [c]
  · rw [mc_E_cut hv] at e
    exact hp z x y e.1
theorem mc_upd_id {a : Nat → Int32} {k : Nat} (h : a k = 0) : upd a k 0 = a := by
  funext j
  by_cases c : j = k
  · rw [c, pk_us, h]
  · rw [pk_un c]
/-- the mask after an arc -/
theorem mc_LI_arc {n u v : Nat} {x3 : Int64} {x5 x5' : Int32} {p2 p3 : Int32} {a1 a2 a3 : Nat → Int32} (hu : u < n) (hv : v < n) (h2 : -20 ≤ p2.toInt ∧ p2.toInt ≤ 20) (h3 : 1 ≤ p3.toInt ∧ p3.toInt ≤ 5)
    (h5 : ¬ x5' = 0 → ¬ x5 = 0 ∧ p3.toInt = 1) (h : mc_LI n x3 x5 a1 a2 a3) :
    mc_LI n (x3 ||| ((1 : Int64) <<< ((nI (6 * u + v)).toInt64 &&& 63))) x5' (upd a1 (6 * u + v) 1) (upd a2 (6 * u + v) p2.toInt8.toInt32) (upd a3 (6 * u + v) p3.toInt8.toInt32) := by
  obtain ⟨G, hb, hp⟩ := h
  have hn := G.2.1
  have b2 := mi_byte (x := p2) (by omega) (by omega)
  have b3 := mi_byte (x := p3) (by omega) (by omega)
  refine ⟨⟨G.1, hn, fun x y e => ?_⟩, fun k hk => ?_, fun z x y e => ?_⟩
  · obtain ⟨e1, e2, e3⟩ := e
    unfold mc_w
    by_cases c : 6 * x + y = 6 * u + v
    · obtain ⟨c1, c2⟩ := mc_pair e2 (by omega) c
      subst c1 c2
      rw [pk_us, pk_us, b2, b3]
      exact ⟨⟨hu, hv⟩, h2, h3⟩
    · rw [pk_un c] at e3
      rw [pk_un c, pk_un c]
      exact G.2.2 x y ⟨e1, e2, e3⟩
  · rw [ml_or (by omega) x3 hk, Bool.or_eq_true, hb k hk]
    by_cases c : k = 6 * u + v
    · subst c
      rw [pk_us]
      simp
    · rw [pk_un c]
      simp [c]
  · obtain ⟨e1, e2, e3⟩ := e
    obtain ⟨z1, z2⟩ := h5 z
    unfold mc_w
    by_cases c : 6 * x + y = 6 * u + v
    · rw [c, pk_us, b3]
      exact z2
    · rw [pk_un c] at e3
      rw [pk_un c]
      exact hp z1 x y ⟨e1, e2, e3⟩
theorem mw_329 {post : Int32 → Prop} {L : Nat} {xs : Nat → Int32} {J : Int64 → Int32 → Int32 → Int32 → Int64 → Int64 → (Nat → Int32) → (Nat → Int32) → (Nat → Int32) → (Nat → Int64) → (Nat → Int64) → (Nat → Int32) → (Nat → Int32) → Prop}
    {n i kc ks : Nat} {x3 : Int64} {x5 : Int32} {t b : Int64} {a1 a2 a3 : Nat → Int32} {a4 a5 : Nat → Int64} {a6 a7 : Nat → Int32} (hL : mc_LI n x3 x5 a1 a2 a3)
    (HJ : ∀ x3 x5 t b a1 a2 a3 a4 a5 a6 a7, mc_LI n x3 x5 a1 a2 a3 → J x3 x5 (nI (i + 3)) (nI n) t b a1 a2 a3 a4 a5 a6 a7) :
    wL_law_329 post L xs J (nI n) x3 x5 (nI i) kc ks (nI n) t b a1 a2 a3 a4 a5 a6 a7 := by
  have h338 : ∀ x5, mc_LI n x3 x5 a1 a2 a3 → wL_law_338 post L xs J (nI n) x3 x5 (nI i) kc ks (nI n) t b a1 a2 a3 a4 a5 a6 a7 := by
    intro x5 h
    unfold wL_law_338
    refine mw_holds h (fun t b a4 a5 a6 a7 => br_f (by decide) ?_)
    exact nm_r (show nI i + 3 = nI (i + 3) from nI_add i 3) (HJ x3 x5 t b a1 a2 a3 a4 a5 a6 a7 h)
  unfold wL_law_329
  refine br_c (fun z => h338 1 ?_) (fun _ => h338 x5 hL)
  obtain ⟨G, hb, hp⟩ := hL
  refine ⟨G, hb, fun _ u v e => ?_⟩
  obtain ⟨e1, e2, e3⟩ := e
  have q := (hb (6 * u + v) (by omega)).mpr e3
  rw [z, ml_0] at q
  exact absurd q (by decide)
theorem mw_278 {post : Int32 → Prop} {L : Nat} {xs : Nat → Int32} {J : Int64 → Int32 → Int32 → Int32 → Int64 → Int64 → (Nat → Int32) → (Nat → Int32) → (Nat → Int32) → (Nat → Int64) → (Nat → Int64) → (Nat → Int32) → (Nat → Int32) → Prop}
    {n i u v kc ks : Nat} {x3 : Int64} {x5 x9 z0 : Int32} {t b : Int64} {a1 a2 a3 : Nat → Int32} {a4 a5 : Nat → Int64} {a6 a7 : Nat → Int32} (hL : mc_LI n x3 x5 a1 a2 a3) (hu : u < n) (hv : v < n) (hz : 1 ≤ z0.toInt ∧ z0.toInt ≤ 5)
    (HJ : ∀ x3 x5 t b a1 a2 a3 a4 a5 a6 a7, mc_LI n x3 x5 a1 a2 a3 → J x3 x5 (nI (i + 3)) (nI n) t b a1 a2 a3 a4 a5 a6 a7) :
    wL_law_278 post L xs J (nI n) x3 x5 (nI i) (nI u) (nI v) x9 z0 kc ks (nI n) t b a1 a2 a3 a4 a5 a6 a7 := by
  have hn := hL.1.2.1
  obtain ⟨j, hj, ej⟩ := pk_andE x9 (m := 255) 8 (by decide)
  unfold wL_law_278
  rw [ej, show nI j - nI j / 41 * 41 = nI (j % 41) from pk_rem (d := 41) (by omega) (by decide) (by decide)]
  have ew : (nI (j % 41) - 20).toInt = ((j % 41 : Nat) : Int) - ((20 : Nat) : Int) := pk_sub_toInt (b := 20) (by omega) (by decide)
  have hw : -20 ≤ (nI (j % 41) - 20).toInt ∧ (nI (j % 41) - 20).toInt ≤ 20 := by omega
  have h316 : ∀ x5', (¬ x5' = 0 → ¬ x5 = 0 ∧ z0.toInt = 1) → wL_law_316 post L xs J (nI n) x3 x5' (nI i) (nI u) (nI v) kc ks (nI n) t b (upd a1 (6 * u + v) 1) (upd a2 (6 * u + v) (nI (j % 41) - 20).toInt8.toInt32) (upd a3 (6 * u + v) z0.toInt8.toInt32) a4 a5 a6 a7 := by
    intro x5' h5
    unfold wL_law_316
    rw [mq_ix u v]
    exact nm_e (mw_329 (mc_LI_arc hu hv hw hz h5 hL) HJ)
  refine ⟨by decide, mw_arc hn hu hv hw hz (br_f (by decide) (mi_le _ 1 rfl (by decide) (fun z => h316 x5 (fun y => ⟨y, by omega⟩)) (fun z => h316 0 (fun y => absurd rfl y))))⟩
theorem mw_147 {post : Int32 → Prop} {L : Nat} {xs : Nat → Int32} {J : Int64 → Int32 → Int32 → Int32 → Int64 → Int64 → (Nat → Int32) → (Nat → Int32) → (Nat → Int32) → (Nat → Int64) → (Nat → Int64) → (Nat → Int32) → (Nat → Int32) → Prop}
    {n i u v kc ks : Nat} {x3 : Int64} {x5 x10 z0 : Int32} {t b : Int64} {a1 a2 a3 : Nat → Int32} {a4 a5 : Nat → Int64} {a6 a7 : Nat → Int32} (hL : mc_LI n x3 x5 a1 a2 a3) (hu : u < n) (hv : v < n)
    (h10 : (x10 = 1 ∧ ¬ a1 (6 * u + v) = 0) ∨ (x10 = 0 ∧ a1 (6 * u + v) = 0)) (hz : ¬ z0 = 0 → ¬ a1 (6 * u + v) = 0 ∧ mc_may 0 a1 a2 a3 u v ∧ mc_may 1 a1 a2 a3 u v)
    (HJ : ∀ x3 x5 t b a1 a2 a3 a4 a5 a6 a7, mc_LI n x3 x5 a1 a2 a3 → J x3 x5 (nI (i + 3)) (nI n) t b a1 a2 a3 a4 a5 a6 a7) :
    wL_law_147 post L xs J (nI n) x3 x5 (nI i) (nI u) (nI v) x10 z0 kc ks (nI n) t b a1 a2 a3 a4 a5 a6 a7 := by
  have G := hL.1
  have hn := G.2.1
  have hL' := mc_LI_cut (u := u) (v := v) (by omega) (by omega) hL
  have h248 : ∀ t b a4 a5 a6 a7, wL_law_248 post L xs J (nI n) (x3 &&& (((1 : Int64) <<< ((nI (6 * u + v)).toInt64 &&& 63)) ^^^ (-1))) x5 (nI i) kc ks (nI n) t b (upd a1 (6 * u + v) 0) a2 a3 a4 a5 a6 a7 := by
    intro t b a4 a5 a6 a7
    unfold wL_law_248
    exact mw_329 hL' HJ
  unfold wL_law_147
  rw [mq_ix u v]
  refine mw_meanTop G (fun ra _ _ _ ha => mw_meanBot G (fun rb _ _ _ hb => mw_ratioTop G (fun rc _ _ _ _ hc => mw_ratioBot G (fun rd _ _ _ _ hd => mw_cut hn hu hv (fun y => ?_) (fun y => ?_)))))
  · have e10 : (1 : Int32) = x10 := by
      rcases h10 with q | q
      · exact q.1.symm
      · exact absurd q.2 y
    refine br_t e10 (nm_e (br_c (fun _ => h248 _ _ _ _ _ _) (fun z => ?_)))
    obtain ⟨_, m0, m1⟩ := hz z
    have e : mc_E a1 u v := ⟨by omega, by omega, y⟩
    have G' := hL'.1
    have s0 := m0 e
    have s1 := m1 e
    rw [← mc_E_cut (by omega)] at s0 s1
    have sub : ∀ x y, mc_E (upd a1 (6 * u + v) 0) x y → mc_E a1 x y := by
      intro x y e
      rw [mc_E_cut (by omega)] at e
      exact e.1
    have t0 : ∀ u v, mc_E a1 u v → 1 ≤ mc_tm 0 a3 u v := fun u v e => (mc_G_t G 0 u v e).1
    have t1 : ∀ u v, mc_E a1 u v → 1 ≤ mc_tm 1 a3 u v := fun u v e => (mc_G_t G 1 u v e).1
    exact mw_meanTop G' (fun ra' _ _ _ ha' => br_t (mc_A_same t0 sub s0 ha ha') (mw_meanBot G' (fun rb' _ _ _ hb' => br_t (mc_A_same t0 sub s0 hb hb')
      (mw_ratioTop G' (fun rc' _ _ _ _ hc' => br_t (mc_A_same t1 sub s1 hc hc') (mw_ratioBot G' (fun rd' _ _ _ _ hd' => br_t (mc_A_same t1 sub s1 hd hd') (h248 _ _ _ _ _ _))))))))
  · have e10 : (0 : Int32) = x10 := by
      rcases h10 with q | q
      · exact absurd y q.2
      · exact q.1.symm
    rw [mc_upd_id y] at h248
    exact br_t e10 (nm_e (br_c (fun _ => h248 _ _ _ _ _ _) (fun z => absurd y (hz z).1)))
theorem mw_113 {post : Int32 → Prop} {L : Nat} {xs : Nat → Int32} {J : Int64 → Int32 → Int32 → Int32 → Int64 → Int64 → (Nat → Int32) → (Nat → Int32) → (Nat → Int32) → (Nat → Int64) → (Nat → Int64) → (Nat → Int32) → (Nat → Int32) → Prop}
    {n i u v kc ks : Nat} {x3 : Int64} {x5 z0 : Int32} {t b : Int64} {a1 a2 a3 : Nat → Int32} {a4 a5 : Nat → Int64} {a6 a7 : Nat → Int32} (hL : mc_LI n x3 x5 a1 a2 a3) (hu : u < n) (hv : v < n)
    (h10 : (z0 = 1 ∧ ¬ a1 (6 * u + v) = 0) ∨ (z0 = 0 ∧ a1 (6 * u + v) = 0))
    (HJ : ∀ x3 x5 t b a1 a2 a3 a4 a5 a6 a7, mc_LI n x3 x5 a1 a2 a3 → J x3 x5 (nI (i + 3)) (nI n) t b a1 a2 a3 a4 a5 a6 a7) :
    wL_law_113 post L xs J (nI n) x3 x5 (nI i) (nI u) (nI v) z0 kc ks (nI n) t b a1 a2 a3 a4 a5 a6 a7 := by
  have G := hL.1
  have h146 : ∀ t b a4 a5 a6 a7, wL_law_146 post L xs J (nI n) x3 x5 (nI i) (nI u) (nI v) z0 kc ks (nI n) t b a1 a2 a3 a4 a5 a6 a7 := by
    intro t b a4 a5 a6 a7
    unfold wL_law_146
    exact mw_147 hL hu hv h10 (fun z => absurd rfl z) HJ
  unfold wL_law_113
  refine br_c (fun _ => h146 _ _ _ _ _ _) (fun z => ?_)
  have y : ¬ a1 (6 * u + v) = 0 := by
    rcases h10 with q | q
    · exact q.2
    · exact absurd q.1 z
  exact mw_meanArc G hu hv (fun _ _ _ t b a4 a5 a6 a7 => br_f (by decide) (h146 _ _ _ _ _ _)) (fun m0 t b a4 a5 a6 a7 => br_t rfl
    (mw_ratioArc G hu hv (fun _ _ _ t b a4 a5 a6 a7 => br_f (by decide) (h146 _ _ _ _ _ _)) (fun m1 t b a4 a5 a6 a7 => br_t rfl (mw_147 hL hu hv h10 (fun _ => ⟨y, m0, m1⟩) HJ))))
end
section
/-! ===== the law ===== -/
theorem mw_32 {L : Nat} {xs : Nat → Int32} (hL260 : L ≤ 260) {n kc ks : Nat} {x3 : Int64} {x5 : Int32} {t b : Int64} {a1 a2 a3 : Nat → Int32} {a4 a5 : Nat → Int64} {a6 a7 : Nat → Int32} (hL : mc_LI n x3 x5 a1 a2 a3) :
    ∃ fu, wL_law_32 (fun r => r = 1) L xs (nI n) kc ks fu x3 x5 1 (nI n) t b a1 a2 a3 a4 a5 a6 a7 := by
  refine loop_m (fun k (s : Int64 × Int32 × Nat × Int64 × Int64 × (Nat → Int32) × (Nat → Int32) × (Nat → Int32) × (Nat → Int64) × (Nat → Int64) × (Nat → Int32) × (Nat → Int32)) =>
      wL_law_32 (fun r => r = 1) L xs (nI n) kc ks k s.1 s.2.1 (nI s.2.2.1) (nI n) s.2.2.2.1 s.2.2.2.2.1 s.2.2.2.2.2.1 s.2.2.2.2.2.2.1 s.2.2.2.2.2.2.2.1 s.2.2.2.2.2.2.2.2.1 s.2.2.2.2.2.2.2.2.2.1 s.2.2.2.2.2.2.2.2.2.2.1 s.2.2.2.2.2.2.2.2.2.2.2)
    (fun s => s.2.2.1 ≤ 300 ∧ mc_LI n s.1 s.2.1 s.2.2.2.2.2.1 s.2.2.2.2.2.2.1 s.2.2.2.2.2.2.2.1) (fun s => 300 - s.2.2.1) ?_ (x3, x5, 1, t, b, a1, a2, a3, a4, a5, a6, a7) ⟨(by decide : 1 ≤ 300), hL⟩
  intro k s hs hw
  obtain ⟨x3, x5, i, t, b, a1, a2, a3, a4, a5, a6, a7⟩ := s
  obtain ⟨hi, hL⟩ := hs
  have hi : i ≤ 300 := hi
  have hL : mc_LI n x3 x5 a1 a2 a3 := hL
  have h1n := hL.1.1
  have hn := hL.1.2.1
  show wL_law_32 (fun r => r = 1) L xs (nI n) kc ks (k + 1) x3 x5 (nI i) (nI n) t b a1 a2 a3 a4 a5 a6 a7
  have eL : (nI L - 3).toInt = (L : Int) - ((3 : Nat) : Int) := pk_sub_toInt (b := 3) (by omega) (by decide)
  refine mi_lt ((L : Int) - ((3 : Nat) : Int)) (i : Int) eL (nI_toInt (by omega)) (fun _ => rfl) (fun hle => ?_)
  have hlt : i + 2 < L := by omega
  rw [nI_1 i, show nI i + 2 = nI (i + 2) from nI_add i 2, nI_clamp (show i + 1 < 2 ^ 31 by omega), nI_clamp (show i + 2 < 2 ^ 31 by omega), nI_clamp (show i < 2 ^ 31 by omega)]
  have HJ : ∀ x3 x5 t b a1 a2 a3 a4 a5 a6 a7, mc_LI n x3 x5 a1 a2 a3 → wL_law_32 (fun r => r = 1) L xs (nI n) kc ks k x3 x5 (nI (i + 3)) (nI n) t b a1 a2 a3 a4 a5 a6 a7 :=
    fun x3 x5 t b a1 a2 a3 a4 a5 a6 a7 h => hw (x3, x5, i + 3, t, b, a1, a2, a3, a4, a5, a6, a7) ⟨by show i + 3 ≤ 300; omega, h⟩ (by show 300 - (i + 3) < 300 - i; omega)
  have n0 : ¬ nI n = 0 := nI_ne0 (by omega) (by omega)
  obtain ⟨j, hj, ej⟩ := pk_andE (xs (i + 1)) (m := 255) 8 (by decide)
  obtain ⟨j', hj', ej'⟩ := pk_andE (xs (i + 1) >>> ((8 : Int32) &&& 31)) (m := 255) 8 (by decide)
  rw [ej, ej', pk_rem (a := j) (d := n) (by omega) (by omega) (by omega), pk_rem (a := j') (d := n) (by omega) (by omega) (by omega)]
  have hu : j % n < n := Nat.mod_lt _ (by omega)
  have hv : j' % n < n := Nat.mod_lt _ (by omega)
  refine ⟨vp_in_nI (by omega) (by omega), n0, nm_e ⟨vp_in_nI (by omega) (by omega), n0, nm_e ⟨vp_in_nI (by omega) (by omega), nm_e ⟨vp_in_nI (by omega) (by omega), ?_⟩⟩⟩⟩
  refine br_c (fun _ => ⟨vp_in_nI (by omega) (by omega), br_c (fun _ => mw_278 hL hu hv (by decide) HJ) (fun _ => ⟨by decide, ?_⟩)⟩) (fun _ => ?_)
  · obtain ⟨m, hm, em⟩ := pk_andE (xs (i + 2) >>> ((8 : Int32) &&& 31)) (m := 255) 8 (by decide)
    rw [em, show nI m - nI m / 5 * 5 = nI (m % 5) from pk_rem (d := 5) (by omega) (by decide) (by decide), show (1 : Int32) + nI (m % 5) = nI (1 + m % 5) from nI_add 1 (m % 5)]
    refine mw_278 hL hu hv ?_ HJ
    rw [nI_toInt (by omega)]
    omega
  · rw [mq_ix (j % n) (j' % n)]
    refine ek_if ((ml_bit (by omega) x3).trans (hL.2.1 (6 * (j % n) + j' % n) (by omega))) (fun z => ?_) (fun z => ?_)
    · exact mw_113 hL hu hv (Or.inl ⟨rfl, z⟩) HJ
    · exact mw_113 hL hu hv (Or.inr ⟨rfl, Classical.not_not.mp z⟩) HJ
theorem mw_start {L : Nat} {xs : Nat → Int32} (hL260 : L ≤ 260) (r : Int32) : ¬ (6 : Int32) = 0 ∧ ∀ x1_3 : Int32, x1_3 = 1 + ((r &&& 255) - (r &&& 255) / 6 * 6) → ∃ mc_30 ms_31 : Nat, 1 + mc_30 ≤ 8 ∧ 10 + ms_31 ≤ 178 ∧
    (wpX_init (fun u => match u with | (fm15_pointCount_6, fm15_top_7, fm15_bottom_8, am201_11, am202_14, am203_17, am204_20, am205_23, am206_26, am207_29) => (∃ fu32 : Nat, wL_law_32 (fun r => r = 1) L xs x1_3 (1 + mc_30) (10 + ms_31) fu32 0 1 1 fm15_pointCount_6 fm15_top_7 fm15_bottom_8 am201_11 am202_14 am203_17 am204_20 am205_23 am206_26 am207_29)) mc_30 ms_31 (0, 0, 0) x1_3) := by
  refine ⟨by decide, ?_⟩
  obtain ⟨j, hj, ej⟩ := pk_andE r (m := 255) 8 (by decide)
  rw [ej, show nI j - nI j / 6 * 6 = nI (j % 6) from pk_rem (d := 6) (by omega) (by decide) (by decide), show (1 : Int32) + nI (j % 6) = nI (1 + j % 6) from nI_add 1 (j % 6)]
  intro x e
  subst e
  refine ⟨7, 168, by decide, by decide, ?_⟩
  unfold wpX_init
  dsimp only
  refine ⟨by decide, by decide, by decide, by decide, by decide, by decide, by decide, by decide, by decide, by decide, by decide, by decide, by decide, by decide, ?_⟩
  refine pk_le 1 (1 + j % 6) (fun _ => pk_le (1 + j % 6) 6 (fun _ => ?_) (fun z => absurd z (by omega))) (fun z => absurd z (by omega))
  refine mw_32 hL260 ⟨⟨by omega, by omega, fun u v e => absurd rfl e.2.2⟩, fun k hk => ?_, fun _ u v e => absurd rfl e.2.2⟩
  rw [ml_0]
  exact ⟨fun y => absurd y (by decide), fun y => absurd rfl y⟩
theorem i_vc (xs : Nat → Int32) (L : Nat) (hL : L ≤ 260) : wpL_law (fun r => r = 1) L xs := by
  unfold wpL_law
  refine pk_le L 0 (fun _ => mw_start hL 0) (fun z => ⟨vp_in_nI (n := 0) (by omega) (by omega), mw_start hL _⟩)
end
