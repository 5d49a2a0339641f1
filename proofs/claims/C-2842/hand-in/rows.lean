section
/-! ===== plane geometry over whole numbers: a point is (X / W, Y / W), W above 0; K is a set of conditions ===== -/
/-- the point meets all conditions of K -/
def ge_F (K : Int → Int → Int → Prop) (X Y W : Int) : Prop := 0 < W ∧ ∀ a b c, K a b c → a * X + b * Y ≤ c * W
/-- the point lies on the line -/
def ge_on (a b c X Y W : Int) : Prop := 0 < W ∧ a * X + b * Y = c * W
/-- the corner of two lines, in the order that makes its divisor positive -/
def ge_cr (a b c a' b' c' X Y W : Int) : Prop := X = c * b' - c' * b ∧ Y = a * c' - a' * c ∧ W = a * b' - a' * b ∧ 0 < W
def ge_C (K : Int → Int → Int → Prop) (X Y W : Int) : Prop := ∃ a b c a' b' c', K a b c ∧ K a' b' c' ∧ ge_cr a b c a' b' c' X Y W
def ge_D (K : Int → Int → Int → Prop) (a b c X Y W : Int) : Prop := ∃ a' b' c', K a' b' c' ∧ (ge_cr a b c a' b' c' X Y W ∨ ge_cr a' b' c' a b c X Y W)
def ge_add (K : Int → Int → Int → Prop) (a b c : Int) : Int → Int → Int → Prop := fun x y z => K x y z ∨ (x = a ∧ y = b ∧ z = c)

theorem ge_sub {u v D E : Int} (hD : 0 < D) (e : D * (v - u) = E) (hE : 0 ≤ E) : u ≤ v := by
  have h : 0 ≤ v - u := Int.nonneg_of_mul_nonneg_right (e ▸ hE) hD
  omega
theorem ge_slt {u v D E : Int} (hD : 0 < D) (e : D * (v - u) = E) (hE : 0 < E) : u < v := by
  have h : 0 < v - u := Int.pos_of_mul_pos_right (e ▸ hE) hD
  omega
theorem ge_seq {u v D : Int} (hD : 0 < D) (e : D * (v - u) = 0) : u = v := by
  have h : v - u = 0 := by
    rcases Int.mul_eq_zero.mp e with h | h
    · omega
    · exact h
  omega
/-- fractions: at most, then at most -/
theorem ge_ll {u1 w1 u2 w2 u3 w3 : Int} (h1 : 0 < w1) (h2 : 0 < w2) (h3 : 0 < w3) (a : u1 * w2 ≤ u2 * w1) (b : u2 * w3 ≤ u3 * w2) : u1 * w3 ≤ u3 * w1 := by
  have p := Int.mul_nonneg (Int.le_of_lt h3) (Int.sub_nonneg_of_le a)
  have q := Int.mul_nonneg (Int.le_of_lt h1) (Int.sub_nonneg_of_le b)
  exact ge_sub h2 (E := w3 * (u2 * w1 - u1 * w2) + w1 * (u3 * w2 - u2 * w3)) (by grind) (by omega)
theorem ge_tl {u1 w1 u2 w2 u3 w3 : Int} (h1 : 0 < w1) (h2 : 0 < w2) (h3 : 0 < w3) (a : u1 * w2 < u2 * w1) (b : u2 * w3 ≤ u3 * w2) : u1 * w3 < u3 * w1 := by
  have p := Int.mul_pos h3 (Int.sub_pos_of_lt a)
  have q := Int.mul_nonneg (Int.le_of_lt h1) (Int.sub_nonneg_of_le b)
  exact ge_slt h2 (E := w3 * (u2 * w1 - u1 * w2) + w1 * (u3 * w2 - u2 * w3)) (by grind) (by omega)
theorem ge_lt {u1 w1 u2 w2 u3 w3 : Int} (h1 : 0 < w1) (h2 : 0 < w2) (h3 : 0 < w3) (a : u1 * w2 ≤ u2 * w1) (b : u2 * w3 < u3 * w2) : u1 * w3 < u3 * w1 := by
  have p := Int.mul_nonneg (Int.le_of_lt h3) (Int.sub_nonneg_of_le a)
  have q := Int.mul_pos h1 (Int.sub_pos_of_lt b)
  exact ge_slt h2 (E := w3 * (u2 * w1 - u1 * w2) + w1 * (u3 * w2 - u2 * w3)) (by grind) (by omega)
theorem ge_ee {u1 w1 u2 w2 u3 w3 : Int} (h1 : 0 < w1) (h2 : 0 < w2) (h3 : 0 < w3) (a : u1 * w2 = u2 * w1) (b : u2 * w3 = u3 * w2) : u1 * w3 = u3 * w1 :=
  Int.le_antisymm (ge_ll h1 h2 h3 (Int.le_of_eq a) (Int.le_of_eq b)) (ge_ll h3 h2 h1 (Int.le_of_eq b.symm) (Int.le_of_eq a.symm))

theorem ge_cr_on {a b c a' b' c' X Y W : Int} (h : ge_cr a b c a' b' c' X Y W) : ge_on a b c X Y W ∧ ge_on a' b' c' X Y W := by
  obtain ⟨rfl, rfl, rfl, hw⟩ := h
  exact ⟨⟨hw, by grind⟩, ⟨hw, by grind⟩⟩
theorem ge_D_on {K : Int → Int → Int → Prop} {a b c X Y W : Int} (h : ge_D K a b c X Y W) : ge_on a b c X Y W := by
  obtain ⟨a', b', c', _, h | h⟩ := h
  · exact (ge_cr_on h).1
  · exact (ge_cr_on h).2
theorem ge_D_mono {K K' : Int → Int → Int → Prop} (hK : ∀ a b c, K a b c → K' a b c) {a b c X Y W : Int} (h : ge_D K a b c X Y W) : ge_D K' a b c X Y W := by
  obtain ⟨a', b', c', k, h⟩ := h
  exact ⟨a', b', c', hK _ _ _ k, h⟩
theorem ge_C_mono {K K' : Int → Int → Int → Prop} (hK : ∀ a b c, K a b c → K' a b c) {X Y W : Int} (h : ge_C K X Y W) : ge_C K' X Y W := by
  obtain ⟨a, b, c, a', b', c', k, k', h⟩ := h
  exact ⟨a, b, c, a', b', c', hK _ _ _ k, hK _ _ _ k', h⟩
theorem ge_D_C {K : Int → Int → Int → Prop} {a b c X Y W : Int} (h : ge_D K a b c X Y W) : ge_C (ge_add K a b c) X Y W := by
  obtain ⟨a', b', c', k, h | h⟩ := h
  · exact ⟨a, b, c, a', b', c', .inr ⟨rfl, rfl, rfl⟩, .inl k, h⟩
  · exact ⟨a', b', c', a, b, c, .inl k, .inr ⟨rfl, rfl, rfl⟩, h⟩

/-- the stretch: L, H: whether the low and the high end are there -/
def ge_S (a b c : Int) (K : Int → Int → Int → Prop) (L : Prop) (lx ly lw : Int) (H : Prop) (hx hy hw : Int) : Prop :=
  (L → ge_D K a b c lx ly lw) ∧ (H → ge_D K a b c hx hy hw) ∧
  ∀ X Y W, ge_on a b c X Y W → ((∀ a' b' c', K a' b' c' → a' * X + b' * Y ≤ c' * W) ↔
    ((L → (a * ly - b * lx) * W ≤ (a * Y - b * X) * lw) ∧ (H → (a * Y - b * X) * hw ≤ (a * hy - b * hx) * W)))
theorem ge_S_0 {a b c lx ly lw hx hy hw : Int} {L H : Prop} {K : Int → Int → Int → Prop} (hL : ¬ L) (hH : ¬ H) (hK : ∀ a b c, ¬ K a b c) : ge_S a b c K L lx ly lw H hx hy hw :=
  ⟨fun h => absurd h hL, fun h => absurd h hH, fun _ _ _ _ => ⟨fun _ => ⟨fun h => absurd h hL, fun h => absurd h hH⟩, fun _ _ _ _ k => absurd k (hK _ _ _)⟩⟩
theorem ge_S_add {a b c a' b' c' lx ly lw hx hy hw lx' ly' lw' hx' hy' hw' : Int} {L H L' H' : Prop} {K : Int → Int → Int → Prop}
    (h : ge_S a b c K L lx ly lw H hx hy hw)
    (hL : L' → ge_D (ge_add K a' b' c') a b c lx' ly' lw') (hH : H' → ge_D (ge_add K a' b' c') a b c hx' hy' hw')
    (e : ∀ X Y W, ge_on a b c X Y W →
      ((((L → (a * ly - b * lx) * W ≤ (a * Y - b * X) * lw) ∧ (H → (a * Y - b * X) * hw ≤ (a * hy - b * hx) * W)) ∧ a' * X + b' * Y ≤ c' * W) ↔
       ((L' → (a * ly' - b * lx') * W ≤ (a * Y - b * X) * lw') ∧ (H' → (a * Y - b * X) * hw' ≤ (a * hy' - b * hx') * W)))) :
    ge_S a b c (ge_add K a' b' c') L' lx' ly' lw' H' hx' hy' hw' := by
  refine ⟨hL, hH, fun X Y W o => ?_⟩
  rw [← e X Y W o, ← h.2.2 X Y W o]
  constructor
  · intro q
    exact ⟨fun x y z k => q x y z (.inl k), q _ _ _ (.inr ⟨rfl, rfl, rfl⟩)⟩
  · intro q x y z k
    rcases k with k | ⟨rfl, rfl, rfl⟩
    · exact q.1 x y z k
    · exact q.2
theorem ge_add_l {K : Int → Int → Int → Prop} {a b c : Int} : ∀ x y z, K x y z → ge_add K a b c x y z := fun _ _ _ k => .inl k

/-- a condition of the same direction -/
theorem ge_par {a b c a' b' c' X Y W : Int} (own oth : Int) (h1 : own * a' = oth * a) (h2 : own * b' = oth * b) (o : ge_on a b c X Y W) :
    own * (c' * W - (a' * X + b' * Y)) = W * (c' * own - oth * c) := by
  obtain ⟨_, e⟩ := o
  have e1 : own * (a' * X + b' * Y) = oth * (a * X + b * Y) := by grind
  grind
theorem ge_parP {a b c a' b' c' X Y W : Int} (own oth : Int) (h1 : own * a' = oth * a) (h2 : own * b' = oth * b) (o : ge_on a b c X Y W) (hp : 0 < own) :
    oth * c ≤ c' * own ↔ a' * X + b' * Y ≤ c' * W := by
  have e := ge_par (c' := c') own oth h1 h2 o
  constructor
  · intro h
    exact ge_sub hp e (Int.mul_nonneg (Int.le_of_lt o.1) (Int.sub_nonneg_of_le h))
  · intro h
    exact ge_sub o.1 e.symm (Int.mul_nonneg (Int.le_of_lt hp) (Int.sub_nonneg_of_le h))
theorem ge_parN {a b c a' b' c' X Y W : Int} (own oth : Int) (h1 : own * a' = oth * a) (h2 : own * b' = oth * b) (o : ge_on a b c X Y W) (hp : own < 0) :
    c' * own ≤ oth * c ↔ a' * X + b' * Y ≤ c' * W := by
  have e := ge_par (a' := a') (b' := b') (c' := c') (-own) (-oth) (by grind) (by grind) o
  constructor
  · intro h
    exact ge_sub (D := -own) (by omega) e (Int.mul_nonneg (Int.le_of_lt o.1) (by grind))
  · intro h
    have e' : W * (oth * c - c' * own) = -own * (c' * W - (a' * X + b' * Y)) := by grind
    exact ge_sub o.1 e' (Int.mul_nonneg (by omega) (Int.sub_nonneg_of_le h))
theorem ge_S_par {a b c a' b' c' lx ly lw hx hy hw : Int} {L H : Prop} {K : Int → Int → Int → Prop}
    (h : ge_S a b c K L lx ly lw H hx hy hw) (q : ∀ X Y W, ge_on a b c X Y W → a' * X + b' * Y ≤ c' * W) :
    ge_S a b c (ge_add K a' b' c') L lx ly lw H hx hy hw :=
  ge_S_add h (fun l => ge_D_mono ge_add_l (h.1 l)) (fun l => ge_D_mono ge_add_l (h.2.1 l)) (fun X Y W o => ⟨fun x => x.1, fun x => ⟨x, q X Y W o⟩⟩)

theorem ge_sq {a b : Int} (h : ¬ (a = 0 ∧ b = 0)) : 0 < a * a + b * b := by
  have h1 : ∀ x : Int, 0 ≤ x * x := fun x => by
    rcases Int.le_total 0 x with h | h
    · exact Int.mul_nonneg h h
    · exact Int.mul_nonneg_of_nonpos_of_nonpos h h
  have h2 : ∀ x : Int, x ≠ 0 → 0 < x * x := fun x hx => by
    have := h1 x
    have : x * x ≠ 0 := fun z => hx (by rcases Int.mul_eq_zero.mp z with z | z <;> exact z)
    omega
  have ha := h1 a
  have hb := h1 b
  by_cases z : a = 0
  · have := h2 b (fun w => h ⟨z, w⟩); omega
  · have := h2 a z; omega
/-- where a condition cuts a line -/
theorem ge_cut {a b c a' b' c' X Y W : Int} (hab : ¬ (a = 0 ∧ b = 0)) (o : ge_on a b c X Y W) :
    (a' * X + b' * Y ≤ c' * W) ↔ (a * Y - b * X) * (a * b' - a' * b) ≤ (a * (a * c' - a' * c) - b * (c * b' - c' * b)) * W := by
  have hs := ge_sq hab
  obtain ⟨_, e⟩ := o
  have e1 : (a * (a * c' - a' * c) - b * (c * b' - c' * b)) * W - (a * Y - b * X) * (a * b' - a' * b) = (a * a + b * b) * (c' * W - (a' * X + b' * Y)) := by
    have e2 : (a * a' + b * b') * (a * X + b * Y) = (a * a' + b * b') * (c * W) := by rw [e]
    grind
  constructor
  · intro h
    have := Int.mul_nonneg (Int.le_of_lt hs) (Int.sub_nonneg_of_le h)
    omega
  · intro h
    exact ge_sub hs e1.symm (Int.sub_nonneg_of_le h)
end
section
/-- the high end, cut by a condition that turns up -/
theorem ge_hi {a b c a' b' c' lx ly lw hx hy hw px py pw : Int} {L H : Prop} {K : Int → Int → Int → Prop}
    (hab : ¬ (a = 0 ∧ b = 0)) (h : ge_S a b c K L lx ly lw H hx hy hw) (p : ge_cr a b c a' b' c' px py pw) :
    ((¬ H ∨ (a * py - b * px) * hw < (a * hy - b * hx) * pw) → ∀ H' : Prop, H' → ge_S a b c (ge_add K a' b' c') L lx ly lw H' px py pw) ∧
    ((H ∧ (a * hy - b * hx) * pw ≤ (a * py - b * px) * hw) → ge_S a b c (ge_add K a' b' c') L lx ly lw H hx hy hw) := by
  have hw0 := p.2.2.2
  have hc : ∀ X Y W, ge_on a b c X Y W → ((a' * X + b' * Y ≤ c' * W) ↔ (a * Y - b * X) * pw ≤ (a * py - b * px) * W) := by
    intro X Y W o
    obtain ⟨rfl, rfl, rfl, _⟩ := p
    exact ge_cut hab o
  constructor
  · intro q H' hH'
    refine ge_S_add h (fun l => ge_D_mono ge_add_l (h.1 l)) (fun _ => ⟨a', b', c', .inr ⟨rfl, rfl, rfl⟩, .inl p⟩) (fun X Y W o => ?_)
    rw [hc X Y W o]
    constructor
    · intro x
      exact ⟨x.1.1, fun _ => x.2⟩
    · intro x
      refine ⟨⟨x.1, fun hh => ?_⟩, x.2 hH'⟩
      rcases q with q | q
      · exact absurd hh q
      · exact ge_ll o.1 hw0 (ge_D_on (h.2.1 hh)).1 (x.2 hH') (Int.le_of_lt q)
  · intro q
    refine ge_S_add h (fun l => ge_D_mono ge_add_l (h.1 l)) (fun l => ge_D_mono ge_add_l (h.2.1 l)) (fun X Y W o => ?_)
    rw [hc X Y W o]
    constructor
    · intro x
      exact x.1
    · intro x
      exact ⟨x, ge_ll o.1 (ge_D_on (h.2.1 q.1)).1 hw0 (x.2 q.1) q.2⟩
theorem ge_lo {a b c a' b' c' lx ly lw hx hy hw px py pw : Int} {L H : Prop} {K : Int → Int → Int → Prop}
    (hab : ¬ (a = 0 ∧ b = 0)) (h : ge_S a b c K L lx ly lw H hx hy hw) (p : ge_cr a' b' c' a b c px py pw) :
    ((¬ L ∨ (a * ly - b * lx) * pw < (a * py - b * px) * lw) → ∀ L' : Prop, L' → ge_S a b c (ge_add K a' b' c') L' px py pw H hx hy hw) ∧
    ((L ∧ (a * py - b * px) * lw ≤ (a * ly - b * lx) * pw) → ge_S a b c (ge_add K a' b' c') L lx ly lw H hx hy hw) := by
  have hw0 := p.2.2.2
  have hc : ∀ X Y W, ge_on a b c X Y W → ((a' * X + b' * Y ≤ c' * W) ↔ (a * py - b * px) * W ≤ (a * Y - b * X) * pw) := by
    intro X Y W o
    obtain ⟨rfl, rfl, rfl, _⟩ := p
    rw [ge_cut hab o]
    constructor
    · intro q
      have e1 : (a * (a' * c - a * c') - b * (c' * b - c * b')) * W = -((a * (a * c' - a' * c) - b * (c * b' - c' * b)) * W) := by grind
      have e2 : (a * Y - b * X) * (a' * b - a * b') = -((a * Y - b * X) * (a * b' - a' * b)) := by grind
      omega
    · intro q
      have e1 : (a * (a' * c - a * c') - b * (c' * b - c * b')) * W = -((a * (a * c' - a' * c) - b * (c * b' - c' * b)) * W) := by grind
      have e2 : (a * Y - b * X) * (a' * b - a * b') = -((a * Y - b * X) * (a * b' - a' * b)) := by grind
      omega
  constructor
  · intro q L' hL'
    refine ge_S_add h (fun _ => ⟨a', b', c', .inr ⟨rfl, rfl, rfl⟩, .inr p⟩) (fun l => ge_D_mono ge_add_l (h.2.1 l)) (fun X Y W o => ?_)
    rw [hc X Y W o]
    constructor
    · intro x
      exact ⟨fun _ => x.2, x.1.2⟩
    · intro x
      refine ⟨⟨fun hh => ?_, x.2⟩, x.1 hL'⟩
      rcases q with q | q
      · exact absurd hh q
      · exact ge_ll (ge_D_on (h.1 hh)).1 hw0 o.1 (Int.le_of_lt q) (x.1 hL')
  · intro q
    refine ge_S_add h (fun l => ge_D_mono ge_add_l (h.1 l)) (fun l => ge_D_mono ge_add_l (h.2.1 l)) (fun X Y W o => ?_)
    rw [hc X Y W o]
    constructor
    · intro x
      exact x.1
    · intro x
      exact ⟨x, ge_ll hw0 (ge_D_on (h.1 q.1)).1 o.1 q.2 (x.1 q.1)⟩

/-- no other point that meets K has more of (G, H) -/
def ge_G (K : Int → Int → Int → Prop) (G H X Y W : Int) : Prop := ∀ X' Y' W', ge_F K X' Y' W' → (G * X' + H * Y') * W ≤ (G * X + H * Y) * W'
/-- the best point by (p, q), then by small x, then by small y: best for all steep enough directions -/
def ge_O (K : Int → Int → Int → Prop) (p q X Y W : Int) : Prop := ∀ M N : Int, 10 ≤ N → 10 * N ≤ M → ge_G K (M * p - N) (M * q - 1) X Y W
def ge_up (p q a b : Int) : Prop := 0 < q * a - p * b ∨ (q * a - p * b = 0 ∧ (0 < b ∨ (b = 0 ∧ a < 0)))

theorem ge_dir {a b p q M N : Int} (ha : -9 ≤ a ∧ a ≤ 9) (hb : -9 ≤ b ∧ b ≤ 9) (hN : 10 ≤ N) (hM : 10 * N ≤ M) :
    (ge_up p q a b → 0 ≤ (M * q - 1) * a - (M * p - N) * b) ∧ (¬ ge_up p q a b → (M * q - 1) * a - (M * p - N) * b ≤ 0) := by
  have e : (M * q - 1) * a - (M * p - N) * b = M * (q * a - p * b) + N * b - a := by grind
  have n1 : 0 ≤ N * (b + 9) := Int.mul_nonneg (by omega) (by omega)
  have n2 : 0 ≤ N * (9 - b) := Int.mul_nonneg (by omega) (by omega)
  rw [Int.mul_add] at n1
  rw [Int.mul_sub] at n2
  rw [e]
  unfold ge_up
  generalize q * a - p * b = g
  constructor
  · intro h
    rcases h with h | ⟨h0, h⟩
    · have : 0 ≤ M * (g - 1) := Int.mul_nonneg (by omega) (by omega)
      rw [Int.mul_sub] at this
      omega
    · subst h0
      rcases h with h | ⟨h1, h⟩
      · have : 0 ≤ N * (b - 1) := Int.mul_nonneg (by omega) (by omega)
        rw [Int.mul_sub] at this
        omega
      · subst h1
        omega
  · intro h
    by_cases hg : g < 0
    · have : 0 ≤ M * (-1 - g) := Int.mul_nonneg (by omega) (by omega)
      rw [Int.mul_sub] at this
      omega
    · have hz : g = 0 := by omega
      subst hz
      by_cases hb0 : b < 0
      · have : 0 ≤ N * (-1 - b) := Int.mul_nonneg (by omega) (by omega)
        rw [Int.mul_sub] at this
        omega
      · have hz : b = 0 := by omega
        subst hz
        omega

/-- what is gained along a line -/
theorem ge_gain {a b c G H X Y W X' Y' W' : Int} (hab : ¬ (a = 0 ∧ b = 0)) (o : ge_on a b c X Y W) (o' : ge_on a b c X' Y' W') :
    (a * a + b * b) * ((G * X + H * Y) * W' - (G * X' + H * Y') * W) = (H * a - G * b) * ((a * Y - b * X) * W' - (a * Y' - b * X') * W) := by
  obtain ⟨_, e⟩ := o
  obtain ⟨_, e'⟩ := o'
  have h : (a * G + b * H) * ((a * X + b * Y) * W' - (a * X' + b * Y') * W) = 0 := by rw [e, e']; grind
  grind
/-- the two ends of a stretch that isn't empty -/
theorem ge_ends {a b c lx ly lw hx hy hw : Int} {L H : Prop} {K : Int → Int → Int → Prop} (h : ge_S a b c K L lx ly lw H hx hy hw) (l : L) (g : H) :
    ((a * ly - b * lx) * hw ≤ (a * hy - b * hx) * lw → ge_F K lx ly lw ∧ ge_F K hx hy hw) ∧
    (¬ (a * ly - b * lx) * hw ≤ (a * hy - b * hx) * lw → ∀ X Y W, ge_on a b c X Y W → ¬ ge_F K X Y W) := by
  have ol := ge_D_on (h.1 l)
  have oh := ge_D_on (h.2.1 g)
  constructor
  · intro q
    exact ⟨⟨ol.1, (h.2.2 _ _ _ ol).mpr ⟨fun _ => Int.le_refl _, fun _ => q⟩⟩, ⟨oh.1, (h.2.2 _ _ _ oh).mpr ⟨fun _ => q, fun _ => Int.le_refl _⟩⟩⟩
  · intro q X Y W o f
    have r := (h.2.2 X Y W o).mp f.2
    exact q (ge_ll ol.1 o.1 oh.1 (r.1 l) (r.2 g))
theorem ge_bestHi {a b c G g lx ly lw hx hy hw : Int} {L H : Prop} {K : Int → Int → Int → Prop} (hab : ¬ (a = 0 ∧ b = 0)) (h : ge_S a b c K L lx ly lw H hx hy hw) (hh : H)
    (hg : 0 ≤ g * a - G * b) : ∀ X Y W, ge_on a b c X Y W → ge_F K X Y W → (G * X + g * Y) * hw ≤ (G * hx + g * hy) * W := by
  intro X Y W o f
  exact ge_sub (ge_sq hab) (ge_gain hab (ge_D_on (h.2.1 hh)) o) (Int.mul_nonneg hg (Int.sub_nonneg_of_le (((h.2.2 X Y W o).mp f.2).2 hh)))
theorem ge_bestLo {a b c G g lx ly lw hx hy hw : Int} {L H : Prop} {K : Int → Int → Int → Prop} (hab : ¬ (a = 0 ∧ b = 0)) (h : ge_S a b c K L lx ly lw H hx hy hw) (hl : L)
    (hg : g * a - G * b ≤ 0) : ∀ X Y W, ge_on a b c X Y W → ge_F K X Y W → (G * X + g * Y) * lw ≤ (G * lx + g * ly) * W := by
  intro X Y W o f
  have q := ((h.2.2 X Y W o).mp f.2).1 hl
  refine ge_sub (ge_sq hab) (ge_gain hab (ge_D_on (h.1 hl)) o) (Int.mul_nonneg_of_nonpos_of_nonpos hg ?_)
  omega

/-- a point of the segment between a point beyond the line and one that isn't -/
theorem ge_seg {K : Int → Int → Int → Prop} {a b c X Y W X' Y' W' : Int} (f : ge_F K X Y W) (v : c * W < a * X + b * Y) (f' : ge_F K X' Y' W') (v' : a * X' + b * Y' ≤ c * W') :
    ge_on a b c ((c * W' - (a * X' + b * Y')) * X + (a * X + b * Y - c * W) * X') ((c * W' - (a * X' + b * Y')) * Y + (a * X + b * Y - c * W) * Y') ((c * W' - (a * X' + b * Y')) * W + (a * X + b * Y - c * W) * W') ∧
    ge_F K ((c * W' - (a * X' + b * Y')) * X + (a * X + b * Y - c * W) * X') ((c * W' - (a * X' + b * Y')) * Y + (a * X + b * Y - c * W) * Y') ((c * W' - (a * X' + b * Y')) * W + (a * X + b * Y - c * W) * W') := by
  have ht : 0 ≤ c * W' - (a * X' + b * Y') := Int.sub_nonneg_of_le v'
  have hs : 0 < a * X + b * Y - c * W := Int.sub_pos_of_lt v
  have hW : 0 < (c * W' - (a * X' + b * Y')) * W + (a * X + b * Y - c * W) * W' := by
    have := Int.mul_nonneg ht (Int.le_of_lt f.1)
    have := Int.mul_pos hs f'.1
    omega
  refine ⟨⟨hW, by grind⟩, ⟨hW, fun x y z k => ?_⟩⟩
  have k1 := f.2 x y z k
  have k2 := f'.2 x y z k
  generalize c * W' - (a * X' + b * Y') = t at ht ⊢
  generalize a * X + b * Y - c * W = s at hs ⊢
  have p1 := Int.mul_nonneg ht (Int.sub_nonneg_of_le k1)
  have p2 := Int.mul_nonneg (Int.le_of_lt hs) (Int.sub_nonneg_of_le k2)
  have e : z * (t * W + s * W') - (x * (t * X + s * X') + y * (t * Y + s * Y')) = t * (z * W - (x * X + y * Y)) + s * (z * W' - (x * X' + y * Y')) := by grind
  omega
theorem ge_none {K : Int → Int → Int → Prop} {a b c X Y W : Int} (f : ge_F K X Y W) (v : c * W < a * X + b * Y) (n : ∀ X Y W, ge_on a b c X Y W → ¬ ge_F K X Y W) :
    ∀ X Y W, ¬ ge_F (ge_add K a b c) X Y W := by
  intro X' Y' W' f'
  have s := ge_seg f v (X' := X') (Y' := Y') (W' := W') ⟨f'.1, fun x y z k => f'.2 x y z (.inl k)⟩ (f'.2 _ _ _ (.inr ⟨rfl, rfl, rfl⟩))
  exact n _ _ _ s.1 s.2
theorem ge_move {K : Int → Int → Int → Prop} {a b c G H X Y W PX PY PW : Int} (f : ge_F K X Y W) (v : c * W < a * X + b * Y) (g : ge_G K G H X Y W)
    (hP : 0 < PW) (n : ∀ X Y W, ge_on a b c X Y W → ge_F K X Y W → (G * X + H * Y) * PW ≤ (G * PX + H * PY) * W) :
    ge_G (ge_add K a b c) G H PX PY PW := by
  intro X' Y' W' f'
  have fk : ge_F K X' Y' W' := ⟨f'.1, fun x y z k => f'.2 x y z (.inl k)⟩
  have v' : a * X' + b * Y' ≤ c * W' := f'.2 _ _ _ (.inr ⟨rfl, rfl, rfl⟩)
  have s := ge_seg f v fk v'
  have q := n _ _ _ s.1 s.2
  have r := g _ _ _ fk
  have ht : 0 ≤ c * W' - (a * X' + b * Y') := Int.sub_nonneg_of_le v'
  have hR := s.1.1
  have hW' := f'.1
  generalize c * W' - (a * X' + b * Y') = t at *
  generalize a * X + b * Y - c * W = u at *
  -- over R's divisor and W'
  have p1 := Int.mul_nonneg (Int.le_of_lt hW') (Int.sub_nonneg_of_le q)
  have p2 := Int.mul_nonneg (Int.mul_nonneg ht (Int.le_of_lt hP)) (Int.sub_nonneg_of_le r)
  refine ge_sub hR (E := W' * ((G * PX + H * PY) * (t * W + u * W') - (G * (t * X + u * X') + H * (t * Y + u * Y')) * PW) + t * PW * ((G * X + H * Y) * W' - (G * X' + H * Y') * W)) (by grind) (by omega)
theorem ge_keep {K : Int → Int → Int → Prop} {a b c G H X Y W : Int} (g : ge_G K G H X Y W) : ge_G (ge_add K a b c) G H X Y W :=
  fun X' Y' W' f' => g X' Y' W' ⟨f'.1, fun x y z k => f'.2 x y z (.inl k)⟩
theorem ge_F_add {K : Int → Int → Int → Prop} {a b c X Y W : Int} (f : ge_F K X Y W) (v : a * X + b * Y ≤ c * W) : ge_F (ge_add K a b c) X Y W := by
  refine ⟨f.1, fun x y z k => ?_⟩
  rcases k with k | ⟨rfl, rfl, rfl⟩
  · exact f.2 _ _ _ k
  · exact v

/-- the state of the best corner: it meets K, is a corner of K, and is the best -/
def ge_B (K : Int → Int → Int → Prop) (p q X Y W : Int) : Prop := ge_F K X Y W ∧ ge_C K X Y W ∧ ge_O K p q X Y W
theorem ge_B_keep {K : Int → Int → Int → Prop} {a b c p q X Y W : Int} (h : ge_B K p q X Y W) (v : a * X + b * Y ≤ c * W) : ge_B (ge_add K a b c) p q X Y W :=
  ⟨ge_F_add h.1 v, ge_C_mono ge_add_l h.2.1, fun M N hN hM => ge_keep (h.2.2 M N hN hM)⟩
theorem ge_B_hi {K : Int → Int → Int → Prop} {a b c p q X Y W lx ly lw hx hy hw : Int} {L H : Prop} (ha : -9 ≤ a ∧ a ≤ 9) (hb : -9 ≤ b ∧ b ≤ 9) (hab : ¬ (a = 0 ∧ b = 0))
    (h : ge_B K p q X Y W) (v : c * W < a * X + b * Y) (s : ge_S a b c K L lx ly lw H hx hy hw) (l : L) (g : H)
    (e : (a * ly - b * lx) * hw ≤ (a * hy - b * hx) * lw) (u : ge_up p q a b) : ge_B (ge_add K a b c) p q hx hy hw := by
  have o := ge_D_on (s.2.1 g)
  refine ⟨ge_F_add ((ge_ends s l g).1 e).2 (Int.le_of_eq o.2), ge_D_C (s.2.1 g), fun M N hN hM => ?_⟩
  exact ge_move h.1 v (h.2.2 M N hN hM) o.1 (ge_bestHi hab s g ((ge_dir ha hb hN hM).1 u))
theorem ge_B_lo {K : Int → Int → Int → Prop} {a b c p q X Y W lx ly lw hx hy hw : Int} {L H : Prop} (ha : -9 ≤ a ∧ a ≤ 9) (hb : -9 ≤ b ∧ b ≤ 9) (hab : ¬ (a = 0 ∧ b = 0))
    (h : ge_B K p q X Y W) (v : c * W < a * X + b * Y) (s : ge_S a b c K L lx ly lw H hx hy hw) (l : L) (g : H)
    (e : (a * ly - b * lx) * hw ≤ (a * hy - b * hx) * lw) (u : ¬ ge_up p q a b) : ge_B (ge_add K a b c) p q lx ly lw := by
  have o := ge_D_on (s.1 l)
  refine ⟨ge_F_add ((ge_ends s l g).1 e).1 (Int.le_of_eq o.2), ge_D_C (s.1 l), fun M N hN hM => ?_⟩
  exact ge_move h.1 v (h.2.2 M N hN hM) o.1 (ge_bestLo hab s l ((ge_dir ha hb hN hM).2 u))
end
section
/-- steep directions give the order by three keys -/
theorem ge_lex {A B C : Int} (h : ∀ M N : Int, 10 ≤ N → 10 * N ≤ M → 0 ≤ M * A + N * B + C) : 0 < A ∨ (A = 0 ∧ (0 < B ∨ (B = 0 ∧ 0 ≤ C))) := by
  by_cases hA : 0 < A
  · exact .inl hA
  by_cases hA' : A < 0
  · exfalso
    have q := h (100 + ((10 * B + C).natAbs : Int)) 10 (by omega) (by omega)
    have r : 0 ≤ (100 + ((10 * B + C).natAbs : Int)) * (-1 - A) := Int.mul_nonneg (by omega) (by omega)
    rw [Int.mul_sub] at r
    generalize hm : (100 + ((10 * B + C).natAbs : Int)) = m at *
    omega
  have hz : A = 0 := by omega
  subst hz
  refine .inr ⟨rfl, ?_⟩
  by_cases hB : 0 < B
  · exact .inl hB
  by_cases hB' : B < 0
  · exfalso
    have q := h (10 * (10 + (C.natAbs : Int))) (10 + (C.natAbs : Int)) (by omega) (by omega)
    have r : 0 ≤ (10 + (C.natAbs : Int)) * (-1 - B) := Int.mul_nonneg (by omega) (by omega)
    rw [Int.mul_sub] at r
    generalize hm : (10 + (C.natAbs : Int)) = m at *
    omega
  have hz : B = 0 := by omega
  subst hz
  have q := h 100 10 (by omega) (by omega)
  exact .inr ⟨rfl, by omega⟩
/-- the reference's order: the first point is better -/
def ge_bt (p q X Y W X' Y' W' : Int) : Prop := (p * X' + q * Y') * W < (p * X + q * Y) * W' ∨
  ((p * X' + q * Y') * W = (p * X + q * Y) * W' ∧ (X * W' < X' * W ∨ (X * W' = X' * W ∧ Y * W' < Y' * W)))
theorem ge_bt_trans {p q X Y W X' Y' W' X'' Y'' W'' : Int} (h : 0 < W) (h' : 0 < W') (h'' : 0 < W'') (a : ge_bt p q X Y W X' Y' W') (b : ge_bt p q X' Y' W' X'' Y'' W'') : ge_bt p q X Y W X'' Y'' W'' := by
  rcases a with a | ⟨a, a2⟩
  · rcases b with b | ⟨b, _⟩
    · exact .inl (ge_tl h'' h' h b (Int.le_of_lt a))
    · exact .inl (ge_lt h'' h' h (Int.le_of_eq b) a)
  rcases b with b | ⟨b, b2⟩
  · exact .inl (ge_tl h'' h' h b (Int.le_of_eq a))
  refine .inr ⟨ge_ee h'' h' h b a, ?_⟩
  rcases a2 with a2 | ⟨a2, a3⟩
  · rcases b2 with b2 | ⟨b2, _⟩
    · exact .inl (ge_tl h h' h'' a2 (Int.le_of_lt b2))
    · exact .inl (ge_tl h h' h'' a2 (Int.le_of_eq b2))
  rcases b2 with b2 | ⟨b2, b3⟩
  · exact .inl (ge_lt h h' h'' (Int.le_of_eq a2) b2)
  exact .inr ⟨ge_ee h h' h'' a2 b2, ge_tl h h' h'' a3 (Int.le_of_lt b3)⟩
theorem ge_O_lex {K : Int → Int → Int → Prop} {p q X Y W X' Y' W' : Int} (o : ge_O K p q X Y W) (f : ge_F K X' Y' W') :
    (p * X' + q * Y') * W < (p * X + q * Y) * W' ∨ ((p * X' + q * Y') * W = (p * X + q * Y) * W' ∧ (X * W' < X' * W ∨ (X * W' = X' * W ∧ Y * W' ≤ Y' * W))) := by
  have l := ge_lex (A := (p * X + q * Y) * W' - (p * X' + q * Y') * W) (B := X' * W - X * W') (C := Y' * W - Y * W') (fun M N hN hM => by
    have r := o M N hN hM X' Y' W' f
    have e : M * ((p * X + q * Y) * W' - (p * X' + q * Y') * W) + N * (X' * W - X * W') + (Y' * W - Y * W') = ((M * p - N) * X + (M * q - 1) * Y) * W' - ((M * p - N) * X' + (M * q - 1) * Y') * W := by grind
    omega)
  omega
/-- the best of all points, and the best of all corners: one point -/
theorem ge_same {K : Int → Int → Int → Prop} {p q X Y W X' Y' W' : Int} (o : ge_O K p q X Y W) (f : ge_F K X' Y' W') (n : ¬ ge_bt p q X Y W X' Y' W') : X * W' = X' * W ∧ Y * W' = Y' * W := by
  have l := ge_O_lex o f
  unfold ge_bt at n
  generalize (p * X' + q * Y') * W = m1 at *
  generalize (p * X + q * Y) * W' = m2 at *
  generalize X * W' = m3 at *
  generalize X' * W = m4 at *
  generalize Y * W' = m5 at *
  generalize Y' * W = m6 at *
  omega
/-- all points meet a condition if the furthest against it does -/
theorem ge_far {K : Int → Int → Int → Prop} {p q c X Y W X' Y' W' : Int} (o : ge_O K p q X Y W) (hW : 0 < W) (m : p * X + q * Y ≤ c * W) (f : ge_F K X' Y' W') : p * X' + q * Y' ≤ c * W' := by
  have l := ge_O_lex o f
  have l1 : (p * X' + q * Y') * W ≤ (p * X + q * Y) * W' := by
    generalize (p * X' + q * Y') * W = m1 at *
    generalize (p * X + q * Y) * W' = m2 at *
    omega
  have r := Int.mul_nonneg (Int.le_of_lt f.1) (Int.sub_nonneg_of_le m)
  exact ge_sub hW (E := W' * (c * W - (p * X + q * Y)) + ((p * X + q * Y) * W' - (p * X' + q * Y') * W)) (by grind) (by omega)

theorem ge_box1 {G x X W : Int} (h : (0 ≤ G ∧ x = 50) ∨ (G ≤ 0 ∧ x = -50)) (l : -(50 * W) ≤ X) (u : X ≤ 50 * W) : G * X ≤ G * x * W := by
  rcases h with ⟨h, rfl⟩ | ⟨h, rfl⟩
  · have := Int.mul_nonneg h (Int.sub_nonneg_of_le u)
    have e : G * 50 * W - G * X = G * (50 * W - X) := by grind
    omega
  · have := Int.mul_nonneg_of_nonpos_of_nonpos h (b := -(50 * W) - X) (by omega)
    have e : G * (-50) * W - G * X = G * (-(50 * W) - X) := by grind
    omega
theorem ge_boxG {p M N x d : Int} (hN : 10 ≤ N) (hM : 10 * N ≤ M) (hd : 0 ≤ d ∧ d ≤ N) (h1 : 1 ≤ d) (hx : (0 < p ∧ x = 50) ∨ (p ≤ 0 ∧ x = -50)) : (0 ≤ M * p - d ∧ x = 50) ∨ (M * p - d ≤ 0 ∧ x = -50) := by
  rcases hx with ⟨hp, rfl⟩ | ⟨hp, rfl⟩
  · have : 0 ≤ M * (p - 1) := Int.mul_nonneg (by omega) (by omega)
    rw [Int.mul_sub] at this
    omega
  · have : M * p ≤ 0 := Int.mul_nonpos_of_nonneg_of_nonpos (by omega) hp
    omega
theorem ge_B_box {K : Int → Int → Int → Prop} (k1 : K 1 0 50) (k2 : K (-1) 0 50) (k3 : K 0 1 50) (k4 : K 0 (-1) 50)
    (hK : ∀ a b c, K a b c → c = 50 ∧ ((a = 1 ∧ b = 0) ∨ (a = -1 ∧ b = 0) ∨ (a = 0 ∧ b = 1) ∨ (a = 0 ∧ b = -1)))
    {p q x y : Int} (hx : (0 < p ∧ x = 50) ∨ (p ≤ 0 ∧ x = -50)) (hy : (0 < q ∧ y = 50) ∨ (q ≤ 0 ∧ y = -50)) : ge_B K p q x y 1 := by
  refine ⟨⟨by decide, fun a b c k => ?_⟩, ?_, fun M N hN hM X Y W f => ?_⟩
  · obtain ⟨rfl, h | h | h | h⟩ := hK a b c k <;> obtain ⟨rfl, rfl⟩ := h <;> omega
  · rcases hx with ⟨_, rfl⟩ | ⟨_, rfl⟩ <;> rcases hy with ⟨_, rfl⟩ | ⟨_, rfl⟩
    · exact ⟨1, 0, 50, 0, 1, 50, k1, k3, by decide, by decide, by decide, by decide⟩
    · exact ⟨0, -1, 50, 1, 0, 50, k4, k1, by decide, by decide, by decide, by decide⟩
    · exact ⟨0, 1, 50, -1, 0, 50, k3, k2, by decide, by decide, by decide, by decide⟩
    · exact ⟨-1, 0, 50, 0, -1, 50, k2, k4, by decide, by decide, by decide, by decide⟩
  · have f1 := f.2 _ _ _ k1
    have f2 := f.2 _ _ _ k2
    have f3 := f.2 _ _ _ k3
    have f4 := f.2 _ _ _ k4
    have e1 := ge_box1 (X := X) (W := W) (ge_boxG hN hM (d := N) ⟨by omega, by omega⟩ (by omega) hx) (by omega) (by omega)
    have e2 := ge_box1 (X := Y) (W := W) (ge_boxG hN hM (d := 1) ⟨by omega, by omega⟩ (by omega) hy) (by omega) (by omega)
    rw [Int.mul_one, Int.add_mul ((M * p - N) * x)]
    omega
/-- the coordinates of a corner of small conditions -/
def ge_sm (K : Int → Int → Int → Prop) : Prop := ∀ a b c, K a b c → (-9 ≤ a ∧ a ≤ 9) ∧ (-9 ≤ b ∧ b ≤ 9) ∧ (-99 ≤ c ∧ c ≤ 99)
def ge_bd (m z : Int) : Prop := -m ≤ z ∧ z ≤ m
theorem ge_bd_mul {m n x y : Int} (hx : ge_bd m x) (hy : ge_bd n y) : ge_bd (m * n) (x * y) := by
  obtain ⟨a, b⟩ := hx
  obtain ⟨c, d⟩ := hy
  have h1 := Int.mul_nonneg (Int.sub_nonneg_of_le a) (Int.sub_nonneg_of_le c)
  have h2 := Int.mul_nonneg (Int.sub_nonneg_of_le b) (Int.sub_nonneg_of_le d)
  have h3 := Int.mul_nonneg (Int.sub_nonneg_of_le a) (Int.sub_nonneg_of_le d)
  have h4 := Int.mul_nonneg (Int.sub_nonneg_of_le b) (Int.sub_nonneg_of_le c)
  have e1 : (x - -m) * (y - -n) = x * y + x * n + m * y + m * n := by grind
  have e2 : (m - x) * (n - y) = m * n - m * y - x * n + x * y := by grind
  have e3 : (x - -m) * (n - y) = x * n - x * y + m * n - m * y := by grind
  have e4 : (m - x) * (y - -n) = m * y + m * n - x * y - x * n := by grind
  constructor
  · omega
  · omega
theorem ge_bd_add {m n x y : Int} (hx : ge_bd m x) (hy : ge_bd n y) : ge_bd (m + n) (x + y) := by
  obtain ⟨a, b⟩ := hx
  obtain ⟨c, d⟩ := hy
  exact ⟨by omega, by omega⟩
theorem ge_bd_sub {m n x y : Int} (hx : ge_bd m x) (hy : ge_bd n y) : ge_bd (m + n) (x - y) := by
  obtain ⟨a, b⟩ := hx
  obtain ⟨c, d⟩ := hy
  exact ⟨by omega, by omega⟩
theorem ge_bd_neg {m x : Int} (hx : ge_bd m x) : ge_bd m (-x) := by
  obtain ⟨a, b⟩ := hx
  exact ⟨by omega, by omega⟩
theorem ge_bd_le {m n x : Int} (hx : ge_bd m x) (h : m ≤ n) : ge_bd n x := by
  obtain ⟨a, b⟩ := hx
  exact ⟨by omega, by omega⟩
/-- a point with small coordinates -/
def ge_sp (X Y W : Int) : Prop := ge_bd 1782 X ∧ ge_bd 1782 Y ∧ ge_bd 162 W
theorem ge_cr_sp {a b c a' b' c' X Y W : Int} (ha : ge_bd 9 a) (hb : ge_bd 9 b) (hc : ge_bd 99 c) (ha' : ge_bd 9 a') (hb' : ge_bd 9 b') (hc' : ge_bd 99 c') (h : ge_cr a b c a' b' c' X Y W) : ge_sp X Y W := by
  obtain ⟨rfl, rfl, rfl, _⟩ := h
  exact ⟨ge_bd_le (ge_bd_sub (ge_bd_mul hc hb') (ge_bd_mul hc' hb)) (by decide), ge_bd_le (ge_bd_sub (ge_bd_mul ha hc') (ge_bd_mul ha' hc)) (by decide), ge_bd_le (ge_bd_sub (ge_bd_mul ha hb') (ge_bd_mul ha' hb)) (by decide)⟩
theorem ge_C_sp {K : Int → Int → Int → Prop} (s : ge_sm K) {X Y W : Int} (h : ge_C K X Y W) : ge_sp X Y W := by
  obtain ⟨a, b, c, a', b', c', k, k', h⟩ := h
  have s1 := s _ _ _ k
  have s2 := s _ _ _ k'
  exact ge_cr_sp s1.1 s1.2.1 s1.2.2 s2.1 s2.2.1 s2.2.2 h
theorem ge_D_sp {K : Int → Int → Int → Prop} (s : ge_sm K) {a b c X Y W : Int} (ha : ge_bd 9 a) (hb : ge_bd 9 b) (hc : ge_bd 99 c) (h : ge_D K a b c X Y W) : ge_sp X Y W := by
  obtain ⟨a', b', c', k', h | h⟩ := h
  · have s2 := s _ _ _ k'
    exact ge_cr_sp ha hb hc s2.1 s2.2.1 s2.2.2 h
  · have s2 := s _ _ _ k'
    exact ge_cr_sp s2.1 s2.2.1 s2.2.2 ha hb hc h
end
section
/-! ===== machine ints against whole numbers ===== -/
theorem gi_mul {x y : Int32} {m n : Int} (hx : ge_bd m x.toInt) (hy : ge_bd n y.toInt) (h : m * n ≤ 2000000000) : (x * y).toInt = x.toInt * y.toInt := by
  have b := ge_bd_le (ge_bd_mul hx hy) h
  have e : x * y = Int32.ofInt (x.toInt * y.toInt) := by rw [Int32.ofInt_mul, Int32.ofInt_toInt, Int32.ofInt_toInt]
  rw [e]
  obtain ⟨b1, b2⟩ := b
  exact Int32.toInt_ofInt_of_le (by omega) (by omega)
theorem gi_sub {x y : Int32} {m n : Int} (hx : ge_bd m x.toInt) (hy : ge_bd n y.toInt) (h : m + n ≤ 2000000000) : (x - y).toInt = x.toInt - y.toInt := by
  have b := ge_bd_le (ge_bd_sub hx hy) h
  have e : x - y = Int32.ofInt (x.toInt - y.toInt) := by rw [Int32.ofInt_sub, Int32.ofInt_toInt, Int32.ofInt_toInt]
  rw [e]
  obtain ⟨b1, b2⟩ := b
  exact Int32.toInt_ofInt_of_le (by omega) (by omega)
theorem gi_neg {x : Int32} {m : Int} (hx : ge_bd m x.toInt) (h : m ≤ 2000000000) : (-x).toInt = -x.toInt := by
  have b := ge_bd_le (ge_bd_neg hx) h
  have e : -x = Int32.ofInt (-x.toInt) := by rw [Int32.ofInt_neg, Int32.ofInt_toInt]
  rw [e]
  obtain ⟨b1, b2⟩ := b
  exact Int32.toInt_ofInt_of_le (by omega) (by omega)
theorem gl_of {z : Int} {m : Int} (hz : ge_bd m z) (h : m ≤ 9000000000000000000) : (Int64.ofInt z).toInt = z := by
  obtain ⟨b1, b2⟩ := ge_bd_le hz h
  exact Int64.toInt_ofInt_of_le (by omega) (by omega)
theorem gl_neg {x : Int64} {m : Int} (hx : ge_bd m x.toInt) (h : m ≤ 9000000000000000000) : (-x).toInt = -x.toInt := by
  have e : -x = Int64.ofInt (-x.toInt) := by rw [Int64.ofInt_neg, Int64.ofInt_toInt]
  rw [e]
  exact gl_of (ge_bd_neg hx) h
/-- a * b - c * d over small ints -/
theorem gi_det {a b c d : Int32} {m : Int} (ha : ge_bd m a.toInt) (hb : ge_bd m b.toInt) (hc : ge_bd m c.toInt) (hd : ge_bd m d.toInt) (h : m ≤ 99) (h0 : 0 ≤ m) :
    (a * b - c * d).toInt = a.toInt * b.toInt - c.toInt * d.toInt ∧ ge_bd 20000 (a.toInt * b.toInt - c.toInt * d.toInt) := by
  have ha := ge_bd_le ha h
  have hb := ge_bd_le hb h
  have hc := ge_bd_le hc h
  have hd := ge_bd_le hd h
  have e1 := gi_mul ha hb (by decide)
  have e2 := gi_mul hc hd (by decide)
  have b1 := ge_bd_mul ha hb
  have b2 := ge_bd_mul hc hd
  refine ⟨?_, ge_bd_le (ge_bd_sub b1 b2) (by decide)⟩
  rw [gi_sub (m := 99 * 99) (n := 99 * 99) (by rw [e1]; exact b1) (by rw [e2]; exact b2) (by decide), e1, e2]
theorem gl_i (x : Int32) : x.toInt64 = Int64.ofInt x.toInt := rfl
theorem gl_le {u v m : Int} (hu : ge_bd m u) (hv : ge_bd m v) (h : m ≤ 9000000000000000000) : Int64.ofInt u ≤ Int64.ofInt v ↔ u ≤ v := by
  rw [Int64.le_iff_toInt_le, gl_of hu h, gl_of hv h]
theorem gl_lt {u v m : Int} (hu : ge_bd m u) (hv : ge_bd m v) (h : m ≤ 9000000000000000000) : Int64.ofInt u < Int64.ofInt v ↔ u < v := by
  rw [Int64.lt_iff_toInt_lt, gl_of hu h, gl_of hv h]
theorem gl_eq {u v m : Int} (hu : ge_bd m u) (hv : ge_bd m v) (h : m ≤ 9000000000000000000) : Int64.ofInt u = Int64.ofInt v ↔ u = v := by
  rw [← Int64.toInt_inj, gl_of hu h, gl_of hv h]
theorem gl_0 : (0 : Int64) = Int64.ofInt 0 := rfl

theorem gl_lin (a b : Int32) (x y : Int64) : a.toInt64 * x + b.toInt64 * y = Int64.ofInt (a.toInt * x.toInt + b.toInt * y.toInt) := by
  rw [Int64.ofInt_add, Int64.ofInt_mul, Int64.ofInt_mul, Int64.ofInt_toInt, Int64.ofInt_toInt]
  rfl
theorem gl_cw (c : Int32) (w : Int64) : c.toInt64 * w = Int64.ofInt (c.toInt * w.toInt) := by
  rw [Int64.ofInt_mul, Int64.ofInt_toInt]
  rfl
theorem gl_al (a b : Int32) (x y w : Int64) : (a.toInt64 * y - b.toInt64 * x) * w = Int64.ofInt ((a.toInt * y.toInt - b.toInt * x.toInt) * w.toInt) := by
  rw [Int64.ofInt_mul, Int64.ofInt_sub, Int64.ofInt_mul, Int64.ofInt_mul, Int64.ofInt_toInt, Int64.ofInt_toInt, Int64.ofInt_toInt]
  rfl
theorem gl_mm (x y : Int64) : x * y = Int64.ofInt (x.toInt * y.toInt) := by
  rw [Int64.ofInt_mul, Int64.ofInt_toInt, Int64.ofInt_toInt]

def gl_sp (x y w : Int64) : Prop := ge_sp x.toInt y.toInt w.toInt
theorem gl_meets {a b c : Int32} {x y w : Int64} (ha : ge_bd 9 a.toInt) (hb : ge_bd 9 b.toInt) (hc : ge_bd 99 c.toInt) (s : gl_sp x y w) :
    (c.toInt64 * w < a.toInt64 * x + b.toInt64 * y) ↔ c.toInt * w.toInt < a.toInt * x.toInt + b.toInt * y.toInt := by
  rw [gl_lin, gl_cw]
  exact gl_lt (m := 1000000) (ge_bd_le (ge_bd_mul hc s.2.2) (by decide)) (ge_bd_le (ge_bd_add (ge_bd_mul ha s.1) (ge_bd_mul hb s.2.1)) (by decide)) (by decide)
theorem gl_along {a b : Int32} {x y w x' y' w' : Int64} (ha : ge_bd 9 a.toInt) (hb : ge_bd 9 b.toInt) (s : gl_sp x y w) (s' : gl_sp x' y' w') :
    ((a.toInt64 * y - b.toInt64 * x) * w' ≤ (a.toInt64 * y' - b.toInt64 * x') * w) ↔ (a.toInt * y.toInt - b.toInt * x.toInt) * w'.toInt ≤ (a.toInt * y'.toInt - b.toInt * x'.toInt) * w.toInt := by
  rw [gl_al, gl_al]
  exact gl_le (m := 10000000) (ge_bd_le (ge_bd_mul (ge_bd_sub (ge_bd_mul ha s.2.1) (ge_bd_mul hb s.1)) s'.2.2) (by decide)) (ge_bd_le (ge_bd_mul (ge_bd_sub (ge_bd_mul ha s'.2.1) (ge_bd_mul hb s'.1)) s.2.2) (by decide)) (by decide)
/-- small ints against a literal -/
theorem gi_lt (x y : Int32) : x < y ↔ x.toInt < y.toInt := Int32.lt_iff_toInt_lt
theorem gi_le (x y : Int32) : x ≤ y ↔ x.toInt ≤ y.toInt := Int32.le_iff_toInt_le
theorem gi_eq (x y : Int32) : x = y ↔ x.toInt = y.toInt := Int32.toInt_inj.symm
theorem gi_0 : (0 : Int32).toInt = 0 := by decide
theorem gi_m9 : (-9 : Int32).toInt = -9 := by decide
theorem gi_9 : (9 : Int32).toInt = 9 := by decide
theorem gi_m99 : (-99 : Int32).toInt = -99 := by decide
theorem gi_99 : (99 : Int32).toInt = 99 := by decide
theorem gi_1 : (1 : Int32).toInt = 1 := by decide
theorem gi_m1 : (-1 : Int32).toInt = -1 := by decide
theorem gi_50 : (50 : Int32).toInt = 50 := by decide
end
section
/-! ===== the component: a line cut by conditions ===== -/
/-- a small condition at place k -/
def xw_cd (A B C : Nat → Int32) (k : Nat) : Prop := ge_bd 9 (A k).toInt ∧ ge_bd 9 (B k).toInt ∧ ge_bd 99 (C k).toInt ∧ ¬ ((A k).toInt = 0 ∧ (B k).toInt = 0)
/-- the conditions at places below j, without one -/
def xw_K (A B C : Nat → Int32) (wo j : Nat) : Int → Int → Int → Prop := fun a b c => ∃ i, i < j ∧ i ≠ wo ∧ (A i).toInt = a ∧ (B i).toInt = b ∧ (C i).toInt = c
theorem xw_K_s (A B C : Nat → Int32) {wo j : Nat} (h : j ≠ wo) : xw_K A B C wo (j + 1) = ge_add (xw_K A B C wo j) (A j).toInt (B j).toInt (C j).toInt := by
  funext a b c
  apply propext
  constructor
  · rintro ⟨i, h1, h2, h3, h4, h5⟩
    by_cases e : i = j
    · subst e
      exact .inr ⟨h3.symm, h4.symm, h5.symm⟩
    · exact .inl ⟨i, by omega, h2, h3, h4, h5⟩
  · rintro (⟨i, h1, h2, h3, h4, h5⟩ | ⟨h3, h4, h5⟩)
    · exact ⟨i, by omega, h2, h3, h4, h5⟩
    · exact ⟨j, by omega, h, h3.symm, h4.symm, h5.symm⟩
theorem xw_K_w (A B C : Nat → Int32) (wo : Nat) : xw_K A B C wo (wo + 1) = xw_K A B C wo wo := by
  funext a b c
  apply propext
  constructor
  · rintro ⟨i, h1, h2, h3⟩
    exact ⟨i, by omega, h2, h3⟩
  · rintro ⟨i, h1, h2, h3⟩
    exact ⟨i, by omega, h2, h3⟩
theorem xw_K_mono {A B C : Nat → Int32} {wo j k : Nat} (h : j ≤ k) : ∀ a b c, xw_K A B C wo j a b c → xw_K A B C wo k a b c := by
  rintro a b c ⟨i, h1, h2⟩
  exact ⟨i, by omega, h2⟩
theorem xw_K_sm {A B C : Nat → Int32} {wo j : Nat} (h : ∀ i, i < j → xw_cd A B C i) : ge_sm (xw_K A B C wo j) := by
  rintro a b c ⟨i, h1, h2, rfl, rfl, rfl⟩
  have q := h i h1
  exact ⟨q.1, q.2.1, q.2.2.1⟩
/-- the stretch of line k as the conditions below j leave it -/
def xw_S (A B C : Nat → Int32) (k wo j : Nat) (jL jH : Int32) (lX lY lW hX hY hW : Int64) : Prop :=
  ge_S (A k).toInt (B k).toInt (C k).toInt (xw_K A B C wo j) (¬ jL = 0) lX.toInt lY.toInt lW.toInt (¬ jH = 0) hX.toInt hY.toInt hW.toInt ∧
  (∀ i, i < j → i ≠ wo → 0 < (A k).toInt * (B i).toInt - (A i).toInt * (B k).toInt → ¬ jH = 0) ∧
  (∀ i, i < j → i ≠ wo → (A k).toInt * (B i).toInt - (A i).toInt * (B k).toInt < 0 → ¬ jL = 0)
section
variable {fc fl : Int32} {fx fy fw : Int64} {jL jH : Int32} {lX lY lW hX hY hW : Int64} {fr : Int32} {bX bY bW : Int64} {ap aq : Int32} {A B C S : Nat → Int32}
theorem xw_along {post : Int64 → Prop} {k : Nat} (hk : k < 14) {p1 p2 : Int64} (h : post ((A k).toInt64 * p2 - (B k).toInt64 * p1)) : wpX_along post (fc, fl, fx, fy, fw, jL, jH, lX, lY, lW, hX, hY, hW, fr, bX, bY, bW, ap, aq, A, B, C, S) (nI k) p1 p2 := by
  have i : vp_in (nI k) 14 := vp_in_nI hk (by decide)
  have e : (nI k).toNatClampNeg = k := nI_clamp (by omega)
  show vp_in (nI k) 14 ∧ (vp_in (nI k) 14 ∧ post (((A (nI k).toNatClampNeg).toInt64 * p2) - ((B (nI k).toNatClampNeg).toInt64 * p1)))
  rw [e]
  exact ⟨i, i, h⟩
theorem xw_cutHigh {post : SX → Prop} {k : Nat} (hk : k < 14) {p1 p2 p3 : Int64}
    (h1 : (jH = 0 ∨ ¬ ((A k).toInt64 * hY - (B k).toInt64 * hX) * p3 ≤ ((A k).toInt64 * p2 - (B k).toInt64 * p1) * hW) → post (fc, fl, fx, fy, fw, jL, 1, lX, lY, lW, p1, p2, p3, fr, bX, bY, bW, ap, aq, A, B, C, S))
    (h2 : ¬ jH = 0 → ((A k).toInt64 * hY - (B k).toInt64 * hX) * p3 ≤ ((A k).toInt64 * p2 - (B k).toInt64 * p1) * hW → post (fc, fl, fx, fy, fw, jL, jH, lX, lY, lW, hX, hY, hW, fr, bX, bY, bW, ap, aq, A, B, C, S)) :
    wpX_cutHigh post (fc, fl, fx, fy, fw, jL, jH, lX, lY, lW, hX, hY, hW, fr, bX, bY, bW, ap, aq, A, B, C, S) (nI k) p1 p2 p3 :=
  br_c (fun z => h1 (.inl z)) (fun z => xw_along hk (xw_along hk (br_c (fun e => h2 z e) (fun e => h1 (.inr e)))))
theorem xw_cutLow {post : SX → Prop} {k : Nat} (hk : k < 14) {p1 p2 p3 : Int64}
    (h1 : (jL = 0 ∨ ¬ ((A k).toInt64 * p2 - (B k).toInt64 * p1) * lW ≤ ((A k).toInt64 * lY - (B k).toInt64 * lX) * p3) → post (fc, fl, fx, fy, fw, 1, jH, p1, p2, p3, hX, hY, hW, fr, bX, bY, bW, ap, aq, A, B, C, S))
    (h2 : ¬ jL = 0 → ((A k).toInt64 * p2 - (B k).toInt64 * p1) * lW ≤ ((A k).toInt64 * lY - (B k).toInt64 * lX) * p3 → post (fc, fl, fx, fy, fw, jL, jH, lX, lY, lW, hX, hY, hW, fr, bX, bY, bW, ap, aq, A, B, C, S)) :
    wpX_cutLow post (fc, fl, fx, fy, fw, jL, jH, lX, lY, lW, hX, hY, hW, fr, bX, bY, bW, ap, aq, A, B, C, S) (nI k) p1 p2 p3 :=
  br_c (fun z => h1 (.inl z)) (fun z => xw_along hk (xw_along hk (br_c (fun e => h2 z e) (fun e => h1 (.inr e)))))
theorem xw_meets {post : Int32 → Prop} {k : Nat} (hk : k < 14) (hc : xw_cd A B C k) (s : gl_sp fx fy fw)
    (h0 : (C k).toInt * fw.toInt < (A k).toInt * fx.toInt + (B k).toInt * fy.toInt → post 0)
    (h1 : (A k).toInt * fx.toInt + (B k).toInt * fy.toInt ≤ (C k).toInt * fw.toInt → post 1) : wpX_meets post (fc, fl, fx, fy, fw, jL, jH, lX, lY, lW, hX, hY, hW, fr, bX, bY, bW, ap, aq, A, B, C, S) (nI k) := by
  have i : vp_in (nI k) 14 := vp_in_nI hk (by decide)
  have e : (nI k).toNatClampNeg = k := nI_clamp (by omega)
  refine And.intro i (And.intro i (And.intro i ?_))
  rw [e, gl_meets hc.1 hc.2.1 hc.2.2.1 s]
  exact ⟨h0, fun h => h1 (Int.not_lt.mp h)⟩
theorem xw_par49 {post : Int32 → Prop} {k j : Nat} (hk : k < 14) (hj : j < 14) (ck : xw_cd A B C k) (cj : xw_cd A B C j) {own oth : Int32}
    (b1 : ge_bd 9 own.toInt) (b2 : ge_bd 9 oth.toInt) (n0 : ¬ own.toInt = 0)
    (e1 : own.toInt * (A j).toInt = oth.toInt * (A k).toInt) (e2 : own.toInt * (B j).toInt = oth.toInt * (B k).toInt)
    (h1 : (∀ X Y W, ge_on (A k).toInt (B k).toInt (C k).toInt X Y W → (A j).toInt * X + (B j).toInt * Y ≤ (C j).toInt * W) → post 1)
    (h0 : (∀ X Y W, ge_on (A k).toInt (B k).toInt (C k).toInt X Y W → ¬ (A j).toInt * X + (B j).toInt * Y ≤ (C j).toInt * W) → post 0) :
    wX_parallelMeets_49 post (nI k) (nI j) own oth fc fl fx fy fw jL jH lX lY lW hX hY hW fr bX bY bW ap aq A B C S := by
  have ik : vp_in (nI k) 14 := vp_in_nI hk (by decide)
  have ij : vp_in (nI j) 14 := vp_in_nI hj (by decide)
  have ek : (nI k).toNatClampNeg = k := nI_clamp (by omega)
  have ej : (nI j).toNatClampNeg = j := nI_clamp (by omega)
  have m1 : (oth * C k).toInt = oth.toInt * (C k).toInt := gi_mul b2 ck.2.2.1 (by decide)
  have m2 : (C j * own).toInt = (C j).toInt * own.toInt := gi_mul cj.2.2.1 b1 (by decide)
  unfold wX_parallelMeets_49
  rw [ek, ej, gi_le, gi_lt, gi_lt, m1, m2, gi_0]
  refine br_c (fun z => ⟨ik, ij, br_c (fun q => h0 fun X Y W o h => ?_) (fun q => h1 fun X Y W o => ?_)⟩) (fun z => ⟨ik, ij, br_c (fun q => h0 fun X Y W o h => ?_) (fun q => h1 fun X Y W o => ?_)⟩)
  · have := (ge_parN own.toInt oth.toInt e1 e2 o (by omega)).mpr h
    omega
  · exact (ge_parN own.toInt oth.toInt e1 e2 o (by omega)).mp (by omega)
  · have := (ge_parP own.toInt oth.toInt e1 e2 o (by omega)).mpr h
    omega
  · exact (ge_parP own.toInt oth.toInt e1 e2 o (by omega)).mp (by omega)
theorem xw_par {post : Int32 → Prop} {k j : Nat} (hk : k < 14) (hj : j < 14) (ck : xw_cd A B C k) (cj : xw_cd A B C j)
    (t : (A k).toInt * (B j).toInt - (A j).toInt * (B k).toInt = 0)
    (h1 : (∀ X Y W, ge_on (A k).toInt (B k).toInt (C k).toInt X Y W → (A j).toInt * X + (B j).toInt * Y ≤ (C j).toInt * W) → post 1)
    (h0 : (∀ X Y W, ge_on (A k).toInt (B k).toInt (C k).toInt X Y W → ¬ (A j).toInt * X + (B j).toInt * Y ≤ (C j).toInt * W) → post 0) :
    wpX_parallelMeets post (fc, fl, fx, fy, fw, jL, jH, lX, lY, lW, hX, hY, hW, fr, bX, bY, bW, ap, aq, A, B, C, S) (nI k) (nI j) := by
  have ik : vp_in (nI k) 14 := vp_in_nI hk (by decide)
  have ij : vp_in (nI j) 14 := vp_in_nI hj (by decide)
  have ek : (nI k).toNatClampNeg = k := nI_clamp (by omega)
  have ej : (nI j).toNatClampNeg = j := nI_clamp (by omega)
  refine And.intro ik ?_
  rw [ek]
  by_cases z : A k = 0
  · refine br_t z (And.intro ik (And.intro ik ?_))
    rw [ek, ej]
    have z' : (A k).toInt = 0 := by rw [z]; rfl
    refine br_t z (And.intro ij (xw_par49 hk hj ck cj ck.2.1 cj.2.1 (fun y => ck.2.2.2 ⟨z', y⟩) ?_ (Int.mul_comm _ _) h1 h0))
    rw [z'] at t ⊢
    have := Int.mul_comm (A j).toInt (B k).toInt
    omega
  · refine br_f z (And.intro ik (And.intro ik ?_))
    rw [ek, ej]
    have z' : ¬ (A k).toInt = 0 := fun y => z (Int32.toInt_inj.mp y)
    exact br_f z (And.intro ij (xw_par49 hk hj ck cj ck.1 cj.1 z' (Int.mul_comm _ _) (by omega) h1 h0))
theorem xw_cutStretch {post : Int32 → SX → Prop} {k j wo : Nat} (hk : k < 14) (hjk : j < k) (hjw : j ≠ wo) (hc : ∀ i, i ≤ k → xw_cd A B C i)
    (s : xw_S A B C k wo j jL jH lX lY lW hX hY hW)
    (h0 : (∀ X Y W, ge_on (A k).toInt (B k).toInt (C k).toInt X Y W → ¬ (A j).toInt * X + (B j).toInt * Y ≤ (C j).toInt * W) → post 0 (fc, fl, fx, fy, fw, jL, jH, lX, lY, lW, hX, hY, hW, fr, bX, bY, bW, ap, aq, A, B, C, S))
    (h1 : ∀ (jL jH : Int32) (lX lY lW hX hY hW : Int64), xw_S A B C k wo (j + 1) jL jH lX lY lW hX hY hW → post 1 (fc, fl, fx, fy, fw, jL, jH, lX, lY, lW, hX, hY, hW, fr, bX, bY, bW, ap, aq, A, B, C, S)) :
    wpX_cutStretch post (fc, fl, fx, fy, fw, jL, jH, lX, lY, lW, hX, hY, hW, fr, bX, bY, bW, ap, aq, A, B, C, S) (nI k) (nI j) := by
  have hj : j < 14 := by omega
  have ck := hc k (Nat.le_refl _)
  have cj := hc j (by omega)
  have ik : vp_in (nI k) 14 := vp_in_nI hk (by decide)
  have ij : vp_in (nI j) 14 := vp_in_nI hj (by decide)
  have ek : (nI k).toNatClampNeg = k := nI_clamp (by omega)
  have ej : (nI j).toNatClampNeg = j := nI_clamp (by omega)
  have sm : ge_sm (xw_K A B C wo j) := xw_K_sm (fun i hi => hc i (by omega))
  have hK := xw_K_s A B C hjw
  have nn : ∀ {x : Int32} {m : Int}, m ≤ 99 → ge_bd m x.toInt → ge_bd 99 x.toInt := fun h b => ge_bd_le b h
  have ak := nn (by decide) ck.1
  have bk := nn (by decide) ck.2.1
  have aj := nn (by decide) cj.1
  have bj := nn (by decide) cj.2.1
  have dt := gi_det ak bj aj bk (by decide) (by decide)
  have dx := gi_det ck.2.2.1 bj cj.2.2.1 bk (by decide) (by decide)
  have dy := gi_det ak cj.2.2.1 aj ck.2.2.1 (by decide) (by decide)
  refine And.intro ik (And.intro ij (And.intro ij (And.intro ik (fun t et => ?_))))
  rw [ek, ej] at et
  have tv : t.toInt = (A k).toInt * (B j).toInt - (A j).toInt * (B k).toInt := by rw [et]; exact dt.1
  have bt : ge_bd 20000 t.toInt := by rw [tv]; exact dt.2
  refine br_c (fun z => ?_) (fun z => ?_)
  · have t0 : (A k).toInt * (B j).toInt - (A j).toInt * (B k).toInt = 0 := by rw [← tv, z]; rfl
    refine xw_par hk hj ck cj t0 (fun q => ⟨narrow_b1, h1 _ _ _ _ _ _ _ _ ?_⟩) (fun q => ⟨narrow_b0, h0 q⟩)
    refine ⟨by rw [hK]; exact ge_S_par s.1 q, fun i hi hw h => ?_, fun i hi hw h => ?_⟩
    · by_cases e : i = j
      · subst e; omega
      · exact s.2.1 i (by omega) hw h
    · by_cases e : i = j
      · subst e; omega
      · exact s.2.2 i (by omega) hw h
  · refine And.intro ik (And.intro ij (And.intro ij (And.intro ik (fun px epx => And.intro ik (And.intro ij (And.intro ij (And.intro ik (fun py epy => ?_))))))))
    rw [ek, ej] at epx epy
    have xv : px.toInt = (C k).toInt * (B j).toInt - (C j).toInt * (B k).toInt := by rw [epx, Int32.toInt_toInt64]; exact dx.1
    have yv : py.toInt = (A k).toInt * (C j).toInt - (A j).toInt * (C k).toInt := by rw [epy, Int32.toInt_toInt64]; exact dy.1
    have nz : ¬ t.toInt = 0 := fun y => z (Int32.toInt_inj.mp y)
    refine br_c (fun le => ?_) (fun gt => ?_)
    · rw [gi_le, gi_0] at le
      have nx : (-px).toInt = -px.toInt := gl_neg (m := 20000) (by rw [xv]; exact dx.2) (by decide)
      have ny : (-py).toInt = -py.toInt := gl_neg (m := 20000) (by rw [yv]; exact dy.2) (by decide)
      have nt : ((-t).toInt64).toInt = -t.toInt := by rw [Int32.toInt_toInt64]; exact gi_neg bt (by decide)
      have cr : ge_cr (A j).toInt (B j).toInt (C j).toInt (A k).toInt (B k).toInt (C k).toInt (-px).toInt (-py).toInt ((-t).toInt64).toInt := by
        rw [nx, ny, nt, xv, yv]
        refine ⟨by grind, by grind, by rw [tv]; grind, by omega⟩
      have sp : gl_sp (-px) (-py) ((-t).toInt64) := ge_cr_sp cj.1 cj.2.1 cj.2.2.1 ck.1 ck.2.1 ck.2.2.1 cr
      have L := ge_lo ck.2.2.2 s.1 cr
      refine xw_cutLow hk (fun q => h1 _ _ _ _ _ _ _ _ ⟨?_, fun i hi hw h => ?_, fun i hi hw h => by decide⟩) (fun n q => h1 _ _ _ _ _ _ _ _ ⟨?_, fun i hi hw h => ?_, fun i hi hw h => n⟩)
      · rw [hK]
        refine L.1 ?_ _ (by decide)
        by_cases n : jL = 0
        · exact .inl (fun y => y n)
        · rcases q with q | q
          · exact .inl (fun y => y q)
          · rw [gl_along ck.1 ck.2.1 sp (ge_D_sp sm ck.1 ck.2.1 ck.2.2.1 (s.1.1 n))] at q
            exact .inr (Int.not_le.mp q)
      · by_cases e : i = j
        · subst e; omega
        · exact s.2.1 i (by omega) hw h
      · rw [hK]
        rw [gl_along ck.1 ck.2.1 sp (ge_D_sp sm ck.1 ck.2.1 ck.2.2.1 (s.1.1 n))] at q
        exact L.2 ⟨n, q⟩
      · by_cases e : i = j
        · subst e; omega
        · exact s.2.1 i (by omega) hw h
    · rw [gi_le, gi_0] at gt
      have nt : (t.toInt64).toInt = t.toInt := Int32.toInt_toInt64 t
      have cr : ge_cr (A k).toInt (B k).toInt (C k).toInt (A j).toInt (B j).toInt (C j).toInt px.toInt py.toInt (t.toInt64).toInt := by
        rw [nt]
        exact ⟨xv, yv, tv, by omega⟩
      have sp : gl_sp px py (t.toInt64) := ge_cr_sp ck.1 ck.2.1 ck.2.2.1 cj.1 cj.2.1 cj.2.2.1 cr
      have L := ge_hi ck.2.2.2 s.1 cr
      refine xw_cutHigh hk (fun q => h1 _ _ _ _ _ _ _ _ ⟨?_, fun i hi hw h => by decide, fun i hi hw h => ?_⟩) (fun n q => h1 _ _ _ _ _ _ _ _ ⟨?_, fun i hi hw h => n, fun i hi hw h => ?_⟩)
      · rw [hK]
        refine L.1 ?_ _ (by decide)
        by_cases n : jH = 0
        · exact .inl (fun y => y n)
        · rcases q with q | q
          · exact .inl (fun y => y q)
          · rw [gl_along ck.1 ck.2.1 (ge_D_sp sm ck.1 ck.2.1 ck.2.2.1 (s.1.2.1 n)) sp] at q
            exact .inr (Int.not_le.mp q)
      · by_cases e : i = j
        · subst e; omega
        · exact s.2.2 i (by omega) hw h
      · rw [hK]
        rw [gl_along ck.1 ck.2.1 (ge_D_sp sm ck.1 ck.2.1 ck.2.2.1 (s.1.2.1 n)) sp] at q
        exact L.2 ⟨n, q⟩
      · by_cases e : i = j
        · subst e; omega
        · exact s.2.2 i (by omega) hw h
end
end
section
/-! ===== the component: onto a line, and the best corner ===== -/
section
variable {fc fl : Int32} {fx fy fw : Int64} {jL jH : Int32} {lX lY lW hX hY hW : Int64} {fr : Int32} {bX bY bW : Int64} {ap aq : Int32} {A B C S : Nat → Int32}
theorem xw_146 {post : Int32 → SX → Prop} (h : post 1 (fc, fl, hX, hY, hW, jL, jH, lX, lY, lW, hX, hY, hW, fr, bX, bY, bW, ap, aq, A, B, C, S)) : wX_moveOnto_146 post fc fl fx fy fw jL jH lX lY lW hX hY hW fr bX bY bW ap aq A B C S := by
  unfold wX_moveOnto_146 wX_moveOnto_151
  refine br_f (by decide) ?_
  unfold wX_moveOnto_170
  refine br_f (by decide) ?_
  unfold wX_moveOnto_190
  exact br_f (by decide) h
theorem xw_150 {post : Int32 → SX → Prop} (h : post 1 (fc, fl, lX, lY, lW, jL, jH, lX, lY, lW, hX, hY, hW, fr, bX, bY, bW, ap, aq, A, B, C, S)) : wX_moveOnto_150 post fc fl fx fy fw jL jH lX lY lW hX hY hW fr bX bY bW ap aq A B C S := by
  unfold wX_moveOnto_150 wX_moveOnto_151
  refine br_t rfl ?_
  unfold wX_moveOnto_170
  refine br_t rfl ?_
  unfold wX_moveOnto_190
  exact br_t rfl h
theorem xw_up {a b p q : Int32} (ha : ge_bd 9 a.toInt) (hb : ge_bd 9 b.toInt) (hp : ge_bd 9 p.toInt) (hq : ge_bd 9 q.toInt) {g : Int32} (e : g = q * a - p * b) :
    g.toInt = q.toInt * a.toInt - p.toInt * b.toInt := by
  rw [e]
  exact (gi_det hq ha hp hb (by decide) (by decide)).1
theorem xw_moveLoop {post : Int32 → SX → Prop} {k wo : Nat} {p q wv : Int32} (hk : k < 14) (hc : ∀ i, i ≤ k → xw_cd A B C i)
    (hw : ∀ j, j < 14 → (nI j = wv ↔ j = wo)) (hp : ge_bd 9 p.toInt) (hq : ge_bd 9 q.toInt)
    (both : ∀ (jL jH : Int32) (lX lY lW hX hY hW : Int64), xw_S A B C k wo k jL jH lX lY lW hX hY hW → ¬ jL = 0 ∧ ¬ jH = 0)
    (h0 : ∀ (jL jH : Int32) (lX lY lW hX hY hW : Int64), (∀ X Y W, ge_on (A k).toInt (B k).toInt (C k).toInt X Y W → ¬ ge_F (xw_K A B C wo k) X Y W) → post 0 (fc, fl, fx, fy, fw, jL, jH, lX, lY, lW, hX, hY, hW, fr, bX, bY, bW, ap, aq, A, B, C, S))
    (h1 : ∀ (jL jH : Int32) (lX lY lW hX hY hW fx fy fw : Int64), (xw_S A B C k wo k jL jH lX lY lW hX hY hW ∧
        ((A k).toInt * lY.toInt - (B k).toInt * lX.toInt) * hW.toInt ≤ ((A k).toInt * hY.toInt - (B k).toInt * hX.toInt) * lW.toInt ∧
        ((ge_up p.toInt q.toInt (A k).toInt (B k).toInt ∧ fx = hX ∧ fy = hY ∧ fw = hW) ∨ (¬ ge_up p.toInt q.toInt (A k).toInt (B k).toInt ∧ fx = lX ∧ fy = lY ∧ fw = lW))) → post 1 (fc, fl, fx, fy, fw, jL, jH, lX, lY, lW, hX, hY, hW, fr, bX, bY, bW, ap, aq, A, B, C, S)) :
    ∀ (n j : Nat), k < n + j → j ≤ k → ∀ (jL jH : Int32) (lX lY lW hX hY hW : Int64), xw_S A B C k wo j jL jH lX lY lW hX hY hW →
      wX_moveOnto_13 post (nI k) p q wv n (nI j) fc fl fx fy fw jL jH lX lY lW hX hY hW fr bX bY bW ap aq A B C S := by
  have ik : vp_in (nI k) 14 := vp_in_nI hk (by decide)
  have ek : (nI k).toNatClampNeg = k := nI_clamp (by omega)
  have ck := hc k (Nat.le_refl _)
  have sm : ge_sm (xw_K A B C wo k) := xw_K_sm (fun i hi => hc i (by omega))
  intro n
  induction n with
  | zero => intro j h1 h2; omega
  | succ n ih =>
    intro j hn hj jL jH lX lY lW hX hY hW s
    by_cases e : j = k
    · subst e
      have lh := both _ _ _ _ _ _ _ _ s
      have sl := ge_D_sp sm ck.1 ck.2.1 ck.2.2.1 (s.1.1 lh.1)
      have sh := ge_D_sp sm ck.1 ck.2.1 ck.2.2.1 (s.1.2.1 lh.2)
      have en := ge_ends s.1 lh.1 lh.2
      refine br_t (Int32.le_refl _) (xw_along hk (xw_along hk ?_))
      rw [gl_along ck.1 ck.2.1 sl sh]
      refine br_c (fun le => And.intro ik (And.intro ik (fun g eg => ?_))) (fun gt => h0 _ _ _ _ _ _ _ _ (en.2 gt))
      rw [ek] at eg
      have gv := xw_up ck.1 ck.2.1 hp hq eg
      have hi : ge_up p.toInt q.toInt (A j).toInt (B j).toInt → wX_moveOnto_146 post fc fl fx fy fw jL jH lX lY lW hX hY hW fr bX bY bW ap aq A B C S := fun u => xw_146 (h1 _ _ _ _ _ _ _ _ _ _ _ ⟨s, le, .inl ⟨u, rfl, rfl, rfl⟩⟩)
      have lo : ¬ ge_up p.toInt q.toInt (A j).toInt (B j).toInt → wX_moveOnto_150 post fc fl fx fy fw jL jH lX lY lW hX hY hW fr bX bY bW ap aq A B C S := fun u => xw_150 (h1 _ _ _ _ _ _ _ _ _ _ _ ⟨s, le, .inr ⟨u, rfl, rfl, rfl⟩⟩)
      unfold ge_up at hi lo
      rw [ek, gi_lt, gi_eq, gi_lt, gi_eq (B j), gi_le, gi_0, gv]
      refine br_c (fun z => hi (.inl z)) (fun z => br_c (fun z0 => And.intro ik (br_c (fun z1 => hi (.inr ⟨z0, .inl z1⟩)) (fun z1 => And.intro ik (br_c (fun z2 => And.intro ik (br_c (fun z3 => lo ?_) (fun z3 => hi (.inr ⟨z0, .inr ⟨z2, Int.not_le.mp z3⟩⟩)))) (fun z2 => lo ?_))))) (fun z0 => lo ?_))
      · rintro (y | ⟨_, y | ⟨_, y⟩⟩) <;> omega
      · rintro (y | ⟨_, y | ⟨y, _⟩⟩) <;> omega
      · rintro (y | ⟨y, _⟩) <;> omega
    · have lt : j < k := by omega
      refine br_f (nI_ge lt (by omega)) (br_c (fun z => ?_) (fun z => ?_))
      · have z' := (hw j (by omega)).mp z
        refine nm_r (nI_1 j) (ih (j + 1) (by omega) (by omega) _ _ _ _ _ _ _ _ ?_)
        subst z'
        refine ⟨by rw [xw_K_w]; exact s.1, fun i hi hw h => s.2.1 i (by omega) hw h, fun i hi hw h => s.2.2 i (by omega) hw h⟩
      · have z' : j ≠ wo := fun y => z ((hw j (by omega)).mpr y)
        refine xw_cutStretch hk lt z' hc s (fun q => br_t rfl (h0 _ _ _ _ _ _ _ _ (fun X Y W o f => ?_))) (fun jL jH lX lY lW hX hY hW s' => br_f (by decide) (nm_r (nI_1 j) (ih (j + 1) (by omega) (by omega) _ _ _ _ _ _ _ _ s')))
        exact q X Y W o (f.2 _ _ _ ⟨j, lt, z', rfl, rfl, rfl⟩)
/-- the four conditions that always hold -/
def xw_box (A B C : Nat → Int32) : Prop := (A 0 = 1 ∧ B 0 = 0 ∧ C 0 = 50) ∧ (A 1 = -1 ∧ B 1 = 0 ∧ C 1 = 50) ∧ (A 2 = 0 ∧ B 2 = 1 ∧ C 2 = 50) ∧ (A 3 = 0 ∧ B 3 = -1 ∧ C 3 = 50)
theorem xw_both {k wo : Nat} (bx : xw_box A B C) (hw4 : 4 ≤ wo) (hk4 : 4 ≤ k) (ck : xw_cd A B C k) (s : xw_S A B C k wo k jL jH lX lY lW hX hY hW) : ¬ jL = 0 ∧ ¬ jH = 0 := by
  obtain ⟨⟨a0, b0, _⟩, ⟨a1, b1, _⟩, ⟨a2, b2, _⟩, ⟨a3, b3, _⟩⟩ := bx
  have l0 := s.2.2 0 (by omega) (by omega)
  have l1 := s.2.2 1 (by omega) (by omega)
  have l2 := s.2.2 2 (by omega) (by omega)
  have l3 := s.2.2 3 (by omega) (by omega)
  have h0 := s.2.1 0 (by omega) (by omega)
  have h1 := s.2.1 1 (by omega) (by omega)
  have h2 := s.2.1 2 (by omega) (by omega)
  have h3 := s.2.1 3 (by omega) (by omega)
  rw [a0, b0, gi_0, gi_1] at l0 h0
  rw [a1, b1, gi_0, gi_m1] at l1 h1
  rw [a2, b2, gi_0, gi_1] at l2 h2
  rw [a3, b3, gi_0, gi_m1] at l3 h3
  have n := ck.2.2.2
  generalize (A k).toInt = a at *
  generalize (B k).toInt = b at *
  by_cases ha : 0 < a
  · exact ⟨l3 (by omega), h2 (by omega)⟩
  by_cases ha' : a < 0
  · exact ⟨l2 (by omega), h3 (by omega)⟩
  by_cases hb : 0 < b
  · exact ⟨l0 (by omega), h1 (by omega)⟩
  · exact ⟨l1 (by omega), h0 (by omega)⟩
theorem xw_move {post : Int32 → SX → Prop} {k wo : Nat} {p q wv : Int32} (hk : k < 14) (hk4 : 4 ≤ k) (hkw : k ≠ wo) (hc : ∀ i, i ≤ k → xw_cd A B C i) (bx : xw_box A B C) (hw4 : 4 ≤ wo)
    (hw : ∀ j, j < 14 → (nI j = wv ↔ j = wo)) (hp : ge_bd 9 p.toInt) (hq : ge_bd 9 q.toInt)
    (b : ge_B (xw_K A B C wo k) p.toInt q.toInt fx.toInt fy.toInt fw.toInt) (v : (C k).toInt * fw.toInt < (A k).toInt * fx.toInt + (B k).toInt * fy.toInt)
    (h0 : ∀ (jL jH : Int32) (lX lY lW hX hY hW : Int64), (∀ X Y W, ¬ ge_F (xw_K A B C wo (k + 1)) X Y W) → post 0 (fc, fl, fx, fy, fw, jL, jH, lX, lY, lW, hX, hY, hW, fr, bX, bY, bW, ap, aq, A, B, C, S))
    (h1 : ∀ (jL jH : Int32) (lX lY lW hX hY hW fx fy fw : Int64), ge_B (xw_K A B C wo (k + 1)) p.toInt q.toInt fx.toInt fy.toInt fw.toInt → post 1 (fc, fl, fx, fy, fw, jL, jH, lX, lY, lW, hX, hY, hW, fr, bX, bY, bW, ap, aq, A, B, C, S)) :
    wpX_moveOnto post (fc, fl, fx, fy, fw, jL, jH, lX, lY, lW, hX, hY, hW, fr, bX, bY, bW, ap, aq, A, B, C, S) (nI k) p q wv := by
  have ck := hc k (Nat.le_refl _)
  refine ⟨k + 1, xw_moveLoop hk hc hw hp hq (fun _ _ _ _ _ _ _ _ s => xw_both bx hw4 hk4 ck s) (fun jL jH lX lY lW hX hY hW n => h0 _ _ _ _ _ _ _ _ ?_) (fun jL jH lX lY lW hX hY hW fx' fy' fw' n => h1 _ _ _ _ _ _ _ _ _ _ _ ?_) (k + 1) 0 (by omega) (by omega) _ _ _ _ _ _ _ _ ?_⟩
  · rw [xw_K_s A B C hkw]
    exact ge_none b.1 v n
  · obtain ⟨s, le, h⟩ := n
    have lh := xw_both bx hw4 hk4 ck s
    rw [xw_K_s A B C hkw]
    rcases h with ⟨u, rfl, rfl, rfl⟩ | ⟨u, rfl, rfl, rfl⟩
    · exact ge_B_hi ck.1 ck.2.1 ck.2.2.2 b v s.1 lh.1 lh.2 le u
    · exact ge_B_lo ck.1 ck.2.1 ck.2.2.2 b v s.1 lh.1 lh.2 le u
  · refine ⟨ge_S_0 (fun h => h rfl) (fun h => h rfl) ?_, fun i hi => absurd hi (by omega), fun i hi => absurd hi (by omega)⟩
    rintro a b c ⟨i, hi, _⟩
    omega
theorem xw_solveLoop {post : Int32 → SX → Prop} {m wo : Nat} {p q wv : Int32} (hm : m ≤ 14) (hc : ∀ i, i < m → xw_cd A B C i) (bx : xw_box A B C) (hw4 : 4 ≤ wo)
    (hw : ∀ j, j < 14 → (nI j = wv ↔ j = wo)) (hp : ge_bd 9 p.toInt) (hq : ge_bd 9 q.toInt)
    (h0 : ∀ (fx fy fw : Int64) (jL jH : Int32) (lX lY lW hX hY hW : Int64), (∀ X Y W, ¬ ge_F (xw_K A B C wo m) X Y W) → post 0 (nI m, fl, fx, fy, fw, jL, jH, lX, lY, lW, hX, hY, hW, fr, bX, bY, bW, ap, aq, A, B, C, S))
    (h1 : ∀ (fx fy fw : Int64) (jL jH : Int32) (lX lY lW hX hY hW : Int64), ge_B (xw_K A B C wo m) p.toInt q.toInt fx.toInt fy.toInt fw.toInt → post 1 (nI m, fl, fx, fy, fw, jL, jH, lX, lY, lW, hX, hY, hW, fr, bX, bY, bW, ap, aq, A, B, C, S)) :
    ∀ (n k : Nat), m < n + k → 4 ≤ k → k ≤ m → ∀ (fx fy fw : Int64) (jL jH : Int32) (lX lY lW hX hY hW : Int64), ge_B (xw_K A B C wo k) p.toInt q.toInt fx.toInt fy.toInt fw.toInt →
      wX_solve_42 post p q wv n (nI k) (nI m) fl fx fy fw jL jH lX lY lW hX hY hW fr bX bY bW ap aq A B C S := by
  intro n
  induction n with
  | zero => intro k h1 h2; omega
  | succ n ih =>
    intro k hn hk4 hkm fx fy fw jL jH lX lY lW hX hY hW b
    by_cases e : k = m
    · subst e
      exact br_t (Int32.le_refl _) (h1 _ _ _ _ _ _ _ _ _ _ _ b)
    · have lt : k < m := by omega
      have sm : ge_sm (xw_K A B C wo k) := xw_K_sm (fun i hi => hc i (by omega))
      refine br_f (nI_ge lt (by omega)) (br_c (fun z => ?_) (fun z => ?_))
      · have z' := (hw k (by omega)).mp z
        refine nm_r (nI_1 k) (ih (k + 1) (by omega) (by omega) (by omega) _ _ _ _ _ _ _ _ _ _ _ ?_)
        subst z'
        rw [xw_K_w]
        exact b
      · have z' : k ≠ wo := fun y => z ((hw k (by omega)).mpr y)
        refine xw_meets (by omega) (hc k lt) (ge_C_sp sm b.2.1) (fun v => br_t rfl ?_) (fun v => br_f (by decide) (nm_r (nI_1 k) (ih (k + 1) (by omega) (by omega) (by omega) _ _ _ _ _ _ _ _ _ _ _ ?_)))
        · refine xw_move (by omega) hk4 z' (fun i hi => hc i (by omega)) bx hw4 hw hp hq b v (fun jL jH lX lY lW hX hY hW f => br_t rfl (h0 _ _ _ _ _ _ _ _ _ _ _ ?_)) (fun jL jH lX lY lW hX hY hW fx fy fw b' => br_f (by decide) (nm_r (nI_1 k) (ih (k + 1) (by omega) (by omega) (by omega) _ _ _ _ _ _ _ _ _ _ _ b')))
          exact fun X Y W g => f X Y W ⟨g.1, fun x y z h => g.2 x y z (xw_K_mono (by omega) x y z h)⟩
        · rw [xw_K_s A B C z']
          exact ge_B_keep b v
theorem xw_solve {post : Int32 → SX → Prop} {m wo : Nat} {p q wv : Int32} (hm4 : 4 ≤ m) (hm : m ≤ 14) (hc : ∀ i, i < m → xw_cd A B C i) (bx : xw_box A B C) (hw4 : 4 ≤ wo)
    (hw : ∀ j, j < 14 → (nI j = wv ↔ j = wo)) (hp : ge_bd 9 p.toInt) (hq : ge_bd 9 q.toInt)
    (h0 : ∀ (fx fy fw : Int64) (jL jH : Int32) (lX lY lW hX hY hW : Int64), (∀ X Y W, ¬ ge_F (xw_K A B C wo m) X Y W) → post 0 (nI m, fl, fx, fy, fw, jL, jH, lX, lY, lW, hX, hY, hW, fr, bX, bY, bW, ap, aq, A, B, C, S))
    (h1 : ∀ (fx fy fw : Int64) (jL jH : Int32) (lX lY lW hX hY hW : Int64), ge_B (xw_K A B C wo m) p.toInt q.toInt fx.toInt fy.toInt fw.toInt → post 1 (nI m, fl, fx, fy, fw, jL, jH, lX, lY, lW, hX, hY, hW, fr, bX, bY, bW, ap, aq, A, B, C, S)) :
    wpX_solve post (nI m, fl, fx, fy, fw, jL, jH, lX, lY, lW, hX, hY, hW, fr, bX, bY, bW, ap, aq, A, B, C, S) p q wv := by
  have bb : ∀ x y : Int64, ((0 < p.toInt ∧ x.toInt = 50) ∨ (p.toInt ≤ 0 ∧ x.toInt = -50)) → ((0 < q.toInt ∧ y.toInt = 50) ∨ (q.toInt ≤ 0 ∧ y.toInt = -50)) →
      ∃ n, wX_solve_42 post p q wv n 4 (nI m) fl x y 1 jL jH lX lY lW hX hY hW fr bX bY bW ap aq A B C S := by
    intro x y hx hy
    refine ⟨m + 1, xw_solveLoop hm hc bx hw4 hw hp hq h0 h1 (m + 1) 4 (by omega) (by omega) hm4 _ _ _ _ _ _ _ _ _ _ _ ?_⟩
    obtain ⟨⟨a0, b0, c0⟩, ⟨a1, b1, c1⟩, ⟨a2, b2, c2⟩, ⟨a3, b3, c3⟩⟩ := bx
    refine ge_B_box (K := xw_K A B C wo 4) ⟨0, by omega, by omega, by rw [a0]; rfl, by rw [b0]; rfl, by rw [c0]; rfl⟩ ⟨1, by omega, by omega, by rw [a1]; rfl, by rw [b1]; rfl, by rw [c1]; rfl⟩
      ⟨2, by omega, by omega, by rw [a2]; rfl, by rw [b2]; rfl, by rw [c2]; rfl⟩ ⟨3, by omega, by omega, by rw [a3]; rfl, by rw [b3]; rfl, by rw [c3]; rfl⟩ ?_ hx hy
    rintro a b c ⟨i, hi, _, rfl, rfl, rfl⟩
    have : i = 0 ∨ i = 1 ∨ i = 2 ∨ i = 3 := by omega
    rcases this with rfl | rfl | rfl | rfl
    · rw [a0, b0, c0]; decide
    · rw [a1, b1, c1]; decide
    · rw [a2, b2, c2]; decide
    · rw [a3, b3, c3]; decide
  refine br_c (fun z => ?_) (fun z => ?_)
  · rw [gi_le, gi_0] at z
    unfold wX_solve_14
    refine br_c (fun y => ?_) (fun y => ?_)
    · rw [gi_le, gi_0] at y
      exact bb _ _ (.inr ⟨z, by decide⟩) (.inr ⟨y, by decide⟩)
    · rw [gi_le, gi_0] at y
      exact bb _ _ (.inr ⟨z, by decide⟩) (.inl ⟨by omega, by decide⟩)
  · rw [gi_le, gi_0] at z
    unfold wX_solve_14
    refine br_c (fun y => ?_) (fun y => ?_)
    · rw [gi_le, gi_0] at y
      exact bb _ _ (.inl ⟨by omega, by decide⟩) (.inr ⟨y, by decide⟩)
    · rw [gi_le, gi_0] at y
      exact bb _ _ (.inl ⟨by omega, by decide⟩) (.inl ⟨by omega, by decide⟩)
end
end
section
/-! ===== the reference: corners tried one after the other ===== -/
/-- place i is there: h of the row, the four at 10 to 13, without one -/
def yw_T (h wo i : Nat) : Prop := i ≠ wo ∧ (i < h ∨ 10 ≤ i)
def yw_K (D E F : Nat → Int32) (h wo : Nat) : Int → Int → Int → Prop := fun a b c => ∃ i, i < 14 ∧ yw_T h wo i ∧ (D i).toInt = a ∧ (E i).toInt = b ∧ (F i).toInt = c
def yw_cr (D E F : Nat → Int32) (i j : Nat) (X Y W : Int) : Prop :=
  ge_cr (D i).toInt (E i).toInt (F i).toInt (D j).toInt (E j).toInt (F j).toInt X Y W ∨ ge_cr (D j).toInt (E j).toInt (F j).toInt (D i).toInt (E i).toInt (F i).toInt X Y W
theorem yw_cr_det {D E F : Nat → Int32} {i j : Nat} {X Y W X' Y' W' : Int} (h : yw_cr D E F i j X Y W) (h' : yw_cr D E F i j X' Y' W') : X = X' ∧ Y = Y' ∧ W = W' := by
  rcases h with ⟨h1, h2, h3, h4⟩ | ⟨h1, h2, h3, h4⟩ <;> rcases h' with ⟨g1, g2, g3, g4⟩ | ⟨g1, g2, g3, g4⟩ <;> omega
/-- a corner of the pair i, j that meets all conditions -/
def yw_P (D E F : Nat → Int32) (h wo i j : Nat) (X Y W : Int) : Prop := yw_T h wo i ∧ yw_T h wo j ∧ yw_cr D E F i j X Y W ∧ ge_F (yw_K D E F h wo) X Y W
/-- the same of the pairs before i, j -/
def yw_Z (D E F : Nat → Int32) (h wo i j : Nat) (X Y W : Int) : Prop := ∃ i' j', j' < i' ∧ (i' < i ∨ (i' = i ∧ j' < j)) ∧ yw_P D E F h wo i' j' X Y W
theorem yw_Z_s {D E F : Nat → Int32} {h wo i j : Nat} (hj : j < i) {X Y W : Int} : yw_Z D E F h wo i (j + 1) X Y W ↔ yw_Z D E F h wo i j X Y W ∨ yw_P D E F h wo i j X Y W := by
  constructor
  · rintro ⟨i', j', h1, h2, h3⟩
    by_cases e : i' = i ∧ j' = j
    · obtain ⟨rfl, rfl⟩ := e
      exact .inr h3
    · exact .inl ⟨i', j', h1, by omega, h3⟩
  · rintro (⟨i', j', h1, h2, h3⟩ | h3)
    · exact ⟨i', j', h1, by omega, h3⟩
    · exact ⟨i, j, hj, by omega, h3⟩
theorem yw_Z_n {D E F : Nat → Int32} {h wo i : Nat} {X Y W : Int} : yw_Z D E F h wo (i + 1) 0 X Y W ↔ yw_Z D E F h wo i i X Y W := by
  constructor
  · rintro ⟨i', j', h1, h2, h3⟩
    exact ⟨i', j', h1, by omega, h3⟩
  · rintro ⟨i', j', h1, h2, h3⟩
    exact ⟨i', j', h1, by omega, h3⟩
theorem yw_Z_0 {D E F : Nat → Int32} {h wo : Nat} {X Y W : Int} : ¬ yw_Z D E F h wo 0 0 X Y W := by
  rintro ⟨i', j', h1, h2, h3⟩
  omega
theorem yw_P_C {D E F : Nat → Int32} {h wo i j : Nat} (hi : i < 14) (hj : j < 14) {X Y W : Int} (p : yw_P D E F h wo i j X Y W) : ge_C (yw_K D E F h wo) X Y W ∧ ge_F (yw_K D E F h wo) X Y W := by
  obtain ⟨t1, t2, c, f⟩ := p
  refine ⟨?_, f⟩
  rcases c with c | c
  · exact ⟨_, _, _, _, _, _, ⟨i, hi, t1, rfl, rfl, rfl⟩, ⟨j, hj, t2, rfl, rfl, rfl⟩, c⟩
  · exact ⟨_, _, _, _, _, _, ⟨j, hj, t2, rfl, rfl, rfl⟩, ⟨i, hi, t1, rfl, rfl, rfl⟩, c⟩
theorem yw_Z_all {D E F : Nat → Int32} {h wo : Nat} {X Y W : Int} (c : ge_C (yw_K D E F h wo) X Y W) (f : ge_F (yw_K D E F h wo) X Y W) : yw_Z D E F h wo 14 0 X Y W := by
  obtain ⟨a, b, c, a', b', c', ⟨i, hi, ti, rfl, rfl, rfl⟩, ⟨j, hj, tj, rfl, rfl, rfl⟩, r⟩ := c
  by_cases e : j < i
  · exact ⟨i, j, e, by omega, ti, tj, .inl r, f⟩
  · have ne : i ≠ j := by
      rintro rfl
      obtain ⟨_, _, h3, h4⟩ := r
      omega
    exact ⟨j, i, by omega, by omega, tj, ti, .inr r, f⟩
section
variable {gh gl : Int32} {cX cY cU : Int64} {gk : Int32} {dX dY dU : Int64} {gp gq : Int32} {G D E F : Nat → Int32}
theorem yw_there {post : Int32 → Prop} {h i wo : Nat} {wv : Int32} (hi : i < 14) (hh : h ≤ 10) (hw : nI i = wv ↔ i = wo) (h1 : yw_T h wo i → post 1) (h0 : ¬ yw_T h wo i → post 0) :
    wpY_there post (nI h, gl, cX, cY, cU, gk, dX, dY, dU, gp, gq, G, D, E, F) (nI i) wv := by
  refine br_c (fun z => h0 fun t => t.1 (hw.mp z)) (fun z => br_c (fun y => ?_) (fun y => br_c (fun x => ?_) (fun x => ?_)))
  · exact h1 ⟨fun e => z (hw.mpr e), .inl ((nI_ltI (by omega) (by omega)).mp y)⟩
  · have y' : ¬ i < h := fun e => y ((nI_ltI (by omega) (by omega)).mpr e)
    have x' : i < 10 := (nI_ltI (b := 10) (by omega) (by decide)).mp x
    exact h0 fun t => by
      obtain ⟨_, t⟩ := t
      omega
  · have x' : ¬ i < 10 := fun e => x ((nI_ltI (b := 10) (by omega) (by decide)).mpr e)
    exact h1 ⟨fun e => z (hw.mpr e), .inr (by omega)⟩
theorem yw_meet {post : Int32 → SY → Prop} {i j : Nat} (hi : i < 14) (hj : j < 14) (ci : xw_cd D E F i) (cj : xw_cd D E F j)
    (h0 : (∀ X Y W, ¬ yw_cr D E F i j X Y W) → post 0 (gh, gl, cX, cY, cU, gk, dX, dY, dU, gp, gq, G, D, E, F))
    (h1 : ∀ cX cY cU : Int64, yw_cr D E F i j cX.toInt cY.toInt cU.toInt → post 1 (gh, gl, cX, cY, cU, gk, dX, dY, dU, gp, gq, G, D, E, F)) : wpY_meet post (gh, gl, cX, cY, cU, gk, dX, dY, dU, gp, gq, G, D, E, F) (nI i) (nI j) := by
  have ii : vp_in (nI i) 14 := vp_in_nI hi (by decide)
  have ij : vp_in (nI j) 14 := vp_in_nI hj (by decide)
  have ei : (nI i).toNatClampNeg = i := nI_clamp (by omega)
  have ej : (nI j).toNatClampNeg = j := nI_clamp (by omega)
  have nn : ∀ {x : Int32} {m : Int}, m ≤ 99 → ge_bd m x.toInt → ge_bd 99 x.toInt := fun h b => ge_bd_le b h
  have ai := nn (by decide) ci.1
  have bi := nn (by decide) ci.2.1
  have aj := nn (by decide) cj.1
  have bj := nn (by decide) cj.2.1
  have dt := gi_det ai bj aj bi (by decide) (by decide)
  have dx := gi_det ci.2.2.1 bj cj.2.2.1 bi (by decide) (by decide)
  have dy := gi_det ai cj.2.2.1 aj ci.2.2.1 (by decide) (by decide)
  refine And.intro ii (And.intro ij (And.intro ij (And.intro ii (fun t et => And.intro ii (And.intro ij (And.intro ij (And.intro ii (fun px epx => And.intro ii (And.intro ij (And.intro ij (And.intro ii (fun py epy => ?_))))))))))))
  rw [ei, ej] at et epx epy
  have tv : t.toInt = (D i).toInt * (E j).toInt - (D j).toInt * (E i).toInt := by rw [et, Int32.toInt_toInt64]; exact dt.1
  have xv : px.toInt = (F i).toInt * (E j).toInt - (F j).toInt * (E i).toInt := by rw [epx, Int32.toInt_toInt64]; exact dx.1
  have yv : py.toInt = (D i).toInt * (F j).toInt - (D j).toInt * (F i).toInt := by rw [epy, Int32.toInt_toInt64]; exact dy.1
  have nt : (-t).toInt = -t.toInt := gl_neg (m := 20000) (by rw [tv]; exact dt.2) (by decide)
  have nx : (-px).toInt = -px.toInt := gl_neg (m := 20000) (by rw [xv]; exact dx.2) (by decide)
  have ny : (-py).toInt = -py.toInt := gl_neg (m := 20000) (by rw [yv]; exact dy.2) (by decide)
  have l0 : (0 : Int64).toInt = 0 := by decide
  refine br_c (fun z => h0 fun X Y W r => ?_) (fun z => ?_)
  · have t0 : t.toInt = 0 := by rw [z]; rfl
    rcases r with ⟨_, _, r3, r4⟩ | ⟨_, _, r3, r4⟩ <;> omega
  · have nz : ¬ t.toInt = 0 := fun y => z (Int64.toInt_inj.mp y)
    by_cases s : 0 ≤ t
    · have s' := s
      rw [Int64.le_iff_toInt_le, l0] at s'
      refine br_t s ?_
      unfold wY_meet_110
      refine br_t s ?_
      unfold wY_meet_128
      exact br_t s (h1 _ _ _ (.inl ⟨xv, yv, tv, by omega⟩))
    · have s' := s
      rw [Int64.le_iff_toInt_le, l0] at s'
      refine br_f s ?_
      unfold wY_meet_110
      refine br_f s ?_
      unfold wY_meet_128
      refine br_f s (nm_e (h1 _ _ _ (.inr ⟨?_, ?_, ?_, ?_⟩)))
      · omega
      · omega
      · omega
      · omega
theorem yw_meets {post : Int32 → Prop} {k : Nat} (hk : k < 14) (hc : xw_cd D E F k) (s : gl_sp cX cY cU)
    (h0 : (F k).toInt * cU.toInt < (D k).toInt * cX.toInt + (E k).toInt * cY.toInt → post 0)
    (h1 : (D k).toInt * cX.toInt + (E k).toInt * cY.toInt ≤ (F k).toInt * cU.toInt → post 1) : wpY_meets post (gh, gl, cX, cY, cU, gk, dX, dY, dU, gp, gq, G, D, E, F) (nI k) := by
  have i : vp_in (nI k) 14 := vp_in_nI hk (by decide)
  have e : (nI k).toNatClampNeg = k := nI_clamp (by omega)
  refine And.intro i (And.intro i (And.intro i ?_))
  rw [e, gl_meets hc.1 hc.2.1 hc.2.2.1 s]
  exact ⟨h0, fun h => h1 (Int.not_lt.mp h)⟩
theorem yw_allowedLoop {post : Int32 → Prop} {h wo : Nat} {wv : Int32} (hh : h ≤ 10) (hw : ∀ i, i < 14 → (nI i = wv ↔ i = wo)) (hc : ∀ i, i < 14 → (i < h ∨ 10 ≤ i) → xw_cd D E F i) (s : gl_sp cX cY cU)
    (h1 : (∀ i, i < 14 → yw_T h wo i → (D i).toInt * cX.toInt + (E i).toInt * cY.toInt ≤ (F i).toInt * cU.toInt) → post 1)
    (h0 : (∃ i, i < 14 ∧ yw_T h wo i ∧ (F i).toInt * cU.toInt < (D i).toInt * cX.toInt + (E i).toInt * cY.toInt) → post 0) :
    ∀ (n i : Nat), 14 < n + i → i ≤ 14 → (∀ i', i' < i → yw_T h wo i' → (D i').toInt * cX.toInt + (E i').toInt * cY.toInt ≤ (F i').toInt * cU.toInt) → wY_allowed_2 post wv (nI h) gl cX cY cU gk dX dY dU gp gq G D E F n (nI i) := by
  intro n
  induction n with
  | zero => intro i g1 g2; omega
  | succ n ih =>
    intro i hn hi I
    by_cases e : i = 14
    · subst e
      exact br_t (by decide) (h1 I)
    · have lt : i < 14 := by omega
      refine br_f (nI_ge (b := 14) lt (by decide)) (yw_there lt hh (hw i lt) (fun t => br_f (by decide) (yw_meets lt (hc i lt t.2) s (fun v => br_t rfl (h0 ⟨i, lt, t, v⟩)) (fun v => br_f (by decide) (nm_r (nI_1 i) (ih (i + 1) (by omega) (by omega) ?_))))) (fun t => br_t rfl (nm_r (nI_1 i) (ih (i + 1) (by omega) (by omega) ?_))))
      · intro i' hi' t'
        by_cases e' : i' = i
        · subst e'; exact v
        · exact I i' (by omega) t'
      · intro i' hi' t'
        by_cases e' : i' = i
        · subst e'; exact absurd t' t
        · exact I i' (by omega) t'
theorem yw_allowed {post : Int32 → Prop} {h wo : Nat} {wv : Int32} (hh : h ≤ 10) (hw : ∀ i, i < 14 → (nI i = wv ↔ i = wo)) (hc : ∀ i, i < 14 → (i < h ∨ 10 ≤ i) → xw_cd D E F i) (s : gl_sp cX cY cU) (hW : 0 < cU.toInt)
    (h1 : ge_F (yw_K D E F h wo) cX.toInt cY.toInt cU.toInt → post 1) (h0 : ¬ ge_F (yw_K D E F h wo) cX.toInt cY.toInt cU.toInt → post 0) : wpY_allowed post (nI h, gl, cX, cY, cU, gk, dX, dY, dU, gp, gq, G, D, E, F) wv := by
  refine ⟨15, yw_allowedLoop hh hw hc s (fun g => h1 ⟨hW, ?_⟩) (fun g => h0 fun f => ?_) 15 0 (by omega) (by omega) (fun i hi => absurd hi (by omega))⟩
  · rintro a b c ⟨i, hi, t, rfl, rfl, rfl⟩
    exact g i hi t
  · obtain ⟨i, hi, t, v⟩ := g
    have := f.2 _ _ _ ⟨i, hi, t, rfl, rfl, rfl⟩
    omega
theorem yw_better {post : Int32 → Prop} {p q : Int32} (hp : ge_bd 9 p.toInt) (hq : ge_bd 9 q.toInt) (s : gl_sp cX cY cU) (s' : gl_sp dX dY dU)
    (h1 : ge_bt p.toInt q.toInt cX.toInt cY.toInt cU.toInt dX.toInt dY.toInt dU.toInt → post 1)
    (h0 : ¬ ge_bt p.toInt q.toInt cX.toInt cY.toInt cU.toInt dX.toInt dY.toInt dU.toInt → post 0) : wpY_better post (gh, gl, cX, cY, cU, gk, dX, dY, dU, gp, gq, G, D, E, F) p q := by
  have m1 : (p.toInt64 * cX + q.toInt64 * cY) * dU = Int64.ofInt ((p.toInt * cX.toInt + q.toInt * cY.toInt) * dU.toInt) := by rw [gl_lin, Int64.ofInt_mul, Int64.ofInt_toInt]
  have m2 : (p.toInt64 * dX + q.toInt64 * dY) * cU = Int64.ofInt ((p.toInt * dX.toInt + q.toInt * dY.toInt) * cU.toInt) := by rw [gl_lin, Int64.ofInt_mul, Int64.ofInt_toInt]
  have b1 : ge_bd 10000000 ((p.toInt * cX.toInt + q.toInt * cY.toInt) * dU.toInt) := ge_bd_le (ge_bd_mul (ge_bd_add (ge_bd_mul hp s.1) (ge_bd_mul hq s.2.1)) s'.2.2) (by decide)
  have b2 : ge_bd 10000000 ((p.toInt * dX.toInt + q.toInt * dY.toInt) * cU.toInt) := ge_bd_le (ge_bd_mul (ge_bd_add (ge_bd_mul hp s'.1) (ge_bd_mul hq s'.2.1)) s.2.2) (by decide)
  have b3 : ge_bd 10000000 (cX.toInt * dU.toInt) := ge_bd_le (ge_bd_mul s.1 s'.2.2) (by decide)
  have b4 : ge_bd 10000000 (dX.toInt * cU.toInt) := ge_bd_le (ge_bd_mul s'.1 s.2.2) (by decide)
  have b5 : ge_bd 10000000 (cY.toInt * dU.toInt) := ge_bd_le (ge_bd_mul s.2.1 s'.2.2) (by decide)
  have b6 : ge_bd 10000000 (dY.toInt * cU.toInt) := ge_bd_le (ge_bd_mul s'.2.1 s.2.2) (by decide)
  refine nm_r m1 (nm_r m2 ?_)
  rw [gl_mm cX dU, gl_mm dX cU, gl_mm dY cU, gl_mm cY dU]
  rw [gl_eq b1 b2 (by decide), gl_eq b3 b4 (by decide), gl_le b6 b5 (by decide), gl_le b4 b3 (by decide), gl_le b1 b2 (by decide)]
  unfold ge_bt at h1 h0
  generalize (p.toInt * cX.toInt + q.toInt * cY.toInt) * dU.toInt = n1 at *
  generalize (p.toInt * dX.toInt + q.toInt * dY.toInt) * cU.toInt = n2 at *
  generalize cX.toInt * dU.toInt = n3 at *
  generalize dX.toInt * cU.toInt = n4 at *
  generalize cY.toInt * dU.toInt = n5 at *
  generalize dY.toInt * cU.toInt = n6 at *
  refine br_c (fun e1 => br_c (fun e2 => br_c (fun e3 => h0 ?_) (fun e3 => h1 ?_)) (fun e2 => br_c (fun e3 => h0 ?_) (fun e3 => h1 ?_))) (fun e1 => br_c (fun e2 => h0 ?_) (fun e2 => h1 ?_)) <;> omega
end
end
section
/-! ===== the reference: its three double loops ===== -/
/-- what the search knows of the corners in Z -/
def yw_J (K : Int → Int → Int → Prop) (Z : Int → Int → Int → Prop) (p q : Int) (r : Int32) (dX dY dU : Int) : Prop :=
  (r = 0 ∧ ∀ X Y W, ¬ Z X Y W) ∨ (r = 1 ∧ (ge_C K dX dY dU ∧ ge_F K dX dY dU) ∧ ∀ X Y W, Z X Y W → 0 < W ∧ ¬ ge_bt p q X Y W dX dY dU)
theorem yw_J_eq {K Z Z' : Int → Int → Int → Prop} {p q : Int} {r : Int32} {dX dY dU : Int} (h : yw_J K Z p q r dX dY dU) (e : ∀ X Y W, Z' X Y W → Z X Y W) : yw_J K Z' p q r dX dY dU := by
  rcases h with ⟨h1, h2⟩ | ⟨h1, h2, h3⟩
  · exact .inl ⟨h1, fun X Y W z => h2 X Y W (e X Y W z)⟩
  · exact .inr ⟨h1, h2, fun X Y W z => h3 X Y W (e X Y W z)⟩
theorem yw_J_new {K Z Z' : Int → Int → Int → Prop} {p q : Int} {r : Int32} {dX dY dU cX cY cU : Int} (h : yw_J K Z p q r dX dY dU)
    (e : ∀ X Y W, Z' X Y W → Z X Y W ∨ (X = cX ∧ Y = cY ∧ W = cU)) (hc : ge_C K cX cY cU ∧ ge_F K cX cY cU)
    (b : r = 0 ∨ ge_bt p q cX cY cU dX dY dU) : yw_J K Z' p q 1 cX cY cU := by
  have irr : ¬ ge_bt p q cX cY cU cX cY cU := by
    rintro (h | ⟨_, h | ⟨_, h⟩⟩) <;> omega
  refine .inr ⟨rfl, hc, fun X Y W z => ?_⟩
  rcases e X Y W z with z | ⟨rfl, rfl, rfl⟩
  · rcases h with ⟨h1, h2⟩ | ⟨h1, h2, h3⟩
    · exact absurd z (h2 X Y W)
    · have q := h3 X Y W z
      refine ⟨q.1, fun g => q.2 ?_⟩
      rcases b with b | b
      · rw [b] at h1
        exact absurd h1 (by decide)
      · exact ge_bt_trans q.1 hc.2.1 h2.2.1 g b
  · exact ⟨hc.2.1, irr⟩
theorem yw_J_old {K Z Z' : Int → Int → Int → Prop} {p q : Int} {r : Int32} {dX dY dU cX cY cU : Int} (h : yw_J K Z p q r dX dY dU) (hr : ¬ r = 0)
    (e : ∀ X Y W, Z' X Y W → Z X Y W ∨ (X = cX ∧ Y = cY ∧ W = cU)) (hc : 0 < cU)
    (b : ¬ ge_bt p q cX cY cU dX dY dU) : yw_J K Z' p q r dX dY dU := by
  rcases h with ⟨h1, h2⟩ | ⟨h1, h2, h3⟩
  · exact absurd h1 hr
  · refine .inr ⟨h1, h2, fun X Y W z => ?_⟩
    rcases e X Y W z with z | ⟨rfl, rfl, rfl⟩
    · exact h3 X Y W z
    · exact ⟨hc, b⟩
section
variable {gl : Int32} {cX cY cU : Int64} {gk : Int32} {dX dY dU : Int64} {gp gq : Int32} {G D E F : Nat → Int32} {h wo : Nat}
theorem yw_sm (hc : ∀ i, i < 14 → (i < h ∨ 10 ≤ i) → xw_cd D E F i) : ge_sm (yw_K D E F h wo) := by
  rintro a b c ⟨i, h1, h2, rfl, rfl, rfl⟩
  have q := hc i h1 h2.2
  exact ⟨q.1, q.2.1, q.2.2.1⟩
theorem yw_cr_sp {i j : Nat} (ci : xw_cd D E F i) (cj : xw_cd D E F j) (r : yw_cr D E F i j cX.toInt cY.toInt cU.toInt) : gl_sp cX cY cU ∧ 0 < cU.toInt := by
  rcases r with r | r
  · exact ⟨ge_cr_sp ci.1 ci.2.1 ci.2.2.1 cj.1 cj.2.1 cj.2.2.1 r, r.2.2.2⟩
  · exact ⟨ge_cr_sp cj.1 cj.2.1 cj.2.2.1 ci.1 ci.2.1 ci.2.2.1 r, r.2.2.2⟩
/-- one pair: it has no corner that meets all, or this one -/
theorem yw_skip {i j : Nat} (hj : j < i) (n : ∀ X Y W, ¬ yw_P D E F h wo i j X Y W) : ∀ X Y W, yw_Z D E F h wo i (j + 1) X Y W → yw_Z D E F h wo i j X Y W := by
  intro X Y W z
  rcases (yw_Z_s hj).mp z with z | z
  · exact z
  · exact absurd z (n X Y W)
theorem yw_one {i j : Nat} (hj : j < i) {cX cY cU : Int} (r : yw_cr D E F i j cX cY cU) : ∀ X Y W, yw_Z D E F h wo i (j + 1) X Y W → yw_Z D E F h wo i j X Y W ∨ (X = cX ∧ Y = cY ∧ W = cU) := by
  intro X Y W z
  rcases (yw_Z_s hj).mp z with z | z
  · exact .inl z
  · exact .inr (yw_cr_det z.2.2.1 r)
theorem yw_no {i j : Nat} {cX cY cU : Int} (r : yw_cr D E F i j cX cY cU) (f : ¬ ge_F (yw_K D E F h wo) cX cY cU) : ∀ X Y W, ¬ yw_P D E F h wo i j X Y W := by
  rintro X Y W ⟨_, _, c, g⟩
  obtain ⟨rfl, rfl, rfl⟩ := yw_cr_det c r
  exact f g
theorem yw_m1 : ∀ i, i < 14 → (nI i = -1 ↔ i = 95) := by
  intro i hi
  constructor
  · intro e
    have := congrArg Int32.toInt e
    rw [nI_toInt (by omega), gi_m1] at this
    omega
  · intro e
    omega
theorem yw_search15 {post : Int32 → SY → Prop} {J5 : Int32 → Int32 → Int32 → Int32 → Int64 → Int64 → Int64 → Int32 → Int64 → Int64 → Int64 → Int32 → Int32 → (Nat → Int32) → (Nat → Int32) → (Nat → Int32) → (Nat → Int32) → Prop}
    {p q : Int32} {i : Nat} (hi : i < 14) (hh : h ≤ 10) (hc : ∀ i, i < 14 → (i < h ∨ 10 ≤ i) → xw_cd D E F i) (hp : ge_bd 9 p.toInt) (hq : ge_bd 9 q.toInt)
    (hJ : ∀ (r : Int32) (cX cY cU dX dY dU : Int64), yw_J (yw_K D E F h 95) (yw_Z D E F h 95 (i + 1) 0) p.toInt q.toInt r dX.toInt dY.toInt dU.toInt → J5 r (nI (i + 1)) (nI h) gl cX cY cU gk dX dY dU gp gq G D E F) :
    ∀ (n j : Nat), i < n + j → j ≤ i → ∀ (r : Int32) (cX cY cU dX dY dU : Int64), yw_J (yw_K D E F h 95) (yw_Z D E F h 95 i j) p.toInt q.toInt r dX.toInt dY.toInt dU.toInt →
      wY_search_15 post J5 p q (nI i) n r (nI j) (nI h) gl cX cY cU gk dX dY dU gp gq G D E F := by
  have sm : ge_sm (yw_K D E F h 95) := yw_sm hc
  intro n
  induction n with
  | zero => intro j h1 h2; omega
  | succ n ih =>
    intro j hn hj r cX cY cU dX dY dU I
    by_cases e : j = i
    · subst e
      exact br_t (Int32.le_refl _) (nm_r (nI_1 j) (hJ _ _ _ _ _ _ _ (yw_J_eq I (fun X Y W z => yw_Z_n.mp z))))
    · have lt : j < i := by omega
      have hj' : j < 14 := by omega
      have nx : ∀ (r : Int32) (cX cY cU dX dY dU : Int64), yw_J (yw_K D E F h 95) (yw_Z D E F h 95 i (j + 1)) p.toInt q.toInt r dX.toInt dY.toInt dU.toInt →
          ∀ x, x = nI j + 1 → wY_search_15 post J5 p q (nI i) n r x (nI h) gl cX cY cU gk dX dY dU gp gq G D E F :=
        fun r cX cY cU dX dY dU I' => nm_r (nI_1 j) (ih (j + 1) (by omega) (by omega) r cX cY cU dX dY dU I')
      refine br_f (nI_ge lt (by omega)) (yw_there hi hh (yw_m1 i hi) (fun ti => br_f (by decide) (yw_there hj' hh (yw_m1 j hj') (fun tj => br_f (by decide) (yw_meet hi hj' (hc i hi ti.2) (hc j hj' tj.2) (fun z => br_t rfl (nx _ _ _ _ _ _ _ (yw_J_eq I (yw_skip lt ?_)))) (fun cX cY cU c => br_f (by decide) ?_))) (fun tj => br_t rfl (nx _ _ _ _ _ _ _ (yw_J_eq I (yw_skip lt ?_)))))) (fun ti => br_t rfl (nx _ _ _ _ _ _ _ (yw_J_eq I (yw_skip lt ?_)))))
      · rintro X Y W ⟨_, _, c, _⟩
        exact z X Y W c
      · have sc := yw_cr_sp (hc i hi ti.2) (hc j hj' tj.2) c
        refine yw_allowed hh yw_m1 hc sc.1 sc.2 (fun f => br_f (by decide) ?_) (fun f => br_t rfl (nx _ _ _ _ _ _ _ (yw_J_eq I (yw_skip lt (yw_no c f)))))
        have cf := yw_P_C hi hj' (⟨ti, tj, c, f⟩ : yw_P D E F h 95 i j _ _ _)
        refine br_c (fun z => ?_) (fun z => ?_)
        · unfold wY_search_74
          exact nx _ _ _ _ _ _ _ (yw_J_new I (yw_one lt c) cf (.inl z))
        · rcases I with I' | I'
          · exact absurd I'.1 z
          · have I : yw_J (yw_K D E F h 95) (yw_Z D E F h 95 i j) p.toInt q.toInt r dX.toInt dY.toInt dU.toInt := .inr I'
            refine yw_better hp hq sc.1 (ge_C_sp sm I'.2.1.1) (fun b => br_f (by decide) ?_) (fun b => br_t rfl (nx _ _ _ _ _ _ _ (yw_J_old I z (yw_one lt c) sc.2 b)))
            unfold wY_search_74
            exact nx _ _ _ _ _ _ _ (yw_J_new I (yw_one lt c) cf (.inr b))
      · rintro X Y W ⟨_, t, _, _⟩
        exact tj t
      · rintro X Y W ⟨t, _, _, _⟩
        exact ti t
theorem yw_search {post : Int32 → SY → Prop} {p q : Int32} (hh : h ≤ 10) (hc : ∀ i, i < 14 → (i < h ∨ 10 ≤ i) → xw_cd D E F i) (hp : ge_bd 9 p.toInt) (hq : ge_bd 9 q.toInt)
    (h0 : ∀ (cX cY cU dX dY dU : Int64), (∀ X Y W, ge_C (yw_K D E F h 95) X Y W → ¬ ge_F (yw_K D E F h 95) X Y W) → post 0 (nI h, gl, cX, cY, cU, gk, dX, dY, dU, gp, gq, G, D, E, F))
    (h1 : ∀ (cX cY cU dX dY dU : Int64), ge_C (yw_K D E F h 95) dX.toInt dY.toInt dU.toInt → ge_F (yw_K D E F h 95) dX.toInt dY.toInt dU.toInt →
      (∀ X Y W, ge_C (yw_K D E F h 95) X Y W → ge_F (yw_K D E F h 95) X Y W → ¬ ge_bt p.toInt q.toInt X Y W dX.toInt dY.toInt dU.toInt) → post 1 (nI h, gl, cX, cY, cU, gk, dX, dY, dU, gp, gq, G, D, E, F)) :
    wpY_search post (nI h, gl, cX, cY, cU, gk, dX, dY, dU, gp, gq, G, D, E, F) p q := by
  have L : ∀ (n i : Nat), 14 < n + i → i ≤ 14 → ∀ (r : Int32) (cX cY cU dX dY dU : Int64), yw_J (yw_K D E F h 95) (yw_Z D E F h 95 i 0) p.toInt q.toInt r dX.toInt dY.toInt dU.toInt →
      wY_search_5 post p q n r (nI i) (nI h) gl cX cY cU gk dX dY dU gp gq G D E F := by
    intro n
    induction n with
    | zero => intro i g1 g2; omega
    | succ n ih =>
      intro i hn hi r cX cY cU dX dY dU I
      by_cases e : i = 14
      · subst e
        refine br_t (by decide) ?_
        rcases I with ⟨rfl, I⟩ | ⟨rfl, I1, I2⟩
        · exact ⟨narrow_b0, h0 _ _ _ _ _ _ fun X Y W c f => I X Y W (yw_Z_all c f)⟩
        · exact ⟨narrow_b1, h1 _ _ _ _ _ _ I1.1 I1.2 fun X Y W c f => (I2 X Y W (yw_Z_all c f)).2⟩
      · have lt : i < 14 := by omega
        exact br_f (nI_ge (b := 14) lt (by decide)) ⟨i + 1, yw_search15 lt hh hc hp hq (fun r cX cY cU dX dY dU I' => ih (i + 1) (by omega) (by omega) r cX cY cU dX dY dU I') (i + 1) 0 (by omega) (by omega) r cX cY cU dX dY dU I⟩
  exact ⟨15, L 15 0 (by omega) (by omega) 0 cX cY cU dX dY dU (.inl ⟨rfl, fun X Y W => yw_Z_0⟩)⟩
theorem yw_possible10 {post : Int32 → SY → Prop} {J2 : Int32 → Int32 → Int32 → Int64 → Int64 → Int64 → Int32 → Int64 → Int64 → Int64 → Int32 → Int32 → (Nat → Int32) → (Nat → Int32) → (Nat → Int32) → (Nat → Int32) → Prop}
    {i : Nat} (hi : i < 14) (hh : h ≤ 10) (hc : ∀ i, i < 14 → (i < h ∨ 10 ≤ i) → xw_cd D E F i)
    (h1 : ∀ (cX cY cU : Int64), ge_C (yw_K D E F h 95) cX.toInt cY.toInt cU.toInt → ge_F (yw_K D E F h 95) cX.toInt cY.toInt cU.toInt → post 1 (nI h, gl, cX, cY, cU, gk, dX, dY, dU, gp, gq, G, D, E, F))
    (hJ : ∀ (cX cY cU : Int64), (∀ X Y W, ¬ yw_Z D E F h 95 (i + 1) 0 X Y W) → J2 (nI (i + 1)) (nI h) gl cX cY cU gk dX dY dU gp gq G D E F) :
    ∀ (n j : Nat), i < n + j → j ≤ i → ∀ (cX cY cU : Int64), (∀ X Y W, ¬ yw_Z D E F h 95 i j X Y W) → wY_possible_10 post J2 (nI i) n (nI j) (nI h) gl cX cY cU gk dX dY dU gp gq G D E F := by
  intro n
  induction n with
  | zero => intro j h1 h2; omega
  | succ n ih =>
    intro j hn hj cX cY cU I
    by_cases e : j = i
    · subst e
      exact br_t (Int32.le_refl _) (nm_r (nI_1 j) (hJ _ _ _ (fun X Y W z => I X Y W (yw_Z_n.mp z))))
    · have lt : j < i := by omega
      have hj' : j < 14 := by omega
      have nx : ∀ (cX cY cU : Int64), (∀ X Y W, ¬ yw_P D E F h 95 i j X Y W) → ∀ x, x = nI j + 1 → wY_possible_10 post J2 (nI i) n x (nI h) gl cX cY cU gk dX dY dU gp gq G D E F :=
        fun cX cY cU I' => nm_r (nI_1 j) (ih (j + 1) (by omega) (by omega) cX cY cU (fun X Y W z => I X Y W (yw_skip lt I' X Y W z)))
      refine br_f (nI_ge lt (by omega)) (yw_there hi hh (yw_m1 i hi) (fun ti => br_f (by decide) (yw_there hj' hh (yw_m1 j hj') (fun tj => br_f (by decide) (yw_meet hi hj' (hc i hi ti.2) (hc j hj' tj.2) (fun z => br_t rfl (nx _ _ _ ?_)) (fun cX cY cU c => br_f (by decide) ?_))) (fun tj => br_t rfl (nx _ _ _ ?_)))) (fun ti => br_t rfl (nx _ _ _ ?_)))
      · rintro X Y W ⟨_, _, c, _⟩
        exact z X Y W c
      · have sc := yw_cr_sp (hc i hi ti.2) (hc j hj' tj.2) c
        refine yw_allowed hh yw_m1 hc sc.1 sc.2 (fun f => br_f (by decide) ?_) (fun f => br_t rfl (nx _ _ _ (yw_no c f)))
        have cf := yw_P_C hi hj' (⟨ti, tj, c, f⟩ : yw_P D E F h 95 i j _ _ _)
        exact h1 _ _ _ cf.1 cf.2
      · rintro X Y W ⟨_, t, _, _⟩
        exact tj t
      · rintro X Y W ⟨t, _, _, _⟩
        exact ti t
theorem yw_possible {post : Int32 → SY → Prop} (hh : h ≤ 10) (hc : ∀ i, i < 14 → (i < h ∨ 10 ≤ i) → xw_cd D E F i)
    (h0 : ∀ (cX cY cU : Int64), (∀ X Y W, ge_C (yw_K D E F h 95) X Y W → ¬ ge_F (yw_K D E F h 95) X Y W) → post 0 (nI h, gl, cX, cY, cU, gk, dX, dY, dU, gp, gq, G, D, E, F))
    (h1 : ∀ (cX cY cU : Int64), ge_C (yw_K D E F h 95) cX.toInt cY.toInt cU.toInt → ge_F (yw_K D E F h 95) cX.toInt cY.toInt cU.toInt → post 1 (nI h, gl, cX, cY, cU, gk, dX, dY, dU, gp, gq, G, D, E, F)) :
    wpY_possible post (nI h, gl, cX, cY, cU, gk, dX, dY, dU, gp, gq, G, D, E, F) := by
  have L : ∀ (n i : Nat), 14 < n + i → i ≤ 14 → ∀ (cX cY cU : Int64), (∀ X Y W, ¬ yw_Z D E F h 95 i 0 X Y W) → wY_possible_2 post n (nI i) (nI h) gl cX cY cU gk dX dY dU gp gq G D E F := by
    intro n
    induction n with
    | zero => intro i g1 g2; omega
    | succ n ih =>
      intro i hn hi cX cY cU I
      by_cases e : i = 14
      · subst e
        exact br_t (by decide) (h0 _ _ _ fun X Y W c f => I X Y W (yw_Z_all c f))
      · have lt : i < 14 := by omega
        exact br_f (nI_ge (b := 14) lt (by decide)) ⟨i + 1, yw_possible10 lt hh hc h1 (fun cX cY cU I' => ih (i + 1) (by omega) (by omega) cX cY cU I') (i + 1) 0 (by omega) (by omega) cX cY cU I⟩
  exact ⟨15, L 15 0 (by omega) (by omega) cX cY cU (fun X Y W => yw_Z_0)⟩
theorem yw_spared10 {post : Int32 → SY → Prop} {J2 : Int32 → Int32 → Int32 → Int64 → Int64 → Int64 → Int32 → Int64 → Int64 → Int64 → Int32 → Int32 → (Nat → Int32) → (Nat → Int32) → (Nat → Int32) → (Nat → Int32) → Prop}
    {i k : Nat} (hi : i < 14) (hh : h ≤ 10) (hk : k < h) (hc : ∀ i, i < 14 → (i < h ∨ 10 ≤ i) → xw_cd D E F i)
    (h0 : ∀ (cX cY cU : Int64), ge_C (yw_K D E F h k) cX.toInt cY.toInt cU.toInt → ge_F (yw_K D E F h k) cX.toInt cY.toInt cU.toInt → (F k).toInt * cU.toInt < (D k).toInt * cX.toInt + (E k).toInt * cY.toInt → post 0 (nI h, gl, cX, cY, cU, gk, dX, dY, dU, gp, gq, G, D, E, F))
    (hJ : ∀ (cX cY cU : Int64), (∀ X Y W, yw_Z D E F h k (i + 1) 0 X Y W → (D k).toInt * X + (E k).toInt * Y ≤ (F k).toInt * W) → J2 (nI (i + 1)) (nI h) gl cX cY cU gk dX dY dU gp gq G D E F) :
    ∀ (n j : Nat), i < n + j → j ≤ i → ∀ (cX cY cU : Int64), (∀ X Y W, yw_Z D E F h k i j X Y W → (D k).toInt * X + (E k).toInt * Y ≤ (F k).toInt * W) → wY_spared_10 post J2 (nI k) (nI i) n (nI j) (nI h) gl cX cY cU gk dX dY dU gp gq G D E F := by
  have hw : ∀ i, i < 14 → (nI i = nI k ↔ i = k) := fun i hi => nI_eq (by omega) (by omega)
  intro n
  induction n with
  | zero => intro j h1 h2; omega
  | succ n ih =>
    intro j hn hj cX cY cU I
    by_cases e : j = i
    · subst e
      exact br_t (Int32.le_refl _) (nm_r (nI_1 j) (hJ _ _ _ (fun X Y W z => I X Y W (yw_Z_n.mp z))))
    · have lt : j < i := by omega
      have hj' : j < 14 := by omega
      have nx : ∀ (cX cY cU : Int64), (∀ X Y W, ¬ yw_P D E F h k i j X Y W) → ∀ x, x = nI j + 1 → wY_spared_10 post J2 (nI k) (nI i) n x (nI h) gl cX cY cU gk dX dY dU gp gq G D E F :=
        fun cX cY cU I' => nm_r (nI_1 j) (ih (j + 1) (by omega) (by omega) cX cY cU (fun X Y W z => I X Y W (yw_skip lt I' X Y W z)))
      refine br_f (nI_ge lt (by omega)) (yw_there hi hh (hw i hi) (fun ti => br_f (by decide) (yw_there hj' hh (hw j hj') (fun tj => br_f (by decide) (yw_meet hi hj' (hc i hi ti.2) (hc j hj' tj.2) (fun z => br_t rfl (nx _ _ _ ?_)) (fun cX cY cU c => br_f (by decide) ?_))) (fun tj => br_t rfl (nx _ _ _ ?_)))) (fun ti => br_t rfl (nx _ _ _ ?_)))
      · rintro X Y W ⟨_, _, c, _⟩
        exact z X Y W c
      · have sc := yw_cr_sp (hc i hi ti.2) (hc j hj' tj.2) c
        refine yw_allowed hh hw hc sc.1 sc.2 (fun f => br_f (by decide) ?_) (fun f => br_t rfl (nx _ _ _ (yw_no c f)))
        have cf := yw_P_C hi hj' (⟨ti, tj, c, f⟩ : yw_P D E F h k i j _ _ _)
        refine yw_meets (by omega) (hc k (by omega) (.inl hk)) sc.1 (fun v => br_t rfl (h0 _ _ _ cf.1 cf.2 v)) (fun v => br_f (by decide) (nm_r (nI_1 j) (ih (j + 1) (by omega) (by omega) cX cY cU ?_)))
        intro X Y W z
        rcases yw_one lt c X Y W z with z | ⟨rfl, rfl, rfl⟩
        · exact I X Y W z
        · exact v
      · rintro X Y W ⟨_, t, _, _⟩
        exact tj t
      · rintro X Y W ⟨t, _, _, _⟩
        exact ti t
theorem yw_spared {post : Int32 → SY → Prop} {k : Nat} (hh : h ≤ 10) (hk : k < h) (hc : ∀ i, i < 14 → (i < h ∨ 10 ≤ i) → xw_cd D E F i)
    (h0 : ∀ (cX cY cU : Int64), ge_C (yw_K D E F h k) cX.toInt cY.toInt cU.toInt → ge_F (yw_K D E F h k) cX.toInt cY.toInt cU.toInt → (F k).toInt * cU.toInt < (D k).toInt * cX.toInt + (E k).toInt * cY.toInt → post 0 (nI h, gl, cX, cY, cU, gk, dX, dY, dU, gp, gq, G, D, E, F))
    (h1 : ∀ (cX cY cU : Int64), (∀ X Y W, ge_C (yw_K D E F h k) X Y W → ge_F (yw_K D E F h k) X Y W → (D k).toInt * X + (E k).toInt * Y ≤ (F k).toInt * W) → post 1 (nI h, gl, cX, cY, cU, gk, dX, dY, dU, gp, gq, G, D, E, F)) :
    wpY_spared post (nI h, gl, cX, cY, cU, gk, dX, dY, dU, gp, gq, G, D, E, F) (nI k) := by
  have L : ∀ (n i : Nat), 14 < n + i → i ≤ 14 → ∀ (cX cY cU : Int64), (∀ X Y W, yw_Z D E F h k i 0 X Y W → (D k).toInt * X + (E k).toInt * Y ≤ (F k).toInt * W) → wY_spared_2 post (nI k) n (nI i) (nI h) gl cX cY cU gk dX dY dU gp gq G D E F := by
    intro n
    induction n with
    | zero => intro i g1 g2; omega
    | succ n ih =>
      intro i hn hi cX cY cU I
      by_cases e : i = 14
      · subst e
        exact br_t (by decide) (h1 _ _ _ fun X Y W c f => I X Y W (yw_Z_all c f))
      · have lt : i < 14 := by omega
        exact br_f (nI_ge (b := 14) lt (by decide)) ⟨i + 1, yw_spared10 lt hh hk hc h0 (fun cX cY cU I' => ih (i + 1) (by omega) (by omega) cX cY cU I') (i + 1) 0 (by omega) (by omega) cX cY cU I⟩
  exact ⟨15, L 15 0 (by omega) (by omega) cX cY cU (fun X Y W z => absurd z yw_Z_0)⟩
end
end
section
/-! ===== lowest terms ===== -/
theorem pk_us {f : Nat → Int32} {k : Nat} {x : Int32} : upd f k x k = x := if_pos rfl
theorem pk_un {f : Nat → Int32} {k j : Nat} {x : Int32} (h : j ≠ k) : upd f k x j = f j := if_neg h
theorem pk_sub {a b : Nat} (h : b ≤ a) : nI a - nI b = nI (a - b) := by
  obtain ⟨c, rfl⟩ : ∃ c, a = c + b := ⟨a - b, by omega⟩
  rw [← nI_add, Int32.add_sub_cancel, Nat.add_sub_cancel]
theorem pk_lT {n : Nat} (h : n < 2 ^ 63) : (lN n).toInt = (n : Int) := lg_ofNat_toInt h
theorem pk_lDiv {a b : Nat} (ha : a < 2 ^ 63) (h0 : 0 < b) (hb : b < 2 ^ 63) : lN a / lN b = lN (a / b) := by
  apply Int64.toInt_inj.mp
  rw [lg_ldiv_nonneg (by rw [pk_lT ha]; omega) (by rw [pk_lT hb]; omega), pk_lT ha, pk_lT hb, pk_lT (Nat.lt_of_le_of_lt (Nat.div_le_self a b) ha)]
  rfl
theorem pk_lRem {a b : Nat} (ha : a < 2 ^ 63) (h0 : 0 < b) (hb : b < 2 ^ 63) : lN a - lN a / lN b * lN b = lN (a % b) := by
  rw [pk_lDiv ha h0 hb, lN_mul, lN_sub (Nat.div_mul_le_self a b)]
  exact congrArg lN (by have := Nat.div_add_mod' a b; omega)
theorem gd_half {a r : Nat} (h0 : 0 < r) (h : r < a) : 2 * (a % r) < a := by
  have h1 := Nat.mod_lt a h0
  have h2 : a % r = (a - r) % r := Nat.mod_eq_sub_mod (Nat.le_of_lt h)
  have h3 := Nat.mod_le (a - r) r
  omega
theorem gd_x0 {post : Int64 → Prop} {n b s : Nat} (hs : s < 2 ^ 31) (h : post (lN b)) : wX_divisor_20 post (n + 1) (lN 0) (lN b) (nI s) :=
  br_c (fun _ => h) (fun _ => br_t (Int64.le_refl _) h)
theorem gd_xs {post : Int64 → Prop} {n a b s : Nat} (hs : s < 64) (ha : 0 < a) (ha' : a < 2 ^ 31) (hb : b < 2 ^ 31) (h : wX_divisor_20 post n (lN (b % a)) (lN a) (nI (s + 1))) :
    wX_divisor_20 post (n + 1) (lN a) (lN b) (nI s) := by
  have n1 : ¬ lN a ≤ 0 := fun z => by
    have := (lN_le (b := 0) ha' (by decide)).mp z
    omega
  have n2 : ¬ lN a = 0 := fun z => by
    have := (lN_eq (b := 0) ha' (by decide)).mp z
    omega
  exact br_f (nI_ge (b := 64) hs (by decide)) (br_f n1 (And.intro n2 (nm_r (pk_lRem (by omega) ha (by omega)) (nm_r (nI_1 s) h))))
theorem gd_x {post : Int64 → Prop} : ∀ (t n a b s : Nat), a < 2 ^ t → a < 2 ^ 31 → b < 2 ^ 31 → s + 2 * t ≤ 64 → 2 * t < n → post (lN (Nat.gcd a b)) → wX_divisor_20 post n (lN a) (lN b) (nI s) := by
  intro t
  induction t with
  | zero =>
    intro n a b s h1 ha hb hs hn hp
    obtain ⟨n, rfl⟩ : ∃ m, n = m + 1 := ⟨n - 1, by omega⟩
    have : a = 0 := by omega
    subst this
    rw [Nat.gcd_zero_left] at hp
    exact gd_x0 (by omega) hp
  | succ t ih =>
    intro n a b s h1 ha hb hs hn hp
    obtain ⟨n, rfl⟩ : ∃ m, n = m + 2 := ⟨n - 2, by omega⟩
    by_cases z : a = 0
    · subst z
      rw [Nat.gcd_zero_left] at hp
      exact gd_x0 (by omega) hp
    · have a0 : 0 < a := by omega
      have r1 := Nat.mod_lt b a0
      refine gd_xs (by omega) a0 ha hb ?_
      rw [Nat.gcd_rec] at hp
      by_cases y : b % a = 0
      · rw [y, Nat.gcd_zero_left] at hp
        rw [y]
        exact gd_x0 (by omega) hp
      · refine gd_xs (by omega) (by omega) (by omega) ha ?_
        rw [Nat.gcd_rec] at hp
        have hh := gd_half (a := a) (r := b % a) (by omega) r1
        have r2 := Nat.mod_lt a (y := b % a) (by omega)
        refine ih n _ _ (s + 2) ?_ (by omega) (by omega) (by omega) (by omega) hp
        rw [Nat.pow_succ] at h1
        omega
theorem gd_y0 {post : Int64 → Prop} {n b s : Nat} (hs : s < 2 ^ 31) (h : post (lN b)) : wY_divisor_20 post (n + 1) (lN b) (lN 0) (nI s) :=
  br_c (fun _ => h) (fun _ => br_t (Int64.le_refl _) h)
theorem gd_ys {post : Int64 → Prop} {n a b s : Nat} (hs : s < 100) (ha : 0 < a) (ha' : a < 2 ^ 31) (hb : b < 2 ^ 31) (h : wY_divisor_20 post n (lN a) (lN (b % a)) (nI (s + 1))) :
    wY_divisor_20 post (n + 1) (lN b) (lN a) (nI s) := by
  have n1 : ¬ lN a ≤ 0 := fun z => by
    have := (lN_le (b := 0) ha' (by decide)).mp z
    omega
  have n2 : ¬ lN a = 0 := fun z => by
    have := (lN_eq (b := 0) ha' (by decide)).mp z
    omega
  exact br_f (nI_ge (b := 100) hs (by decide)) (br_f n1 (And.intro n2 (nm_r (pk_lRem (by omega) ha (by omega)) (nm_r (nI_1 s) h))))
theorem gd_y {post : Int64 → Prop} : ∀ (t n a b s : Nat), a < 2 ^ t → a < 2 ^ 31 → b < 2 ^ 31 → s + 2 * t ≤ 100 → 2 * t < n → post (lN (Nat.gcd a b)) → wY_divisor_20 post n (lN b) (lN a) (nI s) := by
  intro t
  induction t with
  | zero =>
    intro n a b s h1 ha hb hs hn hp
    obtain ⟨n, rfl⟩ : ∃ m, n = m + 1 := ⟨n - 1, by omega⟩
    have : a = 0 := by omega
    subst this
    rw [Nat.gcd_zero_left] at hp
    exact gd_y0 (by omega) hp
  | succ t ih =>
    intro n a b s h1 ha hb hs hn hp
    obtain ⟨n, rfl⟩ : ∃ m, n = m + 2 := ⟨n - 2, by omega⟩
    by_cases z : a = 0
    · subst z
      rw [Nat.gcd_zero_left] at hp
      exact gd_y0 (by omega) hp
    · have a0 : 0 < a := by omega
      have r1 := Nat.mod_lt b a0
      refine gd_ys (by omega) a0 ha hb ?_
      rw [Nat.gcd_rec] at hp
      by_cases y : b % a = 0
      · rw [y, Nat.gcd_zero_left] at hp
        rw [y]
        exact gd_y0 (by omega) hp
      · refine gd_ys (by omega) (by omega) (by omega) ha ?_
        rw [Nat.gcd_rec] at hp
        have hh := gd_half (a := a) (r := b % a) (by omega) r1
        have r2 := Nat.mod_lt a (y := b % a) (by omega)
        refine ih n _ _ (s + 2) ?_ (by omega) (by omega) (by omega) (by omega) hp
        rw [Nat.pow_succ] at h1
        omega
theorem gd_lN {x : Int64} {m : Nat} (hm : m < 2 ^ 31) (h : x.toInt = m) : x = lN m := by
  apply Int64.toInt_inj.mp
  rw [lN_toInt hm, h]
theorem gd_divX {post : Int64 → Prop} {x w : Int64} (hx : ge_bd 32767 x.toInt) (hw : ge_bd 162 w.toInt) (hw0 : 0 < w.toInt) (h : post (lN (Int.gcd x.toInt w.toInt))) : wpX_divisor post x w := by
  obtain ⟨x1, x2⟩ := hx
  obtain ⟨w1, w2⟩ := hw
  have ew : w = lN w.toInt.natAbs := gd_lN (by omega) (by omega)
  have l0 : (0 : Int64).toInt = 0 := by decide
  have K : ∀ x' : Int64, x' = lN x.toInt.natAbs → ∃ n20 : Nat, wX_divisor_20 post n20 x' w 0 := by
    intro x' e
    rw [e, ew]
    exact ⟨31, gd_x 15 31 _ _ 0 (by omega) (by omega) (by omega) (by omega) (by omega) h⟩
  refine br_c (fun z => ?_) (fun z => ?_)
  · rw [Int64.le_iff_toInt_le, l0] at z
    exact K x (gd_lN (by omega) (by omega))
  · rw [Int64.le_iff_toInt_le, l0] at z
    refine nm_e (K (-x) (gd_lN (by omega) ?_))
    rw [gl_neg (m := 32767) ⟨x1, x2⟩ (by decide)]
    omega
theorem gd_divY {post : Int64 → Prop} {x w : Int64} (hx : ge_bd 32767 x.toInt) (hw : ge_bd 162 w.toInt) (hw0 : 0 < w.toInt) (h : post (lN (Int.gcd x.toInt w.toInt))) : wpY_divisor post x w := by
  obtain ⟨x1, x2⟩ := hx
  obtain ⟨w1, w2⟩ := hw
  have ew : w = lN w.toInt.natAbs := gd_lN (by omega) (by omega)
  have l0 : (0 : Int64).toInt = 0 := by decide
  have h' : post (lN (Nat.gcd w.toInt.natAbs x.toInt.natAbs)) := by
    rw [Nat.gcd_comm]
    exact h
  have K : ∀ x' : Int64, x' = lN x.toInt.natAbs → ∃ n20 : Nat, wY_divisor_20 post n20 x' w 0 := by
    intro x' e
    rw [e, ew]
    exact ⟨31, gd_y 15 31 _ _ 0 (by omega) (by omega) (by omega) (by omega) (by omega) h'⟩
  refine br_c (fun z => ?_) (fun z => ?_)
  · rw [Int64.le_iff_toInt_le, l0] at z
    exact K x (gd_lN (by omega) (by omega))
  · rw [Int64.le_iff_toInt_le, l0] at z
    refine nm_e (K (-x) (gd_lN (by omega) ?_))
    rw [gl_neg (m := 32767) ⟨x1, x2⟩ (by decide)]
    omega
theorem gd_red0 {g g' n W n' W' n1 w1 n1' w1' : Int} (hg : 0 < g) (hg' : 0 < g') (hW : 0 < W) (e : n * W' = n' * W) (s : g * W' = g' * W)
    (h1 : n = g * n1) (h2 : W = g * w1) (h1' : n' = g' * n1') (h2' : W' = g' * w1') : n1 = n1' ∧ w1 = w1' := by
  have p := Int.mul_pos hg hg'
  have ew : w1 = w1' := ge_seq p (by rw [h2, h2'] at s; grind)
  subst ew
  have w0 : 0 < w1 := Int.pos_of_mul_pos_right (h2 ▸ hW) hg
  exact ⟨ge_seq (Int.mul_pos p w0) (by rw [h1, h1', h2, h2'] at e; grind), rfl⟩
/-- two fractions of one value have one form in lowest terms -/
theorem gd_red {n W n' W' : Int} (hW : 0 < W) (hW' : 0 < W') (e : n * W' = n' * W) :
    n.tdiv (Int.gcd n W) = n'.tdiv (Int.gcd n' W') ∧ W.tdiv (Int.gcd n W) = W'.tdiv (Int.gcd n' W') := by
  have g0 : 0 < (Int.gcd n W : Int) := Int.natCast_pos.mpr (Int.gcd_pos_of_ne_zero_right n (by omega))
  have g0' : 0 < (Int.gcd n' W' : Int) := Int.natCast_pos.mpr (Int.gcd_pos_of_ne_zero_right n' (by omega))
  have s : (Int.gcd n W : Int) * W' = (Int.gcd n' W' : Int) * W := by
    have e1 := Int.gcd_mul_right n W' W
    have e2 := Int.gcd_mul_right n' W W'
    rw [e, Int.mul_comm W W'] at e1
    have e3 : Int.gcd n W * W'.natAbs = Int.gcd n' W' * W.natAbs := by rw [← e1, ← e2]
    have e4 := congrArg (fun x : Nat => (x : Int)) e3
    simp only [Int.natCast_mul] at e4
    rw [Int.natAbs_of_nonneg (by omega), Int.natAbs_of_nonneg (by omega)] at e4
    exact e4
  obtain ⟨n1, h1⟩ := Int.gcd_dvd_left n W
  obtain ⟨w1, h2⟩ := Int.gcd_dvd_right n W
  obtain ⟨n1', h1'⟩ := Int.gcd_dvd_left n' W'
  obtain ⟨w1', h2'⟩ := Int.gcd_dvd_right n' W'
  have r := gd_red0 g0 g0' hW e s h1 h2 h1' h2'
  have t1 := Int.mul_tdiv_cancel_left n1 (Int.ne_of_gt g0)
  have t2 := Int.mul_tdiv_cancel_left w1 (Int.ne_of_gt g0)
  have t1' := Int.mul_tdiv_cancel_left n1' (Int.ne_of_gt g0')
  have t2' := Int.mul_tdiv_cancel_left w1' (Int.ne_of_gt g0')
  rw [← h1] at t1
  rw [← h2] at t2
  rw [← h1'] at t1'
  rw [← h2'] at t2'
  exact ⟨by rw [t1, t1', r.1], by rw [t2, t2', r.2]⟩
theorem gd_q {x : Int64} {g : Nat} (h0 : 0 < g) (hg : g < 2 ^ 31) : (x / lN g).toInt = x.toInt.tdiv g := by
  rw [Int64.toInt_div_of_ne_right, lN_toInt hg]
  intro z
  have := congrArg Int64.toInt z
  rw [lN_toInt hg, show (-1 : Int64).toInt = -1 from by decide] at this
  omega
/-- what numerator and denominator ask of the two divisors -/
theorem gd_same {x w x' w' : Int64} (hw : ge_bd 162 w.toInt) (hw0 : 0 < w.toInt) (hw' : ge_bd 162 w'.toInt) (hw0' : 0 < w'.toInt) (e : x.toInt * w'.toInt = x'.toInt * w.toInt) :
    (¬ lN (Int.gcd x.toInt w.toInt) = 0 ∧ ¬ lN (Int.gcd x'.toInt w'.toInt) = 0) ∧
    x / lN (Int.gcd x.toInt w.toInt) = x' / lN (Int.gcd x'.toInt w'.toInt) ∧ w / lN (Int.gcd x.toInt w.toInt) = w' / lN (Int.gcd x'.toInt w'.toInt) := by
  have B : ∀ {a b : Int}, 0 < b → ge_bd 162 b → 0 < Int.gcd a b ∧ Int.gcd a b < 2 ^ 31 := by
    intro a b h0 hb
    obtain ⟨b1, b2⟩ := hb
    refine ⟨Int.gcd_pos_of_ne_zero_right a (by omega), ?_⟩
    have := Int.le_of_dvd h0 (Int.gcd_dvd_right a b)
    omega
  have b := B (a := x.toInt) hw0 hw
  have b' := B (a := x'.toInt) hw0' hw'
  have r := gd_red hw0 hw0' e
  refine ⟨⟨fun z => ?_, fun z => ?_⟩, Int64.toInt_inj.mp ?_, Int64.toInt_inj.mp ?_⟩
  · have := (lN_eq (b := 0) b.2 (by decide)).mp z
    omega
  · have := (lN_eq (b := 0) b'.2 (by decide)).mp z
    omega
  · rw [gd_q b.1 b.2, gd_q b'.1 b'.2, r.1]
  · rw [gd_q b.1 b.2, gd_q b'.1 b'.2, r.2]
end
section
/-! ===== the relation ===== -/
/-- the tables: h conditions of the row, l levels; the places below t have been written -/
def zr_tab (h l t : Nat) (A B C S G D E F : Nat → Int32) : Prop :=
  h ≤ t ∧ t ≤ 10 ∧ 1 ≤ l ∧ l ≤ 8 ∧ (∀ i, 1 ≤ i → i < l → ∃ m, m ≤ t ∧ S i = nI (m + 4) ∧ G i = nI m) ∧
  xw_box A B C ∧ (∀ i, i < t → xw_cd A B C (i + 4)) ∧
  (∀ i, i < 10 → D i = A (i + 4) ∧ E i = B (i + 4) ∧ F i = C (i + 4)) ∧ (∀ i, i < 4 → D (i + 10) = A i ∧ E (i + 10) = B i ∧ F (i + 10) = C i)
/-- what is remembered: one point -/
def zr_bst (fr : Int32) (bX bY bW : Int64) (ap aq : Int32) (dX dY dU : Int64) (gp gq : Int32) : Prop :=
  fr = 0 ∨ (fr = 1 ∧ gl_sp bX bY bW ∧ 0 < bW.toInt ∧ gl_sp dX dY dU ∧ 0 < dU.toInt ∧ bX.toInt * dU.toInt = dX.toInt * bW.toInt ∧ bY.toInt * dU.toInt = dY.toInt * bW.toInt ∧
    gp = ap ∧ gq = aq ∧ ge_bd 9 ap.toInt ∧ ge_bd 9 aq.toInt)
/-- the relation at the head of a turn whose first cell is k -/
def i_Rel (_ : Nat) (u : SX) (v : SY) : Prop := match u with
  | (fc, fl, fx, fy, fw, jL, jH, lX, lY, lW, hX, hY, hW, fr, bX, bY, bW, ap, aq, A, B, C, S) => match v with
    | (gh, gl, cX, cY, cU, gk, dX, dY, dU, gp, gq, G, D, E, F) => ∃ h l t : Nat, fc = nI (h + 4) ∧ gh = nI h ∧ fl = nI l ∧ gl = nI l ∧ gk = fr ∧ zr_tab h l t A B C S G D E F ∧ zr_bst fr bX bY bW ap aq dX dY dU gp gq
theorem zr_in {k h l t : Nat} {fx fy fw : Int64} {jL jH : Int32} {lX lY lW hX hY hW : Int64} {fr : Int32} {bX bY bW : Int64} {ap aq : Int32} {A B C S : Nat → Int32}
    {cX cY cU : Int64} {dX dY dU : Int64} {gp gq : Int32} {G D E F : Nat → Int32} (T : zr_tab h l t A B C S G D E F) (M : zr_bst fr bX bY bW ap aq dX dY dU gp gq) :
    i_Rel k (nI (h + 4), nI l, fx, fy, fw, jL, jH, lX, lY, lW, hX, hY, hW, fr, bX, bY, bW, ap, aq, A, B, C, S) (nI h, nI l, cX, cY, cU, fr, dX, dY, dU, gp, gq, G, D, E, F) := ⟨h, l, t, rfl, rfl, rfl, rfl, rfl, T, M⟩
theorem zr_el {k : Nat} {u : SX} {v : SY} {P : SX → SY → Prop}
    (H : ∀ (h l t : Nat) (fx fy fw : Int64) (jL jH : Int32) (lX lY lW hX hY hW : Int64) (fr : Int32) (bX bY bW : Int64) (ap aq : Int32) (A B C S : Nat → Int32)
      (cX cY cU : Int64) (dX dY dU : Int64) (gp gq : Int32) (G D E F : Nat → Int32), zr_tab h l t A B C S G D E F → zr_bst fr bX bY bW ap aq dX dY dU gp gq →
      P (nI (h + 4), nI l, fx, fy, fw, jL, jH, lX, lY, lW, hX, hY, hW, fr, bX, bY, bW, ap, aq, A, B, C, S) (nI h, nI l, cX, cY, cU, fr, dX, dY, dU, gp, gq, G, D, E, F)) (I : i_Rel k u v) : P u v := by
  obtain ⟨fc, fl, fx, fy, fw, jL, jH, lX, lY, lW, hX, hY, hW, fr, bX, bY, bW, ap, aq, A, B, C, S⟩ := u
  obtain ⟨gh, gl, cX, cY, cU, gk, dX, dY, dU, gp, gq, G, D, E, F⟩ := v
  obtain ⟨h, l, t, rfl, rfl, rfl, rfl, rfl, T, M⟩ := I
  exact H h l t _ _ _ _ _ _ _ _ _ _ _ _ _ _ _ _ _ _ _ _ _ _ _ _ _ _ _ _ _ _ _ _ _ T M
theorem i_up {k : Nat} {u : SX} {v : SY} (h : i_Rel k u v) : i_Rel (k + 4) u v :=
  zr_el (P := fun u v => i_Rel (k + 4) u v) (fun _ _ _ _ _ _ _ _ _ _ _ _ _ _ _ _ _ _ _ _ _ _ _ _ _ _ _ _ _ _ _ _ _ _ _ _ T M => zr_in T M) h
section
variable {h l t : Nat} {A B C S G D E F : Nat → Int32}
theorem zr_cdX (T : zr_tab h l t A B C S G D E F) : ∀ i, i < h + 4 → xw_cd A B C i := by
  obtain ⟨h1, h2, _, _, _, bx, hc, _, _⟩ := T
  obtain ⟨⟨a0, b0, c0⟩, ⟨a1, b1, c1⟩, ⟨a2, b2, c2⟩, ⟨a3, b3, c3⟩⟩ := bx
  intro i hi
  by_cases e : i < 4
  · have : i = 0 ∨ i = 1 ∨ i = 2 ∨ i = 3 := by omega
    unfold xw_cd ge_bd
    rcases this with rfl | rfl | rfl | rfl
    · rw [a0, b0, c0]; decide
    · rw [a1, b1, c1]; decide
    · rw [a2, b2, c2]; decide
    · rw [a3, b3, c3]; decide
  · have := hc (i - 4) (by omega)
    rw [show i - 4 + 4 = i by omega] at this
    exact this
theorem zr_cdY (T : zr_tab h l t A B C S G D E F) : ∀ i, i < 14 → (i < h ∨ 10 ≤ i) → xw_cd D E F i := by
  intro i hi o
  have cx := zr_cdX T
  obtain ⟨h1, h2, _, _, _, _, _, r1, r2⟩ := T
  unfold xw_cd
  by_cases e : i < 10
  · obtain ⟨e1, e2, e3⟩ := r1 i e
    rw [e1, e2, e3]
    exact cx (i + 4) (by omega)
  · obtain ⟨e1, e2, e3⟩ := r2 (i - 10) (by omega)
    rw [show i - 10 + 10 = i by omega] at e1 e2 e3
    rw [e1, e2, e3]
    exact cx (i - 10) (by omega)
theorem zr_K (T : zr_tab h l t A B C S G D E F) {wo : Nat} (hw : wo < 10 ∨ 14 ≤ wo) : xw_K A B C (wo + 4) (h + 4) = yw_K D E F h wo := by
  obtain ⟨h1, h2, _, _, _, _, _, r1, r2⟩ := T
  funext a b c
  apply propext
  constructor
  · rintro ⟨i, hi, hn, ea, eb, ec⟩
    by_cases e : i < 4
    · obtain ⟨e1, e2, e3⟩ := r2 i e
      exact ⟨i + 10, by omega, ⟨by omega, .inr (by omega)⟩, by rw [e1]; exact ea, by rw [e2]; exact eb, by rw [e3]; exact ec⟩
    · obtain ⟨e1, e2, e3⟩ := r1 (i - 4) (by omega)
      rw [show i - 4 + 4 = i by omega] at e1 e2 e3
      exact ⟨i - 4, by omega, ⟨by omega, .inl (by omega)⟩, by rw [e1]; exact ea, by rw [e2]; exact eb, by rw [e3]; exact ec⟩
  · rintro ⟨i, hi, ⟨hn, ho⟩, ea, eb, ec⟩
    by_cases e : i < 10
    · obtain ⟨e1, e2, e3⟩ := r1 i e
      rw [e1] at ea
      rw [e2] at eb
      rw [e3] at ec
      exact ⟨i + 4, by omega, by omega, ea, eb, ec⟩
    · obtain ⟨e1, e2, e3⟩ := r2 (i - 10) (by omega)
      rw [show i - 10 + 10 = i by omega] at e1 e2 e3
      rw [e1] at ea
      rw [e2] at eb
      rw [e3] at ec
      exact ⟨i - 10, by omega, by omega, ea, eb, ec⟩
theorem zr_m1 : ∀ i, i < 14 → (nI i = -1 ↔ i = 95 + 4) := by
  intro i hi
  rw [yw_m1 i hi]
  omega
end
theorem zr_if {c d A B : Prop} (e : c ↔ d) (f : d → A) (g : ¬ d → B) : (c → A) ∧ (¬ c → B) :=
  ⟨fun z => f (e.mp z), fun z => g (fun y => z (e.mpr y))⟩
def zr_cd (a b c : Int32) : Prop := ge_bd 9 a.toInt ∧ ge_bd 9 b.toInt ∧ ge_bd 99 c.toInt ∧ ¬ (a.toInt = 0 ∧ b.toInt = 0)
theorem zr_c1 (x : Int32) : x < -9 ↔ x.toInt < -9 := by rw [gi_lt, gi_m9]
theorem zr_c2 (x : Int32) : 9 < x ↔ 9 < x.toInt := by rw [gi_lt, gi_9]
theorem zr_c3 (x : Int32) : x < -99 ↔ x.toInt < -99 := by rw [gi_lt, gi_m99]
theorem zr_c4 (x : Int32) : 99 < x ↔ 99 < x.toInt := by rw [gi_lt, gi_99]
theorem zr_c5 (x : Int32) : x = 0 ↔ x.toInt = 0 := by rw [gi_eq, gi_0]
theorem zr_c6 (x : Int32) : x ≤ 9 ↔ x.toInt ≤ 9 := by rw [gi_le, gi_9]
theorem zr_isc {post : Int32 → Prop} {a b c : Int32} (h1 : zr_cd a b c → post 1) (h0 : ¬ zr_cd a b c → post 0) : wpX_isCondition post a b c := by
  have b0 : post 0 → wX_isCondition_40 post a b := fun h => by
    unfold wX_isCondition_40 wX_isCondition_41
    exact br_t rfl h
  unfold zr_cd ge_bd at h1 h0
  refine zr_if (zr_c1 a) (fun z => b0 (h0 ?_)) (fun z1 => zr_if (zr_c2 a) (fun z => b0 (h0 ?_)) (fun z2 => zr_if (zr_c1 b) (fun z => b0 (h0 ?_)) (fun z3 => zr_if (zr_c2 b) (fun z => b0 (h0 ?_)) (fun z4 => zr_if (zr_c3 c) (fun z => b0 (h0 ?_)) (fun z5 => zr_if (zr_c4 c) (fun z => b0 (h0 ?_)) (fun z6 => ?_))))))
  · omega
  · omega
  · omega
  · omega
  · omega
  · omega
  · unfold wX_isCondition_41
    refine br_f (by decide) (zr_if (zr_c5 a) (fun e => zr_if (zr_c5 b) (fun e' => h0 ?_) (fun e' => h1 ?_)) (fun e => h1 ?_))
    · omega
    · omega
    · omega
theorem zr_bad {post : Int32 → Prop} {a b c : Int32} (h1 : zr_cd a b c → post 0) (h0 : ¬ zr_cd a b c → post 1) : wpY_bad post a b c := by
  unfold zr_cd ge_bd at h1 h0
  refine zr_if (zr_c1 a) (fun z => h0 ?_) (fun z1 => zr_if (zr_c2 a) (fun z => h0 ?_) (fun z2 => zr_if (zr_c1 b) (fun z => h0 ?_) (fun z3 => zr_if (zr_c2 b) (fun z => h0 ?_) (fun z4 => zr_if (zr_c3 c) (fun z => h0 ?_) (fun z5 => zr_if (zr_c4 c) (fun z => h0 ?_) (fun z6 => zr_if (zr_c5 a) (fun e => zr_if (zr_c5 b) (fun e' => h0 ?_) (fun e' => h1 ?_)) (fun e => h1 ?_)))))))
  · omega
  · omega
  · omega
  · omega
  · omega
  · omega
  · omega
  · omega
  · omega
end
section
/-! ===== constructors, add, push, pop ===== -/
theorem zr_m4 (m : Nat) : nI m = nI (m + 4) - 4 := by
  rw [show (4 : Int32) = nI 4 from rfl, pk_sub (by omega), Nat.add_sub_cancel]
theorem zr_tab0 : zr_tab 0 1 0 (upd (upd (fun _ => 0) 0 1) 1 (-1)) (upd (upd (fun _ => 0) 2 1) 3 (-1)) (upd (upd (upd (upd (fun _ => 0) 0 50) 1 50) 2 50) 3 50) (upd (fun _ => 0) 0 4)
    (fun _ => 0) (upd (upd (upd (upd (fun _ => 0) 10 1) 11 (-1)) 12 0) 13 0) (upd (upd (upd (upd (fun _ => 0) 10 0) 11 0) 12 1) 13 (-1)) (upd (upd (upd (upd (fun _ => 0) 10 50) 11 50) 12 50) 13 50) := by
  refine ⟨by omega, by omega, by omega, by omega, fun i h1 h2 => by omega, ?_, fun i hi => by omega, fun i hi => ?_, fun i hi => ?_⟩
  · exact ⟨⟨rfl, rfl, rfl⟩, ⟨rfl, rfl, rfl⟩, ⟨rfl, rfl, rfl⟩, ⟨rfl, rfl, rfl⟩⟩
  · have n : i ≠ 10 ∧ i ≠ 11 ∧ i ≠ 12 ∧ i ≠ 13 := by omega
    have m : i + 4 ≠ 0 ∧ i + 4 ≠ 1 ∧ i + 4 ≠ 2 ∧ i + 4 ≠ 3 := by omega
    rw [pk_un n.2.2.2, pk_un n.2.2.1, pk_un n.2.1, pk_un n.1, pk_un n.2.2.2, pk_un n.2.2.1, pk_un n.2.1, pk_un n.1, pk_un n.2.2.2, pk_un n.2.2.1, pk_un n.2.1, pk_un n.1]
    rw [pk_un m.2.1, pk_un m.1, pk_un m.2.2.2, pk_un m.2.2.1, pk_un m.2.2.2, pk_un m.2.2.1, pk_un m.2.1, pk_un m.1]
    exact ⟨rfl, rfl, rfl⟩
  · have : i = 0 ∨ i = 1 ∨ i = 2 ∨ i = 3 := by omega
    rcases this with rfl | rfl | rfl | rfl <;> exact ⟨rfl, rfl, rfl⟩
theorem zr_init66 {post : SX → Prop} {fc fl : Int32} {fx fy fw : Int64} {jL jH : Int32} {lX lY lW hX hY hW : Int64} {fr : Int32} {bX bY bW : Int64} {ap aq : Int32} {A B C S : Nat → Int32} {n i : Nat} (hi : i < 4)
    (H : wX_init_66 post fc fl fx fy fw jL jH lX lY lW hX hY hW fr bX bY bW ap aq n (nI (i + 1)) A B (upd C i 50) S) : wX_init_66 post fc fl fx fy fw jL jH lX lY lW hX hY hW fr bX bY bW ap aq (n + 1) (nI i) A B C S := by
  refine br_f (nI_ge (b := 4) hi (by decide)) (And.intro (vp_in_nI (by omega) (by decide)) (nm_r (e' := upd C i 50) (by rw [nI_clamp (by omega)]) (nm_r (nI_1 i) H)))
theorem i_vc0 : wpX_init (fun u => wpY_init (fun v => i_Rel 0 u v)) := by
  refine nm_e (nm_e (nm_e (nm_e ⟨5, ?_⟩)))
  refine zr_init66 (i := 0) (by omega) (zr_init66 (by omega) (zr_init66 (by omega) (zr_init66 (by omega) (br_t (by decide) (nm_e ?_)))))
  have v10 : vp_in 10 14 := vp_in_nI (n := 10) (by omega) (by decide)
  have v11 : vp_in 11 14 := vp_in_nI (n := 11) (by omega) (by decide)
  have v12 : vp_in 12 14 := vp_in_nI (n := 12) (by omega) (by decide)
  have v13 : vp_in 13 14 := vp_in_nI (n := 13) (by omega) (by decide)
  refine And.intro v10 (nm_e (And.intro v10 (nm_e (And.intro v10 (nm_e ?_)))))
  refine And.intro v11 (nm_e (And.intro v11 (nm_e (And.intro v11 (nm_e ?_)))))
  refine And.intro v12 (nm_e (And.intro v12 (nm_e (And.intro v12 (nm_e ?_)))))
  refine And.intro v13 (nm_e (And.intro v13 (nm_e (And.intro v13 (nm_e ?_)))))
  exact zr_in (h := 0) (l := 1) (t := 0) zr_tab0 (.inl rfl)
section
variable {h l t : Nat} {A B C S G D E F : Nat → Int32}
theorem zr_tab_add (T : zr_tab h l t A B C S G D E F) (h10 : h < 10) {a b c : Int32} (z : zr_cd a b c) :
    ∃ t', zr_tab (h + 1) l t' (upd A (h + 4) a) (upd B (h + 4) b) (upd C (h + 4) c) S G (upd D h a) (upd E h b) (upd F h c) := by
  obtain ⟨h1, h2, h3, h4, h5, bx, hc, r1, r2⟩ := T
  have q : ∃ t', h + 1 ≤ t' ∧ t ≤ t' ∧ t' ≤ 10 ∧ (t' = t ∨ t' = h + 1) := by
    by_cases e : h < t
    · exact ⟨t, by omega⟩
    · exact ⟨h + 1, by omega⟩
  obtain ⟨t', q1, q2, q3, q4⟩ := q
  refine ⟨t', q1, q3, h3, h4, fun i i1 i2 => ?_, ?_, fun i hi => ?_, fun i hi => ?_, fun i hi => ?_⟩
  · obtain ⟨m, m1, m2⟩ := h5 i i1 i2
    exact ⟨m, by omega, m2⟩
  · unfold xw_box at bx ⊢
    have n : 0 ≠ h + 4 ∧ 1 ≠ h + 4 ∧ 2 ≠ h + 4 ∧ 3 ≠ h + 4 := by omega
    simp only [pk_un n.1, pk_un n.2.1, pk_un n.2.2.1, pk_un n.2.2.2]
    exact bx
  · unfold xw_cd
    by_cases e : i = h
    · subst e
      rw [pk_us, pk_us, pk_us]
      exact z
    · have n : i + 4 ≠ h + 4 := by omega
      rw [pk_un n, pk_un n, pk_un n]
      exact hc i (by omega)
  · by_cases e : i = h
    · subst e
      rw [pk_us, pk_us, pk_us, pk_us, pk_us, pk_us]
      exact ⟨rfl, rfl, rfl⟩
    · have n : i + 4 ≠ h + 4 := by omega
      rw [pk_un e, pk_un e, pk_un e, pk_un n, pk_un n, pk_un n]
      exact r1 i hi
  · have n : i + 10 ≠ h := by omega
    have m : i ≠ h + 4 := by omega
    rw [pk_un n, pk_un n, pk_un n, pk_un m, pk_un m, pk_un m]
    exact r2 i hi
theorem zr_tab_push (T : zr_tab h l t A B C S G D E F) (h8 : l < 8) : zr_tab h (l + 1) t A B C (upd S l (nI (h + 4))) (upd G l (nI h)) D E F := by
  obtain ⟨h1, h2, h3, h4, h5, r⟩ := T
  refine ⟨h1, h2, by omega, by omega, fun i i1 i2 => ?_, r⟩
  by_cases e : i = l
  · subst e
    rw [pk_us, pk_us]
    exact ⟨h, h1, rfl, rfl⟩
  · rw [pk_un e, pk_un e]
    exact h5 i i1 (by omega)
theorem zr_tab_pop (T : zr_tab h (l + 1) t A B C S G D E F) (h1 : 1 ≤ l) : ∃ m, S l = nI (m + 4) ∧ G l = nI m ∧ m ≤ 10 ∧ zr_tab m l t A B C S G D E F := by
  obtain ⟨g1, g2, g3, g4, g5, r⟩ := T
  obtain ⟨m, m1, m2, m3⟩ := g5 l h1 (by omega)
  exact ⟨m, m2, m3, by omega, m1, g2, h1, by omega, fun i i1 i2 => g5 i i1 (by omega), r⟩
end
theorem i_vc_add {k : Nat} {u : SX} {v : SY} (I : i_Rel k u v) (hk : k + 4 ≤ 2048) (v1 : Int32) (v2 : Int32) (v3 : Int32) : wpX_add (fun r u' => wpY_add (fun r' v' => r' = r ∧ i_Rel (k + 4) u' v') v v1 v2 v3) u v1 v2 v3 := by
  refine zr_el (P := fun u v => wpX_add (fun r u' => wpY_add (fun r' v' => r' = r ∧ i_Rel (k + 4) u' v') v v1 v2 v3) u v1 v2 v3) ?_ I
  intro h l t fx fy fw jL jH lX lY lW hX hY hW fr bX bY bW ap aq A B C S cX cY cU dX dY dU gp gq G D E F T M
  have ht : h ≤ 10 := by
    have := T.1
    have := T.2.1
    omega
  refine zr_isc (fun z => br_f (by decide) ?_) (fun z => br_t rfl ?_)
  rotate_left
  · dsimp only [wpY_add]
    exact zr_bad (fun z' => absurd z' z) (fun _ => br_f (by decide) ⟨rfl, zr_in T M⟩)
  by_cases e : h < 10
  · have i1 : vp_in (nI (h + 4)) 14 := vp_in_nI (by omega) (by decide)
    have c1 : (nI (h + 4)).toNatClampNeg = h + 4 := nI_clamp (by omega)
    have i2 : vp_in (nI h) 14 := vp_in_nI (by omega) (by decide)
    have c2 : (nI h).toNatClampNeg = h := nI_clamp (by omega)
    refine br_t (nI_lt (b := 14) (by omega) (by decide)) (And.intro i1 (nm_r (e' := upd A (h + 4) v1) (by rw [c1]) (And.intro i1 (nm_r (e' := upd B (h + 4) v2) (by rw [c1]) (And.intro i1 (nm_r (e' := upd C (h + 4) v3) (by rw [c1]) (nm_r (e' := nI (h + 1 + 4)) (nI_1 (h + 4)) ?_)))))))
    dsimp only [wpY_add]
    refine zr_bad (fun z' => br_t rfl (br_f (fun y => ?_) (And.intro i2 (nm_r (e' := upd D h v1) (by rw [c2]) (And.intro i2 (nm_r (e' := upd E h v2) (by rw [c2]) (And.intro i2 (nm_r (e' := upd F h v3) (by rw [c2]) (nm_r (e' := nI (h + 1)) (nI_1 h) ?_))))))))) (fun z' => absurd z z')
    · have := (nI_eq (b := 10) (by omega) (by decide)).mp y
      omega
    · obtain ⟨t', T'⟩ := zr_tab_add T e z
      exact ⟨zr_m4 _, zr_in T' M⟩
  · have e' : h = 10 := by omega
    subst e'
    refine br_f (by decide) ?_
    dsimp only [wpY_add]
    exact zr_bad (fun z' => br_t rfl (br_t (by decide) ⟨rfl, zr_in T M⟩)) (fun z' => absurd z z')
theorem i_vc_push {k : Nat} {u : SX} {v : SY} (I : i_Rel k u v) (hk : k + 4 ≤ 2048) : wpX_push (fun r u' => wpY_push (fun r' v' => r' = r ∧ i_Rel (k + 4) u' v') v) u := by
  refine zr_el (P := fun u v => wpX_push (fun r u' => wpY_push (fun r' v' => r' = r ∧ i_Rel (k + 4) u' v') v) u) ?_ I
  intro h l t fx fy fw jL jH lX lY lW hX hY hW fr bX bY bW ap aq A B C S cX cY cU dX dY dU gp gq G D E F T M
  have l8 : l ≤ 8 := T.2.2.2.1
  by_cases e : l < 8
  · have i1 : vp_in (nI l) 8 := vp_in_nI (by omega) (by decide)
    have c1 : (nI l).toNatClampNeg = l := nI_clamp (by omega)
    refine br_t (nI_lt (b := 8) e (by decide)) (And.intro i1 (nm_r (e' := upd S l (nI (h + 4))) (by rw [c1]) (nm_r (e' := nI (l + 1)) (nI_1 l) ?_)))
    refine br_f (fun y => ?_) (And.intro i1 (nm_r (e' := upd G l (nI h)) (by rw [c1]) (nm_r (e' := nI (l + 1)) (nI_1 l) ⟨rfl, zr_in (zr_tab_push T e) M⟩)))
    have := (nI_eq (b := 8) (by omega) (by decide)).mp y
    omega
  · have e' : l = 8 := by omega
    subst e'
    exact br_f (by decide) (br_t (by decide) ⟨rfl, zr_in T M⟩)
theorem i_vc_pop {k : Nat} {u : SX} {v : SY} (I : i_Rel k u v) (hk : k + 4 ≤ 2048) : wpX_pop (fun r u' => wpY_pop (fun r' v' => r' = r ∧ i_Rel (k + 4) u' v') v) u := by
  refine zr_el (P := fun u v => wpX_pop (fun r u' => wpY_pop (fun r' v' => r' = r ∧ i_Rel (k + 4) u' v') v) u) ?_ I
  intro h l t fx fy fw jL jH lX lY lW hX hY hW fr bX bY bW ap aq A B C S cX cY cU dX dY dU gp gq G D E F T M
  have l1 : 1 ≤ l := T.2.2.1
  have l8 : l ≤ 8 := T.2.2.2.1
  obtain ⟨l, rfl⟩ : ∃ m, l = m + 1 := ⟨l - 1, by omega⟩
  by_cases e : 1 ≤ l
  · have i1 : vp_in (nI l) 8 := vp_in_nI (by omega) (by decide)
    have c1 : (nI l).toNatClampNeg = l := nI_clamp (by omega)
    obtain ⟨m, m1, m2, m3, T'⟩ := zr_tab_pop T e
    refine br_t (nI_lt (a := 1) (by omega) (by omega)) (nm_r (e' := nI l) (nI_pred l) (And.intro i1 (nm_r (e' := nI (m + 4)) (by rw [c1]; exact m1) ?_)))
    refine br_f (fun y => ?_) (nm_r (e' := nI l) (nI_pred l) (And.intro i1 (nm_r (e' := nI m) (by rw [c1]; exact m2) ⟨zr_m4 _, zr_in T' M⟩)))
    have := (nI_eq (b := 1) (by omega) (by decide)).mp y
    omega
  · have e' : l = 0 := by omega
    subst e'
    exact br_f (by decide) (br_t (by decide) ⟨rfl, zr_in T M⟩)
end
section
/-! ===== possible and best ===== -/
theorem i_vc_possible {k : Nat} {u : SX} {v : SY} (I : i_Rel k u v) (hk : k + 4 ≤ 2048) : wpX_possible (fun r u' => wpY_possible (fun r' v' => r' = r ∧ i_Rel (k + 4) u' v') v) u := by
  refine zr_el (P := fun u v => wpX_possible (fun r u' => wpY_possible (fun r' v' => r' = r ∧ i_Rel (k + 4) u' v') v) u) ?_ I
  intro h l t fx fy fw jL jH lX lY lW hX hY hW fr bX bY bW ap aq A B C S cX cY cU dX dY dU gp gq G D E F T M
  have ht : h ≤ 10 := by
    have := T.1
    have := T.2.1
    omega
  have eK := zr_K T (wo := 95) (by omega)
  have b0 : ge_bd 9 (0 : Int32).toInt := by unfold ge_bd; decide
  unfold wpX_possible
  refine xw_solve (m := h + 4) (wo := 95 + 4) (by omega) (by omega) (zr_cdX T) T.2.2.2.2.2.1 (by omega) zr_m1 b0 b0 ?_ ?_
  · intro fx fy fw jL jH lX lY lW hX hY hW n
    rw [eK] at n
    exact br_t rfl (yw_possible ht (zr_cdY T) (fun cX cY cU _ => ⟨rfl, zr_in T M⟩) (fun cX cY cU _ f => absurd f (n _ _ _)))
  · intro fx fy fw jL jH lX lY lW hX hY hW b
    rw [eK] at b
    exact br_f (by decide) (yw_possible ht (zr_cdY T) (fun cX cY cU n => absurd b.1 (n _ _ _ b.2.1)) (fun cX cY cU _ _ => ⟨rfl, zr_in T M⟩))
theorem zr_fit0 : fits .boolean (.int 0) = true := by decide
theorem zr_fit1 : fits .boolean (.int 1) = true := by decide
theorem i_vc_best {k : Nat} {u : SX} {v : SY} (I : i_Rel k u v) (hk : k + 4 ≤ 2048) (v1 : Int32) (v2 : Int32) : wpX_best (fun r u' => wpY_best (fun r' v' => r' = r ∧ i_Rel (k + 4) u' v') v v1 v2) u v1 v2 := by
  refine zr_el (P := fun u v => wpX_best (fun r u' => wpY_best (fun r' v' => r' = r ∧ i_Rel (k + 4) u' v') v v1 v2) u v1 v2) ?_ I
  intro h l t fx fy fw jL jH lX lY lW hX hY hW fr bX bY bW ap aq A B C S cX cY cU dX dY dU gp gq G D E F T M
  have ht : h ≤ 10 := by
    have := T.1
    have := T.2.1
    omega
  have eK := zr_K T (wo := 95) (by omega)
  refine br_c (fun z => br_t z ⟨rfl, zr_in T M⟩) (fun z1 => br_c (fun z => br_f z1 (br_t z ⟨rfl, zr_in T M⟩)) (fun z2 => br_c (fun z => br_f z1 (br_f z2 (br_t z ⟨rfl, zr_in T M⟩))) (fun z3 => br_c (fun z4 => ?_) (fun z => br_f z1 (br_f z2 (br_f z3 (br_f z ⟨rfl, zr_in T M⟩)))))))
  have hp : ge_bd 9 v1.toInt := by
    rw [zr_c1] at z1
    rw [zr_c2] at z2
    exact ⟨by omega, by omega⟩
  have hq : ge_bd 9 v2.toInt := by
    rw [zr_c1] at z3
    rw [zr_c6] at z4
    exact ⟨by omega, by omega⟩
  refine xw_solve (m := h + 4) (wo := 95 + 4) (by omega) (by omega) (zr_cdX T) T.2.2.2.2.2.1 (by omega) zr_m1 hp hq ?_ ?_
  · intro fx fy fw jL jH lX lY lW hX hY hW n
    rw [eK] at n
    refine ⟨narrow_b0, zr_fit0, br_t rfl (br_f z1 (br_f z2 (br_f z3 (br_t z4 ?_))))⟩
    exact yw_search ht (zr_cdY T) hp hq (fun cX cY cU dX dY dU _ => ⟨narrow_b0, zr_fit0, br_t rfl ⟨rfl, zr_in T (.inl rfl)⟩⟩) (fun cX cY cU dX dY dU _ f _ => absurd f (n _ _ _))
  · intro fx fy fw jL jH lX lY lW hX hY hW b
    rw [eK] at b
    refine ⟨narrow_b1, zr_fit1, br_f (by decide) (br_f z1 (br_f z2 (br_f z3 (br_t z4 ?_))))⟩
    refine yw_search ht (zr_cdY T) hp hq (fun cX cY cU dX dY dU n => absurd b.1 (n _ _ _ b.2.1)) (fun cX cY cU dX dY dU c f n => ⟨narrow_b1, zr_fit1, br_f (by decide) ⟨rfl, zr_in T (.inr ⟨rfl, ?_⟩)⟩⟩)
    have sm : ge_sm (yw_K D E F h 95) := yw_sm (zr_cdY T)
    have e := ge_same b.2.2 f (n _ _ _ b.2.1 b.1)
    exact ⟨ge_C_sp sm b.2.1, b.1.1, ge_C_sp sm c, f.1, e.1, e.2, rfl, rfl, hp, hq⟩
end
section
/-! ===== spare ===== -/
noncomputable def zr_b (p : Prop) : Nat := @ite Nat p (Classical.propDecidable p) 1 0
theorem zr_b1 {p : Prop} (h : p) : zr_b p = 1 := @if_pos p (Classical.propDecidable p) h Nat 1 0
theorem zr_b0 {p : Prop} (h : ¬ p) : zr_b p = 0 := @if_neg p (Classical.propDecidable p) h Nat 1 0
noncomputable def zr_cnt (P : Nat → Prop) : Nat → Nat
  | 0 => 0
  | n + 1 => zr_cnt P n + zr_b (P n)
theorem zr_cnt1 {P : Nat → Prop} {n : Nat} (h : P n) : nI (zr_cnt P n) + 1 = nI (zr_cnt P (n + 1)) := by
  rw [nI_1]
  show nI (zr_cnt P n + 1) = nI (zr_cnt P n + zr_b (P n))
  rw [zr_b1 h]
theorem zr_cnt0 {P : Nat → Prop} {n : Nat} (h : ¬ P n) : nI (zr_cnt P n) = nI (zr_cnt P (n + 1)) := by
  show nI (zr_cnt P n) = nI (zr_cnt P n + zr_b (P n))
  rw [zr_b0 h, Nat.add_zero]
/-- condition k may be left out -/
def zr_sp (D E F : Nat → Int32) (h k : Nat) : Prop := ∀ X Y W, ge_C (yw_K D E F h k) X Y W → ge_F (yw_K D E F h k) X Y W → (D k).toInt * X + (E k).toInt * Y ≤ (F k).toInt * W
section
variable {h l t : Nat} {fl : Int32} {fx fy fw : Int64} {jL jH : Int32} {lX lY lW hX hY hW : Int64} {fr : Int32} {bX bY bW : Int64} {ap aq : Int32} {A B C S : Nat → Int32}
  {gl : Int32} {cX cY cU : Int64} {gk : Int32} {dX dY dU : Int64} {gp gq : Int32} {G D E F : Nat → Int32}
theorem zr_spX {post : Int32 → SX → Prop} (T : zr_tab h l t A B C S G D E F)
    (H : ∀ (fx fy fw : Int64) (jL jH : Int32) (lX lY lW hX hY hW : Int64), post (nI (zr_cnt (zr_sp D E F h) h)) (nI (h + 4), fl, fx, fy, fw, jL, jH, lX, lY, lW, hX, hY, hW, fr, bX, bY, bW, ap, aq, A, B, C, S)) :
    ∀ (n i : Nat), h < n + i → i ≤ h → ∀ (fx fy fw : Int64) (jL jH : Int32) (lX lY lW hX hY hW : Int64), wX_spare_4 post n (nI (zr_cnt (zr_sp D E F h) i)) (nI (i + 4)) (nI (h + 4)) fl fx fy fw jL jH lX lY lW hX hY hW fr bX bY bW ap aq A B C S := by
  have ht : h ≤ 10 := by
    have := T.1
    have := T.2.1
    omega
  have hc := zr_cdX T
  intro n
  induction n with
  | zero => intro i g1 g2; omega
  | succ n ih =>
    intro i hn hi fx fy fw jL jH lX lY lW hX hY hW
    by_cases e : i = h
    · subst e
      exact br_t (Int32.le_refl _) (H _ _ _ _ _ _ _ _ _ _ _)
    · have lt : i < h := by omega
      have iv : vp_in (nI (i + 4)) 14 := vp_in_nI (by omega) (by decide)
      have cv : (nI (i + 4)).toNatClampNeg = i + 4 := nI_clamp (by omega)
      have ci := hc (i + 4) (by omega)
      have eK := zr_K T (wo := i) (by omega)
      obtain ⟨e1, e2, e3⟩ := T.2.2.2.2.2.2.2.1 i (by omega)
      have nx : ∀ (fx fy fw : Int64) (jL jH : Int32) (lX lY lW hX hY hW : Int64), ∀ x, x = nI (i + 4) + 1 → wX_spare_4 post n (nI (zr_cnt (zr_sp D E F h) (i + 1))) x (nI (h + 4)) fl fx fy fw jL jH lX lY lW hX hY hW fr bX bY bW ap aq A B C S :=
        fun fx fy fw jL jH lX lY lW hX hY hW => nm_r (e' := nI (i + 1 + 4)) (nI_1 (i + 4)) (ih (i + 1) (by omega) (by omega) fx fy fw jL jH lX lY lW hX hY hW)
      refine br_f (nI_ge (by omega) (by omega)) (And.intro iv (And.intro iv ?_))
      rw [cv]
      refine xw_solve (m := h + 4) (wo := i + 4) (by omega) (by omega) hc T.2.2.2.2.2.1 (by omega) (fun j hj => nI_eq (by omega) (by omega)) ci.1 ci.2.1 ?_ ?_
      · intro fx fy fw jL jH lX lY lW hX hY hW f
        rw [eK] at f
        have sp : zr_sp D E F h i := fun X Y W _ g => absurd g (f X Y W)
        exact br_t rfl (nm_r (zr_cnt1 sp) (nx _ _ _ _ _ _ _ _ _ _ _))
      · intro fx fy fw jL jH lX lY lW hX hY hW b
        rw [eK] at b
        have sm : ge_sm (yw_K D E F h i) := yw_sm (zr_cdY T)
        refine br_f (by decide) (xw_meets (by omega) ci (ge_C_sp sm b.2.1) (fun v => br_t rfl ?_) (fun v => br_f (by decide) ?_))
        · have sp : ¬ zr_sp D E F h i := fun s => by
            have q := s _ _ _ b.2.1 b.1
            rw [e1, e2, e3] at q
            omega
          exact nm_r (e' := nI (zr_cnt (zr_sp D E F h) (i + 1))) (by rw [Int32.add_zero]; exact zr_cnt0 sp) (nx _ _ _ _ _ _ _ _ _ _ _)
        · have sp : zr_sp D E F h i := fun X Y W _ g => by
            rw [e1, e2, e3]
            exact ge_far b.2.2 b.1.1 v g
          exact nm_r (zr_cnt1 sp) (nx _ _ _ _ _ _ _ _ _ _ _)
theorem zr_spY {post : Int32 → SY → Prop} (T : zr_tab h l t A B C S G D E F)
    (H : ∀ (cX cY cU : Int64), post (nI (zr_cnt (zr_sp D E F h) h)) (nI h, gl, cX, cY, cU, gk, dX, dY, dU, gp, gq, G, D, E, F)) :
    ∀ (n i : Nat), h < n + i → i ≤ h → ∀ (cX cY cU : Int64), wY_spare_4 post n (nI (zr_cnt (zr_sp D E F h) i)) (nI i) (nI h) gl cX cY cU gk dX dY dU gp gq G D E F := by
  have ht : h ≤ 10 := by
    have := T.1
    have := T.2.1
    omega
  intro n
  induction n with
  | zero => intro i g1 g2; omega
  | succ n ih =>
    intro i hn hi cX cY cU
    by_cases e : i = h
    · subst e
      exact br_t (Int32.le_refl _) (H _ _ _)
    · have lt : i < h := by omega
      have nx : ∀ (cX cY cU : Int64), ∀ x, x = nI i + 1 → wY_spare_4 post n (nI (zr_cnt (zr_sp D E F h) (i + 1))) x (nI h) gl cX cY cU gk dX dY dU gp gq G D E F :=
        fun cX cY cU => nm_r (nI_1 i) (ih (i + 1) (by omega) (by omega) cX cY cU)
      refine br_f (nI_ge (by omega) (by omega)) (yw_spared ht lt (zr_cdY T) ?_ ?_)
      · intro cX cY cU c f v
        have sp : ¬ zr_sp D E F h i := fun s => by
          have q := s _ _ _ c f
          omega
        refine br_t rfl ?_
        have q := nx cX cY cU
        rw [← zr_cnt0 sp] at q
        exact q
      · intro cX cY cU s
        exact br_f (by decide) (nm_r (zr_cnt1 s) (nx _ _ _))
end
theorem i_vc_spare {k : Nat} {u : SX} {v : SY} (I : i_Rel k u v) (hk : k + 4 ≤ 2048) : wpX_spare (fun r u' => wpY_spare (fun r' v' => r' = r ∧ i_Rel (k + 4) u' v') v) u := by
  refine zr_el (P := fun u v => wpX_spare (fun r u' => wpY_spare (fun r' v' => r' = r ∧ i_Rel (k + 4) u' v') v) u) ?_ I
  intro h l t fx fy fw jL jH lX lY lW hX hY hW fr bX bY bW ap aq A B C S cX cY cU dX dY dU gp gq G D E F T M
  refine ⟨h + 1, zr_spX T (fun fx fy fw jL jH lX lY lW hX hY hW => ⟨h + 1, zr_spY T (fun cX cY cU => ⟨rfl, zr_in T M⟩) (h + 1) 0 (by omega) (by omega) cX cY cU⟩) (h + 1) 0 (by omega) (by omega) fx fy fw jL jH lX lY lW hX hY hW⟩
end
section
/-! ===== numerator, denominator, test ===== -/
/-- the upper number that both sides take: one value over the two divisors -/
theorem zr_top {bX bY bW dX dY dU : Int64} {ap aq : Int32} (s : gl_sp bX bY bW) (s' : gl_sp dX dY dU) (hp : ge_bd 9 ap.toInt) (hq : ge_bd 9 aq.toInt)
    (e1 : bX.toInt * dU.toInt = dX.toInt * bW.toInt) (e2 : bY.toInt * dU.toInt = dY.toInt * bW.toInt) :
    ge_bd 32767 (ap.toInt64 * bX + aq.toInt64 * bY).toInt ∧ ge_bd 32767 (ap.toInt64 * dX + aq.toInt64 * dY).toInt ∧
    (ap.toInt64 * bX + aq.toInt64 * bY).toInt * dU.toInt = (ap.toInt64 * dX + aq.toInt64 * dY).toInt * bW.toInt := by
  have b1 : ge_bd 32767 (ap.toInt * bX.toInt + aq.toInt * bY.toInt) := ge_bd_le (ge_bd_add (ge_bd_mul hp s.1) (ge_bd_mul hq s.2.1)) (by decide)
  have b2 : ge_bd 32767 (ap.toInt * dX.toInt + aq.toInt * dY.toInt) := ge_bd_le (ge_bd_add (ge_bd_mul hp s'.1) (ge_bd_mul hq s'.2.1)) (by decide)
  rw [gl_lin, gl_lin, gl_of b1 (by decide), gl_of b2 (by decide)]
  refine ⟨b1, b2, ?_⟩
  have q1 : ap.toInt * (bX.toInt * dU.toInt) = ap.toInt * (dX.toInt * bW.toInt) := by rw [e1]
  have q2 : aq.toInt * (bY.toInt * dU.toInt) = aq.toInt * (dY.toInt * bW.toInt) := by rw [e2]
  grind
theorem zr_bd7 {x : Int} (h : ge_bd 1782 x) : ge_bd 32767 x := ge_bd_le h (by decide)
def zr_sel (w : Int32) (x y z : Int64) : Int64 := if w = 1 then x else if w = 2 then y else z
section
variable {fc fl : Int32} {fx fy fw : Int64} {jL jH : Int32} {lX lY lW hX hY hW : Int64} {fr : Int32} {bX bY bW : Int64} {ap aq : Int32} {A B C S : Nat → Int32}
  {gh gl : Int32} {cX cY cU : Int64} {gk : Int32} {dX dY dU : Int64} {gp gq : Int32} {G D E F : Nat → Int32}
theorem zr_upX {post : Int64 → Prop} {w : Int32} (h : post (zr_sel w bX bY (ap.toInt64 * bX + aq.toInt64 * bY))) : wpX_upper post (fc, fl, fx, fy, fw, jL, jH, lX, lY, lW, hX, hY, hW, fr, bX, bY, bW, ap, aq, A, B, C, S) w := by
  unfold zr_sel at h
  refine br_c (fun z => ?_) (fun z => br_c (fun y => ?_) (fun y => ?_))
  · rw [if_pos z] at h; exact h
  · rw [if_neg z, if_pos y] at h; exact h
  · rw [if_neg z, if_neg y] at h; exact h
theorem zr_upY {post : Int64 → Prop} {w : Int32} (h : post (zr_sel w dX dY (gp.toInt64 * dX + gq.toInt64 * dY))) : wpY_top post (gh, gl, cX, cY, cU, gk, dX, dY, dU, gp, gq, G, D, E, F) w := by
  unfold zr_sel at h
  refine br_c (fun z => ?_) (fun z => br_c (fun y => ?_) (fun y => ?_))
  · rw [if_pos z] at h; exact h
  · rw [if_neg z, if_pos y] at h; exact h
  · rw [if_neg z, if_neg y] at h; exact h
theorem zr_selT (w : Int32) (s : gl_sp bX bY bW) (s' : gl_sp dX dY dU) (hp : ge_bd 9 ap.toInt) (hq : ge_bd 9 aq.toInt)
    (e1 : bX.toInt * dU.toInt = dX.toInt * bW.toInt) (e2 : bY.toInt * dU.toInt = dY.toInt * bW.toInt) :
    ge_bd 32767 (zr_sel w bX bY (ap.toInt64 * bX + aq.toInt64 * bY)).toInt ∧ ge_bd 32767 (zr_sel w dX dY (ap.toInt64 * dX + aq.toInt64 * dY)).toInt ∧
    (zr_sel w bX bY (ap.toInt64 * bX + aq.toInt64 * bY)).toInt * dU.toInt = (zr_sel w dX dY (ap.toInt64 * dX + aq.toInt64 * dY)).toInt * bW.toInt := by
  unfold zr_sel
  by_cases z : w = 1
  · rw [if_pos z, if_pos z]
    exact ⟨zr_bd7 s.1, zr_bd7 s'.1, e1⟩
  by_cases y : w = 2
  · rw [if_neg z, if_neg z, if_pos y, if_pos y]
    exact ⟨zr_bd7 s.2.1, zr_bd7 s'.2.1, e2⟩
  · rw [if_neg z, if_neg z, if_neg y, if_neg y]
    exact zr_top s s' hp hq e1 e2
end
theorem i_vc_numerator {k : Nat} {u : SX} {v : SY} (I : i_Rel k u v) (hk : k + 4 ≤ 2048) (v1 : Int32) : wpX_numerator (fun r => wpY_numerator (fun r' => r' = r ∧ i_Rel (k + 4) u v) v v1) u v1 := by
  refine zr_el (P := fun u v => wpX_numerator (fun r => wpY_numerator (fun r' => r' = r ∧ i_Rel (k + 4) u v) v v1) u v1) ?_ I
  intro h l t fx fy fw jL jH lX lY lW hX hY hW fr bX bY bW ap aq A B C S cX cY cU dX dY dU gp gq G D E F T M
  rcases M with M | M
  · exact br_t M (br_t M ⟨rfl, zr_in T (.inl M)⟩)
  have M' := M
  obtain ⟨m, s, w0, s', w0', e1, e2, rfl, rfl, hp, hq⟩ := M
  have n0 : ¬ fr = 0 := fun z => by rw [m] at z; exact absurd z (by decide)
  have R : i_Rel (k + 4) (nI (h + 4), nI l, fx, fy, fw, jL, jH, lX, lY, lW, hX, hY, hW, fr, bX, bY, bW, gp, gq, A, B, C, S) (nI h, nI l, cX, cY, cU, fr, dX, dY, dU, gp, gq, G, D, E, F) := zr_in T (.inr M')
  have tp := zr_selT v1 s s' hp hq e1 e2
  have g := gd_same s.2.2 w0 s'.2.2 w0' tp.2.2
  refine br_f n0 (br_c (fun z => br_f n0 (br_t z ⟨rfl, R⟩)) (fun z1 => br_c (fun z2 => zr_upX (gd_divX tp.1 s.2.2 w0 ⟨g.1.1, br_f n0 (br_f z1 (br_t z2 (zr_upY (gd_divY tp.2.1 s'.2.2 w0' (br_f g.1.2 ⟨g.1.2, ?_, R⟩)))))⟩)) (fun z => br_f n0 (br_f z1 (br_f z ⟨rfl, R⟩)))))
  rw [g.2.1]
theorem i_vc_denominator {k : Nat} {u : SX} {v : SY} (I : i_Rel k u v) (hk : k + 4 ≤ 2048) (v1 : Int32) : wpX_denominator (fun r => wpY_denominator (fun r' => r' = r ∧ i_Rel (k + 4) u v) v v1) u v1 := by
  refine zr_el (P := fun u v => wpX_denominator (fun r => wpY_denominator (fun r' => r' = r ∧ i_Rel (k + 4) u v) v v1) u v1) ?_ I
  intro h l t fx fy fw jL jH lX lY lW hX hY hW fr bX bY bW ap aq A B C S cX cY cU dX dY dU gp gq G D E F T M
  rcases M with M | M
  · exact br_t M (br_t M ⟨rfl, zr_in T (.inl M)⟩)
  have M' := M
  obtain ⟨m, s, w0, s', w0', e1, e2, rfl, rfl, hp, hq⟩ := M
  have n0 : ¬ fr = 0 := fun z => by rw [m] at z; exact absurd z (by decide)
  have R : i_Rel (k + 4) (nI (h + 4), nI l, fx, fy, fw, jL, jH, lX, lY, lW, hX, hY, hW, fr, bX, bY, bW, gp, gq, A, B, C, S) (nI h, nI l, cX, cY, cU, fr, dX, dY, dU, gp, gq, G, D, E, F) := zr_in T (.inr M')
  have tp := zr_selT v1 s s' hp hq e1 e2
  have g := gd_same s.2.2 w0 s'.2.2 w0' tp.2.2
  refine br_f n0 (br_c (fun z => br_f n0 (br_t z ⟨rfl, R⟩)) (fun z1 => br_c (fun z2 => zr_upX (gd_divX tp.1 s.2.2 w0 ⟨g.1.1, br_f n0 (br_f z1 (br_t z2 (zr_upY (gd_divY tp.2.1 s'.2.2 w0' (br_f g.1.2 ⟨g.1.2, ?_, R⟩)))))⟩)) (fun z => br_f n0 (br_f z1 (br_f z ⟨rfl, R⟩)))))
  rw [g.2.2]
theorem zr_sgn {s s' w w' : Int} (hw : 0 < w) (hw' : 0 < w') (e : s * w' = s' * w) : (s = 0 ↔ s' = 0) ∧ (0 ≤ s ↔ 0 ≤ s') := by
  have f : ∀ {s s' w w' : Int}, 0 < w → 0 < w' → s * w' = s' * w → 0 ≤ s → 0 ≤ s' := fun {s s' w w'} hw hw' e h =>
    Int.nonneg_of_mul_nonneg_left (e ▸ Int.mul_nonneg h (Int.le_of_lt hw')) hw
  have g : ∀ {s s' w w' : Int}, 0 < w → s * w' = s' * w → s = 0 → s' = 0 := fun {s s' w w'} hw e h => by
    rw [h, Int.zero_mul] at e
    rcases Int.mul_eq_zero.mp e.symm with z | z
    · exact z
    · omega
  exact ⟨⟨g hw e, g hw' e.symm⟩, ⟨f hw hw' e, f hw' hw e.symm⟩⟩
theorem i_vc_test {k : Nat} {u : SX} {v : SY} (I : i_Rel k u v) (hk : k + 4 ≤ 2048) (v1 : Int32) (v2 : Int32) (v3 : Int32) : wpX_test (fun r => wpY_test (fun r' => r' = r ∧ i_Rel (k + 4) u v) v v1 v2 v3) u v1 v2 v3 := by
  refine zr_el (P := fun u v => wpX_test (fun r => wpY_test (fun r' => r' = r ∧ i_Rel (k + 4) u v) v v1 v2 v3) u v1 v2 v3) ?_ I
  intro h l t fx fy fw jL jH lX lY lW hX hY hW fr bX bY bW ap aq A B C S cX cY cU dX dY dU gp gq G D E F T M
  rcases M with M | M
  · exact br_t M (br_t M ⟨rfl, zr_in T (.inl M)⟩)
  have M' := M
  obtain ⟨m, s, w0, s', w0', e1, e2, rfl, rfl, hp, hq⟩ := M
  have n0 : ¬ fr = 0 := fun z => by rw [m] at z; exact absurd z (by decide)
  have R : i_Rel (k + 4) (nI (h + 4), nI l, fx, fy, fw, jL, jH, lX, lY, lW, hX, hY, hW, fr, bX, bY, bW, gp, gq, A, B, C, S) (nI h, nI l, cX, cY, cU, fr, dX, dY, dU, gp, gq, G, D, E, F) := zr_in T (.inr M')
  refine br_f n0 (zr_isc (fun c => br_f (by decide) ?_) (fun c => br_t rfl (br_f n0 (zr_bad (fun c' => absurd c' c) (fun _ => br_f (by decide) ⟨rfl, R⟩)))))
  have b1 : ge_bd 100000 (v1.toInt * bX.toInt + v2.toInt * bY.toInt - v3.toInt * bW.toInt) := ge_bd_le (ge_bd_sub (ge_bd_add (ge_bd_mul c.1 s.1) (ge_bd_mul c.2.1 s.2.1)) (ge_bd_mul c.2.2.1 s.2.2)) (by decide)
  have b2 : ge_bd 100000 (v1.toInt * dX.toInt + v2.toInt * dY.toInt) := ge_bd_le (ge_bd_add (ge_bd_mul c.1 s'.1) (ge_bd_mul c.2.1 s'.2.1)) (by decide)
  have b3 : ge_bd 100000 (v3.toInt * dU.toInt) := ge_bd_le (ge_bd_mul c.2.2.1 s'.2.2) (by decide)
  have b0 : ge_bd 100000 0 := by unfold ge_bd; decide
  have m1 : v1.toInt64 * bX + v2.toInt64 * bY - v3.toInt64 * bW = Int64.ofInt (v1.toInt * bX.toInt + v2.toInt * bY.toInt - v3.toInt * bW.toInt) := by rw [Int64.ofInt_sub, ← gl_lin, ← gl_cw]
  have sg := zr_sgn w0 w0' (s := v1.toInt * bX.toInt + v2.toInt * bY.toInt - v3.toInt * bW.toInt) (s' := v1.toInt * dX.toInt + v2.toInt * dY.toInt - v3.toInt * dU.toInt) (by
    have q1 : v1.toInt * (bX.toInt * dU.toInt) = v1.toInt * (dX.toInt * bW.toInt) := by rw [e1]
    have q2 : v2.toInt * (bY.toInt * dU.toInt) = v2.toInt * (dY.toInt * bW.toInt) := by rw [e2]
    grind)
  have eY : ∀ {P Q O : Prop}, (v1.toInt * bX.toInt + v2.toInt * bY.toInt - v3.toInt * bW.toInt = 0 → P) → (¬ v1.toInt * bX.toInt + v2.toInt * bY.toInt - v3.toInt * bW.toInt = 0 → 0 ≤ v1.toInt * bX.toInt + v2.toInt * bY.toInt - v3.toInt * bW.toInt → Q) → (¬ 0 ≤ v1.toInt * bX.toInt + v2.toInt * bY.toInt - v3.toInt * bW.toInt → O) →
      ∀ x4 : Int64, x4 = v1.toInt64 * dX + v2.toInt64 * dY → ∀ x6 : Int64, x6 = v3.toInt64 * dU → (x4 = x6 → P) ∧ (¬ x4 = x6 → (x6 ≤ x4 → Q) ∧ (¬ x6 ≤ x4 → O)) := by
    intro P Q O fP fQ fO
    refine nm_r (gl_lin v1 v2 dX dY) (nm_r (gl_cw v3 dU) ?_)
    rw [gl_eq b2 b3 (by decide), gl_le b3 b2 (by decide)]
    refine br_c (fun z => fP (sg.1.mpr (by omega))) (fun z => br_c (fun y => fQ (fun q => z ?_) (sg.2.mpr (by omega))) (fun y => fO (fun q => y ?_)))
    · have := sg.1.mp q
      omega
    · have := sg.2.mp q
      omega
  refine nm_r m1 ?_
  rw [gl_0, gl_eq b1 b0 (by decide), gl_le b0 b1 (by decide)]
  refine br_c (fun z => ?_) (fun z => br_c (fun y => ?_) (fun y => ?_))
  · exact br_f n0 (zr_bad (fun c' => br_t rfl (eY (fun _ => ⟨rfl, R⟩) (fun q _ => absurd z q) (fun q => absurd (by omega) q))) (fun c' => absurd c c'))
  · exact br_f n0 (zr_bad (fun c' => br_t rfl (eY (fun q => absurd q z) (fun _ _ => ⟨rfl, R⟩) (fun q => absurd y q))) (fun c' => absurd c c'))
  · exact br_f n0 (zr_bad (fun c' => br_t rfl (eY (fun q => absurd q z) (fun _ q => absurd q y) (fun _ => ⟨rfl, R⟩))) (fun c' => absurd c c'))
end
