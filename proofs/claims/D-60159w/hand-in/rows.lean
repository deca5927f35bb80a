section
/-! PLAIN PART 1: sums over e < m, the count of trails, its two recursions -/
def gm_sm (f : Nat → Int) : Nat → Int
  | 0 => 0
  | k + 1 => gm_sm f k + f k
theorem gm_sm_congr {f g : Nat → Int} {m : Nat} (h : ∀ e, e < m → f e = g e) : gm_sm f m = gm_sm g m := by
  induction m with
  | zero => rfl
  | succ k ih => simp only [gm_sm]; rw [ih (fun e he => h e (by omega)), h k (by omega)]
theorem gm_sm_zero {f : Nat → Int} {m : Nat} (h : ∀ e, e < m → f e = 0) : gm_sm f m = 0 := by
  induction m with
  | zero => rfl
  | succ k ih => simp only [gm_sm]; rw [ih (fun e he => h e (by omega)), h k (by omega)]; rfl
theorem gm_sm_add (f g : Nat → Int) (m : Nat) : gm_sm (fun e => f e + g e) m = gm_sm f m + gm_sm g m := by
  induction m with
  | zero => rfl
  | succ k ih => simp only [gm_sm]; rw [ih]; omega
theorem gm_sm_sub (f g : Nat → Int) (m : Nat) : gm_sm (fun e => f e - g e) m = gm_sm f m - gm_sm g m := by
  induction m with
  | zero => rfl
  | succ k ih => simp only [gm_sm]; rw [ih]; omega
theorem gm_sm_mul (c : Int) (f : Nat → Int) (m : Nat) : gm_sm (fun e => c * f e) m = c * gm_sm f m := by
  induction m with
  | zero => simp [gm_sm]
  | succ k ih => simp only [gm_sm]; rw [ih, Int.mul_add]
theorem gm_sm_mulr (c : Int) (f : Nat → Int) (m : Nat) : gm_sm (fun e => f e * c) m = gm_sm f m * c := by
  induction m with
  | zero => simp [gm_sm]
  | succ k ih => simp only [gm_sm]; rw [ih, Int.add_mul]
theorem gm_sm_swap (f : Nat → Nat → Int) (m k : Nat) : gm_sm (fun e => gm_sm (f e) k) m = gm_sm (fun j => gm_sm (fun e => f e j) m) k := by
  induction m with
  | zero => exact (gm_sm_zero (fun e _ => rfl)).symm
  | succ i ih => simp only [gm_sm]; rw [ih, ← gm_sm_add]
theorem gm_sm_nonneg {f : Nat → Int} {m : Nat} (h : ∀ e, e < m → 0 ≤ f e) : 0 ≤ gm_sm f m := by
  induction m with
  | zero => exact Int.le_refl 0
  | succ k ih =>
    simp only [gm_sm]
    have h1 := ih (fun e he => h e (by omega))
    have h2 := h k (by omega)
    omega
theorem gm_sm_le {f g : Nat → Int} {m : Nat} (h : ∀ e, e < m → f e ≤ g e) : gm_sm f m ≤ gm_sm g m := by
  induction m with
  | zero => exact Int.le_refl 0
  | succ k ih =>
    simp only [gm_sm]
    have h1 := ih (fun e he => h e (by omega))
    have h2 := h k (by omega)
    omega
theorem gm_sm_pos {f : Nat → Int} {m : Nat} (h : 0 < gm_sm f m) : ∃ e, e < m ∧ 0 < f e := by
  induction m with
  | zero => simp [gm_sm] at h
  | succ k ih =>
    simp only [gm_sm] at h
    by_cases h1 : 0 < f k
    · exact ⟨k, by omega, h1⟩
    · obtain ⟨e, he, hf⟩ := ih (by omega)
      exact ⟨e, by omega, hf⟩
theorem gm_sm_ge {f : Nat → Int} {m : Nat} (h : ∀ e, e < m → 0 ≤ f e) {i : Nat} (hi : i < m) : f i ≤ gm_sm f m := by
  induction m with
  | zero => omega
  | succ k ih =>
    simp only [gm_sm]
    by_cases h1 : i = k
    · have h2 := gm_sm_nonneg (f := f) (m := k) (fun e he => h e (by omega))
      rw [h1]; omega
    · have h2 := ih (fun e he => h e (by omega)) (by omega)
      have h3 := h k (by omega)
      omega
theorem gm_sm_one {m : Nat} (c : Int) {i : Nat} (hi : i < m) : gm_sm (fun e => if e = i then c else 0) m = c := by
  induction m with
  | zero => omega
  | succ k ih =>
    simp only [gm_sm]
    by_cases h1 : k = i
    · rw [if_pos h1, gm_sm_zero (fun e he => if_neg (by omega))]; omega
    · rw [if_neg h1, ih (by omega)]; omega
/-- how many e < m are in S and meet P -/
def gm_w (m : Nat) (S P : Nat → Bool) : Int := gm_sm (fun e => if (S e && P e) = true then 1 else 0) m
def gm_del (S : Nat → Bool) (i : Nat) : Nat → Bool := fun e => S e && !(e == i)
theorem gm_del_self (S : Nat → Bool) (i : Nat) : gm_del S i i = false := by simp [gm_del]
theorem gm_del_ne (S : Nat → Bool) {i e : Nat} (h : e ≠ i) : gm_del S i e = S e := by simp [gm_del, h]
theorem gm_del_comm (S : Nat → Bool) (i j : Nat) : gm_del (gm_del S i) j = gm_del (gm_del S j) i := by
  funext e
  simp only [gm_del]
  cases S e <;> cases (e == i) <;> cases (e == j) <;> rfl
theorem gm_w_nonneg (m : Nat) (S P : Nat → Bool) : 0 ≤ gm_w m S P := gm_sm_nonneg (fun e _ => by split <;> decide)
theorem gm_w_le {m : Nat} {S S' P P' : Nat → Bool} (h : ∀ e, e < m → (S e && P e) = true → (S' e && P' e) = true) : gm_w m S P ≤ gm_w m S' P' := by
  refine gm_sm_le (fun e he => ?_)
  by_cases h1 : (S e && P e) = true
  · rw [if_pos h1, if_pos (h e he h1)]; exact Int.le_refl 1
  · rw [if_neg h1]; split <;> decide
theorem gm_w_congr {m : Nat} {S S' P P' : Nat → Bool} (h : ∀ e, e < m → (S e && P e) = (S' e && P' e)) : gm_w m S P = gm_w m S' P' :=
  gm_sm_congr (fun e he => by rw [h e he])
theorem gm_w_zero {m : Nat} {S P : Nat → Bool} (h : ∀ e, e < m → (S e && P e) = false) : gm_w m S P = 0 :=
  gm_sm_zero (fun e he => by rw [h e he]; rfl)
theorem gm_w_eq0 {m : Nat} {S P : Nat → Bool} (h : gm_w m S P = 0) {e : Nat} (he : e < m) : (S e && P e) = false := by
  have h1 := gm_sm_ge (f := fun e => if (S e && P e) = true then (1 : Int) else 0) (m := m) (fun e _ => by (try dsimp only); split <;> decide) he
  cases h2 : (S e && P e) with
  | false => rfl
  | true =>
    simp only [h2, if_true] at h1
    unfold gm_w at h
    omega
theorem gm_w_pos {m : Nat} {S P : Nat → Bool} (h : 0 < gm_w m S P) : ∃ e, e < m ∧ (S e && P e) = true := by
  obtain ⟨e, he, h1⟩ := gm_sm_pos h
  refine ⟨e, he, ?_⟩
  cases h2 : (S e && P e) with
  | true => rfl
  | false => simp [h2] at h1
theorem gm_w_del {m : Nat} {S : Nat → Bool} (P : Nat → Bool) {i : Nat} (hi : i < m) (hS : S i = true) : gm_w m (gm_del S i) P = gm_w m S P - (if P i = true then 1 else 0) := by
  have h1 : gm_w m (gm_del S i) P = gm_sm (fun e => (if (S e && P e) = true then 1 else 0) - (if e = i then (if P i = true then 1 else 0) else 0)) m := by
    refine gm_sm_congr (fun e he => ?_)
    by_cases h2 : e = i
    · rw [h2, gm_del_self, hS]; cases P i <;> simp
    · rw [gm_del_ne S h2, if_neg h2]; omega
  rw [h1, gm_sm_sub, gm_sm_one _ hi]; rfl
/-- the sum of c over those in S that meet P -/
theorem gm_sm_w (m : Nat) (S P : Nat → Bool) (c : Int) : gm_sm (fun e => if (S e && P e) = true then c else 0) m = gm_w m S P * c := by
  unfold gm_w
  rw [← gm_sm_mulr]
  exact gm_sm_congr (fun e _ => by split <;> simp)
/-- how many ways to go all k edges of S, each once, from v to w -/
def gm_T (m : Nat) (a b : Nat → Nat) : Nat → (Nat → Bool) → Nat → Nat → Int
  | 0, _, v, w => if v = w then 1 else 0
  | k + 1, S, v, w => gm_sm (fun e => if (S e && a e == v) = true then gm_T m a b k (gm_del S e) (b e) w else 0) m
theorem gm_T_nonneg (m : Nat) (a b : Nat → Nat) (k : Nat) : ∀ (S : Nat → Bool) (v w : Nat), 0 ≤ gm_T m a b k S v w := by
  induction k with
  | zero => intro S v w; simp only [gm_T]; split <;> decide
  | succ k ih =>
    intro S v w
    simp only [gm_T]
    refine gm_sm_nonneg (fun e _ => ?_)
    (try dsimp only)
    split
    · exact ih _ _ _
    · exact Int.le_refl 0
theorem gm_sm_bd {f : Nat → Int} {m : Nat} {c : Int} (h : ∀ e, e < m → f e ≤ c) : gm_sm f m ≤ (m : Int) * c := by
  induction m with
  | zero => simp [gm_sm]
  | succ k ih =>
    simp only [gm_sm]
    have h1 := ih (fun e he => h e (by omega))
    have h2 := h k (by omega)
    have h3 : ((k + 1 : Nat) : Int) * c = (k : Int) * c + c := by
      rw [Int.natCast_add, Int.add_mul]; simp
    omega
theorem gm_T_bd (m : Nat) (a b : Nat → Nat) (k : Nat) : ∀ (S : Nat → Bool) (v w : Nat), gm_T m a b k S v w ≤ (m : Int) ^ k := by
  induction k with
  | zero => intro S v w; rw [Int.pow_zero]; simp only [gm_T]; split <;> decide
  | succ k ih =>
    intro S v w
    simp only [gm_T]
    have h0 : (0 : Int) ≤ (m : Int) ^ k := Int.le_trans (gm_T_nonneg m a b k S v w) (ih S v w)
    have h1 : gm_sm (fun e => if (S e && a e == v) = true then gm_T m a b k (gm_del S e) (b e) w else 0) m ≤ (m : Int) * (m : Int) ^ k := by
      refine gm_sm_bd (fun e _ => ?_)
      (try dsimp only)
      split
      · exact ih _ _ _
      · exact h0
    rw [Int.pow_succ, Int.mul_comm]
    exact h1
theorem gm_T_congr (m : Nat) (a b : Nat → Nat) (k : Nat) : ∀ (S S' : Nat → Bool) (v w : Nat), (∀ e, e < m → S e = S' e) → gm_T m a b k S v w = gm_T m a b k S' v w := by
  induction k with
  | zero => intro S S' v w _; rfl
  | succ k ih =>
    intro S S' v w h
    simp only [gm_T]
    refine gm_sm_congr (fun e he => ?_)
    rw [h e he, ih (gm_del S e) (gm_del S' e) (b e) w (fun i hi => by simp only [gm_del]; rw [h i hi])]
/-- the same count, the last edge first -/
theorem gm_T_last (m : Nat) (a b : Nat → Nat) (k : Nat) : ∀ (S : Nat → Bool) (v w : Nat), gm_T m a b (k + 1) S v w = gm_sm (fun f => if (S f && b f == w) = true then gm_T m a b k (gm_del S f) v (a f) else 0) m := by
  induction k with
  | zero =>
    intro S v w
    simp only [gm_T]
    refine gm_sm_congr (fun e _ => ?_)
    cases S e
    · simp
    · simp only [Bool.true_and, beq_iff_eq]
      by_cases h1 : a e = v <;> by_cases h2 : b e = w
      · rw [if_pos h1, if_pos h2, if_pos h2, if_pos h1.symm]
      · rw [if_pos h1, if_neg h2, if_neg h2]
      · rw [if_neg h1, if_pos h2, if_neg (fun h => h1 h.symm)]
      · rw [if_neg h1, if_neg h2]
  | succ k ih =>
    intro S v w
    have hL : gm_T m a b (k + 1 + 1) S v w = gm_sm (fun e => gm_sm (fun f => if (S e && S f && !(f == e) && a e == v && b f == w) = true then gm_T m a b k (gm_del (gm_del S e) f) (b e) (a f) else 0) m) m := by
      rw [gm_T]
      refine gm_sm_congr (fun e _ => ?_)
      by_cases h1 : (S e && a e == v) = true
      · rw [if_pos h1, ih]
        refine gm_sm_congr (fun f _ => ?_)
        simp only [Bool.and_eq_true] at h1
        have hb : (gm_del S e f && b f == w) = (S e && S f && !(f == e) && a e == v && b f == w) := by
          simp only [gm_del, h1.1, h1.2, Bool.true_and, Bool.and_true]
        rw [hb]
      · rw [if_neg h1]
        refine (gm_sm_zero (fun f _ => ?_)).symm
        refine if_neg (fun h => h1 ?_)
        simp only [Bool.and_eq_true] at h ⊢
        exact ⟨h.1.1.1.1, h.1.2⟩
    rw [hL, gm_sm_swap]
    refine gm_sm_congr (fun f _ => ?_)
    by_cases h1 : (S f && b f == w) = true
    · rw [if_pos h1, gm_T]
      refine gm_sm_congr (fun e _ => ?_)
      simp only [Bool.and_eq_true] at h1
      have h2 : (f == e) = (e == f) := by
        rw [Bool.eq_iff_iff, beq_iff_eq, beq_iff_eq]
        exact ⟨fun h => h.symm, fun h => h.symm⟩
      have hb : (gm_del S f e && a e == v) = (S e && S f && !(f == e) && a e == v && b f == w) := by
        simp only [gm_del, h1.1, h1.2, h2, Bool.and_true]
      rw [hb, gm_del_comm S e f]
    · rw [if_neg h1]
      refine gm_sm_zero (fun e _ => ?_)
      refine if_neg (fun h => h1 ?_)
      simp only [Bool.and_eq_true] at h ⊢
      exact ⟨h.1.1.1.2, h.2⟩
end
section
/-! PLAIN PART 2: determinants of size at most 5, row by row -/
def gm_d2 (x0 x1 y0 y1 : Int) : Int := x0 * y1 - x1 * y0
def gm_d3 (x0 x1 x2 y0 y1 y2 z0 z1 z2 : Int) : Int := x0 * gm_d2 y1 y2 z1 z2 - x1 * gm_d2 y0 y2 z0 z2 + x2 * gm_d2 y0 y1 z0 z1
def gm_d4 (x0 x1 x2 x3 y0 y1 y2 y3 z0 z1 z2 z3 u0 u1 u2 u3 : Int) : Int := x0 * gm_d3 y1 y2 y3 z1 z2 z3 u1 u2 u3 - x1 * gm_d3 y0 y2 y3 z0 z2 z3 u0 u2 u3 + x2 * gm_d3 y0 y1 y3 z0 z1 z3 u0 u1 u3 - x3 * gm_d3 y0 y1 y2 z0 z1 z2 u0 u1 u2
def gm_d5 (x0 x1 x2 x3 x4 y0 y1 y2 y3 y4 z0 z1 z2 z3 z4 u0 u1 u2 u3 u4 w0 w1 w2 w3 w4 : Int) : Int := x0 * gm_d4 y1 y2 y3 y4 z1 z2 z3 z4 u1 u2 u3 u4 w1 w2 w3 w4 - x1 * gm_d4 y0 y2 y3 y4 z0 z2 z3 z4 u0 u2 u3 u4 w0 w2 w3 w4 + x2 * gm_d4 y0 y1 y3 y4 z0 z1 z3 z4 u0 u1 u3 u4 w0 w1 w3 w4 - x3 * gm_d4 y0 y1 y2 y4 z0 z1 z2 z4 u0 u1 u2 u4 w0 w1 w2 w4 + x4 * gm_d4 y0 y1 y2 y3 z0 z1 z2 z3 u0 u1 u2 u3 w0 w1 w2 w3
def gm_det (s : Nat) (M : Nat → Nat → Int) : Int := match s with
  | 0 => 1
  | 1 => M 0 0
  | 2 => gm_d2 (M 0 0) (M 0 1) (M 1 0) (M 1 1)
  | 3 => gm_d3 (M 0 0) (M 0 1) (M 0 2) (M 1 0) (M 1 1) (M 1 2) (M 2 0) (M 2 1) (M 2 2)
  | 4 => gm_d4 (M 0 0) (M 0 1) (M 0 2) (M 0 3) (M 1 0) (M 1 1) (M 1 2) (M 1 3) (M 2 0) (M 2 1) (M 2 2) (M 2 3) (M 3 0) (M 3 1) (M 3 2) (M 3 3)
  | _ => gm_d5 (M 0 0) (M 0 1) (M 0 2) (M 0 3) (M 0 4) (M 1 0) (M 1 1) (M 1 2) (M 1 3) (M 1 4) (M 2 0) (M 2 1) (M 2 2) (M 2 3) (M 2 4) (M 3 0) (M 3 1) (M 3 2) (M 3 3) (M 3 4) (M 4 0) (M 4 1) (M 4 2) (M 4 3) (M 4 4)
theorem gm_r5_1 (x0 x1 x2 x3 x4 y0 y1 y2 y3 y4 z0 z1 z2 z3 z4 u0 u1 u2 u3 u4 w0 w1 w2 w3 w4 : Int) : gm_d5 x0 x1 x2 x3 x4 y0 y1 y2 y3 y4 z0 z1 z2 z3 z4 u0 u1 u2 u3 u4 w0 w1 w2 w3 w4 = -(y0 * gm_d4 x1 x2 x3 x4 z1 z2 z3 z4 u1 u2 u3 u4 w1 w2 w3 w4) + y1 * gm_d4 x0 x2 x3 x4 z0 z2 z3 z4 u0 u2 u3 u4 w0 w2 w3 w4 - y2 * gm_d4 x0 x1 x3 x4 z0 z1 z3 z4 u0 u1 u3 u4 w0 w1 w3 w4 + y3 * gm_d4 x0 x1 x2 x4 z0 z1 z2 z4 u0 u1 u2 u4 w0 w1 w2 w4 - y4 * gm_d4 x0 x1 x2 x3 z0 z1 z2 z3 u0 u1 u2 u3 w0 w1 w2 w3 := by
  simp only [gm_d5, gm_d4, gm_d3, gm_d2]; grind
theorem gm_r5_2 (x0 x1 x2 x3 x4 y0 y1 y2 y3 y4 z0 z1 z2 z3 z4 u0 u1 u2 u3 u4 w0 w1 w2 w3 w4 : Int) : gm_d5 x0 x1 x2 x3 x4 y0 y1 y2 y3 y4 z0 z1 z2 z3 z4 u0 u1 u2 u3 u4 w0 w1 w2 w3 w4 = z0 * gm_d4 x1 x2 x3 x4 y1 y2 y3 y4 u1 u2 u3 u4 w1 w2 w3 w4 - z1 * gm_d4 x0 x2 x3 x4 y0 y2 y3 y4 u0 u2 u3 u4 w0 w2 w3 w4 + z2 * gm_d4 x0 x1 x3 x4 y0 y1 y3 y4 u0 u1 u3 u4 w0 w1 w3 w4 - z3 * gm_d4 x0 x1 x2 x4 y0 y1 y2 y4 u0 u1 u2 u4 w0 w1 w2 w4 + z4 * gm_d4 x0 x1 x2 x3 y0 y1 y2 y3 u0 u1 u2 u3 w0 w1 w2 w3 := by
  simp only [gm_d5, gm_d4, gm_d3, gm_d2]; grind
theorem gm_r5_3 (x0 x1 x2 x3 x4 y0 y1 y2 y3 y4 z0 z1 z2 z3 z4 u0 u1 u2 u3 u4 w0 w1 w2 w3 w4 : Int) : gm_d5 x0 x1 x2 x3 x4 y0 y1 y2 y3 y4 z0 z1 z2 z3 z4 u0 u1 u2 u3 u4 w0 w1 w2 w3 w4 = -(u0 * gm_d4 x1 x2 x3 x4 y1 y2 y3 y4 z1 z2 z3 z4 w1 w2 w3 w4) + u1 * gm_d4 x0 x2 x3 x4 y0 y2 y3 y4 z0 z2 z3 z4 w0 w2 w3 w4 - u2 * gm_d4 x0 x1 x3 x4 y0 y1 y3 y4 z0 z1 z3 z4 w0 w1 w3 w4 + u3 * gm_d4 x0 x1 x2 x4 y0 y1 y2 y4 z0 z1 z2 z4 w0 w1 w2 w4 - u4 * gm_d4 x0 x1 x2 x3 y0 y1 y2 y3 z0 z1 z2 z3 w0 w1 w2 w3 := by
  simp only [gm_d5, gm_d4, gm_d3, gm_d2]; grind
theorem gm_r5_4 (x0 x1 x2 x3 x4 y0 y1 y2 y3 y4 z0 z1 z2 z3 z4 u0 u1 u2 u3 u4 w0 w1 w2 w3 w4 : Int) : gm_d5 x0 x1 x2 x3 x4 y0 y1 y2 y3 y4 z0 z1 z2 z3 z4 u0 u1 u2 u3 u4 w0 w1 w2 w3 w4 = w0 * gm_d4 x1 x2 x3 x4 y1 y2 y3 y4 z1 z2 z3 z4 u1 u2 u3 u4 - w1 * gm_d4 x0 x2 x3 x4 y0 y2 y3 y4 z0 z2 z3 z4 u0 u2 u3 u4 + w2 * gm_d4 x0 x1 x3 x4 y0 y1 y3 y4 z0 z1 z3 z4 u0 u1 u3 u4 - w3 * gm_d4 x0 x1 x2 x4 y0 y1 y2 y4 z0 z1 z2 z4 u0 u1 u2 u4 + w4 * gm_d4 x0 x1 x2 x3 y0 y1 y2 y3 z0 z1 z2 z3 u0 u1 u2 u3 := by
  simp only [gm_d5, gm_d4, gm_d3, gm_d2]; grind
theorem gm_k5_0 (x0 x1 x2 x3 x4 y0 y1 y2 y3 y4 z0 z1 z2 z3 z4 u0 u1 u2 u3 u4 w0 w1 w2 w3 w4 : Int) (t0 t1 t2 t3 t4 : Int) : t0 * gm_d5 x0 x1 x2 x3 x4 y0 y1 y2 y3 y4 z0 z1 z2 z3 z4 u0 u1 u2 u3 u4 w0 w1 w2 w3 w4 = (x0 * t0 + x1 * t1 + x2 * t2 + x3 * t3 + x4 * t4) * gm_d4 y1 y2 y3 y4 z1 z2 z3 z4 u1 u2 u3 u4 w1 w2 w3 w4 - (y0 * t0 + y1 * t1 + y2 * t2 + y3 * t3 + y4 * t4) * gm_d4 x1 x2 x3 x4 z1 z2 z3 z4 u1 u2 u3 u4 w1 w2 w3 w4 + (z0 * t0 + z1 * t1 + z2 * t2 + z3 * t3 + z4 * t4) * gm_d4 x1 x2 x3 x4 y1 y2 y3 y4 u1 u2 u3 u4 w1 w2 w3 w4 - (u0 * t0 + u1 * t1 + u2 * t2 + u3 * t3 + u4 * t4) * gm_d4 x1 x2 x3 x4 y1 y2 y3 y4 z1 z2 z3 z4 w1 w2 w3 w4 + (w0 * t0 + w1 * t1 + w2 * t2 + w3 * t3 + w4 * t4) * gm_d4 x1 x2 x3 x4 y1 y2 y3 y4 z1 z2 z3 z4 u1 u2 u3 u4 := by
  simp only [gm_d5, gm_d4, gm_d3, gm_d2]; grind
theorem gm_k5_1 (x0 x1 x2 x3 x4 y0 y1 y2 y3 y4 z0 z1 z2 z3 z4 u0 u1 u2 u3 u4 w0 w1 w2 w3 w4 : Int) (t0 t1 t2 t3 t4 : Int) : t1 * gm_d5 x0 x1 x2 x3 x4 y0 y1 y2 y3 y4 z0 z1 z2 z3 z4 u0 u1 u2 u3 u4 w0 w1 w2 w3 w4 = -((x0 * t0 + x1 * t1 + x2 * t2 + x3 * t3 + x4 * t4) * gm_d4 y0 y2 y3 y4 z0 z2 z3 z4 u0 u2 u3 u4 w0 w2 w3 w4) + (y0 * t0 + y1 * t1 + y2 * t2 + y3 * t3 + y4 * t4) * gm_d4 x0 x2 x3 x4 z0 z2 z3 z4 u0 u2 u3 u4 w0 w2 w3 w4 - (z0 * t0 + z1 * t1 + z2 * t2 + z3 * t3 + z4 * t4) * gm_d4 x0 x2 x3 x4 y0 y2 y3 y4 u0 u2 u3 u4 w0 w2 w3 w4 + (u0 * t0 + u1 * t1 + u2 * t2 + u3 * t3 + u4 * t4) * gm_d4 x0 x2 x3 x4 y0 y2 y3 y4 z0 z2 z3 z4 w0 w2 w3 w4 - (w0 * t0 + w1 * t1 + w2 * t2 + w3 * t3 + w4 * t4) * gm_d4 x0 x2 x3 x4 y0 y2 y3 y4 z0 z2 z3 z4 u0 u2 u3 u4 := by
  simp only [gm_d5, gm_d4, gm_d3, gm_d2]; grind
theorem gm_k5_2 (x0 x1 x2 x3 x4 y0 y1 y2 y3 y4 z0 z1 z2 z3 z4 u0 u1 u2 u3 u4 w0 w1 w2 w3 w4 : Int) (t0 t1 t2 t3 t4 : Int) : t2 * gm_d5 x0 x1 x2 x3 x4 y0 y1 y2 y3 y4 z0 z1 z2 z3 z4 u0 u1 u2 u3 u4 w0 w1 w2 w3 w4 = (x0 * t0 + x1 * t1 + x2 * t2 + x3 * t3 + x4 * t4) * gm_d4 y0 y1 y3 y4 z0 z1 z3 z4 u0 u1 u3 u4 w0 w1 w3 w4 - (y0 * t0 + y1 * t1 + y2 * t2 + y3 * t3 + y4 * t4) * gm_d4 x0 x1 x3 x4 z0 z1 z3 z4 u0 u1 u3 u4 w0 w1 w3 w4 + (z0 * t0 + z1 * t1 + z2 * t2 + z3 * t3 + z4 * t4) * gm_d4 x0 x1 x3 x4 y0 y1 y3 y4 u0 u1 u3 u4 w0 w1 w3 w4 - (u0 * t0 + u1 * t1 + u2 * t2 + u3 * t3 + u4 * t4) * gm_d4 x0 x1 x3 x4 y0 y1 y3 y4 z0 z1 z3 z4 w0 w1 w3 w4 + (w0 * t0 + w1 * t1 + w2 * t2 + w3 * t3 + w4 * t4) * gm_d4 x0 x1 x3 x4 y0 y1 y3 y4 z0 z1 z3 z4 u0 u1 u3 u4 := by
  simp only [gm_d5, gm_d4, gm_d3, gm_d2]; grind
theorem gm_k5_3 (x0 x1 x2 x3 x4 y0 y1 y2 y3 y4 z0 z1 z2 z3 z4 u0 u1 u2 u3 u4 w0 w1 w2 w3 w4 : Int) (t0 t1 t2 t3 t4 : Int) : t3 * gm_d5 x0 x1 x2 x3 x4 y0 y1 y2 y3 y4 z0 z1 z2 z3 z4 u0 u1 u2 u3 u4 w0 w1 w2 w3 w4 = -((x0 * t0 + x1 * t1 + x2 * t2 + x3 * t3 + x4 * t4) * gm_d4 y0 y1 y2 y4 z0 z1 z2 z4 u0 u1 u2 u4 w0 w1 w2 w4) + (y0 * t0 + y1 * t1 + y2 * t2 + y3 * t3 + y4 * t4) * gm_d4 x0 x1 x2 x4 z0 z1 z2 z4 u0 u1 u2 u4 w0 w1 w2 w4 - (z0 * t0 + z1 * t1 + z2 * t2 + z3 * t3 + z4 * t4) * gm_d4 x0 x1 x2 x4 y0 y1 y2 y4 u0 u1 u2 u4 w0 w1 w2 w4 + (u0 * t0 + u1 * t1 + u2 * t2 + u3 * t3 + u4 * t4) * gm_d4 x0 x1 x2 x4 y0 y1 y2 y4 z0 z1 z2 z4 w0 w1 w2 w4 - (w0 * t0 + w1 * t1 + w2 * t2 + w3 * t3 + w4 * t4) * gm_d4 x0 x1 x2 x4 y0 y1 y2 y4 z0 z1 z2 z4 u0 u1 u2 u4 := by
  simp only [gm_d5, gm_d4, gm_d3, gm_d2]; grind
theorem gm_k5_4 (x0 x1 x2 x3 x4 y0 y1 y2 y3 y4 z0 z1 z2 z3 z4 u0 u1 u2 u3 u4 w0 w1 w2 w3 w4 : Int) (t0 t1 t2 t3 t4 : Int) : t4 * gm_d5 x0 x1 x2 x3 x4 y0 y1 y2 y3 y4 z0 z1 z2 z3 z4 u0 u1 u2 u3 u4 w0 w1 w2 w3 w4 = (x0 * t0 + x1 * t1 + x2 * t2 + x3 * t3 + x4 * t4) * gm_d4 y0 y1 y2 y3 z0 z1 z2 z3 u0 u1 u2 u3 w0 w1 w2 w3 - (y0 * t0 + y1 * t1 + y2 * t2 + y3 * t3 + y4 * t4) * gm_d4 x0 x1 x2 x3 z0 z1 z2 z3 u0 u1 u2 u3 w0 w1 w2 w3 + (z0 * t0 + z1 * t1 + z2 * t2 + z3 * t3 + z4 * t4) * gm_d4 x0 x1 x2 x3 y0 y1 y2 y3 u0 u1 u2 u3 w0 w1 w2 w3 - (u0 * t0 + u1 * t1 + u2 * t2 + u3 * t3 + u4 * t4) * gm_d4 x0 x1 x2 x3 y0 y1 y2 y3 z0 z1 z2 z3 w0 w1 w2 w3 + (w0 * t0 + w1 * t1 + w2 * t2 + w3 * t3 + w4 * t4) * gm_d4 x0 x1 x2 x3 y0 y1 y2 y3 z0 z1 z2 z3 u0 u1 u2 u3 := by
  simp only [gm_d5, gm_d4, gm_d3, gm_d2]; grind
theorem gm_u5_0 (y0 y1 y2 y3 y4 z0 z1 z2 z3 z4 u0 u1 u2 u3 u4 w0 w1 w2 w3 w4 : Int) : gm_d5 1 0 0 0 0 y0 y1 y2 y3 y4 z0 z1 z2 z3 z4 u0 u1 u2 u3 u4 w0 w1 w2 w3 w4 = gm_d4 y1 y2 y3 y4 z1 z2 z3 z4 u1 u2 u3 u4 w1 w2 w3 w4 := by
  simp only [gm_d5, gm_d4, gm_d3, gm_d2]; grind
theorem gm_u5_1 (x0 x1 x2 x3 x4 z0 z1 z2 z3 z4 u0 u1 u2 u3 u4 w0 w1 w2 w3 w4 : Int) : gm_d5 x0 x1 x2 x3 x4 0 1 0 0 0 z0 z1 z2 z3 z4 u0 u1 u2 u3 u4 w0 w1 w2 w3 w4 = gm_d4 x0 x2 x3 x4 z0 z2 z3 z4 u0 u2 u3 u4 w0 w2 w3 w4 := by
  simp only [gm_d5, gm_d4, gm_d3, gm_d2]; grind
theorem gm_u5_2 (x0 x1 x2 x3 x4 y0 y1 y2 y3 y4 u0 u1 u2 u3 u4 w0 w1 w2 w3 w4 : Int) : gm_d5 x0 x1 x2 x3 x4 y0 y1 y2 y3 y4 0 0 1 0 0 u0 u1 u2 u3 u4 w0 w1 w2 w3 w4 = gm_d4 x0 x1 x3 x4 y0 y1 y3 y4 u0 u1 u3 u4 w0 w1 w3 w4 := by
  simp only [gm_d5, gm_d4, gm_d3, gm_d2]; grind
theorem gm_u5_3 (x0 x1 x2 x3 x4 y0 y1 y2 y3 y4 z0 z1 z2 z3 z4 w0 w1 w2 w3 w4 : Int) : gm_d5 x0 x1 x2 x3 x4 y0 y1 y2 y3 y4 z0 z1 z2 z3 z4 0 0 0 1 0 w0 w1 w2 w3 w4 = gm_d4 x0 x1 x2 x4 y0 y1 y2 y4 z0 z1 z2 z4 w0 w1 w2 w4 := by
  simp only [gm_d5, gm_d4, gm_d3, gm_d2]; grind
theorem gm_u5_4 (x0 x1 x2 x3 x4 y0 y1 y2 y3 y4 z0 z1 z2 z3 z4 u0 u1 u2 u3 u4 : Int) : gm_d5 x0 x1 x2 x3 x4 y0 y1 y2 y3 y4 z0 z1 z2 z3 z4 u0 u1 u2 u3 u4 0 0 0 0 1 = gm_d4 x0 x1 x2 x3 y0 y1 y2 y3 z0 z1 z2 z3 u0 u1 u2 u3 := by
  simp only [gm_d5, gm_d4, gm_d3, gm_d2]; grind
theorem gm_u4_0 (y0 y1 y2 y3 z0 z1 z2 z3 u0 u1 u2 u3 : Int) : gm_d4 1 0 0 0 y0 y1 y2 y3 z0 z1 z2 z3 u0 u1 u2 u3 = gm_d3 y1 y2 y3 z1 z2 z3 u1 u2 u3 := by
  simp only [gm_d5, gm_d4, gm_d3, gm_d2]; grind
theorem gm_u4_1 (x0 x1 x2 x3 z0 z1 z2 z3 u0 u1 u2 u3 : Int) : gm_d4 x0 x1 x2 x3 0 1 0 0 z0 z1 z2 z3 u0 u1 u2 u3 = gm_d3 x0 x2 x3 z0 z2 z3 u0 u2 u3 := by
  simp only [gm_d5, gm_d4, gm_d3, gm_d2]; grind
theorem gm_u4_2 (x0 x1 x2 x3 y0 y1 y2 y3 u0 u1 u2 u3 : Int) : gm_d4 x0 x1 x2 x3 y0 y1 y2 y3 0 0 1 0 u0 u1 u2 u3 = gm_d3 x0 x1 x3 y0 y1 y3 u0 u1 u3 := by
  simp only [gm_d5, gm_d4, gm_d3, gm_d2]; grind
theorem gm_u4_3 (x0 x1 x2 x3 y0 y1 y2 y3 z0 z1 z2 z3 : Int) : gm_d4 x0 x1 x2 x3 y0 y1 y2 y3 z0 z1 z2 z3 0 0 0 1 = gm_d3 x0 x1 x2 y0 y1 y2 z0 z1 z2 := by
  simp only [gm_d5, gm_d4, gm_d3, gm_d2]; grind
theorem gm_u3_0 (y0 y1 y2 z0 z1 z2 : Int) : gm_d3 1 0 0 y0 y1 y2 z0 z1 z2 = gm_d2 y1 y2 z1 z2 := by
  simp only [gm_d5, gm_d4, gm_d3, gm_d2]; grind
theorem gm_u3_1 (x0 x1 x2 z0 z1 z2 : Int) : gm_d3 x0 x1 x2 0 1 0 z0 z1 z2 = gm_d2 x0 x2 z0 z2 := by
  simp only [gm_d5, gm_d4, gm_d3, gm_d2]; grind
theorem gm_u3_2 (x0 x1 x2 y0 y1 y2 : Int) : gm_d3 x0 x1 x2 y0 y1 y2 0 0 1 = gm_d2 x0 x1 y0 y1 := by
  simp only [gm_d5, gm_d4, gm_d3, gm_d2]; grind
theorem gm_u2_0 (y0 y1 : Int) : gm_d2 1 0 y0 y1 = y1 := by
  simp only [gm_d5, gm_d4, gm_d3, gm_d2]; grind
theorem gm_u2_1 (x0 x1 : Int) : gm_d2 x0 x1 0 1 = x0 := by
  simp only [gm_d5, gm_d4, gm_d3, gm_d2]; grind
theorem gm_z5_0 (x1 x2 x3 x4 y1 y2 y3 y4 z1 z2 z3 z4 u1 u2 u3 u4 w1 w2 w3 w4 : Int) : gm_d5 0 x1 x2 x3 x4 0 y1 y2 y3 y4 0 z1 z2 z3 z4 0 u1 u2 u3 u4 0 w1 w2 w3 w4 = 0 := by
  simp only [gm_d5, gm_d4, gm_d3, gm_d2]; grind
theorem gm_z5_1 (x0 x2 x3 x4 y0 y2 y3 y4 z0 z2 z3 z4 u0 u2 u3 u4 w0 w2 w3 w4 : Int) : gm_d5 x0 0 x2 x3 x4 y0 0 y2 y3 y4 z0 0 z2 z3 z4 u0 0 u2 u3 u4 w0 0 w2 w3 w4 = 0 := by
  simp only [gm_d5, gm_d4, gm_d3, gm_d2]; grind
theorem gm_z5_2 (x0 x1 x3 x4 y0 y1 y3 y4 z0 z1 z3 z4 u0 u1 u3 u4 w0 w1 w3 w4 : Int) : gm_d5 x0 x1 0 x3 x4 y0 y1 0 y3 y4 z0 z1 0 z3 z4 u0 u1 0 u3 u4 w0 w1 0 w3 w4 = 0 := by
  simp only [gm_d5, gm_d4, gm_d3, gm_d2]; grind
theorem gm_z5_3 (x0 x1 x2 x4 y0 y1 y2 y4 z0 z1 z2 z4 u0 u1 u2 u4 w0 w1 w2 w4 : Int) : gm_d5 x0 x1 x2 0 x4 y0 y1 y2 0 y4 z0 z1 z2 0 z4 u0 u1 u2 0 u4 w0 w1 w2 0 w4 = 0 := by
  simp only [gm_d5, gm_d4, gm_d3, gm_d2]; grind
theorem gm_z5_4 (x0 x1 x2 x3 y0 y1 y2 y3 z0 z1 z2 z3 u0 u1 u2 u3 w0 w1 w2 w3 : Int) : gm_d5 x0 x1 x2 x3 0 y0 y1 y2 y3 0 z0 z1 z2 z3 0 u0 u1 u2 u3 0 w0 w1 w2 w3 0 = 0 := by
  simp only [gm_d5, gm_d4, gm_d3, gm_d2]; grind
theorem gm_s2_01 (x0 x1 y0 y1 : Int) : gm_d2 y0 y1 x0 x1 = -(gm_d2 x0 x1 y0 y1) := by
  simp only [gm_d5, gm_d4, gm_d3, gm_d2]; grind
theorem gm_s3_01 (x0 x1 x2 y0 y1 y2 z0 z1 z2 : Int) : gm_d3 y0 y1 y2 x0 x1 x2 z0 z1 z2 = -(gm_d3 x0 x1 x2 y0 y1 y2 z0 z1 z2) := by
  simp only [gm_d5, gm_d4, gm_d3, gm_d2]; grind
theorem gm_s3_02 (x0 x1 x2 y0 y1 y2 z0 z1 z2 : Int) : gm_d3 z0 z1 z2 y0 y1 y2 x0 x1 x2 = -(gm_d3 x0 x1 x2 y0 y1 y2 z0 z1 z2) := by
  simp only [gm_d5, gm_d4, gm_d3, gm_d2]; grind
theorem gm_s3_12 (x0 x1 x2 y0 y1 y2 z0 z1 z2 : Int) : gm_d3 x0 x1 x2 z0 z1 z2 y0 y1 y2 = -(gm_d3 x0 x1 x2 y0 y1 y2 z0 z1 z2) := by
  simp only [gm_d5, gm_d4, gm_d3, gm_d2]; grind
theorem gm_s4_01 (x0 x1 x2 x3 y0 y1 y2 y3 z0 z1 z2 z3 u0 u1 u2 u3 : Int) : gm_d4 y0 y1 y2 y3 x0 x1 x2 x3 z0 z1 z2 z3 u0 u1 u2 u3 = -(gm_d4 x0 x1 x2 x3 y0 y1 y2 y3 z0 z1 z2 z3 u0 u1 u2 u3) := by
  simp only [gm_d5, gm_d4, gm_d3, gm_d2]; grind
theorem gm_s4_02 (x0 x1 x2 x3 y0 y1 y2 y3 z0 z1 z2 z3 u0 u1 u2 u3 : Int) : gm_d4 z0 z1 z2 z3 y0 y1 y2 y3 x0 x1 x2 x3 u0 u1 u2 u3 = -(gm_d4 x0 x1 x2 x3 y0 y1 y2 y3 z0 z1 z2 z3 u0 u1 u2 u3) := by
  simp only [gm_d5, gm_d4, gm_d3, gm_d2]; grind
theorem gm_s4_03 (x0 x1 x2 x3 y0 y1 y2 y3 z0 z1 z2 z3 u0 u1 u2 u3 : Int) : gm_d4 u0 u1 u2 u3 y0 y1 y2 y3 z0 z1 z2 z3 x0 x1 x2 x3 = -(gm_d4 x0 x1 x2 x3 y0 y1 y2 y3 z0 z1 z2 z3 u0 u1 u2 u3) := by
  simp only [gm_d5, gm_d4, gm_d3, gm_d2]; grind
theorem gm_s4_12 (x0 x1 x2 x3 y0 y1 y2 y3 z0 z1 z2 z3 u0 u1 u2 u3 : Int) : gm_d4 x0 x1 x2 x3 z0 z1 z2 z3 y0 y1 y2 y3 u0 u1 u2 u3 = -(gm_d4 x0 x1 x2 x3 y0 y1 y2 y3 z0 z1 z2 z3 u0 u1 u2 u3) := by
  simp only [gm_d5, gm_d4, gm_d3, gm_d2]; grind
theorem gm_s4_13 (x0 x1 x2 x3 y0 y1 y2 y3 z0 z1 z2 z3 u0 u1 u2 u3 : Int) : gm_d4 x0 x1 x2 x3 u0 u1 u2 u3 z0 z1 z2 z3 y0 y1 y2 y3 = -(gm_d4 x0 x1 x2 x3 y0 y1 y2 y3 z0 z1 z2 z3 u0 u1 u2 u3) := by
  simp only [gm_d5, gm_d4, gm_d3, gm_d2]; grind
theorem gm_s4_23 (x0 x1 x2 x3 y0 y1 y2 y3 z0 z1 z2 z3 u0 u1 u2 u3 : Int) : gm_d4 x0 x1 x2 x3 y0 y1 y2 y3 u0 u1 u2 u3 z0 z1 z2 z3 = -(gm_d4 x0 x1 x2 x3 y0 y1 y2 y3 z0 z1 z2 z3 u0 u1 u2 u3) := by
  simp only [gm_d5, gm_d4, gm_d3, gm_d2]; grind
theorem gm_y1 (x0 x1 x2 y0 y1 y2 z0 z1 z2 : Int) : gm_d2 x0 x2 z0 z2 * gm_d2 x0 x1 y0 y1 - gm_d2 x0 x1 z0 z1 * gm_d2 x0 x2 y0 y2 = x0 * gm_d3 x0 x1 x2 y0 y1 y2 z0 z1 z2 := by
  simp only [gm_d5, gm_d4, gm_d3, gm_d2]; grind
theorem gm_y2 (x0 x1 x2 x3 y0 y1 y2 y3 z0 z1 z2 z3 u0 u1 u2 u3 : Int) : gm_d3 x0 x1 x3 y0 y1 y3 u0 u1 u3 * gm_d3 x0 x1 x2 y0 y1 y2 z0 z1 z2 - gm_d3 x0 x1 x2 y0 y1 y2 u0 u1 u2 * gm_d3 x0 x1 x3 y0 y1 y3 z0 z1 z3 = gm_d2 x0 x1 y0 y1 * gm_d4 x0 x1 x2 x3 y0 y1 y2 y3 z0 z1 z2 z3 u0 u1 u2 u3 := by
  simp only [gm_d5, gm_d4, gm_d3, gm_d2]; grind
theorem gm_f4 (x0 x1 x2 x3 y0 y1 y2 y3 z0 z1 z2 z3 u0 u1 u2 u3 : Int) : x0 * gm_d4 x0 x1 x2 x3 y0 y1 y2 y3 z0 z1 z2 z3 u0 u1 u2 u3 = gm_d2 x0 x1 y0 y1 * gm_d3 x0 x2 x3 z0 z2 z3 u0 u2 u3 - gm_d2 x0 x1 z0 z1 * gm_d3 x0 x2 x3 y0 y2 y3 u0 u2 u3 + gm_d2 x0 x1 u0 u1 * gm_d3 x0 x2 x3 y0 y2 y3 z0 z2 z3 := by
  simp only [gm_d5, gm_d4, gm_d3, gm_d2]; grind
end
section
/-! PLAIN PART 3: laws of gm_det; the count of rounds by the determinant -/
def gm_row (M : Nat → Nat → Int) (c : Nat) (R : Nat → Int) : Nat → Nat → Int := fun p q => if p = c then R q else M p q
theorem gm_lin (M : Nat → Nat → Int) {c : Nat} (hc : c < 5) : ∃ C : Nat → Int, ∀ R : Nat → Int, gm_det 5 (gm_row M c R) = R 0 * C 0 + R 1 * C 1 + R 2 * C 2 + R 3 * C 3 + R 4 * C 4 := by
  have h5 : c = 0 ∨ c = 1 ∨ c = 2 ∨ c = 3 ∨ c = 4 := by omega
  rcases h5 with h | h | h | h | h <;> subst h
  · refine ⟨fun q => match q with
      | 0 => gm_d4 (M 1 1) (M 1 2) (M 1 3) (M 1 4) (M 2 1) (M 2 2) (M 2 3) (M 2 4) (M 3 1) (M 3 2) (M 3 3) (M 3 4) (M 4 1) (M 4 2) (M 4 3) (M 4 4)
      | 1 => -(gm_d4 (M 1 0) (M 1 2) (M 1 3) (M 1 4) (M 2 0) (M 2 2) (M 2 3) (M 2 4) (M 3 0) (M 3 2) (M 3 3) (M 3 4) (M 4 0) (M 4 2) (M 4 3) (M 4 4))
      | 2 => gm_d4 (M 1 0) (M 1 1) (M 1 3) (M 1 4) (M 2 0) (M 2 1) (M 2 3) (M 2 4) (M 3 0) (M 3 1) (M 3 3) (M 3 4) (M 4 0) (M 4 1) (M 4 3) (M 4 4)
      | 3 => -(gm_d4 (M 1 0) (M 1 1) (M 1 2) (M 1 4) (M 2 0) (M 2 1) (M 2 2) (M 2 4) (M 3 0) (M 3 1) (M 3 2) (M 3 4) (M 4 0) (M 4 1) (M 4 2) (M 4 4))
      | _ => gm_d4 (M 1 0) (M 1 1) (M 1 2) (M 1 3) (M 2 0) (M 2 1) (M 2 2) (M 2 3) (M 3 0) (M 3 1) (M 3 2) (M 3 3) (M 4 0) (M 4 1) (M 4 2) (M 4 3), fun R => ?_⟩
    show gm_d5 (R 0) (R 1) (R 2) (R 3) (R 4) (M 1 0) (M 1 1) (M 1 2) (M 1 3) (M 1 4) (M 2 0) (M 2 1) (M 2 2) (M 2 3) (M 2 4) (M 3 0) (M 3 1) (M 3 2) (M 3 3) (M 3 4) (M 4 0) (M 4 1) (M 4 2) (M 4 3) (M 4 4) = R 0 * (gm_d4 (M 1 1) (M 1 2) (M 1 3) (M 1 4) (M 2 1) (M 2 2) (M 2 3) (M 2 4) (M 3 1) (M 3 2) (M 3 3) (M 3 4) (M 4 1) (M 4 2) (M 4 3) (M 4 4)) + R 1 * (-(gm_d4 (M 1 0) (M 1 2) (M 1 3) (M 1 4) (M 2 0) (M 2 2) (M 2 3) (M 2 4) (M 3 0) (M 3 2) (M 3 3) (M 3 4) (M 4 0) (M 4 2) (M 4 3) (M 4 4))) + R 2 * (gm_d4 (M 1 0) (M 1 1) (M 1 3) (M 1 4) (M 2 0) (M 2 1) (M 2 3) (M 2 4) (M 3 0) (M 3 1) (M 3 3) (M 3 4) (M 4 0) (M 4 1) (M 4 3) (M 4 4)) + R 3 * (-(gm_d4 (M 1 0) (M 1 1) (M 1 2) (M 1 4) (M 2 0) (M 2 1) (M 2 2) (M 2 4) (M 3 0) (M 3 1) (M 3 2) (M 3 4) (M 4 0) (M 4 1) (M 4 2) (M 4 4))) + R 4 * (gm_d4 (M 1 0) (M 1 1) (M 1 2) (M 1 3) (M 2 0) (M 2 1) (M 2 2) (M 2 3) (M 3 0) (M 3 1) (M 3 2) (M 3 3) (M 4 0) (M 4 1) (M 4 2) (M 4 3))
    rw [gm_d5]; grind
  · refine ⟨fun q => match q with
      | 0 => -(gm_d4 (M 0 1) (M 0 2) (M 0 3) (M 0 4) (M 2 1) (M 2 2) (M 2 3) (M 2 4) (M 3 1) (M 3 2) (M 3 3) (M 3 4) (M 4 1) (M 4 2) (M 4 3) (M 4 4))
      | 1 => gm_d4 (M 0 0) (M 0 2) (M 0 3) (M 0 4) (M 2 0) (M 2 2) (M 2 3) (M 2 4) (M 3 0) (M 3 2) (M 3 3) (M 3 4) (M 4 0) (M 4 2) (M 4 3) (M 4 4)
      | 2 => -(gm_d4 (M 0 0) (M 0 1) (M 0 3) (M 0 4) (M 2 0) (M 2 1) (M 2 3) (M 2 4) (M 3 0) (M 3 1) (M 3 3) (M 3 4) (M 4 0) (M 4 1) (M 4 3) (M 4 4))
      | 3 => gm_d4 (M 0 0) (M 0 1) (M 0 2) (M 0 4) (M 2 0) (M 2 1) (M 2 2) (M 2 4) (M 3 0) (M 3 1) (M 3 2) (M 3 4) (M 4 0) (M 4 1) (M 4 2) (M 4 4)
      | _ => -(gm_d4 (M 0 0) (M 0 1) (M 0 2) (M 0 3) (M 2 0) (M 2 1) (M 2 2) (M 2 3) (M 3 0) (M 3 1) (M 3 2) (M 3 3) (M 4 0) (M 4 1) (M 4 2) (M 4 3)), fun R => ?_⟩
    show gm_d5 (M 0 0) (M 0 1) (M 0 2) (M 0 3) (M 0 4) (R 0) (R 1) (R 2) (R 3) (R 4) (M 2 0) (M 2 1) (M 2 2) (M 2 3) (M 2 4) (M 3 0) (M 3 1) (M 3 2) (M 3 3) (M 3 4) (M 4 0) (M 4 1) (M 4 2) (M 4 3) (M 4 4) = R 0 * (-(gm_d4 (M 0 1) (M 0 2) (M 0 3) (M 0 4) (M 2 1) (M 2 2) (M 2 3) (M 2 4) (M 3 1) (M 3 2) (M 3 3) (M 3 4) (M 4 1) (M 4 2) (M 4 3) (M 4 4))) + R 1 * (gm_d4 (M 0 0) (M 0 2) (M 0 3) (M 0 4) (M 2 0) (M 2 2) (M 2 3) (M 2 4) (M 3 0) (M 3 2) (M 3 3) (M 3 4) (M 4 0) (M 4 2) (M 4 3) (M 4 4)) + R 2 * (-(gm_d4 (M 0 0) (M 0 1) (M 0 3) (M 0 4) (M 2 0) (M 2 1) (M 2 3) (M 2 4) (M 3 0) (M 3 1) (M 3 3) (M 3 4) (M 4 0) (M 4 1) (M 4 3) (M 4 4))) + R 3 * (gm_d4 (M 0 0) (M 0 1) (M 0 2) (M 0 4) (M 2 0) (M 2 1) (M 2 2) (M 2 4) (M 3 0) (M 3 1) (M 3 2) (M 3 4) (M 4 0) (M 4 1) (M 4 2) (M 4 4)) + R 4 * (-(gm_d4 (M 0 0) (M 0 1) (M 0 2) (M 0 3) (M 2 0) (M 2 1) (M 2 2) (M 2 3) (M 3 0) (M 3 1) (M 3 2) (M 3 3) (M 4 0) (M 4 1) (M 4 2) (M 4 3)))
    rw [gm_r5_1]; grind
  · refine ⟨fun q => match q with
      | 0 => gm_d4 (M 0 1) (M 0 2) (M 0 3) (M 0 4) (M 1 1) (M 1 2) (M 1 3) (M 1 4) (M 3 1) (M 3 2) (M 3 3) (M 3 4) (M 4 1) (M 4 2) (M 4 3) (M 4 4)
      | 1 => -(gm_d4 (M 0 0) (M 0 2) (M 0 3) (M 0 4) (M 1 0) (M 1 2) (M 1 3) (M 1 4) (M 3 0) (M 3 2) (M 3 3) (M 3 4) (M 4 0) (M 4 2) (M 4 3) (M 4 4))
      | 2 => gm_d4 (M 0 0) (M 0 1) (M 0 3) (M 0 4) (M 1 0) (M 1 1) (M 1 3) (M 1 4) (M 3 0) (M 3 1) (M 3 3) (M 3 4) (M 4 0) (M 4 1) (M 4 3) (M 4 4)
      | 3 => -(gm_d4 (M 0 0) (M 0 1) (M 0 2) (M 0 4) (M 1 0) (M 1 1) (M 1 2) (M 1 4) (M 3 0) (M 3 1) (M 3 2) (M 3 4) (M 4 0) (M 4 1) (M 4 2) (M 4 4))
      | _ => gm_d4 (M 0 0) (M 0 1) (M 0 2) (M 0 3) (M 1 0) (M 1 1) (M 1 2) (M 1 3) (M 3 0) (M 3 1) (M 3 2) (M 3 3) (M 4 0) (M 4 1) (M 4 2) (M 4 3), fun R => ?_⟩
    show gm_d5 (M 0 0) (M 0 1) (M 0 2) (M 0 3) (M 0 4) (M 1 0) (M 1 1) (M 1 2) (M 1 3) (M 1 4) (R 0) (R 1) (R 2) (R 3) (R 4) (M 3 0) (M 3 1) (M 3 2) (M 3 3) (M 3 4) (M 4 0) (M 4 1) (M 4 2) (M 4 3) (M 4 4) = R 0 * (gm_d4 (M 0 1) (M 0 2) (M 0 3) (M 0 4) (M 1 1) (M 1 2) (M 1 3) (M 1 4) (M 3 1) (M 3 2) (M 3 3) (M 3 4) (M 4 1) (M 4 2) (M 4 3) (M 4 4)) + R 1 * (-(gm_d4 (M 0 0) (M 0 2) (M 0 3) (M 0 4) (M 1 0) (M 1 2) (M 1 3) (M 1 4) (M 3 0) (M 3 2) (M 3 3) (M 3 4) (M 4 0) (M 4 2) (M 4 3) (M 4 4))) + R 2 * (gm_d4 (M 0 0) (M 0 1) (M 0 3) (M 0 4) (M 1 0) (M 1 1) (M 1 3) (M 1 4) (M 3 0) (M 3 1) (M 3 3) (M 3 4) (M 4 0) (M 4 1) (M 4 3) (M 4 4)) + R 3 * (-(gm_d4 (M 0 0) (M 0 1) (M 0 2) (M 0 4) (M 1 0) (M 1 1) (M 1 2) (M 1 4) (M 3 0) (M 3 1) (M 3 2) (M 3 4) (M 4 0) (M 4 1) (M 4 2) (M 4 4))) + R 4 * (gm_d4 (M 0 0) (M 0 1) (M 0 2) (M 0 3) (M 1 0) (M 1 1) (M 1 2) (M 1 3) (M 3 0) (M 3 1) (M 3 2) (M 3 3) (M 4 0) (M 4 1) (M 4 2) (M 4 3))
    rw [gm_r5_2]; grind
  · refine ⟨fun q => match q with
      | 0 => -(gm_d4 (M 0 1) (M 0 2) (M 0 3) (M 0 4) (M 1 1) (M 1 2) (M 1 3) (M 1 4) (M 2 1) (M 2 2) (M 2 3) (M 2 4) (M 4 1) (M 4 2) (M 4 3) (M 4 4))
      | 1 => gm_d4 (M 0 0) (M 0 2) (M 0 3) (M 0 4) (M 1 0) (M 1 2) (M 1 3) (M 1 4) (M 2 0) (M 2 2) (M 2 3) (M 2 4) (M 4 0) (M 4 2) (M 4 3) (M 4 4)
      | 2 => -(gm_d4 (M 0 0) (M 0 1) (M 0 3) (M 0 4) (M 1 0) (M 1 1) (M 1 3) (M 1 4) (M 2 0) (M 2 1) (M 2 3) (M 2 4) (M 4 0) (M 4 1) (M 4 3) (M 4 4))
      | 3 => gm_d4 (M 0 0) (M 0 1) (M 0 2) (M 0 4) (M 1 0) (M 1 1) (M 1 2) (M 1 4) (M 2 0) (M 2 1) (M 2 2) (M 2 4) (M 4 0) (M 4 1) (M 4 2) (M 4 4)
      | _ => -(gm_d4 (M 0 0) (M 0 1) (M 0 2) (M 0 3) (M 1 0) (M 1 1) (M 1 2) (M 1 3) (M 2 0) (M 2 1) (M 2 2) (M 2 3) (M 4 0) (M 4 1) (M 4 2) (M 4 3)), fun R => ?_⟩
    show gm_d5 (M 0 0) (M 0 1) (M 0 2) (M 0 3) (M 0 4) (M 1 0) (M 1 1) (M 1 2) (M 1 3) (M 1 4) (M 2 0) (M 2 1) (M 2 2) (M 2 3) (M 2 4) (R 0) (R 1) (R 2) (R 3) (R 4) (M 4 0) (M 4 1) (M 4 2) (M 4 3) (M 4 4) = R 0 * (-(gm_d4 (M 0 1) (M 0 2) (M 0 3) (M 0 4) (M 1 1) (M 1 2) (M 1 3) (M 1 4) (M 2 1) (M 2 2) (M 2 3) (M 2 4) (M 4 1) (M 4 2) (M 4 3) (M 4 4))) + R 1 * (gm_d4 (M 0 0) (M 0 2) (M 0 3) (M 0 4) (M 1 0) (M 1 2) (M 1 3) (M 1 4) (M 2 0) (M 2 2) (M 2 3) (M 2 4) (M 4 0) (M 4 2) (M 4 3) (M 4 4)) + R 2 * (-(gm_d4 (M 0 0) (M 0 1) (M 0 3) (M 0 4) (M 1 0) (M 1 1) (M 1 3) (M 1 4) (M 2 0) (M 2 1) (M 2 3) (M 2 4) (M 4 0) (M 4 1) (M 4 3) (M 4 4))) + R 3 * (gm_d4 (M 0 0) (M 0 1) (M 0 2) (M 0 4) (M 1 0) (M 1 1) (M 1 2) (M 1 4) (M 2 0) (M 2 1) (M 2 2) (M 2 4) (M 4 0) (M 4 1) (M 4 2) (M 4 4)) + R 4 * (-(gm_d4 (M 0 0) (M 0 1) (M 0 2) (M 0 3) (M 1 0) (M 1 1) (M 1 2) (M 1 3) (M 2 0) (M 2 1) (M 2 2) (M 2 3) (M 4 0) (M 4 1) (M 4 2) (M 4 3)))
    rw [gm_r5_3]; grind
  · refine ⟨fun q => match q with
      | 0 => gm_d4 (M 0 1) (M 0 2) (M 0 3) (M 0 4) (M 1 1) (M 1 2) (M 1 3) (M 1 4) (M 2 1) (M 2 2) (M 2 3) (M 2 4) (M 3 1) (M 3 2) (M 3 3) (M 3 4)
      | 1 => -(gm_d4 (M 0 0) (M 0 2) (M 0 3) (M 0 4) (M 1 0) (M 1 2) (M 1 3) (M 1 4) (M 2 0) (M 2 2) (M 2 3) (M 2 4) (M 3 0) (M 3 2) (M 3 3) (M 3 4))
      | 2 => gm_d4 (M 0 0) (M 0 1) (M 0 3) (M 0 4) (M 1 0) (M 1 1) (M 1 3) (M 1 4) (M 2 0) (M 2 1) (M 2 3) (M 2 4) (M 3 0) (M 3 1) (M 3 3) (M 3 4)
      | 3 => -(gm_d4 (M 0 0) (M 0 1) (M 0 2) (M 0 4) (M 1 0) (M 1 1) (M 1 2) (M 1 4) (M 2 0) (M 2 1) (M 2 2) (M 2 4) (M 3 0) (M 3 1) (M 3 2) (M 3 4))
      | _ => gm_d4 (M 0 0) (M 0 1) (M 0 2) (M 0 3) (M 1 0) (M 1 1) (M 1 2) (M 1 3) (M 2 0) (M 2 1) (M 2 2) (M 2 3) (M 3 0) (M 3 1) (M 3 2) (M 3 3), fun R => ?_⟩
    show gm_d5 (M 0 0) (M 0 1) (M 0 2) (M 0 3) (M 0 4) (M 1 0) (M 1 1) (M 1 2) (M 1 3) (M 1 4) (M 2 0) (M 2 1) (M 2 2) (M 2 3) (M 2 4) (M 3 0) (M 3 1) (M 3 2) (M 3 3) (M 3 4) (R 0) (R 1) (R 2) (R 3) (R 4) = R 0 * (gm_d4 (M 0 1) (M 0 2) (M 0 3) (M 0 4) (M 1 1) (M 1 2) (M 1 3) (M 1 4) (M 2 1) (M 2 2) (M 2 3) (M 2 4) (M 3 1) (M 3 2) (M 3 3) (M 3 4)) + R 1 * (-(gm_d4 (M 0 0) (M 0 2) (M 0 3) (M 0 4) (M 1 0) (M 1 2) (M 1 3) (M 1 4) (M 2 0) (M 2 2) (M 2 3) (M 2 4) (M 3 0) (M 3 2) (M 3 3) (M 3 4))) + R 2 * (gm_d4 (M 0 0) (M 0 1) (M 0 3) (M 0 4) (M 1 0) (M 1 1) (M 1 3) (M 1 4) (M 2 0) (M 2 1) (M 2 3) (M 2 4) (M 3 0) (M 3 1) (M 3 3) (M 3 4)) + R 3 * (-(gm_d4 (M 0 0) (M 0 1) (M 0 2) (M 0 4) (M 1 0) (M 1 1) (M 1 2) (M 1 4) (M 2 0) (M 2 1) (M 2 2) (M 2 4) (M 3 0) (M 3 1) (M 3 2) (M 3 4))) + R 4 * (gm_d4 (M 0 0) (M 0 1) (M 0 2) (M 0 3) (M 1 0) (M 1 1) (M 1 2) (M 1 3) (M 2 0) (M 2 1) (M 2 2) (M 2 3) (M 3 0) (M 3 1) (M 3 2) (M 3 3))
    rw [gm_r5_4]; grind
theorem gm_ker (M : Nat → Nat → Int) (t : Nat → Int) (h : ∀ p, p < 5 → M p 0 * t 0 + M p 1 * t 1 + M p 2 * t 2 + M p 3 * t 3 + M p 4 * t 4 = 0) {j : Nat} (hj : j < 5) (ht : t j ≠ 0) : gm_det 5 M = 0 := by
  have h0 := h 0 (by omega)
  have h1 := h 1 (by omega)
  have h2 := h 2 (by omega)
  have h3 := h 3 (by omega)
  have h4 := h 4 (by omega)
  have key : t j * gm_det 5 M = 0 := by
    have h5 : j = 0 ∨ j = 1 ∨ j = 2 ∨ j = 3 ∨ j = 4 := by omega
    rcases h5 with e | e | e | e | e <;> subst e
    · show t 0 * gm_d5 (M 0 0) (M 0 1) (M 0 2) (M 0 3) (M 0 4) (M 1 0) (M 1 1) (M 1 2) (M 1 3) (M 1 4) (M 2 0) (M 2 1) (M 2 2) (M 2 3) (M 2 4) (M 3 0) (M 3 1) (M 3 2) (M 3 3) (M 3 4) (M 4 0) (M 4 1) (M 4 2) (M 4 3) (M 4 4) = 0
      rw [gm_k5_0 (M 0 0) (M 0 1) (M 0 2) (M 0 3) (M 0 4) (M 1 0) (M 1 1) (M 1 2) (M 1 3) (M 1 4) (M 2 0) (M 2 1) (M 2 2) (M 2 3) (M 2 4) (M 3 0) (M 3 1) (M 3 2) (M 3 3) (M 3 4) (M 4 0) (M 4 1) (M 4 2) (M 4 3) (M 4 4) (t 0) (t 1) (t 2) (t 3) (t 4), h0, h1, h2, h3, h4]; simp
    · show t 1 * gm_d5 (M 0 0) (M 0 1) (M 0 2) (M 0 3) (M 0 4) (M 1 0) (M 1 1) (M 1 2) (M 1 3) (M 1 4) (M 2 0) (M 2 1) (M 2 2) (M 2 3) (M 2 4) (M 3 0) (M 3 1) (M 3 2) (M 3 3) (M 3 4) (M 4 0) (M 4 1) (M 4 2) (M 4 3) (M 4 4) = 0
      rw [gm_k5_1 (M 0 0) (M 0 1) (M 0 2) (M 0 3) (M 0 4) (M 1 0) (M 1 1) (M 1 2) (M 1 3) (M 1 4) (M 2 0) (M 2 1) (M 2 2) (M 2 3) (M 2 4) (M 3 0) (M 3 1) (M 3 2) (M 3 3) (M 3 4) (M 4 0) (M 4 1) (M 4 2) (M 4 3) (M 4 4) (t 0) (t 1) (t 2) (t 3) (t 4), h0, h1, h2, h3, h4]; simp
    · show t 2 * gm_d5 (M 0 0) (M 0 1) (M 0 2) (M 0 3) (M 0 4) (M 1 0) (M 1 1) (M 1 2) (M 1 3) (M 1 4) (M 2 0) (M 2 1) (M 2 2) (M 2 3) (M 2 4) (M 3 0) (M 3 1) (M 3 2) (M 3 3) (M 3 4) (M 4 0) (M 4 1) (M 4 2) (M 4 3) (M 4 4) = 0
      rw [gm_k5_2 (M 0 0) (M 0 1) (M 0 2) (M 0 3) (M 0 4) (M 1 0) (M 1 1) (M 1 2) (M 1 3) (M 1 4) (M 2 0) (M 2 1) (M 2 2) (M 2 3) (M 2 4) (M 3 0) (M 3 1) (M 3 2) (M 3 3) (M 3 4) (M 4 0) (M 4 1) (M 4 2) (M 4 3) (M 4 4) (t 0) (t 1) (t 2) (t 3) (t 4), h0, h1, h2, h3, h4]; simp
    · show t 3 * gm_d5 (M 0 0) (M 0 1) (M 0 2) (M 0 3) (M 0 4) (M 1 0) (M 1 1) (M 1 2) (M 1 3) (M 1 4) (M 2 0) (M 2 1) (M 2 2) (M 2 3) (M 2 4) (M 3 0) (M 3 1) (M 3 2) (M 3 3) (M 3 4) (M 4 0) (M 4 1) (M 4 2) (M 4 3) (M 4 4) = 0
      rw [gm_k5_3 (M 0 0) (M 0 1) (M 0 2) (M 0 3) (M 0 4) (M 1 0) (M 1 1) (M 1 2) (M 1 3) (M 1 4) (M 2 0) (M 2 1) (M 2 2) (M 2 3) (M 2 4) (M 3 0) (M 3 1) (M 3 2) (M 3 3) (M 3 4) (M 4 0) (M 4 1) (M 4 2) (M 4 3) (M 4 4) (t 0) (t 1) (t 2) (t 3) (t 4), h0, h1, h2, h3, h4]; simp
    · show t 4 * gm_d5 (M 0 0) (M 0 1) (M 0 2) (M 0 3) (M 0 4) (M 1 0) (M 1 1) (M 1 2) (M 1 3) (M 1 4) (M 2 0) (M 2 1) (M 2 2) (M 2 3) (M 2 4) (M 3 0) (M 3 1) (M 3 2) (M 3 3) (M 3 4) (M 4 0) (M 4 1) (M 4 2) (M 4 3) (M 4 4) = 0
      rw [gm_k5_4 (M 0 0) (M 0 1) (M 0 2) (M 0 3) (M 0 4) (M 1 0) (M 1 1) (M 1 2) (M 1 3) (M 1 4) (M 2 0) (M 2 1) (M 2 2) (M 2 3) (M 2 4) (M 3 0) (M 3 1) (M 3 2) (M 3 3) (M 3 4) (M 4 0) (M 4 1) (M 4 2) (M 4 3) (M 4 4) (t 0) (t 1) (t 2) (t 3) (t 4), h0, h1, h2, h3, h4]; simp
  rcases Int.mul_eq_zero.mp key with e | e
  · exact absurd e ht
  · exact e
theorem gm_zc (M : Nat → Nat → Int) {c : Nat} (hc : c < 5) (h : ∀ p, p < 5 → M p c = 0) : gm_det 5 M = 0 := by
  have h0 := h 0 (by omega)
  have h1 := h 1 (by omega)
  have h2 := h 2 (by omega)
  have h3 := h 3 (by omega)
  have h4 := h 4 (by omega)
  have h5 : c = 0 ∨ c = 1 ∨ c = 2 ∨ c = 3 ∨ c = 4 := by omega
  rcases h5 with e | e | e | e | e <;> subst e
  · show gm_d5 (M 0 0) (M 0 1) (M 0 2) (M 0 3) (M 0 4) (M 1 0) (M 1 1) (M 1 2) (M 1 3) (M 1 4) (M 2 0) (M 2 1) (M 2 2) (M 2 3) (M 2 4) (M 3 0) (M 3 1) (M 3 2) (M 3 3) (M 3 4) (M 4 0) (M 4 1) (M 4 2) (M 4 3) (M 4 4) = 0
    rw [h0, h1, h2, h3, h4]; exact gm_z5_0 (M 0 1) (M 0 2) (M 0 3) (M 0 4) (M 1 1) (M 1 2) (M 1 3) (M 1 4) (M 2 1) (M 2 2) (M 2 3) (M 2 4) (M 3 1) (M 3 2) (M 3 3) (M 3 4) (M 4 1) (M 4 2) (M 4 3) (M 4 4)
  · show gm_d5 (M 0 0) (M 0 1) (M 0 2) (M 0 3) (M 0 4) (M 1 0) (M 1 1) (M 1 2) (M 1 3) (M 1 4) (M 2 0) (M 2 1) (M 2 2) (M 2 3) (M 2 4) (M 3 0) (M 3 1) (M 3 2) (M 3 3) (M 3 4) (M 4 0) (M 4 1) (M 4 2) (M 4 3) (M 4 4) = 0
    rw [h0, h1, h2, h3, h4]; exact gm_z5_1 (M 0 0) (M 0 2) (M 0 3) (M 0 4) (M 1 0) (M 1 2) (M 1 3) (M 1 4) (M 2 0) (M 2 2) (M 2 3) (M 2 4) (M 3 0) (M 3 2) (M 3 3) (M 3 4) (M 4 0) (M 4 2) (M 4 3) (M 4 4)
  · show gm_d5 (M 0 0) (M 0 1) (M 0 2) (M 0 3) (M 0 4) (M 1 0) (M 1 1) (M 1 2) (M 1 3) (M 1 4) (M 2 0) (M 2 1) (M 2 2) (M 2 3) (M 2 4) (M 3 0) (M 3 1) (M 3 2) (M 3 3) (M 3 4) (M 4 0) (M 4 1) (M 4 2) (M 4 3) (M 4 4) = 0
    rw [h0, h1, h2, h3, h4]; exact gm_z5_2 (M 0 0) (M 0 1) (M 0 3) (M 0 4) (M 1 0) (M 1 1) (M 1 3) (M 1 4) (M 2 0) (M 2 1) (M 2 3) (M 2 4) (M 3 0) (M 3 1) (M 3 3) (M 3 4) (M 4 0) (M 4 1) (M 4 3) (M 4 4)
  · show gm_d5 (M 0 0) (M 0 1) (M 0 2) (M 0 3) (M 0 4) (M 1 0) (M 1 1) (M 1 2) (M 1 3) (M 1 4) (M 2 0) (M 2 1) (M 2 2) (M 2 3) (M 2 4) (M 3 0) (M 3 1) (M 3 2) (M 3 3) (M 3 4) (M 4 0) (M 4 1) (M 4 2) (M 4 3) (M 4 4) = 0
    rw [h0, h1, h2, h3, h4]; exact gm_z5_3 (M 0 0) (M 0 1) (M 0 2) (M 0 4) (M 1 0) (M 1 1) (M 1 2) (M 1 4) (M 2 0) (M 2 1) (M 2 2) (M 2 4) (M 3 0) (M 3 1) (M 3 2) (M 3 4) (M 4 0) (M 4 1) (M 4 2) (M 4 4)
  · show gm_d5 (M 0 0) (M 0 1) (M 0 2) (M 0 3) (M 0 4) (M 1 0) (M 1 1) (M 1 2) (M 1 3) (M 1 4) (M 2 0) (M 2 1) (M 2 2) (M 2 3) (M 2 4) (M 3 0) (M 3 1) (M 3 2) (M 3 3) (M 3 4) (M 4 0) (M 4 1) (M 4 2) (M 4 3) (M 4 4) = 0
    rw [h0, h1, h2, h3, h4]; exact gm_z5_4 (M 0 0) (M 0 1) (M 0 2) (M 0 3) (M 1 0) (M 1 1) (M 1 2) (M 1 3) (M 2 0) (M 2 1) (M 2 2) (M 2 3) (M 3 0) (M 3 1) (M 3 2) (M 3 3) (M 4 0) (M 4 1) (M 4 2) (M 4 3)
def gm_sk (p i : Nat) : Nat := if i < p then i else i + 1
theorem gm_unit (M : Nat → Nat → Int) {s p : Nat} (hs : s < 5) (hp : p ≤ s) (h : ∀ j, j ≤ s → M p j = if j = p then 1 else 0) : gm_det (s + 1) M = gm_det s (fun i j => M (gm_sk p i) (gm_sk p j)) := by
  have h5 : s = 0 ∨ s = 1 ∨ s = 2 ∨ s = 3 ∨ s = 4 := by omega
  rcases h5 with e | e | e | e | e <;> subst e
  · obtain rfl : p = 0 := by omega
    exact h 0 (by omega)
  · have h6 : p = 0 ∨ p = 1 := by omega
    rcases h6 with e | e <;> subst e
    · have e0 : M 0 0 = 1 := h 0 (by omega)
      have e1 : M 0 1 = 0 := h 1 (by omega)
      show gm_d2 (M 0 0) (M 0 1) (M 1 0) (M 1 1) = (M 1 1)
      rw [e0, e1]; exact gm_u2_0 (M 1 0) (M 1 1)
    · have e0 : M 1 0 = 0 := h 0 (by omega)
      have e1 : M 1 1 = 1 := h 1 (by omega)
      show gm_d2 (M 0 0) (M 0 1) (M 1 0) (M 1 1) = (M 0 0)
      rw [e0, e1]; exact gm_u2_1 (M 0 0) (M 0 1)
  · have h6 : p = 0 ∨ p = 1 ∨ p = 2 := by omega
    rcases h6 with e | e | e <;> subst e
    · have e0 : M 0 0 = 1 := h 0 (by omega)
      have e1 : M 0 1 = 0 := h 1 (by omega)
      have e2 : M 0 2 = 0 := h 2 (by omega)
      show gm_d3 (M 0 0) (M 0 1) (M 0 2) (M 1 0) (M 1 1) (M 1 2) (M 2 0) (M 2 1) (M 2 2) = gm_d2 (M 1 1) (M 1 2) (M 2 1) (M 2 2)
      rw [e0, e1, e2]; exact gm_u3_0 (M 1 0) (M 1 1) (M 1 2) (M 2 0) (M 2 1) (M 2 2)
    · have e0 : M 1 0 = 0 := h 0 (by omega)
      have e1 : M 1 1 = 1 := h 1 (by omega)
      have e2 : M 1 2 = 0 := h 2 (by omega)
      show gm_d3 (M 0 0) (M 0 1) (M 0 2) (M 1 0) (M 1 1) (M 1 2) (M 2 0) (M 2 1) (M 2 2) = gm_d2 (M 0 0) (M 0 2) (M 2 0) (M 2 2)
      rw [e0, e1, e2]; exact gm_u3_1 (M 0 0) (M 0 1) (M 0 2) (M 2 0) (M 2 1) (M 2 2)
    · have e0 : M 2 0 = 0 := h 0 (by omega)
      have e1 : M 2 1 = 0 := h 1 (by omega)
      have e2 : M 2 2 = 1 := h 2 (by omega)
      show gm_d3 (M 0 0) (M 0 1) (M 0 2) (M 1 0) (M 1 1) (M 1 2) (M 2 0) (M 2 1) (M 2 2) = gm_d2 (M 0 0) (M 0 1) (M 1 0) (M 1 1)
      rw [e0, e1, e2]; exact gm_u3_2 (M 0 0) (M 0 1) (M 0 2) (M 1 0) (M 1 1) (M 1 2)
  · have h6 : p = 0 ∨ p = 1 ∨ p = 2 ∨ p = 3 := by omega
    rcases h6 with e | e | e | e <;> subst e
    · have e0 : M 0 0 = 1 := h 0 (by omega)
      have e1 : M 0 1 = 0 := h 1 (by omega)
      have e2 : M 0 2 = 0 := h 2 (by omega)
      have e3 : M 0 3 = 0 := h 3 (by omega)
      show gm_d4 (M 0 0) (M 0 1) (M 0 2) (M 0 3) (M 1 0) (M 1 1) (M 1 2) (M 1 3) (M 2 0) (M 2 1) (M 2 2) (M 2 3) (M 3 0) (M 3 1) (M 3 2) (M 3 3) = gm_d3 (M 1 1) (M 1 2) (M 1 3) (M 2 1) (M 2 2) (M 2 3) (M 3 1) (M 3 2) (M 3 3)
      rw [e0, e1, e2, e3]; exact gm_u4_0 (M 1 0) (M 1 1) (M 1 2) (M 1 3) (M 2 0) (M 2 1) (M 2 2) (M 2 3) (M 3 0) (M 3 1) (M 3 2) (M 3 3)
    · have e0 : M 1 0 = 0 := h 0 (by omega)
      have e1 : M 1 1 = 1 := h 1 (by omega)
      have e2 : M 1 2 = 0 := h 2 (by omega)
      have e3 : M 1 3 = 0 := h 3 (by omega)
      show gm_d4 (M 0 0) (M 0 1) (M 0 2) (M 0 3) (M 1 0) (M 1 1) (M 1 2) (M 1 3) (M 2 0) (M 2 1) (M 2 2) (M 2 3) (M 3 0) (M 3 1) (M 3 2) (M 3 3) = gm_d3 (M 0 0) (M 0 2) (M 0 3) (M 2 0) (M 2 2) (M 2 3) (M 3 0) (M 3 2) (M 3 3)
      rw [e0, e1, e2, e3]; exact gm_u4_1 (M 0 0) (M 0 1) (M 0 2) (M 0 3) (M 2 0) (M 2 1) (M 2 2) (M 2 3) (M 3 0) (M 3 1) (M 3 2) (M 3 3)
    · have e0 : M 2 0 = 0 := h 0 (by omega)
      have e1 : M 2 1 = 0 := h 1 (by omega)
      have e2 : M 2 2 = 1 := h 2 (by omega)
      have e3 : M 2 3 = 0 := h 3 (by omega)
      show gm_d4 (M 0 0) (M 0 1) (M 0 2) (M 0 3) (M 1 0) (M 1 1) (M 1 2) (M 1 3) (M 2 0) (M 2 1) (M 2 2) (M 2 3) (M 3 0) (M 3 1) (M 3 2) (M 3 3) = gm_d3 (M 0 0) (M 0 1) (M 0 3) (M 1 0) (M 1 1) (M 1 3) (M 3 0) (M 3 1) (M 3 3)
      rw [e0, e1, e2, e3]; exact gm_u4_2 (M 0 0) (M 0 1) (M 0 2) (M 0 3) (M 1 0) (M 1 1) (M 1 2) (M 1 3) (M 3 0) (M 3 1) (M 3 2) (M 3 3)
    · have e0 : M 3 0 = 0 := h 0 (by omega)
      have e1 : M 3 1 = 0 := h 1 (by omega)
      have e2 : M 3 2 = 0 := h 2 (by omega)
      have e3 : M 3 3 = 1 := h 3 (by omega)
      show gm_d4 (M 0 0) (M 0 1) (M 0 2) (M 0 3) (M 1 0) (M 1 1) (M 1 2) (M 1 3) (M 2 0) (M 2 1) (M 2 2) (M 2 3) (M 3 0) (M 3 1) (M 3 2) (M 3 3) = gm_d3 (M 0 0) (M 0 1) (M 0 2) (M 1 0) (M 1 1) (M 1 2) (M 2 0) (M 2 1) (M 2 2)
      rw [e0, e1, e2, e3]; exact gm_u4_3 (M 0 0) (M 0 1) (M 0 2) (M 0 3) (M 1 0) (M 1 1) (M 1 2) (M 1 3) (M 2 0) (M 2 1) (M 2 2) (M 2 3)
  · have h6 : p = 0 ∨ p = 1 ∨ p = 2 ∨ p = 3 ∨ p = 4 := by omega
    rcases h6 with e | e | e | e | e <;> subst e
    · have e0 : M 0 0 = 1 := h 0 (by omega)
      have e1 : M 0 1 = 0 := h 1 (by omega)
      have e2 : M 0 2 = 0 := h 2 (by omega)
      have e3 : M 0 3 = 0 := h 3 (by omega)
      have e4 : M 0 4 = 0 := h 4 (by omega)
      show gm_d5 (M 0 0) (M 0 1) (M 0 2) (M 0 3) (M 0 4) (M 1 0) (M 1 1) (M 1 2) (M 1 3) (M 1 4) (M 2 0) (M 2 1) (M 2 2) (M 2 3) (M 2 4) (M 3 0) (M 3 1) (M 3 2) (M 3 3) (M 3 4) (M 4 0) (M 4 1) (M 4 2) (M 4 3) (M 4 4) = gm_d4 (M 1 1) (M 1 2) (M 1 3) (M 1 4) (M 2 1) (M 2 2) (M 2 3) (M 2 4) (M 3 1) (M 3 2) (M 3 3) (M 3 4) (M 4 1) (M 4 2) (M 4 3) (M 4 4)
      rw [e0, e1, e2, e3, e4]; exact gm_u5_0 (M 1 0) (M 1 1) (M 1 2) (M 1 3) (M 1 4) (M 2 0) (M 2 1) (M 2 2) (M 2 3) (M 2 4) (M 3 0) (M 3 1) (M 3 2) (M 3 3) (M 3 4) (M 4 0) (M 4 1) (M 4 2) (M 4 3) (M 4 4)
    · have e0 : M 1 0 = 0 := h 0 (by omega)
      have e1 : M 1 1 = 1 := h 1 (by omega)
      have e2 : M 1 2 = 0 := h 2 (by omega)
      have e3 : M 1 3 = 0 := h 3 (by omega)
      have e4 : M 1 4 = 0 := h 4 (by omega)
      show gm_d5 (M 0 0) (M 0 1) (M 0 2) (M 0 3) (M 0 4) (M 1 0) (M 1 1) (M 1 2) (M 1 3) (M 1 4) (M 2 0) (M 2 1) (M 2 2) (M 2 3) (M 2 4) (M 3 0) (M 3 1) (M 3 2) (M 3 3) (M 3 4) (M 4 0) (M 4 1) (M 4 2) (M 4 3) (M 4 4) = gm_d4 (M 0 0) (M 0 2) (M 0 3) (M 0 4) (M 2 0) (M 2 2) (M 2 3) (M 2 4) (M 3 0) (M 3 2) (M 3 3) (M 3 4) (M 4 0) (M 4 2) (M 4 3) (M 4 4)
      rw [e0, e1, e2, e3, e4]; exact gm_u5_1 (M 0 0) (M 0 1) (M 0 2) (M 0 3) (M 0 4) (M 2 0) (M 2 1) (M 2 2) (M 2 3) (M 2 4) (M 3 0) (M 3 1) (M 3 2) (M 3 3) (M 3 4) (M 4 0) (M 4 1) (M 4 2) (M 4 3) (M 4 4)
    · have e0 : M 2 0 = 0 := h 0 (by omega)
      have e1 : M 2 1 = 0 := h 1 (by omega)
      have e2 : M 2 2 = 1 := h 2 (by omega)
      have e3 : M 2 3 = 0 := h 3 (by omega)
      have e4 : M 2 4 = 0 := h 4 (by omega)
      show gm_d5 (M 0 0) (M 0 1) (M 0 2) (M 0 3) (M 0 4) (M 1 0) (M 1 1) (M 1 2) (M 1 3) (M 1 4) (M 2 0) (M 2 1) (M 2 2) (M 2 3) (M 2 4) (M 3 0) (M 3 1) (M 3 2) (M 3 3) (M 3 4) (M 4 0) (M 4 1) (M 4 2) (M 4 3) (M 4 4) = gm_d4 (M 0 0) (M 0 1) (M 0 3) (M 0 4) (M 1 0) (M 1 1) (M 1 3) (M 1 4) (M 3 0) (M 3 1) (M 3 3) (M 3 4) (M 4 0) (M 4 1) (M 4 3) (M 4 4)
      rw [e0, e1, e2, e3, e4]; exact gm_u5_2 (M 0 0) (M 0 1) (M 0 2) (M 0 3) (M 0 4) (M 1 0) (M 1 1) (M 1 2) (M 1 3) (M 1 4) (M 3 0) (M 3 1) (M 3 2) (M 3 3) (M 3 4) (M 4 0) (M 4 1) (M 4 2) (M 4 3) (M 4 4)
    · have e0 : M 3 0 = 0 := h 0 (by omega)
      have e1 : M 3 1 = 0 := h 1 (by omega)
      have e2 : M 3 2 = 0 := h 2 (by omega)
      have e3 : M 3 3 = 1 := h 3 (by omega)
      have e4 : M 3 4 = 0 := h 4 (by omega)
      show gm_d5 (M 0 0) (M 0 1) (M 0 2) (M 0 3) (M 0 4) (M 1 0) (M 1 1) (M 1 2) (M 1 3) (M 1 4) (M 2 0) (M 2 1) (M 2 2) (M 2 3) (M 2 4) (M 3 0) (M 3 1) (M 3 2) (M 3 3) (M 3 4) (M 4 0) (M 4 1) (M 4 2) (M 4 3) (M 4 4) = gm_d4 (M 0 0) (M 0 1) (M 0 2) (M 0 4) (M 1 0) (M 1 1) (M 1 2) (M 1 4) (M 2 0) (M 2 1) (M 2 2) (M 2 4) (M 4 0) (M 4 1) (M 4 2) (M 4 4)
      rw [e0, e1, e2, e3, e4]; exact gm_u5_3 (M 0 0) (M 0 1) (M 0 2) (M 0 3) (M 0 4) (M 1 0) (M 1 1) (M 1 2) (M 1 3) (M 1 4) (M 2 0) (M 2 1) (M 2 2) (M 2 3) (M 2 4) (M 4 0) (M 4 1) (M 4 2) (M 4 3) (M 4 4)
    · have e0 : M 4 0 = 0 := h 0 (by omega)
      have e1 : M 4 1 = 0 := h 1 (by omega)
      have e2 : M 4 2 = 0 := h 2 (by omega)
      have e3 : M 4 3 = 0 := h 3 (by omega)
      have e4 : M 4 4 = 1 := h 4 (by omega)
      show gm_d5 (M 0 0) (M 0 1) (M 0 2) (M 0 3) (M 0 4) (M 1 0) (M 1 1) (M 1 2) (M 1 3) (M 1 4) (M 2 0) (M 2 1) (M 2 2) (M 2 3) (M 2 4) (M 3 0) (M 3 1) (M 3 2) (M 3 3) (M 3 4) (M 4 0) (M 4 1) (M 4 2) (M 4 3) (M 4 4) = gm_d4 (M 0 0) (M 0 1) (M 0 2) (M 0 3) (M 1 0) (M 1 1) (M 1 2) (M 1 3) (M 2 0) (M 2 1) (M 2 2) (M 2 3) (M 3 0) (M 3 1) (M 3 2) (M 3 3)
      rw [e0, e1, e2, e3, e4]; exact gm_u5_4 (M 0 0) (M 0 1) (M 0 2) (M 0 3) (M 0 4) (M 1 0) (M 1 1) (M 1 2) (M 1 3) (M 1 4) (M 2 0) (M 2 1) (M 2 2) (M 2 3) (M 2 4) (M 3 0) (M 3 1) (M 3 2) (M 3 3) (M 3 4)
def gm_dg (m : Nat) (f : Nat → Nat) (S : Nat → Bool) (v : Nat) : Int := gm_w m S (fun e => f e == v)
def gm_pq (m : Nat) (a b : Nat → Nat) (S : Nat → Bool) (p q : Nat) : Int := gm_w m S (fun e => a e == p && b e == q)
def gm_M (m : Nat) (a b : Nat → Nat) (r : Nat) (S : Nat → Bool) : Nat → Nat → Int := fun p q => if p = r ∨ gm_dg m a S p = 0 then (if p = q then 1 else 0) else (if p = q then gm_dg m a S p else 0) - gm_pq m a b S p q
def gm_fc : Nat → Int
  | 0 => 1
  | 1 => 1
  | n + 2 => ((n : Int) + 1) * gm_fc (n + 1)
def gm_fI (d : Int) : Int := gm_fc d.toNat
theorem gm_fI_0 : gm_fI 0 = 1 := rfl
theorem gm_fI_1 : gm_fI 1 = 1 := rfl
theorem gm_fI_step {d : Int} (h : 2 ≤ d) : gm_fI d = (d - 1) * gm_fI (d - 1) := by
  obtain ⟨n, hn⟩ : ∃ n : Nat, d = (n : Int) + 2 := ⟨(d - 2).toNat, by omega⟩
  have h1 : d.toNat = n + 2 := by omega
  have h2 : (d - 1).toNat = n + 1 := by omega
  have h3 : d - 1 = (n : Int) + 1 := by omega
  unfold gm_fI
  rw [h1, h2, h3, gm_fc]
def gm_F (m : Nat) (a : Nat → Nat) (r : Nat) (S : Nat → Bool) (v : Nat) : Int := gm_fI (gm_dg m a S v + (if v = r then 1 else 0))
def gm_P (m : Nat) (a : Nat → Nat) (r : Nat) (S : Nat → Bool) : Int := gm_F m a r S 0 * gm_F m a r S 1 * gm_F m a r S 2 * gm_F m a r S 3 * gm_F m a r S 4
theorem gm_prod5 (F G : Nat → Int) {c : Nat} (hc : c < 5) (k : Int) (h : ∀ v, v ≠ c → F v = G v) (hk : k * F c = G c) : k * (F 0 * F 1 * F 2 * F 3 * F 4) = G 0 * G 1 * G 2 * G 3 * G 4 := by
  have h5 : c = 0 ∨ c = 1 ∨ c = 2 ∨ c = 3 ∨ c = 4 := by omega
  rcases h5 with e | e | e | e | e <;> subst e
  · rw [h 1 (by omega), h 2 (by omega), h 3 (by omega), h 4 (by omega), ← hk]; grind
  · rw [h 0 (by omega), h 2 (by omega), h 3 (by omega), h 4 (by omega), ← hk]; grind
  · rw [h 1 (by omega), h 0 (by omega), h 3 (by omega), h 4 (by omega), ← hk]; grind
  · rw [h 1 (by omega), h 2 (by omega), h 0 (by omega), h 4 (by omega), ← hk]; grind
  · rw [h 1 (by omega), h 2 (by omega), h 3 (by omega), h 0 (by omega), ← hk]; grind
theorem gm_dg_del {m : Nat} (f : Nat → Nat) {S : Nat → Bool} (v : Nat) {i : Nat} (hi : i < m) (hS : S i = true) : gm_dg m f (gm_del S i) v = gm_dg m f S v - (if f i = v then 1 else 0) := by
  unfold gm_dg
  rw [gm_w_del _ hi hS]
  simp only [beq_iff_eq]
theorem gm_pq_del {m : Nat} (a b : Nat → Nat) {S : Nat → Bool} (p q : Nat) {i : Nat} (hi : i < m) (hS : S i = true) : gm_pq m a b (gm_del S i) p q = gm_pq m a b S p q - (if a i = p ∧ b i = q then 1 else 0) := by
  unfold gm_pq
  rw [gm_w_del _ hi hS]
  simp only [Bool.and_eq_true, beq_iff_eq]
theorem gm_dg_nonneg (m : Nat) (f : Nat → Nat) (S : Nat → Bool) (v : Nat) : 0 ≤ gm_dg m f S v := gm_w_nonneg _ _ _
theorem gm_pq_nonneg (m : Nat) (a b : Nat → Nat) (S : Nat → Bool) (p q : Nat) : 0 ≤ gm_pq m a b S p q := gm_w_nonneg _ _ _
theorem gm_pq_le_a (m : Nat) (a b : Nat → Nat) (S : Nat → Bool) (p q : Nat) : gm_pq m a b S p q ≤ gm_dg m a S p :=
  gm_w_le (fun e _ h => by simp only [Bool.and_eq_true] at h ⊢; exact ⟨h.1, h.2.1⟩)
theorem gm_pq_le_b (m : Nat) (a b : Nat → Nat) (S : Nat → Bool) (p q : Nat) : gm_pq m a b S p q ≤ gm_dg m b S q :=
  gm_w_le (fun e _ h => by simp only [Bool.and_eq_true] at h ⊢; exact ⟨h.1, h.2.2⟩)
theorem gm_dg_le_all (m : Nat) (f : Nat → Nat) (S : Nat → Bool) (v : Nat) : gm_dg m f S v ≤ gm_w m S (fun _ => true) :=
  gm_w_le (fun e _ h => by simp only [Bool.and_eq_true] at h ⊢; exact ⟨h.1, trivial⟩)
theorem gm_dg_ge1 {m : Nat} (f : Nat → Nat) {S : Nat → Bool} {i : Nat} (hi : i < m) (hS : S i = true) : 1 ≤ gm_dg m f S (f i) := by
  have h := gm_dg_del f (f i) hi hS
  have h2 := gm_dg_nonneg m f (gm_del S i) (f i)
  rw [if_pos rfl] at h
  omega
/-- the factor of the orders, one edge out of c taken away -/
theorem gm_P_step {m : Nat} {a : Nat → Nat} {r : Nat} {S : Nat → Bool} {i : Nat} (hi : i < m) (hS : S i = true) (hc : a i < 5) (k : Int) (hk : k * gm_fI (gm_dg m a S (a i) - 1 + (if a i = r then 1 else 0)) = gm_fI (gm_dg m a S (a i) + (if a i = r then 1 else 0))) : k * gm_P m a r (gm_del S i) = gm_P m a r S := by
  unfold gm_P
  refine gm_prod5 (gm_F m a r (gm_del S i)) (gm_F m a r S) hc k (fun v hv => ?_) ?_
  · unfold gm_F
    rw [gm_dg_del a v hi hS, if_neg (fun h => hv h.symm), Int.sub_zero]
  · unfold gm_F
    rw [gm_dg_del a (a i) hi hS, if_pos rfl]
    exact hk
theorem gm_M_live {m : Nat} {a b : Nat → Nat} {r : Nat} {S : Nat → Bool} {p : Nat} (h1 : p ≠ r) (h2 : gm_dg m a S p ≠ 0) (q : Nat) : gm_M m a b r S p q = (if p = q then gm_dg m a S p else 0) - gm_pq m a b S p q := by
  unfold gm_M
  rw [if_neg (fun h => h.elim h1 h2)]
theorem gm_M_dead {m : Nat} {a b : Nat → Nat} {r : Nat} {S : Nat → Bool} {p : Nat} (h : p = r ∨ gm_dg m a S p = 0) (q : Nat) : gm_M m a b r S p q = if p = q then 1 else 0 := by
  unfold gm_M
  rw [if_pos h]
/-- a row that the edge taken away does not leave -/
theorem gm_M_keep {m : Nat} {a b : Nat → Nat} {r : Nat} {S : Nat → Bool} {i : Nat} (hi : i < m) (hS : S i = true) {p : Nat} (hp : a i ≠ p) (q : Nat) : gm_M m a b r (gm_del S i) p q = gm_M m a b r S p q := by
  have e1 : gm_dg m a (gm_del S i) p = gm_dg m a S p := by rw [gm_dg_del a p hi hS, if_neg hp, Int.sub_zero]
  have e2 : gm_pq m a b (gm_del S i) p q = gm_pq m a b S p q := by rw [gm_pq_del a b p q hi hS, if_neg (fun h => hp h.1), Int.sub_zero]
  unfold gm_M
  rw [e1, e2]
theorem gm_row_self (M : Nat → Nat → Int) (c : Nat) : gm_row M c (M c) = M := by
  funext p q
  unfold gm_row
  by_cases h : p = c
  · rw [if_pos h, h]
  · rw [if_neg h]
/-- the sum over the edges that leave c, in row c -/
theorem gm_rowsum {m : Nat} {a b : Nat → Nat} {S : Nat → Bool} (c q : Nat) (X C : Int) (hX : X = (if c = q then gm_dg m a S c else 0) - gm_pq m a b S c q) : gm_sm (fun e => if (S e && a e == c) = true then (X - ((if c = q then 1 else 0) - (if b e = q then 1 else 0))) * C else 0) m = (gm_dg m a S c - 1) * (X * C) := by
  have h1 : gm_sm (fun e => if (S e && a e == c) = true then (X - ((if c = q then 1 else 0) - (if b e = q then 1 else 0))) * C else 0) m = gm_sm (fun e => (if (S e && a e == c) = true then (X - (if c = q then 1 else 0)) * C else 0) + (if (S e && (a e == c && b e == q)) = true then C else 0)) m := by
    refine gm_sm_congr (fun e _ => ?_)
    by_cases h2 : (S e && a e == c) = true
    · rw [if_pos h2, if_pos h2]
      simp only [Bool.and_eq_true] at h2
      rw [h2.1, h2.2]
      simp only [Bool.true_and, beq_iff_eq]
      by_cases h3 : b e = q
      · rw [if_pos h3, if_pos h3]; grind
      · rw [if_neg h3, if_neg h3]; grind
    · rw [if_neg h2, if_neg h2, if_neg]
      · rfl
      · intro h3
        apply h2
        simp only [Bool.and_eq_true] at h3 ⊢
        exact ⟨h3.1, h3.2.1⟩
  rw [h1, gm_sm_add]
  have h4 := gm_sm_w m S (fun e => a e == c) ((X - (if c = q then 1 else 0)) * C)
  have h5 := gm_sm_w m S (fun e => a e == c && b e == q) C
  have h6 : gm_w m S (fun e => a e == c) = gm_dg m a S c := rfl
  have h7 : gm_w m S (fun e => a e == c && b e == q) = gm_pq m a b S c q := rfl
  rw [h6] at h4
  rw [h7] at h5
  rw [h4, h5]
  generalize gm_dg m a S c = d at hX ⊢
  generalize gm_pq m a b S c q = t at hX ⊢
  by_cases h8 : c = q
  · rw [if_pos h8] at hX ⊢; subst hX; grind
  · rw [if_neg h8] at hX ⊢; subst hX; grind
/-- the count of the ways through all edges of S from c to r, S with one more edge r → c being balanced: by the determinant and the orders at each place -/
theorem gm_best (m : Nat) (a b : Nat → Nat) (r : Nat) (hr : r < 5) : ∀ (k : Nat) (S : Nat → Bool) (c : Nat), c < 5 → (∀ e, e < m → S e = true → a e < 5 ∧ b e < 5) → gm_w m S (fun _ => true) = (k : Int) → (∀ v, v < 5 → gm_dg m a S v + (if v = r then 1 else 0) = gm_dg m b S v + (if v = c then 1 else 0)) → gm_T m a b k S c r = gm_det 5 (gm_M m a b r S) * gm_P m a r S := by
  intro k
  induction k with
  | zero =>
    intro S c hc hlt hk hbal
    have hz : ∀ (f : Nat → Nat) (v : Nat), gm_dg m f S v = 0 := fun f v => by
      have h1 := gm_dg_le_all m f S v
      have h2 := gm_dg_nonneg m f S v
      omega
    have hcr : c = r := by
      have h1 := hbal c hc
      rw [hz a, hz b, if_pos rfl] at h1
      by_cases h2 : c = r
      · exact h2
      · rw [if_neg h2] at h1; omega
    subst hcr
    have hM : ∀ p q, gm_M m a b c S p q = if p = q then 1 else 0 := fun p q => gm_M_dead (Or.inr (hz a p)) q
    have hD : gm_det 5 (gm_M m a b c S) = 1 := by
      have h1 : gm_M m a b c S = fun p q => if p = q then 1 else 0 := by funext p q; exact hM p q
      rw [h1]
      decide
    have hF : ∀ v, gm_F m a c S v = 1 := fun v => by
      unfold gm_F
      rw [hz a]
      by_cases h1 : v = c
      · rw [if_pos h1]; rfl
      · rw [if_neg h1]; rfl
    rw [hD]
    unfold gm_P
    rw [hF, hF, hF, hF, hF]
    simp [gm_T]
  | succ k ih =>
    intro S c hc hlt hk hbal
    have hsub : ∀ i, i < m → S i = true → (∀ e, e < m → gm_del S i e = true → a e < 5 ∧ b e < 5) := fun i _ _ e he h => hlt e he (by
      unfold gm_del at h
      simp only [Bool.and_eq_true] at h
      exact h.1)
    have hcard : ∀ i, i < m → S i = true → gm_w m (gm_del S i) (fun _ => true) = (k : Int) := fun i hi hS => by
      rw [gm_w_del _ hi hS, hk, if_pos rfl]
      omega
    have hbal' : ∀ i, i < m → S i = true → a i = c → (∀ v, v < 5 → gm_dg m a (gm_del S i) v + (if v = r then 1 else 0) = gm_dg m b (gm_del S i) v + (if v = b i then 1 else 0)) := fun i hi hS hai v hv => by
      have h1 := hbal v hv
      rw [gm_dg_del a v hi hS, gm_dg_del b v hi hS, hai]
      have e1 : (if c = v then (1 : Int) else 0) = if v = c then 1 else 0 := by
        by_cases h2 : c = v
        · rw [if_pos h2, if_pos h2.symm]
        · rw [if_neg h2, if_neg (fun h => h2 h.symm)]
      have e2 : (if b i = v then (1 : Int) else 0) = if v = b i then 1 else 0 := by
        by_cases h2 : b i = v
        · rw [if_pos h2, if_pos h2.symm]
        · rw [if_neg h2, if_neg (fun h => h2 h.symm)]
      rw [e1, e2]
      omega
    have hT : gm_T m a b (k + 1) S c r = gm_sm (fun e => if (S e && a e == c) = true then gm_det 5 (gm_M m a b r (gm_del S e)) * gm_P m a r (gm_del S e) else 0) m := by
      rw [gm_T]
      refine gm_sm_congr (fun e he => ?_)
      by_cases h1 : (S e && a e == c) = true
      · rw [if_pos h1, if_pos h1]
        simp only [Bool.and_eq_true, beq_iff_eq] at h1
        exact ih (gm_del S e) (b e) (hlt e he h1.1).2 (hsub e he h1.1) (hcard e he h1.1) (hbal' e he h1.1 h1.2)
      · rw [if_neg h1, if_neg h1]
    rw [hT]
    have hd0 := gm_dg_nonneg m a S c
    have hi0 := gm_dg_nonneg m b S c
    have hbc := hbal c hc
    rw [if_pos rfl] at hbc
    by_cases hcr : c = r
    · -- at the root
      subst hcr
      by_cases hD : gm_dg m a S c = 0
      · -- no edge leaves the root: no way, and the determinant is 0
        have hin : gm_dg m b S c = 0 := by
          rw [if_pos rfl] at hbc; omega
        have h1 : gm_sm (fun e => if (S e && a e == c) = true then gm_det 5 (gm_M m a b c (gm_del S e)) * gm_P m a c (gm_del S e) else 0) m = 0 := by
          refine gm_sm_zero (fun e he => ?_)
          have h2 := gm_w_eq0 hD he
          rw [if_neg (by rw [h2]; decide)]
        rw [h1]
        obtain ⟨e, he, hSe⟩ : ∃ e, e < m ∧ (S e && true) = true := gm_w_pos (S := S) (P := fun _ => true) (m := m) (by rw [hk]; omega)
        rw [Bool.and_true] at hSe
        have hae := (hlt e he hSe).1
        have hge := gm_dg_ge1 a he hSe
        have hdead : ∀ q, q < 5 → (q = c ∨ gm_dg m a S q = 0) → gm_dg m b S q = 0 := fun q hq h => by
          rcases h with h | h
          · rw [h]; exact hin
          · have h3 := hbal q hq
            have h4 := gm_dg_nonneg m b S q
            omega
        have hdet : gm_det 5 (gm_M m a b c S) = 0 := by
          refine gm_ker _ (fun q => if q = c ∨ gm_dg m a S q = 0 then 0 else 1) ?_ hae ?_
          · intro p hp
            by_cases h3 : p = c ∨ gm_dg m a S p = 0
            · rw [gm_M_dead h3, gm_M_dead h3, gm_M_dead h3, gm_M_dead h3, gm_M_dead h3]
              have h6 : ∀ q : Nat, (if p = q then (1 : Int) else 0) * (if q = c ∨ gm_dg m a S q = 0 then (0 : Int) else 1) = 0 := fun q => by
                by_cases h4 : p = q
                · rw [← h4, if_pos h3]; simp
                · rw [if_neg h4]; simp
              rw [h6, h6, h6, h6, h6]; rfl
            · have h7 : p ≠ c := fun h => h3 (Or.inl h)
              have h8 : gm_dg m a S p ≠ 0 := fun h => h3 (Or.inr h)
              have h9 : ∀ q, q < 5 → gm_M m a b c S p q * (if q = c ∨ gm_dg m a S q = 0 then (0 : Int) else 1) = (if p = q then gm_dg m a S p else 0) - gm_pq m a b S p q := fun q hq => by
                rw [gm_M_live h7 h8]
                by_cases h4 : q = c ∨ gm_dg m a S q = 0
                · rw [if_pos h4]
                  have h5 := hdead q hq h4
                  have h6 := gm_pq_le_b m a b S p q
                  have h10 := gm_pq_nonneg m a b S p q
                  have h11 : p ≠ q := fun h => h3 (h ▸ h4)
                  rw [if_neg h11]; omega
                · rw [if_neg h4]; simp
              rw [h9 0 (by omega), h9 1 (by omega), h9 2 (by omega), h9 3 (by omega), h9 4 (by omega)]
              have h12 : gm_dg m a S p = gm_pq m a b S p 0 + gm_pq m a b S p 1 + gm_pq m a b S p 2 + gm_pq m a b S p 3 + gm_pq m a b S p 4 := by
                unfold gm_dg gm_pq gm_w
                rw [← gm_sm_add, ← gm_sm_add, ← gm_sm_add, ← gm_sm_add]
                refine gm_sm_congr (fun i hi => ?_)
                cases h13 : S i with
                | false => simp
                | true =>
                  have h14 := (hlt i hi h13).2
                  simp only [Bool.true_and]
                  cases h15 : (a i == p) with
                  | false => simp
                  | true =>
                    simp only [Bool.true_and, beq_iff_eq]
                    have h16 : b i = 0 ∨ b i = 1 ∨ b i = 2 ∨ b i = 3 ∨ b i = 4 := by omega
                    rcases h16 with h | h | h | h | h <;> rw [h] <;> rfl
              have h17 : p = 0 ∨ p = 1 ∨ p = 2 ∨ p = 3 ∨ p = 4 := by omega
              generalize gm_dg m a S p = d at h12 ⊢
              generalize gm_pq m a b S p 0 = t0 at h12 ⊢
              generalize gm_pq m a b S p 1 = t1 at h12 ⊢
              generalize gm_pq m a b S p 2 = t2 at h12 ⊢
              generalize gm_pq m a b S p 3 = t3 at h12 ⊢
              generalize gm_pq m a b S p 4 = t4 at h12 ⊢
              rcases h17 with h | h | h | h | h <;> subst h <;> simp <;> omega
          · have h18 : ¬ (a e = c ∨ gm_dg m a S (a e) = 0) := fun h => by
              rcases h with h | h
              · rw [h] at hge; omega
              · omega
            (try dsimp only)
            rw [if_neg h18]; decide
        rw [hdet]; simp
      · have hkeep : ∀ e, e < m → S e = true → a e = c → gm_M m a b c (gm_del S e) = gm_M m a b c S := fun e he hSe hae => by
          funext p q
          by_cases h1 : a e = p
          · have h2 : p = c := by rw [← h1]; exact hae
            rw [gm_M_dead (Or.inl h2), gm_M_dead (Or.inl h2)]
          · exact gm_M_keep he hSe h1 q
        have hstep : ∀ e, e < m → S e = true → a e = c → gm_dg m a S c * gm_P m a c (gm_del S e) = gm_P m a c S := fun e he hSe hae => by
          refine gm_P_step he hSe (by rw [hae]; exact hc) _ ?_
          rw [hae, if_pos rfl, gm_fI_step (d := gm_dg m a S c + 1) (by omega)]
          have h1 : gm_dg m a S c + 1 - 1 = gm_dg m a S c := by omega
          have h2 : gm_dg m a S c - 1 + 1 = gm_dg m a S c := by omega
          rw [h1, h2]
        have h1 : gm_dg m a S c * gm_sm (fun e => if (S e && a e == c) = true then gm_det 5 (gm_M m a b c (gm_del S e)) * gm_P m a c (gm_del S e) else 0) m = gm_dg m a S c * (gm_det 5 (gm_M m a b c S) * gm_P m a c S) := by
          rw [← gm_sm_mul]
          have h2 := gm_sm_w m S (fun e => a e == c) (gm_det 5 (gm_M m a b c S) * gm_P m a c S)
          have h3 : gm_w m S (fun e => a e == c) = gm_dg m a S c := rfl
          rw [h3] at h2
          rw [← h2]
          refine gm_sm_congr (fun e he => ?_)
          by_cases h4 : (S e && a e == c) = true
          · rw [if_pos h4, if_pos h4]
            simp only [Bool.and_eq_true, beq_iff_eq] at h4
            rw [hkeep e he h4.1 h4.2, ← hstep e he h4.1 h4.2]
            grind
          · rw [if_neg h4, if_neg h4]; simp
        exact Int.eq_of_mul_eq_mul_left hD h1
    · -- away from the root
      rw [if_neg hcr] at hbc
      by_cases hD : gm_dg m a S c = 1
      · have hin : gm_dg m b S c = 0 := by omega
        obtain ⟨C, hC⟩ := gm_lin (gm_M m a b r S) hc
        have hsame : ∀ e, e < m → S e = true → a e = c → gm_det 5 (gm_M m a b r (gm_del S e)) = gm_det 5 (gm_M m a b r S) := fun e he hSe hae => by
          have h1 : gm_M m a b r (gm_del S e) = gm_row (gm_M m a b r S) c (fun q => if c = q then 1 else 0) := by
            funext p q
            unfold gm_row
            (try dsimp only)
            by_cases h2 : p = c
            · rw [if_pos h2, h2]
              refine gm_M_dead (Or.inr ?_) q
              rw [gm_dg_del a c he hSe, if_pos hae]; omega
            · rw [if_neg h2]
              exact gm_M_keep he hSe (fun h => h2 (by rw [← h]; exact hae)) q
          have hbe : b e ≠ c := fun h => by
            have h2 := gm_dg_ge1 b he hSe
            rw [h] at h2; omega
          have h3 : gm_M m a b r S = gm_row (gm_M m a b r S) c (fun q => (if c = q then 1 else 0) - (if b e = q then 1 else 0)) := by
            funext p q
            unfold gm_row
            (try dsimp only)
            by_cases h2 : p = c
            · rw [if_pos h2, h2, gm_M_live hcr (by omega), hD]
              have h4 := gm_pq_del a b c q he hSe
              have h5 := gm_pq_le_a m a b (gm_del S e) c q
              have h6 := gm_pq_nonneg m a b (gm_del S e) c q
              rw [gm_dg_del a c he hSe, if_pos hae] at h5
              have h7 : (if a e = c ∧ b e = q then (1 : Int) else 0) = if b e = q then 1 else 0 := by
                by_cases h8 : b e = q
                · rw [if_pos h8, if_pos ⟨hae, h8⟩]
                · rw [if_neg h8, if_neg (fun h => h8 h.2)]
              rw [h7] at h4
              omega
            · rw [if_neg h2]
          have h9 : gm_det 5 (gm_row (gm_M m a b r S) c (fun q => if b e = q then 1 else 0)) = 0 := by
            refine gm_zc _ hc (fun p hp => ?_)
            unfold gm_row
            (try dsimp only)
            by_cases h2 : p = c
            · rw [if_pos h2, if_neg hbe]
            · rw [if_neg h2]
              by_cases h4 : p = r ∨ gm_dg m a S p = 0
              · rw [gm_M_dead h4, if_neg h2]
              · rw [gm_M_live (fun h => h4 (Or.inl h)) (fun h => h4 (Or.inr h)), if_neg h2]
                have h5 := gm_pq_le_b m a b S p c
                have h6 := gm_pq_nonneg m a b S p c
                omega
          rw [h1, hC]
          rw [hC] at h9
          rw [h3, hC]
          (try dsimp only at h9 ⊢)
          simp only [Int.sub_mul]
          omega
        have hP1 : ∀ e, e < m → S e = true → a e = c → gm_P m a r (gm_del S e) = gm_P m a r S := fun e he hSe hae => by
          have h1 := gm_P_step (a := a) (r := r) he hSe (by rw [hae]; exact hc) 1 (by
            rw [hae, if_neg hcr, hD]; rfl)
          rw [Int.one_mul] at h1
          exact h1
        have h2 := gm_sm_w m S (fun e => a e == c) (gm_det 5 (gm_M m a b r S) * gm_P m a r S)
        have h3 : gm_w m S (fun e => a e == c) = gm_dg m a S c := rfl
        rw [h3, hD, Int.one_mul] at h2
        rw [← h2]
        refine gm_sm_congr (fun e he => ?_)
        by_cases h4 : (S e && a e == c) = true
        · rw [if_pos h4, if_pos h4]
          simp only [Bool.and_eq_true, beq_iff_eq] at h4
          rw [hsame e he h4.1 h4.2, hP1 e he h4.1 h4.2]
        · rw [if_neg h4, if_neg h4]
      · have hd2 : 2 ≤ gm_dg m a S c := by omega
        obtain ⟨C, hC⟩ := gm_lin (gm_M m a b r S) hc
        have hdet : ∀ e, e < m → S e = true → a e = c → gm_det 5 (gm_M m a b r (gm_del S e)) = (gm_M m a b r S c 0 - ((if c = 0 then 1 else 0) - (if b e = 0 then 1 else 0))) * C 0 + (gm_M m a b r S c 1 - ((if c = 1 then 1 else 0) - (if b e = 1 then 1 else 0))) * C 1 + (gm_M m a b r S c 2 - ((if c = 2 then 1 else 0) - (if b e = 2 then 1 else 0))) * C 2 + (gm_M m a b r S c 3 - ((if c = 3 then 1 else 0) - (if b e = 3 then 1 else 0))) * C 3 + (gm_M m a b r S c 4 - ((if c = 4 then 1 else 0) - (if b e = 4 then 1 else 0))) * C 4 := fun e he hSe hae => by
          have h1 : gm_M m a b r (gm_del S e) = gm_row (gm_M m a b r S) c (fun q => gm_M m a b r S c q - ((if c = q then 1 else 0) - (if b e = q then 1 else 0))) := by
            funext p q
            unfold gm_row
            (try dsimp only)
            by_cases h2 : p = c
            · rw [if_pos h2, h2, gm_M_live hcr (by rw [gm_dg_del a c he hSe, if_pos hae]; omega), gm_M_live hcr (by omega), gm_dg_del a c he hSe, if_pos hae, gm_pq_del a b c q he hSe]
              have h7 : (if a e = c ∧ b e = q then (1 : Int) else 0) = if b e = q then 1 else 0 := by
                by_cases h8 : b e = q
                · rw [if_pos h8, if_pos ⟨hae, h8⟩]
                · rw [if_neg h8, if_neg (fun h => h8 h.2)]
              rw [h7]
              by_cases h9 : c = q
              · rw [if_pos h9, if_pos h9, if_pos h9]; omega
              · rw [if_neg h9, if_neg h9, if_neg h9]; omega
            · rw [if_neg h2]
              exact gm_M_keep he hSe (fun h => h2 (by rw [← h]; exact hae)) q
          rw [h1, hC]
        have hstep : ∀ e, e < m → S e = true → a e = c → (gm_dg m a S c - 1) * gm_P m a r (gm_del S e) = gm_P m a r S := fun e he hSe hae => by
          refine gm_P_step he hSe (by rw [hae]; exact hc) _ ?_
          rw [hae, if_neg hcr, Int.add_zero, Int.add_zero, ← gm_fI_step hd2]
        have hself := hC (gm_M m a b r S c)
        rw [gm_row_self] at hself
        have hq : ∀ q, gm_sm (fun e => if (S e && a e == c) = true then (gm_M m a b r S c q - ((if c = q then 1 else 0) - (if b e = q then 1 else 0))) * C q else 0) m = (gm_dg m a S c - 1) * (gm_M m a b r S c q * C q) := fun q => gm_rowsum c q _ _ (gm_M_live hcr (by omega) q)
        have hsum : gm_sm (fun e => if (S e && a e == c) = true then gm_det 5 (gm_M m a b r (gm_del S e)) else 0) m = (gm_dg m a S c - 1) * gm_det 5 (gm_M m a b r S) := by
          rw [hself, Int.mul_add, Int.mul_add, Int.mul_add, Int.mul_add, ← hq 0, ← hq 1, ← hq 2, ← hq 3, ← hq 4, ← gm_sm_add, ← gm_sm_add, ← gm_sm_add, ← gm_sm_add]
          refine gm_sm_congr (fun e he => ?_)
          by_cases h4 : (S e && a e == c) = true
          · simp only [if_pos h4]
            simp only [Bool.and_eq_true, beq_iff_eq] at h4
            rw [hdet e he h4.1 h4.2]
          · simp only [if_neg h4]; rfl
        have h1 : (gm_dg m a S c - 1) * gm_sm (fun e => if (S e && a e == c) = true then gm_det 5 (gm_M m a b r (gm_del S e)) * gm_P m a r (gm_del S e) else 0) m = (gm_dg m a S c - 1) * (gm_det 5 (gm_M m a b r S) * gm_P m a r S) := by
          rw [← gm_sm_mul, ← Int.mul_assoc, ← hsum, ← gm_sm_mulr]
          refine gm_sm_congr (fun e he => ?_)
          by_cases h4 : (S e && a e == c) = true
          · rw [if_pos h4, if_pos h4]
            simp only [Bool.and_eq_true, beq_iff_eq] at h4
            rw [← hstep e he h4.1 h4.2]
            grind
          · rw [if_neg h4, if_neg h4]; simp
        exact Int.eq_of_mul_eq_mul_left (by omega) h1
end
section
/-! PLAIN PART 4: the determinant by rows turned and taken away, in 64 bits -/
theorem gm_det_congr {M M' : Nat → Nat → Int} {s : Nat} (hs : s ≤ 4) (h : ∀ i j, i < s → j < s → M i j = M' i j) : gm_det s M = gm_det s M' := by
  have h5 : s = 0 ∨ s = 1 ∨ s = 2 ∨ s = 3 ∨ s = 4 := by omega
  rcases h5 with e | e | e | e | e <;> subst e
  · rfl
  · exact h 0 0 (by omega) (by omega)
  · simp only [gm_det]
    rw [h 0 0 (by omega) (by omega), h 0 1 (by omega) (by omega), h 1 0 (by omega) (by omega), h 1 1 (by omega) (by omega)]
  · simp only [gm_det]
    rw [h 0 0 (by omega) (by omega), h 0 1 (by omega) (by omega), h 0 2 (by omega) (by omega), h 1 0 (by omega) (by omega), h 1 1 (by omega) (by omega), h 1 2 (by omega) (by omega), h 2 0 (by omega) (by omega), h 2 1 (by omega) (by omega), h 2 2 (by omega) (by omega)]
  · simp only [gm_det]
    rw [h 0 0 (by omega) (by omega), h 0 1 (by omega) (by omega), h 0 2 (by omega) (by omega), h 0 3 (by omega) (by omega), h 1 0 (by omega) (by omega), h 1 1 (by omega) (by omega), h 1 2 (by omega) (by omega), h 1 3 (by omega) (by omega), h 2 0 (by omega) (by omega), h 2 1 (by omega) (by omega), h 2 2 (by omega) (by omega), h 2 3 (by omega) (by omega), h 3 0 (by omega) (by omega), h 3 1 (by omega) (by omega), h 3 2 (by omega) (by omega), h 3 3 (by omega) (by omega)]
/-- the minor of the first k rows and columns, with row i and column j -/
def gm_mn (k : Nat) (N : Nat → Nat → Int) (i j : Nat) : Int := gm_det (k + 1) (fun p q => N (if p < k then p else i) (if q < k then q else j))
theorem gm_mn_0 (N : Nat → Nat → Int) (i j : Nat) : gm_mn 0 N i j = N i j := rfl
theorem gm_mn_1 (N : Nat → Nat → Int) (i j : Nat) : gm_mn 1 N i j = gm_d2 (N 0 0) (N 0 j) (N i 0) (N i j) := rfl
theorem gm_mn_2 (N : Nat → Nat → Int) (i j : Nat) : gm_mn 2 N i j = gm_d3 (N 0 0) (N 0 1) (N 0 j) (N 1 0) (N 1 1) (N 1 j) (N i 0) (N i 1) (N i j) := rfl
theorem gm_mn_3 (N : Nat → Nat → Int) (i j : Nat) : gm_mn 3 N i j = gm_d4 (N 0 0) (N 0 1) (N 0 2) (N 0 j) (N 1 0) (N 1 1) (N 1 2) (N 1 j) (N 2 0) (N 2 1) (N 2 2) (N 2 j) (N i 0) (N i 1) (N i 2) (N i j) := rfl
theorem gm_mn_kk {k : Nat} (hk : k ≤ 3) (N : Nat → Nat → Int) : gm_mn k N k k = gm_det (k + 1) N := by
  refine gm_det_congr (by omega) (fun i j hi hj => ?_)
  by_cases h1 : i < k <;> by_cases h2 : j < k
  · rw [if_pos h1, if_pos h2]
  · rw [if_pos h1, if_neg h2, show j = k by omega]
  · rw [if_neg h1, if_pos h2, show i = k by omega]
  · rw [if_neg h1, if_neg h2, show i = k by omega, show j = k by omega]
theorem gm_syl {k : Nat} (hk : k ≤ 2) (N : Nat → Nat → Int) (i j : Nat) : gm_mn k N i j * gm_mn k N k k - gm_mn k N i k * gm_mn k N k j = gm_det k N * gm_mn (k + 1) N i j := by
  have h5 : k = 0 ∨ k = 1 ∨ k = 2 := by omega
  rcases h5 with e | e | e <;> subst e
  · rw [gm_mn_0, gm_mn_0, gm_mn_0, gm_mn_0, gm_mn_1]
    simp only [gm_det, gm_d2]; grind
  · rw [gm_mn_1, gm_mn_1, gm_mn_1, gm_mn_1, gm_mn_2]
    exact gm_y1 (N 0 0) (N 0 1) (N 0 j) (N 1 0) (N 1 1) (N 1 j) (N i 0) (N i 1) (N i j)
  · rw [gm_mn_2, gm_mn_2, gm_mn_2, gm_mn_2, gm_mn_3]
    exact gm_y2 (N 0 0) (N 0 1) (N 0 2) (N 0 j) (N 1 0) (N 1 1) (N 1 2) (N 1 j) (N 2 0) (N 2 1) (N 2 2) (N 2 j) (N i 0) (N i 1) (N i 2) (N i j)
/-- no row has a number in column k: the determinant is 0 -/
theorem gm_none {s k : Nat} (hs : s ≤ 4) (hk : k < s) (N : Nat → Nat → Int) (hp : gm_det k N ≠ 0) (h : ∀ i, k ≤ i → i < s → gm_mn k N i k = 0) : gm_det s N = 0 := by
  by_cases hl : k + 1 = s
  · rw [← hl, ← gm_mn_kk (by omega)]
    exact h k (by omega) (by omega)
  · have h5 : (k = 0 ∧ s = 2) ∨ (k = 0 ∧ s = 3) ∨ (k = 0 ∧ s = 4) ∨ (k = 1 ∧ s = 3) ∨ (k = 1 ∧ s = 4) ∨ (k = 2 ∧ s = 4) := by omega
    rcases h5 with e | e | e | e | e | e <;> obtain ⟨rfl, rfl⟩ := e
    · have e0 : N 0 0 = 0 := h 0 (by omega) (by omega)
      have e1 : N 1 0 = 0 := h 1 (by omega) (by omega)
      simp only [gm_det, e0, e1, gm_d2]; grind
    · have e0 : N 0 0 = 0 := h 0 (by omega) (by omega)
      have e1 : N 1 0 = 0 := h 1 (by omega) (by omega)
      have e2 : N 2 0 = 0 := h 2 (by omega) (by omega)
      simp only [gm_det, e0, e1, e2, gm_d3, gm_d2]; grind
    · have e0 : N 0 0 = 0 := h 0 (by omega) (by omega)
      have e1 : N 1 0 = 0 := h 1 (by omega) (by omega)
      have e2 : N 2 0 = 0 := h 2 (by omega) (by omega)
      have e3 : N 3 0 = 0 := h 3 (by omega) (by omega)
      simp only [gm_det, e0, e1, e2, e3, gm_d4, gm_d3, gm_d2]; grind
    · have e1 := h 1 (by omega) (by omega)
      have e2 := h 2 (by omega) (by omega)
      rw [gm_mn_1] at e1 e2
      have h1 := gm_y1 (N 0 0) (N 0 1) (N 0 2) (N 1 0) (N 1 1) (N 1 2) (N 2 0) (N 2 1) (N 2 2)
      rw [e1, e2] at h1
      have h2 : N 0 0 * gm_det 3 N = 0 := by
        show N 0 0 * gm_d3 _ _ _ _ _ _ _ _ _ = 0
        rw [← h1]; simp
      rcases Int.mul_eq_zero.mp h2 with h3 | h3
      · exact absurd h3 hp
      · exact h3
    · have e1 := h 1 (by omega) (by omega)
      have e2 := h 2 (by omega) (by omega)
      have e3 := h 3 (by omega) (by omega)
      rw [gm_mn_1] at e1 e2 e3
      have h1 := gm_f4 (N 0 0) (N 0 1) (N 0 2) (N 0 3) (N 1 0) (N 1 1) (N 1 2) (N 1 3) (N 2 0) (N 2 1) (N 2 2) (N 2 3) (N 3 0) (N 3 1) (N 3 2) (N 3 3)
      rw [e1, e2, e3] at h1
      have h2 : N 0 0 * gm_det 4 N = 0 := by
        show N 0 0 * gm_d4 _ _ _ _ _ _ _ _ _ _ _ _ _ _ _ _ = 0
        rw [h1]; simp
      rcases Int.mul_eq_zero.mp h2 with h3 | h3
      · exact absurd h3 hp
      · exact h3
    · have e2 := h 2 (by omega) (by omega)
      have e3 := h 3 (by omega) (by omega)
      rw [gm_mn_2] at e2 e3
      have h1 := gm_y2 (N 0 0) (N 0 1) (N 0 2) (N 0 3) (N 1 0) (N 1 1) (N 1 2) (N 1 3) (N 2 0) (N 2 1) (N 2 2) (N 2 3) (N 3 0) (N 3 1) (N 3 2) (N 3 3)
      rw [e2, e3] at h1
      have h2 : gm_det 2 N * gm_det 4 N = 0 := by
        show gm_d2 _ _ _ _ * gm_d4 _ _ _ _ _ _ _ _ _ _ _ _ _ _ _ _ = 0
        rw [← h1]; simp
      rcases Int.mul_eq_zero.mp h2 with h3 | h3
      · exact absurd h3 hp
      · exact h3
def gm_sw (k r i : Nat) : Nat := if i = k then r else if i = r then k else i
theorem gm_swap {s k r : Nat} (hs : s ≤ 4) (hk : k < r) (hr : r < s) (N : Nat → Nat → Int) : gm_det s (fun i j => N (gm_sw k r i) j) = -(gm_det s N) := by
  have h5 : (s = 2 ∧ k = 0 ∧ r = 1) ∨ (s = 3 ∧ k = 0 ∧ r = 1) ∨ (s = 3 ∧ k = 0 ∧ r = 2) ∨ (s = 3 ∧ k = 1 ∧ r = 2) ∨ (s = 4 ∧ k = 0 ∧ r = 1) ∨ (s = 4 ∧ k = 0 ∧ r = 2) ∨ (s = 4 ∧ k = 0 ∧ r = 3) ∨ (s = 4 ∧ k = 1 ∧ r = 2) ∨ (s = 4 ∧ k = 1 ∧ r = 3) ∨ (s = 4 ∧ k = 2 ∧ r = 3) := by omega
  rcases h5 with e | e | e | e | e | e | e | e | e | e <;> obtain ⟨rfl, rfl, rfl⟩ := e
  · exact gm_s2_01 (N 0 0) (N 0 1) (N 1 0) (N 1 1)
  · exact gm_s3_01 (N 0 0) (N 0 1) (N 0 2) (N 1 0) (N 1 1) (N 1 2) (N 2 0) (N 2 1) (N 2 2)
  · exact gm_s3_02 (N 0 0) (N 0 1) (N 0 2) (N 1 0) (N 1 1) (N 1 2) (N 2 0) (N 2 1) (N 2 2)
  · exact gm_s3_12 (N 0 0) (N 0 1) (N 0 2) (N 1 0) (N 1 1) (N 1 2) (N 2 0) (N 2 1) (N 2 2)
  · exact gm_s4_01 (N 0 0) (N 0 1) (N 0 2) (N 0 3) (N 1 0) (N 1 1) (N 1 2) (N 1 3) (N 2 0) (N 2 1) (N 2 2) (N 2 3) (N 3 0) (N 3 1) (N 3 2) (N 3 3)
  · exact gm_s4_02 (N 0 0) (N 0 1) (N 0 2) (N 0 3) (N 1 0) (N 1 1) (N 1 2) (N 1 3) (N 2 0) (N 2 1) (N 2 2) (N 2 3) (N 3 0) (N 3 1) (N 3 2) (N 3 3)
  · exact gm_s4_03 (N 0 0) (N 0 1) (N 0 2) (N 0 3) (N 1 0) (N 1 1) (N 1 2) (N 1 3) (N 2 0) (N 2 1) (N 2 2) (N 2 3) (N 3 0) (N 3 1) (N 3 2) (N 3 3)
  · exact gm_s4_12 (N 0 0) (N 0 1) (N 0 2) (N 0 3) (N 1 0) (N 1 1) (N 1 2) (N 1 3) (N 2 0) (N 2 1) (N 2 2) (N 2 3) (N 3 0) (N 3 1) (N 3 2) (N 3 3)
  · exact gm_s4_13 (N 0 0) (N 0 1) (N 0 2) (N 0 3) (N 1 0) (N 1 1) (N 1 2) (N 1 3) (N 2 0) (N 2 1) (N 2 2) (N 2 3) (N 3 0) (N 3 1) (N 3 2) (N 3 3)
  · exact gm_s4_23 (N 0 0) (N 0 1) (N 0 2) (N 0 3) (N 1 0) (N 1 1) (N 1 2) (N 1 3) (N 2 0) (N 2 1) (N 2 2) (N 2 3) (N 3 0) (N 3 1) (N 3 2) (N 3 3)
theorem gm_l_toInt {v : Int} (h : v.natAbs ≤ 4000000000000000000) : (Int64.ofInt v).toInt = v := Int64.toInt_ofInt_of_le (by omega) (by omega)
theorem gm_l_inj {v w : Int} (hv : v.natAbs ≤ 4000000000000000000) (hw : w.natAbs ≤ 4000000000000000000) (h : Int64.ofInt v = Int64.ofInt w) : v = w := by
  rw [← gm_l_toInt hv, ← gm_l_toInt hw, h]
theorem gm_l_div {p q : Int} (hp : p ≠ 0) (h1 : p.natAbs ≤ 4000000000000000000) (h2 : (p * q).natAbs ≤ 4000000000000000000) : Int64.ofInt (p * q) / Int64.ofInt p = Int64.ofInt q := by
  have e1 : Int64.minValue.toInt = -9223372036854775808 := by decide
  have e2 : Int64.maxValue.toInt = 9223372036854775807 := by decide
  rw [← Int64.ofInt_tdiv (by rw [e1]; omega) (by rw [e2]; omega) (by rw [e1]; omega) (by rw [e2]; omega), Int.mul_tdiv_cancel_left q hp]
theorem gm_abs_mul {x1 x2 : Int} {B : Nat} (h1 : x1.natAbs ≤ B) (h2 : x2.natAbs ≤ B) : (x1 * x2).natAbs ≤ B * B := by
  rw [Int.natAbs_mul]
  exact Nat.mul_le_mul h1 h2
theorem gm_abs_div {p q : Int} {B : Nat} (hp : p ≠ 0) (h : (p * q).natAbs ≤ B) : q.natAbs ≤ B := by
  rw [Int.natAbs_mul] at h
  have h1 : 1 ≤ p.natAbs := by omega
  exact Nat.le_trans (Nat.le_mul_of_pos_left _ h1) h
def gm_bd (k : Nat) : Nat := match k with
  | 0 => 10
  | 1 => 200
  | 2 => 80000
  | _ => 12800000000
theorem gm_bd_le (k : Nat) : gm_bd k ≤ 12800000000 := by
  match k with
  | 0 => decide
  | 1 => decide
  | 2 => decide
  | k + 3 => exact Nat.le_refl _
theorem gm_bd_step {k : Nat} (hk : k ≤ 2) : gm_bd k * gm_bd k + gm_bd k * gm_bd k ≤ gm_bd (k + 1) := by
  have h5 : k = 0 ∨ k = 1 ∨ k = 2 := by omega
  rcases h5 with e | e | e <;> subst e <;> decide
/-- what stands behind k columns: the table holds the minors of some order of the rows -/
def gm_J (s : Nat) (N : Nat → Nat → Int) (k : Nat) (t : Nat → Nat → Int64) (p : Int64) (tu : Bool) : Prop :=
  ∃ N' : Nat → Nat → Int, gm_det s N = (if tu = true then -(gm_det s N') else gm_det s N') ∧ gm_det k N' ≠ 0 ∧ (gm_det k N').natAbs ≤ 12800000000 ∧ p = Int64.ofInt (gm_det k N') ∧ ∀ i j, k ≤ i → i < s → k ≤ j → j < s → t i j = Int64.ofInt (gm_mn k N' i j) ∧ (gm_mn k N' i j).natAbs ≤ gm_bd k
theorem gm_J_0 {s : Nat} {N : Nat → Nat → Int} {t : Nat → Nat → Int64} (h : ∀ i j, i < s → j < s → t i j = Int64.ofInt (N i j) ∧ (N i j).natAbs ≤ 10) : gm_J s N 0 t 1 false :=
  ⟨N, rfl, (by decide : (1 : Int) ≠ 0), (by decide : (1 : Int).natAbs ≤ 12800000000), rfl, fun i j _ hi _ hj => h i j hi hj⟩
theorem gm_J_p {s : Nat} {N : Nat → Nat → Int} {k : Nat} {t : Nat → Nat → Int64} {p : Int64} {tu : Bool} (h : gm_J s N k t p tu) : p ≠ 0 := by
  obtain ⟨N', -, h2, h3, h4, -⟩ := h
  intro h5
  rw [h4] at h5
  exact h2 (gm_l_inj (by omega) (by decide) (h5.trans (show (0 : Int64) = Int64.ofInt 0 by decide)))
theorem gm_J_none {s : Nat} {N : Nat → Nat → Int} {k : Nat} {t : Nat → Nat → Int64} {p : Int64} {tu : Bool} (hs : s ≤ 4) (hk : k < s) (h : gm_J s N k t p tu) (h0 : ∀ i, k ≤ i → i < s → t i k = 0) : gm_det s N = 0 := by
  obtain ⟨N', h1, h2, h3, h4, h5⟩ := h
  have h6 : gm_det s N' = 0 := by
    refine gm_none hs hk N' h2 (fun i hi his => ?_)
    obtain ⟨h7, h8⟩ := h5 i k hi his (Nat.le_refl k) hk
    rw [h0 i hi his] at h7
    have h9 := gm_bd_le k
    exact gm_l_inj (by omega) (by decide) (h7.symm.trans (show (0 : Int64) = Int64.ofInt 0 by decide))
  rw [h1, h6]
  cases tu <;> rfl
theorem gm_J_end {s : Nat} {N : Nat → Nat → Int} {t : Nat → Nat → Int64} {p : Int64} {tu : Bool} (h : gm_J s N s t p tu) : (if tu = true then -p else p) = Int64.ofInt (gm_det s N) := by
  obtain ⟨N', h1, -, -, h4, -⟩ := h
  rw [h1, h4]
  cases tu
  · rfl
  · exact (Int64.ofInt_neg _).symm
/-- rows k and r change places -/
theorem gm_J_swap {s : Nat} {N : Nat → Nat → Int} {k r : Nat} {t : Nat → Nat → Int64} {p : Int64} {tu : Bool} (hs : s ≤ 4) (hk : k < r) (hr : r < s) (h : gm_J s N k t p tu) : gm_J s N k (fun i j => t (gm_sw k r i) j) p (!tu) := by
  obtain ⟨N', h1, h2, h3, h4, h5⟩ := h
  have hsm : ∀ i, i < k → gm_sw k r i = i := fun i hi => by
    unfold gm_sw
    rw [if_neg (by omega), if_neg (by omega)]
  have hd : gm_det k (fun i j => N' (gm_sw k r i) j) = gm_det k N' := gm_det_congr (by omega) (fun i j hi _ => by (try dsimp only); rw [hsm i hi])
  have hm : ∀ i j, gm_mn k (fun i j => N' (gm_sw k r i) j) i j = gm_mn k N' (gm_sw k r i) j := fun i j => by
    refine gm_det_congr (by omega) (fun p q _ _ => ?_)
    (try dsimp only)
    by_cases h6 : p < k
    · rw [if_pos h6, if_pos h6, hsm p h6]
    · rw [if_neg h6, if_neg h6]
  refine ⟨fun i j => N' (gm_sw k r i) j, ?_, by rw [hd]; exact h2, by rw [hd]; exact h3, by rw [hd]; exact h4, fun i j hi his hj hjs => ?_⟩
  · rw [gm_swap hs hk hr N', h1]
    cases tu
    · show gm_det s N' = -(-(gm_det s N')); omega
    · rfl
  · rw [hm]
    have h6 : k ≤ gm_sw k r i ∧ gm_sw k r i < s := by
      unfold gm_sw
      by_cases h7 : i = k
      · rw [if_pos h7]; omega
      · rw [if_neg h7]
        by_cases h8 : i = r
        · rw [if_pos h8]; omega
        · rw [if_neg h8]; omega
    exact h5 (gm_sw k r i) j h6.1 h6.2 hj hjs
/-- one column is done -/
theorem gm_J_step {s : Nat} {N : Nat → Nat → Int} {k : Nat} {t t' : Nat → Nat → Int64} {p : Int64} {tu : Bool} (hs : s ≤ 4) (hk : k < s) (h : gm_J s N k t p tu) (h0 : t k k ≠ 0) (ht : ∀ i j, k < i → i < s → k < j → j < s → t' i j = (t i j * t k k - t i k * t k j) / p) : gm_J s N (k + 1) t' (t k k) tu := by
  obtain ⟨N', h1, h2, h3, h4, h5⟩ := h
  obtain ⟨e1, b1⟩ := h5 k k (Nat.le_refl k) hk (Nat.le_refl k) hk
  have hbk := gm_bd_le k
  rw [gm_mn_kk (by omega)] at e1 b1
  refine ⟨N', h1, ?_, by omega, e1, ?_⟩
  · intro h6
    apply h0
    rw [e1, h6]; decide
  · intro i j hi his hj hjs
    obtain ⟨e2, b2⟩ := h5 i j (by omega) his (by omega) hjs
    obtain ⟨e3, b3⟩ := h5 i k (by omega) his (Nat.le_refl k) hk
    obtain ⟨e4, b4⟩ := h5 k j (Nat.le_refl k) hk (by omega) hjs
    have hs1 := gm_syl (k := k) (by omega) N' i j
    rw [gm_mn_kk (by omega)] at hs1
    have hb := gm_bd_step (k := k) (by omega)
    have hb2 := gm_bd_le (k + 1)
    have hB : (gm_det k N' * gm_mn (k + 1) N' i j).natAbs ≤ gm_bd (k + 1) := by
      rw [← hs1]
      have c1 := gm_abs_mul b2 b1
      have c2 := gm_abs_mul b3 b4
      omega
    refine ⟨?_, gm_abs_div h2 hB⟩
    rw [ht i j (by omega) his (by omega) hjs, e1, e2, e3, e4, ← Int64.ofInt_mul, ← Int64.ofInt_mul, ← Int64.ofInt_sub, hs1, h4]
    exact gm_l_div h2 (by omega) (by omega)
end
section
/-! PLAIN PART 5: trails as lists of edges; what hangs together and is balanced (or even) can be gone -/
def gm_st (w : Bool) (a b : Nat → Nat) (e u v : Nat) : Prop := (a e = u ∧ b e = v) ∨ (w = true ∧ b e = u ∧ a e = v)
def gm_tr (w : Bool) (a b : Nat → Nat) : List Nat → Nat → Nat → Prop
  | [], u, v => u = v
  | e :: l, u, v => ∃ y, gm_st w a b e u y ∧ gm_tr w a b l y v
theorem gm_tr_app {w : Bool} {a b : Nat → Nat} (l1 l2 : List Nat) : ∀ (u v : Nat), gm_tr w a b (l1 ++ l2) u v ↔ ∃ y, gm_tr w a b l1 u y ∧ gm_tr w a b l2 y v := by
  induction l1 with
  | nil =>
    intro u v
    constructor
    · intro h; exact ⟨u, rfl, h⟩
    · rintro ⟨y, h1, h2⟩
      have h1 : u = y := h1
      rw [h1]; exact h2
  | cons e l ih =>
    intro u v
    constructor
    · rintro ⟨y, h1, h2⟩
      obtain ⟨z, h3, h4⟩ := (ih y v).mp h2
      exact ⟨z, ⟨y, h1, h3⟩, h4⟩
    · rintro ⟨z, ⟨y, h1, h3⟩, h4⟩
      exact ⟨y, h1, (ih y v).mpr ⟨z, h3, h4⟩⟩
theorem gm_tr_congr {w : Bool} {a b a' b' : Nat → Nat} (l : List Nat) : (∀ e, e ∈ l → a e = a' e ∧ b e = b' e) → ∀ (u v : Nat), gm_tr w a b l u v → gm_tr w a' b' l u v := by
  induction l with
  | nil => intro _ u v h; exact h
  | cons e l ih =>
    intro hc u v h
    obtain ⟨y, h1, h2⟩ := h
    refine ⟨y, ?_, ih (fun i hi => hc i (List.mem_cons_of_mem _ hi)) y v h2⟩
    obtain ⟨h3, h4⟩ := hc e List.mem_cons_self
    unfold gm_st at h1 ⊢
    rw [← h3, ← h4]; exact h1
def gm_mem (l : List Nat) : Nat → Bool := fun e => decide (e ∈ l)
def gm_all : Nat → Bool := fun _ => true
theorem gm_ii (u v : Nat) : (if u = v then (1 : Int) else 0) = if v = u then 1 else 0 := by
  by_cases h : u = v
  · rw [if_pos h, if_pos h.symm]
  · rw [if_neg h, if_neg (fun h2 => h h2.symm)]
theorem gm_dg_nil (m : Nat) (f : Nat → Nat) (v : Nat) : gm_dg m f (gm_mem []) v = 0 := gm_w_zero (fun e _ => by simp [gm_mem])
theorem gm_dg_cons {m : Nat} (f : Nat → Nat) {l : List Nat} {e : Nat} (he : e < m) (hl : e ∉ l) (v : Nat) : gm_dg m f (gm_mem (e :: l)) v = gm_dg m f (gm_mem l) v + (if v = f e then 1 else 0) := by
  have h1 := gm_dg_del f (S := gm_mem (e :: l)) v he (by simp [gm_mem])
  have h2 : gm_del (gm_mem (e :: l)) e = gm_mem l := by
    funext i
    unfold gm_del gm_mem
    by_cases h3 : i = e
    · subst h3; simp [hl]
    · simp [h3]
  rw [h2, gm_ii] at h1
  omega
theorem gm_dg_full {m : Nat} (f : Nat → Nat) {l : List Nat} (h : ∀ e, e < m → e ∈ l) (v : Nat) : gm_dg m f (gm_mem l) v = gm_dg m f gm_all v :=
  gm_w_congr (fun e he => by simp [gm_mem, gm_all, h e he])
theorem gm_dg_part {m : Nat} (f : Nat → Nat) (S : Nat → Bool) (v : Nat) : gm_dg m f S v ≤ gm_dg m f gm_all v :=
  gm_w_le (fun e _ h => by simp only [Bool.and_eq_true] at h ⊢; exact ⟨rfl, h.2⟩)
/-- an edge at v that the list doesn't hold -/
theorem gm_dg_more {m : Nat} (f : Nat → Nat) {l : List Nat} {v : Nat} (h : gm_dg m f (gm_mem l) v < gm_dg m f gm_all v) : ∃ e, e < m ∧ e ∉ l ∧ f e = v := by
  apply Classical.byContradiction
  intro hn
  have h1 : gm_dg m f gm_all v ≤ gm_dg m f (gm_mem l) v := gm_w_le (fun e he h2 => by
    simp only [Bool.and_eq_true, beq_iff_eq] at h2 ⊢
    refine ⟨?_, h2.2⟩
    apply Classical.byContradiction
    intro h3
    exact hn ⟨e, he, fun h4 => h3 (by simp [gm_mem, h4]), h2.2⟩)
  omega
theorem gm_tr_bal {m : Nat} {a b : Nat → Nat} (l : List Nat) : l.Nodup → (∀ e, e ∈ l → e < m) → ∀ (u x : Nat), gm_tr false a b l u x → ∀ v, gm_dg m a (gm_mem l) v + (if v = x then 1 else 0) = gm_dg m b (gm_mem l) v + (if v = u then 1 else 0) := by
  induction l with
  | nil =>
    intro _ _ u x h v
    have h : u = x := h
    rw [gm_dg_nil, gm_dg_nil, h]
  | cons e l ih =>
    intro hn hm u x h v
    obtain ⟨y, h1, h2⟩ := h
    rw [List.nodup_cons] at hn
    have h3 := ih hn.2 (fun i hi => hm i (List.mem_cons_of_mem _ hi)) y x h2 v
    have he := hm e List.mem_cons_self
    rw [gm_dg_cons a he hn.1, gm_dg_cons b he hn.1]
    rcases h1 with h1 | h1
    · rw [h1.1, h1.2]; omega
    · exact absurd h1.1 (by decide)
theorem gm_tr_par {m : Nat} {w : Bool} {a b : Nat → Nat} (l : List Nat) : l.Nodup → (∀ e, e ∈ l → e < m) → ∀ (u x : Nat), gm_tr w a b l u x → ∀ v, ∃ z : Int, gm_dg m a (gm_mem l) v + gm_dg m b (gm_mem l) v + (if v = u then 1 else 0) + (if v = x then 1 else 0) = 2 * z := by
  induction l with
  | nil =>
    intro _ _ u x h v
    have h : u = x := h
    rw [gm_dg_nil, gm_dg_nil, h]
    exact ⟨if v = x then 1 else 0, by omega⟩
  | cons e l ih =>
    intro hn hm u x h v
    obtain ⟨y, h1, h2⟩ := h
    rw [List.nodup_cons] at hn
    obtain ⟨z, h3⟩ := ih hn.2 (fun i hi => hm i (List.mem_cons_of_mem _ hi)) y x h2 v
    have he := hm e List.mem_cons_self
    rw [gm_dg_cons a he hn.1, gm_dg_cons b he hn.1]
    refine ⟨z + (if v = u then 1 else 0), ?_⟩
    rcases h1 with h1 | h1
    · rw [h1.1, h1.2]; omega
    · rw [h1.2.1, h1.2.2]; omega
/-- what each edge keeps, a trail keeps -/
theorem gm_tr_same {w : Bool} {a b : Nat → Nat} (f : Nat → Nat) (l : List Nat) : (∀ e, e ∈ l → f (a e) = f (b e)) → ∀ (u x : Nat), gm_tr w a b l u x → f x = f u ∧ ∀ e, e ∈ l → f (a e) = f u := by
  induction l with
  | nil =>
    intro _ u x h
    have h : u = x := h
    exact ⟨by rw [h], fun e he => absurd he List.not_mem_nil⟩
  | cons e l ih =>
    intro hf u x h
    obtain ⟨y, h1, h2⟩ := h
    obtain ⟨h3, h4⟩ := ih (fun i hi => hf i (List.mem_cons_of_mem _ hi)) y x h2
    have h5 := hf e List.mem_cons_self
    have h6 : f (a e) = f u ∧ f y = f u := by
      rcases h1 with h1 | h1
      · rw [← h1.1, ← h1.2]; exact ⟨rfl, h5.symm⟩
      · rw [← h1.2.1, ← h1.2.2]; exact ⟨h5, h5⟩
    refine ⟨by rw [h3]; exact h6.2, fun i hi => ?_⟩
    rcases List.mem_cons.mp hi with h7 | h7
    · rw [h7]; exact h6.1
    · rw [h4 i h7]; exact h6.2
/-- all edges hang together -/
def gm_conn (m : Nat) (a b : Nat → Nat) : Prop := ∀ f : Nat → Nat, (∀ e, e < m → f (a e) = f (b e)) → ∀ e, e < m → f (a e) = f (a 0)
def gm_full (m : Nat) (l : List Nat) : Prop := l.Nodup ∧ ∀ e, e ∈ l ↔ e < m
theorem gm_full_conn {m : Nat} {w : Bool} {a b : Nat → Nat} {l : List Nat} (hl : gm_full m l) {u x : Nat} (h : gm_tr w a b l u x) : gm_conn m a b := by
  intro f hf e he
  obtain ⟨-, h1⟩ := gm_tr_same f l (fun i hi => hf i ((hl.2 i).mp hi)) u x h
  rw [h1 e ((hl.2 e).mpr he), h1 0 ((hl.2 0).mpr (by omega))]
theorem gm_len {m : Nat} {l : List Nat} (hn : l.Nodup) (hm : ∀ e, e ∈ l → e < m) : l.length ≤ m := by
  have h := List.Nodup.length_le_of_subset (l₂ := List.range m) hn (fun e he => List.mem_range.mpr (hm e he))
  rw [List.length_range] at h
  exact h
/-- from any trail: it is closed and full, or there is a longer one -/
theorem gm_grow {m : Nat} {w : Bool} {a b : Nat → Nat} (hg : ∀ (l : List Nat) (u x : Nat), l.Nodup → (∀ e, e ∈ l → e < m) → gm_tr w a b l u x → u ≠ x → ∃ e y, e < m ∧ e ∉ l ∧ gm_st w a b e x y) (hc : gm_conn m a b) {l : List Nat} {u x : Nat} (hn : l.Nodup) (hm : ∀ e, e ∈ l → e < m) (ht : gm_tr w a b l u x) : (u = x ∧ ∀ e, e < m → e ∈ l) ∨ ∃ (l' : List Nat) (u' x' : Nat), l'.Nodup ∧ (∀ e, e ∈ l' → e < m) ∧ gm_tr w a b l' u' x' ∧ l'.length = l.length + 1 := by
  by_cases hux : u = x
  · by_cases hall : ∀ e, e < m → e ∈ l
    · exact Or.inl ⟨hux, hall⟩
    · right
      subst hux
      obtain ⟨e0, he0⟩ := Classical.not_forall.mp hall
      obtain ⟨he0, hne0⟩ := Classical.not_imp.mp he0
      -- an edge beside the list at a place of the trail
      have key : ∃ e, e < m ∧ e ∉ l ∧ ∃ l1 l2 z, l = l1 ++ l2 ∧ gm_tr w a b l1 u z ∧ gm_tr w a b l2 z u ∧ (a e = z ∨ b e = z) ∨ l = [] := by
        apply Classical.byContradiction
        intro hno
        have hvis : ∀ e, e ∈ l → (∃ l1 l2, l = l1 ++ l2 ∧ gm_tr w a b l1 u (a e) ∧ gm_tr w a b l2 (a e) u) ∧ (∃ l1 l2, l = l1 ++ l2 ∧ gm_tr w a b l1 u (b e) ∧ gm_tr w a b l2 (b e) u) := by
          intro e he
          obtain ⟨s, t, hst⟩ := List.append_of_mem he
          rw [hst] at ht
          obtain ⟨y, h1, h2⟩ := (gm_tr_app s (e :: t) u u).mp ht
          obtain ⟨z, h3, h4⟩ := h2
          have hA : ∃ l1 l2, l = l1 ++ l2 ∧ gm_tr w a b l1 u y ∧ gm_tr w a b l2 y u := ⟨s, e :: t, hst, h1, z, h3, h4⟩
          have hB : ∃ l1 l2, l = l1 ++ l2 ∧ gm_tr w a b l1 u z ∧ gm_tr w a b l2 z u := ⟨s ++ [e], t, by rw [hst, List.append_assoc]; rfl, (gm_tr_app s [e] u z).mpr ⟨y, h1, z, h3, rfl⟩, h4⟩
          rcases h3 with h3 | h3
          · rw [h3.1, h3.2]; exact ⟨hA, hB⟩
          · rw [h3.2.1, h3.2.2]; exact ⟨hB, hA⟩
        have hnot : ∀ e, e < m → e ∉ l → (¬ ∃ l1 l2, l = l1 ++ l2 ∧ gm_tr w a b l1 u (a e) ∧ gm_tr w a b l2 (a e) u) ∧ (¬ ∃ l1 l2, l = l1 ++ l2 ∧ gm_tr w a b l1 u (b e) ∧ gm_tr w a b l2 (b e) u) := by
          intro e he hel
          constructor
          · rintro ⟨l1, l2, h1, h2, h3⟩
            exact hno ⟨e, he, hel, l1, l2, a e, Or.inl ⟨h1, h2, h3, Or.inl rfl⟩⟩
          · rintro ⟨l1, l2, h1, h2, h3⟩
            exact hno ⟨e, he, hel, l1, l2, b e, Or.inl ⟨h1, h2, h3, Or.inr rfl⟩⟩
        by_cases hlist : l = []
        · exact hno ⟨e0, he0, hne0, [], [], 0, Or.inr hlist⟩
        · obtain ⟨e1, he1⟩ := List.exists_mem_of_ne_nil l hlist
          have hdec := fun v => Classical.propDecidable (∃ l1 l2, l = l1 ++ l2 ∧ gm_tr w a b l1 u v ∧ gm_tr w a b l2 v u)
          have hf := hc (fun v => @ite _ (∃ l1 l2, l = l1 ++ l2 ∧ gm_tr w a b l1 u v ∧ gm_tr w a b l2 v u) (hdec v) 1 0) (fun e he => by
            by_cases hel : e ∈ l
            · have h1 := hvis e hel
              (try dsimp only)
              rw [if_pos h1.1, if_pos h1.2]
            · have h1 := hnot e he hel
              (try dsimp only)
              rw [if_neg h1.1, if_neg h1.2])
          have h1 := hf e0 he0
          have h2 := hf e1 (hm e1 he1)
          (try dsimp only at h1 h2)
          rw [← h2, if_neg (hnot e0 he0 hne0).1, if_pos (hvis e1 he1).1] at h1
          exact absurd h1 (by decide)
      obtain ⟨e, he, hel, l1, l2, z, hk⟩ := key
      rcases hk with hk | hk
      · obtain ⟨h1, h2, h3, h4⟩ := hk
        have hp : List.Perm l (l2 ++ l1) := by rw [h1]; exact List.perm_append_comm
        have hn2 : (l2 ++ l1).Nodup := hp.nodup hn
        have hel2 : e ∉ l2 ++ l1 := fun h => hel (hp.mem_iff.mpr h)
        have hm2 : ∀ i, i ∈ l2 ++ l1 → i < m := fun i hi => hm i (hp.mem_iff.mpr hi)
        have hlen : (l2 ++ l1).length = l.length := hp.length_eq.symm
        have htr : gm_tr w a b (l2 ++ l1) z z := (gm_tr_app l2 l1 z z).mpr ⟨u, h3, h2⟩
        rcases h4 with h4 | h4
        · refine ⟨(l2 ++ l1) ++ [e], z, b e, ?_, ?_, ?_, ?_⟩
          · exact (List.perm_append_comm (l₁ := [e])).nodup (List.nodup_cons.mpr ⟨hel2, hn2⟩)
          · intro i hi
            rcases List.mem_append.mp hi with h | h
            · exact hm2 i h
            · rw [List.mem_singleton.mp h]; exact he
          · exact (gm_tr_app _ [e] z (b e)).mpr ⟨z, htr, b e, Or.inl ⟨h4, rfl⟩, rfl⟩
          · rw [List.length_append, hlen]; rfl
        · refine ⟨e :: (l2 ++ l1), a e, z, List.nodup_cons.mpr ⟨hel2, hn2⟩, ?_, ⟨z, Or.inl ⟨rfl, h4⟩, htr⟩, ?_⟩
          · intro i hi
            rcases List.mem_cons.mp hi with h | h
            · rw [h]; exact he
            · exact hm2 i h
          · rw [List.length_cons, hlen]
      · subst hk
        refine ⟨[e], a e, b e, by simp, fun i hi => ?_, ⟨b e, Or.inl ⟨rfl, rfl⟩, rfl⟩, rfl⟩
        rw [List.mem_singleton.mp hi]; exact he
  · right
    obtain ⟨e, y, he, hel, hs⟩ := hg l u x hn hm ht hux
    refine ⟨l ++ [e], u, y, ?_, ?_, ?_, ?_⟩
    · exact (List.perm_append_comm (l₁ := [e])).nodup (List.nodup_cons.mpr ⟨hel, hn⟩)
    · intro i hi
      rcases List.mem_append.mp hi with h | h
      · exact hm i h
      · rw [List.mem_singleton.mp h]; exact he
    · exact (gm_tr_app l [e] u y).mpr ⟨x, ht, y, hs, rfl⟩
    · rw [List.length_append]; rfl
theorem gm_closed {m : Nat} {w : Bool} {a b : Nat → Nat} (hg : ∀ (l : List Nat) (u x : Nat), l.Nodup → (∀ e, e ∈ l → e < m) → gm_tr w a b l u x → u ≠ x → ∃ e y, e < m ∧ e ∉ l ∧ gm_st w a b e x y) (hc : gm_conn m a b) : ∃ (l : List Nat) (u : Nat), gm_full m l ∧ gm_tr w a b l u u := by
  have main : ∀ (k : Nat) (l : List Nat) (u x : Nat), l.Nodup → (∀ e, e ∈ l → e < m) → gm_tr w a b l u x → m ≤ l.length + k → ∃ (l : List Nat) (u : Nat), gm_full m l ∧ gm_tr w a b l u u := by
    intro k
    induction k with
    | zero =>
      intro l u x hn hm ht hk
      rcases gm_grow hg hc hn hm ht with h | ⟨l', u', x', h1, h2, h3, h4⟩
      · exact ⟨l, u, ⟨hn, fun e => ⟨hm e, h.2 e⟩⟩, by rw [← h.1] at ht; exact ht⟩
      · have h5 := gm_len h1 h2
        omega
    | succ k ih =>
      intro l u x hn hm ht hk
      rcases gm_grow hg hc hn hm ht with h | ⟨l', u', x', h1, h2, h3, h4⟩
      · exact ⟨l, u, ⟨hn, fun e => ⟨hm e, h.2 e⟩⟩, by rw [← h.1] at ht; exact ht⟩
      · exact ih l' u' x' h1 h2 h3 (by omega)
  exact main m [] 0 0 List.nodup_nil (fun e he => absurd he List.not_mem_nil) rfl (by omega)
theorem gm_grow_dir {m : Nat} {a b : Nat → Nat} (hb : ∀ v, gm_dg m a gm_all v = gm_dg m b gm_all v) (l : List Nat) (u x : Nat) (hn : l.Nodup) (hm : ∀ e, e ∈ l → e < m) (ht : gm_tr false a b l u x) (hux : u ≠ x) : ∃ e y, e < m ∧ e ∉ l ∧ gm_st false a b e x y := by
  have h1 := gm_tr_bal l hn hm u x ht x
  rw [if_pos rfl, if_neg (fun h => hux h.symm)] at h1
  have h2 := gm_dg_part (m := m) b (gm_mem l) x
  have h3 := hb x
  obtain ⟨e, he, hel, hae⟩ := gm_dg_more (m := m) a (l := l) (v := x) (by omega)
  exact ⟨e, b e, he, hel, Or.inl ⟨hae, rfl⟩⟩
theorem gm_grow_und {m : Nat} {a b : Nat → Nat} (hb : ∀ v, ∃ z : Int, gm_dg m a gm_all v + gm_dg m b gm_all v = 2 * z) (l : List Nat) (u x : Nat) (hn : l.Nodup) (hm : ∀ e, e ∈ l → e < m) (ht : gm_tr true a b l u x) (hux : u ≠ x) : ∃ e y, e < m ∧ e ∉ l ∧ gm_st true a b e x y := by
  obtain ⟨z1, h1⟩ := gm_tr_par l hn hm u x ht x
  rw [if_pos rfl, if_neg (fun h => hux h.symm)] at h1
  obtain ⟨z2, h2⟩ := hb x
  have h3 := gm_dg_part (m := m) a (gm_mem l) x
  have h4 := gm_dg_part (m := m) b (gm_mem l) x
  by_cases h5 : gm_dg m a (gm_mem l) x < gm_dg m a gm_all x
  · obtain ⟨e, he, hel, hae⟩ := gm_dg_more (m := m) a (l := l) (v := x) h5
    exact ⟨e, b e, he, hel, Or.inl ⟨hae, rfl⟩⟩
  · obtain ⟨e, he, hel, hae⟩ := gm_dg_more (m := m) b (l := l) (v := x) (by omega)
    exact ⟨e, a e, he, hel, Or.inr ⟨rfl, hae, rfl⟩⟩
/-- one edge more, q → p, behind the m edges -/
def gm_ex (f : Nat → Nat) (m q : Nat) : Nat → Nat := fun e => if e = m then q else f e
theorem gm_dg_ex (m : Nat) (f : Nat → Nat) (q v : Nat) : gm_dg (m + 1) (gm_ex f m q) gm_all v = gm_dg m f gm_all v + (if v = q then 1 else 0) := by
  unfold gm_dg gm_w
  rw [gm_sm]
  have h1 : gm_sm (fun e => if (gm_all e && (gm_ex f m q e == v)) = true then (1 : Int) else 0) m = gm_sm (fun e => if (gm_all e && (f e == v)) = true then (1 : Int) else 0) m := gm_sm_congr (fun e he => by
    (try dsimp only)
    rw [show gm_ex f m q e = f e from if_neg (by omega)])
  show gm_sm (fun e => if (gm_all e && (gm_ex f m q e == v)) = true then (1 : Int) else 0) m + (if (gm_all m && (gm_ex f m q m == v)) = true then (1 : Int) else 0) = gm_sm (fun e => if (gm_all e && (f e == v)) = true then (1 : Int) else 0) m + (if v = q then 1 else 0)
  rw [h1, show gm_ex f m q m = q from if_pos rfl, gm_ii v q]
  simp [gm_all]
theorem gm_conn_ex {m : Nat} {a b : Nat → Nat} {q p : Nat} (hc : gm_conn m a b) (hq : ∃ e, e < m ∧ (a e = q ∨ b e = q)) : gm_conn (m + 1) (gm_ex a m q) (gm_ex b m p) := by
  intro f hf e he
  obtain ⟨e1, he1, hq⟩ := hq
  have hf' : ∀ i, i < m → f (a i) = f (b i) := fun i hi => by
    have h1 := hf i (by omega)
    rw [show gm_ex a m q i = a i from if_neg (by omega), show gm_ex b m p i = b i from if_neg (by omega)] at h1
    exact h1
  have h2 := hc f hf'
  rw [show gm_ex a m q 0 = a 0 from if_neg (by omega)]
  by_cases h3 : e = m
  · rw [show gm_ex a m q e = q from if_pos h3, ← h2 e1 he1]
    rcases hq with h | h
    · rw [h]
    · rw [← h, hf' e1 he1]
  · rw [show gm_ex a m q e = a e from if_neg h3]
    exact h2 e (by omega)
/-- a closed trail through one edge more, that edge cut out -/
theorem gm_cut {m : Nat} {w : Bool} {a b : Nat → Nat} {q p : Nat} {l : List Nat} {u : Nat} (hl : gm_full (m + 1) l) (ht : gm_tr w (gm_ex a m q) (gm_ex b m p) l u u) : ∃ (l' : List Nat) (y z : Nat), gm_full m l' ∧ gm_tr w a b l' z y ∧ gm_st w (gm_ex a m q) (gm_ex b m p) m y z := by
  obtain ⟨s, t, hst⟩ := List.append_of_mem ((hl.2 m).mpr (by omega))
  rw [hst] at ht
  obtain ⟨y, h1, h2⟩ := (gm_tr_app s (m :: t) u u).mp ht
  obtain ⟨z, h3, h4⟩ := h2
  have hp : List.Perm l (m :: (t ++ s)) := by
    rw [hst]
    exact List.perm_append_comm
  have hn := List.nodup_cons.mp (hp.nodup hl.1)
  have hne : ∀ e, e ∈ t ++ s → e ≠ m := fun e he h => hn.1 (h ▸ he)
  refine ⟨t ++ s, y, z, ⟨hn.2, fun e => ⟨fun he => ?_, fun he => ?_⟩⟩, ?_, h3⟩
  · have h5 := (hl.2 e).mp (hp.mem_iff.mpr (List.mem_cons_of_mem _ he))
    have h6 := hne e he
    omega
  · have h5 := hp.mem_iff.mp ((hl.2 e).mpr (by omega))
    rcases List.mem_cons.mp h5 with h6 | h6
    · omega
    · exact h6
  · refine gm_tr_congr (t ++ s) (fun e he => ?_) z y ((gm_tr_app t s z y).mpr ⟨u, h4, h1⟩)
    exact ⟨if_neg (hne e he), if_neg (hne e he)⟩
theorem gm_dg_some {m : Nat} {f : Nat → Nat} {v : Nat} (h : 0 < gm_dg m f gm_all v) : ∃ e, e < m ∧ f e = v := by
  obtain ⟨e, he, h1⟩ := gm_w_pos h
  simp only [Bool.and_eq_true, beq_iff_eq] at h1
  exact ⟨e, he, h1.2⟩
theorem gm_dir_closed {m : Nat} {a b : Nat → Nat} (hb : ∀ v, gm_dg m a gm_all v = gm_dg m b gm_all v) (hc : gm_conn m a b) : ∃ (l : List Nat) (u : Nat), gm_full m l ∧ gm_tr false a b l u u := gm_closed (gm_grow_dir hb) hc
theorem gm_und_closed {m : Nat} {a b : Nat → Nat} (hb : ∀ v, ∃ z : Int, gm_dg m a gm_all v + gm_dg m b gm_all v = 2 * z) (hc : gm_conn m a b) : ∃ (l : List Nat) (u : Nat), gm_full m l ∧ gm_tr true a b l u u := gm_closed (gm_grow_und hb) hc
theorem gm_dir_way {m : Nat} {a b : Nat → Nat} {p q : Nat} (hpq : p ≠ q) (hb : ∀ v, gm_dg m a gm_all v + (if v = q then 1 else 0) = gm_dg m b gm_all v + (if v = p then 1 else 0)) (hc : gm_conn m a b) : ∃ (l : List Nat) (u x : Nat), gm_full m l ∧ gm_tr false a b l u x := by
  have h1 := hb q
  rw [if_pos rfl, if_neg (fun h => hpq h.symm)] at h1
  have h2 := gm_dg_nonneg m a gm_all q
  obtain ⟨e, he, hbe⟩ := gm_dg_some (m := m) (f := b) (v := q) (by omega)
  obtain ⟨l, u, hl, ht⟩ := gm_dir_closed (m := m + 1) (a := gm_ex a m q) (b := gm_ex b m p) (fun v => by rw [gm_dg_ex, gm_dg_ex]; exact hb v) (gm_conn_ex hc ⟨e, he, Or.inr hbe⟩)
  obtain ⟨l', y, z, h3, h4, -⟩ := gm_cut hl ht
  exact ⟨l', z, y, h3, h4⟩
theorem gm_und_way {m : Nat} {a b : Nat → Nat} {p q : Nat} (hpq : p ≠ q) (hb : ∀ v, ∃ z : Int, gm_dg m a gm_all v + gm_dg m b gm_all v + (if v = q then 1 else 0) + (if v = p then 1 else 0) = 2 * z) (hc : gm_conn m a b) : ∃ (l : List Nat) (u x : Nat), gm_full m l ∧ gm_tr true a b l u x := by
  have hq : ∃ e, e < m ∧ (a e = q ∨ b e = q) := by
    obtain ⟨z, h1⟩ := hb q
    rw [if_pos rfl, if_neg (fun h => hpq h.symm)] at h1
    have h2 := gm_dg_nonneg m a gm_all q
    have h3 := gm_dg_nonneg m b gm_all q
    by_cases h4 : 0 < gm_dg m a gm_all q
    · obtain ⟨e, he, h⟩ := gm_dg_some h4
      exact ⟨e, he, Or.inl h⟩
    · obtain ⟨e, he, h⟩ := gm_dg_some (m := m) (f := b) (v := q) (by omega)
      exact ⟨e, he, Or.inr h⟩
  obtain ⟨l, u, hl, ht⟩ := gm_und_closed (m := m + 1) (a := gm_ex a m q) (b := gm_ex b m p) (fun v => by
    obtain ⟨z, h1⟩ := hb v
    rw [gm_dg_ex, gm_dg_ex]
    exact ⟨z, by omega⟩) (gm_conn_ex hc hq)
  obtain ⟨l', y, z, h3, h4, -⟩ := gm_cut hl ht
  exact ⟨l', z, y, h3, h4⟩
end
section
/-! PLAIN PART 6: the tests by ends against the trails -/
theorem gm_sm_const (c : Int) (m : Nat) : gm_sm (fun _ => c) m = (m : Int) * c := by
  induction m with
  | zero => simp [gm_sm]
  | succ k ih =>
    rw [gm_sm, ih, Int.natCast_add, Int.add_mul]; simp
theorem gm_dg_sum {n m : Nat} {f : Nat → Nat} (h : ∀ e, e < m → f e < n) : gm_sm (fun v => gm_dg m f gm_all v) n = (m : Int) := by
  unfold gm_dg gm_w
  rw [gm_sm_swap (fun v e => if (gm_all e && f e == v) = true then (1 : Int) else 0) n m]
  have h1 : gm_sm (fun e => gm_sm (fun v => if (gm_all e && f e == v) = true then (1 : Int) else 0) n) m = gm_sm (fun _ => 1) m := by
    refine gm_sm_congr (fun e he => ?_)
    refine Eq.trans ?_ (gm_sm_one (m := n) 1 (h e he))
    refine gm_sm_congr (fun v _ => ?_)
    rw [← gm_ii (f e) v]
    simp [gm_all]
  rw [h1, gm_sm_const]; simp
theorem gm_dg_out {n m : Nat} {f : Nat → Nat} (h : ∀ e, e < m → f e < n) {v : Nat} (hv : n ≤ v) : gm_dg m f gm_all v = 0 :=
  gm_w_zero (fun e he => by
    have h1 := h e he
    have h2 : f e ≠ v := by omega
    simp [h2])
theorem gm_tr_end {w : Bool} {a b : Nat → Nat} {n : Nat} (l : List Nat) : (∀ e, e ∈ l → a e < n ∧ b e < n) → ∀ (u x : Nat), u < n → gm_tr w a b l u x → x < n := by
  induction l with
  | nil =>
    intro _ u x hu h
    have h : u = x := h
    omega
  | cons e l ih =>
    intro hm u x hu h
    obtain ⟨y, h1, h2⟩ := h
    have h3 := hm e List.mem_cons_self
    refine ih (fun i hi => hm i (List.mem_cons_of_mem _ hi)) y x ?_ h2
    rcases h1 with h1 | h1
    · rw [← h1.2]; exact h3.2
    · rw [← h1.2.2]; exact h3.1
/-- a full trail whose ends are places -/
theorem gm_norm {w : Bool} {a b : Nat → Nat} {n m : Nat} (hn : 1 ≤ n) (hab : ∀ e, e < m → a e < n ∧ b e < n) {l : List Nat} {u x : Nat} (hl : gm_full m l) (ht : gm_tr w a b l u x) : ∃ u' x', u' < n ∧ x' < n ∧ gm_tr w a b l u' x' ∧ (u = x → u' = x') := by
  match l, hl, ht with
  | [], hl, ht => exact ⟨0, 0, by omega, by omega, rfl, fun _ => rfl⟩
  | e :: l, hl, ht =>
    have hu : u < n := by
      obtain ⟨y, h1, -⟩ := ht
      have h3 := hab e ((hl.2 e).mp List.mem_cons_self)
      rcases h1 with h1 | h1
      · rw [← h1.1]; exact h3.1
      · rw [← h1.2.1]; exact h3.2
    exact ⟨u, x, hu, gm_tr_end (e :: l) (fun i hi => hab i ((hl.2 i).mp hi)) u x hu ht, ht, fun h => h⟩
def gm_D (m : Nat) (a b : Nat → Nat) (v : Nat) : Int := gm_dg m a gm_all v + gm_dg m b gm_all v
def gm_odd (n m : Nat) (a b : Nat → Nat) : Int := gm_sm (fun v => gm_D m a b v % 2) n
theorem gm_odd_zero {n m : Nat} {a b : Nat → Nat} (hab : ∀ e, e < m → a e < n ∧ b e < n) (h : gm_odd n m a b = 0) (v : Nat) : ∃ z : Int, gm_dg m a gm_all v + gm_dg m b gm_all v = 2 * z := by
  by_cases hv : v < n
  · have h1 := gm_sm_ge (f := fun v => gm_D m a b v % 2) (m := n) (fun e _ => by (try dsimp only); omega) hv
    (try dsimp only at h1)
    unfold gm_odd at h
    unfold gm_D at h h1
    exact ⟨(gm_dg m a gm_all v + gm_dg m b gm_all v) / 2, by omega⟩
  · refine ⟨0, ?_⟩
    rw [gm_dg_out (fun e he => (hab e he).1) (by omega), gm_dg_out (fun e he => (hab e he).2) (by omega)]; rfl
theorem gm_full_par {n m : Nat} {w : Bool} {a b : Nat → Nat} {l : List Nat} {u x : Nat} (hl : gm_full m l) (ht : gm_tr w a b l u x) (v : Nat) : ∃ z : Int, gm_D m a b v + (if v = u then 1 else 0) + (if v = x then 1 else 0) = 2 * z := by
  obtain ⟨z, h⟩ := gm_tr_par l hl.1 (fun e he => (hl.2 e).mp he) u x ht v
  rw [gm_dg_full a (fun e he => (hl.2 e).mpr he), gm_dg_full b (fun e he => (hl.2 e).mpr he)] at h
  exact ⟨z, h⟩
theorem gm_is_closed {n m : Nat} {a b : Nat → Nat} (hn : 1 ≤ n) (hab : ∀ e, e < m → a e < n ∧ b e < n) : (gm_odd n m a b = 0 ∧ gm_conn m a b) ↔ ∃ (s : Nat) (l : List Nat), s < n ∧ gm_full m l ∧ gm_tr true a b l s s := by
  constructor
  · rintro ⟨h1, h2⟩
    obtain ⟨l, u, hl, ht⟩ := gm_und_closed (gm_odd_zero hab h1) h2
    obtain ⟨u', x', h3, -, h5, h6⟩ := gm_norm hn hab hl ht
    rw [← h6 rfl] at h5
    exact ⟨u', l, h3, hl, h5⟩
  · rintro ⟨s, l, hs, hl, ht⟩
    refine ⟨?_, gm_full_conn hl ht⟩
    refine gm_sm_zero (fun v _ => ?_)
    obtain ⟨z, h⟩ := gm_full_par (n := n) hl ht v
    (try dsimp only)
    by_cases h1 : v = s
    · rw [if_pos h1] at h; omega
    · rw [if_neg h1] at h; omega
theorem gm_is_way {n m : Nat} {a b : Nat → Nat} (hn : 1 ≤ n) (hab : ∀ e, e < m → a e < n ∧ b e < n) : (gm_odd n m a b ≤ 2 ∧ gm_conn m a b) ↔ ∃ (s v : Nat) (l : List Nat), s < n ∧ v < n ∧ gm_full m l ∧ gm_tr true a b l s v := by
  constructor
  · rintro ⟨h1, h2⟩
    by_cases h0 : gm_odd n m a b = 0
    · obtain ⟨l, u, hl, ht⟩ := gm_und_closed (gm_odd_zero hab h0) h2
      obtain ⟨u', x', h3, h4, h5, -⟩ := gm_norm hn hab hl ht
      exact ⟨u', x', l, h3, h4, hl, h5⟩
    · have hnn : 0 ≤ gm_odd n m a b := gm_sm_nonneg (fun v _ => by (try dsimp only); omega)
      -- the ends in all are twice the edges
      have hhs : gm_odd n m a b + 2 * gm_sm (fun v => gm_D m a b v / 2) n = 2 * (m : Int) := by
        have e1 : gm_sm (fun v => gm_D m a b v) n = 2 * (m : Int) := by
          unfold gm_D
          rw [gm_sm_add (fun v => gm_dg m a gm_all v) (fun v => gm_dg m b gm_all v), gm_dg_sum (fun e he => (hab e he).1), gm_dg_sum (fun e he => (hab e he).2)]; omega
        rw [← e1, ← gm_sm_mul]
        unfold gm_odd
        rw [← gm_sm_add]
        exact gm_sm_congr (fun v _ => by (try dsimp only); omega)
      have h2' : gm_odd n m a b = 2 := by omega
      obtain ⟨p, hp, hp1⟩ := gm_sm_pos (f := fun v => gm_D m a b v % 2) (m := n) (by unfold gm_odd at h2'; omega)
      (try dsimp only at hp1)
      have hs1 : gm_sm (fun v => gm_D m a b v % 2 - (if v = p then 1 else 0)) n = 1 := by
        rw [gm_sm_sub, gm_sm_one 1 hp]; unfold gm_odd at h2'; omega
      obtain ⟨q, hq, hq1⟩ := gm_sm_pos (f := fun v => gm_D m a b v % 2 - (if v = p then 1 else 0)) (m := n) (by omega)
      (try dsimp only at hq1)
      have hqp : q ≠ p := fun h => by rw [if_pos h] at hq1; omega
      rw [if_neg hqp] at hq1
      have hs2 : gm_sm (fun v => gm_D m a b v % 2 - (if v = p then 1 else 0) - (if v = q then 1 else 0)) n = 0 := by
        rw [gm_sm_sub (fun v => gm_D m a b v % 2 - (if v = p then 1 else 0)), gm_sm_one 1 hq, hs1]; rfl
      have hnn2 : ∀ v, v < n → 0 ≤ gm_D m a b v % 2 - (if v = p then 1 else 0) - (if v = q then 1 else 0) := fun v _ => by
        by_cases h3 : v = p
        · rw [if_pos h3, if_neg (by omega), h3]; omega
        · rw [if_neg h3]
          by_cases h4 : v = q
          · rw [if_pos h4, h4]; omega
          · rw [if_neg h4]; omega
      have heach : ∀ v, v < n → gm_D m a b v % 2 = (if v = p then 1 else 0) + (if v = q then 1 else 0) := fun v hv => by
        have h3 := gm_sm_ge (f := fun v => gm_D m a b v % 2 - (if v = p then 1 else 0) - (if v = q then 1 else 0)) hnn2 hv
        have h4 := hnn2 v hv
        (try dsimp only at h3)
        omega
      obtain ⟨l, u, x', hl, ht⟩ := gm_und_way (m := m) (a := a) (b := b) (p := p) (q := q) (fun h => hqp h.symm) (fun v => by
        have h5 : gm_dg m a gm_all v + gm_dg m b gm_all v = gm_D m a b v := rfl
        rw [h5]
        by_cases hv : v < n
        · have h3 := heach v hv
          exact ⟨gm_D m a b v / 2 + (if v = p then 1 else 0) + (if v = q then 1 else 0), by omega⟩
        · refine ⟨0, ?_⟩
          rw [if_neg (by omega), if_neg (by omega), ← h5, gm_dg_out (fun e he => (hab e he).1) (by omega), gm_dg_out (fun e he => (hab e he).2) (by omega)]; rfl) h2
      obtain ⟨u', x', h3, h4, h5, -⟩ := gm_norm hn hab hl ht
      exact ⟨u', x', l, h3, h4, hl, h5⟩
  · rintro ⟨s, v, l, hs, hv, hl, ht⟩
    refine ⟨?_, gm_full_conn hl ht⟩
    by_cases hsv : s = v
    · have h0 : gm_odd n m a b = 0 := gm_sm_zero (fun i _ => by
        obtain ⟨z, h⟩ := gm_full_par (n := n) hl ht i
        (try dsimp only)
        by_cases h1 : i = s
        · rw [if_pos h1, if_pos (by omega)] at h; omega
        · rw [if_neg h1, if_neg (by omega)] at h; omega)
      omega
    · have h2 : gm_odd n m a b = gm_sm (fun i => (if i = s then 1 else 0) + (if i = v then 1 else 0)) n := by
        refine gm_sm_congr (fun i _ => ?_)
        obtain ⟨z, h⟩ := gm_full_par (n := n) hl ht i
        (try dsimp only)
        by_cases h1 : i = s
        · rw [if_pos h1, if_neg (by omega)] at h ⊢; omega
        · rw [if_neg h1] at h ⊢
          by_cases h3 : i = v
          · rw [if_pos h3] at h ⊢; omega
          · rw [if_neg h3] at h ⊢; omega
      rw [h2, gm_sm_add, gm_sm_one 1 hs, gm_sm_one 1 hv]; decide
/-- more leave than come -/
def gm_d (m : Nat) (a b : Nat → Nat) (v : Nat) : Int := gm_dg m a gm_all v - gm_dg m b gm_all v
def gm_ov (n m : Nat) (a b : Nat → Nat) : Int := gm_sm (fun v => if gm_d m a b v = 1 then 1 else 0) n
theorem gm_ov_nonneg (n m : Nat) (a b : Nat → Nat) : 0 ≤ gm_ov n m a b := gm_sm_nonneg (fun v _ => by (try dsimp only); split <;> decide)
theorem gm_d_sum {n m : Nat} {a b : Nat → Nat} (hab : ∀ e, e < m → a e < n ∧ b e < n) : gm_sm (fun v => gm_d m a b v) n = 0 := by
  unfold gm_d
  rw [gm_sm_sub (fun v => gm_dg m a gm_all v) (fun v => gm_dg m b gm_all v), gm_dg_sum (fun e he => (hab e he).1), gm_dg_sum (fun e he => (hab e he).2)]; omega
theorem gm_d_out {n m : Nat} {a b : Nat → Nat} (hab : ∀ e, e < m → a e < n ∧ b e < n) {v : Nat} (hv : n ≤ v) : gm_dg m a gm_all v = 0 ∧ gm_dg m b gm_all v = 0 :=
  ⟨gm_dg_out (fun e he => (hab e he).1) hv, gm_dg_out (fun e he => (hab e he).2) hv⟩
/-- how many places have one more coming than leaving -/
theorem gm_under {n m : Nat} {a b : Nat → Nat} (hab : ∀ e, e < m → a e < n ∧ b e < n) (hg : ∀ v, v < n → -1 ≤ gm_d m a b v ∧ gm_d m a b v ≤ 1) : gm_sm (fun v => if gm_d m a b v = -1 then 1 else 0) n = gm_ov n m a b := by
  have h1 : gm_sm (fun v => if gm_d m a b v = -1 then 1 else 0) n = gm_sm (fun v => (if gm_d m a b v = 1 then 1 else 0) - gm_d m a b v) n := by
    refine gm_sm_congr (fun v hv => ?_)
    have h2 := hg v hv
    (try dsimp only)
    by_cases h3 : gm_d m a b v = -1
    · rw [if_pos h3, if_neg (by omega)]; omega
    · rw [if_neg h3]
      by_cases h4 : gm_d m a b v = 1
      · rw [if_pos h4]; omega
      · rw [if_neg h4]; omega
  rw [h1, gm_sm_sub (fun v => if gm_d m a b v = 1 then 1 else 0) (fun v => gm_d m a b v), gm_d_sum hab]
  unfold gm_ov; omega
theorem gm_bal {n m : Nat} {a b : Nat → Nat} (hab : ∀ e, e < m → a e < n ∧ b e < n) (hg : ∀ v, v < n → -1 ≤ gm_d m a b v ∧ gm_d m a b v ≤ 1) (h0 : gm_ov n m a b = 0) (v : Nat) : gm_dg m a gm_all v = gm_dg m b gm_all v := by
  by_cases hv : v < n
  · have h1 := gm_sm_ge (f := fun v => if gm_d m a b v = 1 then (1 : Int) else 0) (m := n) (fun e _ => by (try dsimp only); split <;> decide) hv
    have h2 := gm_sm_ge (f := fun v => if gm_d m a b v = -1 then (1 : Int) else 0) (m := n) (fun e _ => by (try dsimp only); split <;> decide) hv
    rw [gm_under hab hg, h0] at h2
    unfold gm_ov at h0
    rw [h0] at h1
    (try dsimp only at h1 h2)
    have h3 := hg v hv
    by_cases h4 : gm_d m a b v = 1
    · rw [if_pos h4] at h1; omega
    · by_cases h5 : gm_d m a b v = -1
      · rw [if_pos h5] at h2; omega
      · have h6 : gm_d m a b v = 0 := by omega
        unfold gm_d at h6; omega
  · rw [(gm_d_out hab (by omega)).1, (gm_d_out hab (by omega)).2]
theorem gm_full_bal {m : Nat} {a b : Nat → Nat} {l : List Nat} {u x : Nat} (hl : gm_full m l) (ht : gm_tr false a b l u x) (v : Nat) : gm_dg m a gm_all v + (if v = x then 1 else 0) = gm_dg m b gm_all v + (if v = u then 1 else 0) := by
  have h := gm_tr_bal l hl.1 (fun e he => (hl.2 e).mp he) u x ht v
  rw [gm_dg_full a (fun e he => (hl.2 e).mpr he), gm_dg_full b (fun e he => (hl.2 e).mpr he)] at h
  exact h
theorem gm_is_arrows {n m : Nat} {a b : Nat → Nat} (hn : 1 ≤ n) (hab : ∀ e, e < m → a e < n ∧ b e < n) : ((∀ v, v < n → -1 ≤ gm_d m a b v ∧ gm_d m a b v ≤ 1) ∧ gm_ov n m a b ≤ 1 ∧ gm_conn m a b) ↔ ∃ (s v : Nat) (l : List Nat), s < n ∧ v < n ∧ gm_full m l ∧ gm_tr false a b l s v := by
  constructor
  · rintro ⟨hg, h1, h2⟩
    have hnn := gm_ov_nonneg n m a b
    by_cases h0 : gm_ov n m a b = 0
    · obtain ⟨l, u, hl, ht⟩ := gm_dir_closed (gm_bal hab hg h0) h2
      obtain ⟨u', x', h3, h4, h5, -⟩ := gm_norm hn hab hl ht
      exact ⟨u', x', l, h3, h4, hl, h5⟩
    · have h1' : gm_ov n m a b = 1 := by omega
      have hun := gm_under hab hg
      rw [h1'] at hun
      obtain ⟨p, hp, hp1⟩ := gm_sm_pos (f := fun v => if gm_d m a b v = 1 then (1 : Int) else 0) (m := n) (by unfold gm_ov at h1'; omega)
      obtain ⟨q, hq, hq1⟩ := gm_sm_pos (f := fun v => if gm_d m a b v = -1 then (1 : Int) else 0) (m := n) (by omega)
      (try dsimp only at hp1 hq1)
      have hdp : gm_d m a b p = 1 := by
        by_cases h : gm_d m a b p = 1
        · exact h
        · rw [if_neg h] at hp1; omega
      have hdq : gm_d m a b q = -1 := by
        by_cases h : gm_d m a b q = -1
        · exact h
        · rw [if_neg h] at hq1; omega
      have hpq : p ≠ q := fun h => by rw [h] at hdp; omega
      have huni : ∀ v, v < n → v ≠ p → gm_d m a b v ≠ 1 := fun v hv hvp h => by
        have e1 : gm_sm (fun i => (if i = p then 1 else 0) + (if i = v then 1 else 0)) n ≤ gm_ov n m a b := by
          refine gm_sm_le (fun i _ => ?_)
          (try dsimp only)
          by_cases e2 : i = p
          · rw [if_pos e2, if_neg (by omega), e2, if_pos hdp]; decide
          · rw [if_neg e2]
            by_cases e3 : i = v
            · rw [if_pos e3, e3, if_pos h]; decide
            · rw [if_neg e3]; split <;> decide
        rw [gm_sm_add, gm_sm_one 1 hp, gm_sm_one 1 hv] at e1
        omega
      have hunj : ∀ v, v < n → v ≠ q → gm_d m a b v ≠ -1 := fun v hv hvq h => by
        have e1 : gm_sm (fun i => (if i = q then 1 else 0) + (if i = v then 1 else 0)) n ≤ gm_sm (fun v => if gm_d m a b v = -1 then (1 : Int) else 0) n := by
          refine gm_sm_le (fun i _ => ?_)
          (try dsimp only)
          by_cases e2 : i = q
          · rw [if_pos e2, if_neg (by omega), e2, if_pos hdq]; decide
          · rw [if_neg e2]
            by_cases e3 : i = v
            · rw [if_pos e3, e3, if_pos h]; decide
            · rw [if_neg e3]; split <;> decide
        rw [gm_sm_add, gm_sm_one 1 hq, gm_sm_one 1 hv] at e1
        omega
      obtain ⟨l, u, x', hl, ht⟩ := gm_dir_way (m := m) (a := a) (b := b) hpq (fun v => by
        by_cases hv : v < n
        · have h3 := hg v hv
          by_cases e1 : v = p
          · rw [if_neg (by omega), if_pos e1, e1]; unfold gm_d at hdp; omega
          · rw [if_neg e1]
            by_cases e2 : v = q
            · rw [if_pos e2, e2]; unfold gm_d at hdq; omega
            · rw [if_neg e2]
              have e3 := huni v hv e1
              have e4 := hunj v hv e2
              unfold gm_d at h3 e3 e4
              omega
        · rw [if_neg (by omega), if_neg (by omega), (gm_d_out hab (by omega)).1, (gm_d_out hab (by omega)).2]) h2
      obtain ⟨u', x', h3, h4, h5, -⟩ := gm_norm hn hab hl ht
      exact ⟨u', x', l, h3, h4, hl, h5⟩
  · rintro ⟨s, v, l, hs, hv, hl, ht⟩
    have hd : ∀ i, gm_d m a b i = (if i = s then 1 else 0) - (if i = v then 1 else 0) := fun i => by
      have h := gm_full_bal hl ht i
      unfold gm_d; omega
    refine ⟨fun i _ => ?_, ?_, gm_full_conn hl ht⟩
    · rw [hd i]
      by_cases h1 : i = s <;> by_cases h2 : i = v
      · rw [if_pos h1, if_pos h2]; decide
      · rw [if_pos h1, if_neg h2]; decide
      · rw [if_neg h1, if_pos h2]; decide
      · rw [if_neg h1, if_neg h2]; decide
    · have h1 : gm_ov n m a b ≤ gm_sm (fun i => if i = s then 1 else 0) n := by
        refine gm_sm_le (fun i _ => ?_)
        (try dsimp only)
        rw [hd i]
        by_cases h1 : i = s <;> by_cases h2 : i = v
        · rw [if_pos h1, if_pos h2]; decide
        · rw [if_pos h1, if_neg h2]; decide
        · rw [if_neg h1, if_pos h2]; decide
        · rw [if_neg h1, if_neg h2]; decide
      rw [gm_sm_one 1 hs] at h1
      exact h1
/-- a positive count: there is a trail -/
theorem gm_T_trail {m : Nat} {a b : Nat → Nat} (k : Nat) : ∀ (S : Nat → Bool) (v w : Nat), gm_w m S (fun _ => true) = (k : Int) → 0 < gm_T m a b k S v w → ∃ l : List Nat, l.Nodup ∧ (∀ e, e ∈ l ↔ e < m ∧ S e = true) ∧ gm_tr false a b l v w := by
  induction k with
  | zero =>
    intro S v w hk h
    refine ⟨[], List.nodup_nil, fun e => ⟨fun he => absurd he List.not_mem_nil, fun he => ?_⟩, ?_⟩
    · have h1 := gm_w_eq0 (m := m) (S := S) (P := fun _ => true) hk he.1
      rw [he.2] at h1
      exact absurd h1 (by decide)
    · simp only [gm_T] at h
      by_cases h1 : v = w
      · exact h1
      · rw [if_neg h1] at h; omega
  | succ k ih =>
    intro S v w hk h
    rw [gm_T] at h
    obtain ⟨e, he, h1⟩ := gm_sm_pos h
    (try dsimp only at h1)
    by_cases h2 : (S e && a e == v) = true
    · rw [if_pos h2] at h1
      simp only [Bool.and_eq_true, beq_iff_eq] at h2
      obtain ⟨l, h3, h4, h5⟩ := ih (gm_del S e) (b e) w (by rw [gm_w_del _ he h2.1, hk, if_pos rfl]; omega) h1
      refine ⟨e :: l, List.nodup_cons.mpr ⟨fun h6 => ?_, h3⟩, fun i => ⟨fun hi => ?_, fun hi => ?_⟩, ⟨b e, Or.inl ⟨h2.2, rfl⟩, h5⟩⟩
      · have h7 := ((h4 e).mp h6).2
        rw [gm_del_self] at h7
        exact absurd h7 (by decide)
      · rcases List.mem_cons.mp hi with h6 | h6
        · rw [h6]; exact ⟨he, h2.1⟩
        · have h7 := (h4 i).mp h6
          refine ⟨h7.1, ?_⟩
          have h8 := h7.2
          unfold gm_del at h8
          simp only [Bool.and_eq_true] at h8
          exact h8.1
      · by_cases h6 : i = e
        · rw [h6]; exact List.mem_cons_self
        · exact List.mem_cons_of_mem _ ((h4 i).mpr ⟨hi.1, by rw [gm_del_ne S h6]; exact hi.2⟩)
    · rw [if_neg h2] at h1; omega
/-- the rounds that begin with arrow 0 -/
def gm_R (m : Nat) (a b : Nat → Nat) : Int := gm_T m a b (m - 1) (gm_del gm_all 0) (b 0) (a 0)
theorem gm_R_card {m : Nat} (hm : 0 < m) : gm_w m (gm_del gm_all 0) (fun _ => true) = ((m - 1 : Nat) : Int) := by
  rw [gm_w_del _ hm rfl, if_pos rfl]
  have h1 : gm_w m gm_all (fun _ => true) = (m : Int) := by
    have h2 := gm_sm_const 1 m
    rw [Int.mul_one] at h2
    exact h2
  rw [h1]; omega
theorem gm_R_zero {m : Nat} {a b : Nat → Nat} (hm : 0 < m) (h : ¬ ((∀ v, gm_dg m a gm_all v = gm_dg m b gm_all v) ∧ gm_conn m a b)) : gm_R m a b = 0 := by
  have h0 := gm_T_nonneg m a b (m - 1) (gm_del gm_all 0) (b 0) (a 0)
  by_cases h1 : 0 < gm_R m a b
  · exfalso
    apply h
    obtain ⟨l, h2, h3, h4⟩ := gm_T_trail (m - 1) (gm_del gm_all 0) (b 0) (a 0) (gm_R_card hm) h1
    have hl : gm_full m (0 :: l) := by
      refine ⟨List.nodup_cons.mpr ⟨fun h6 => ?_, h2⟩, fun i => ⟨fun hi => ?_, fun hi => ?_⟩⟩
      · have h7 := ((h3 0).mp h6).2
        rw [gm_del_self] at h7
        exact absurd h7 (by decide)
      · rcases List.mem_cons.mp hi with h6 | h6
        · rw [h6]; exact hm
        · exact ((h3 i).mp h6).1
      · by_cases h6 : i = 0
        · rw [h6]; exact List.mem_cons_self
        · exact List.mem_cons_of_mem _ ((h3 i).mpr ⟨hi, by rw [gm_del_ne gm_all h6]; rfl⟩)
    have ht : gm_tr false a b (0 :: l) (a 0) (a 0) := ⟨b 0, Or.inl ⟨rfl, rfl⟩, h4⟩
    refine ⟨fun v => ?_, gm_full_conn hl ht⟩
    have h5 := gm_full_bal hl ht v
    omega
  · unfold gm_R at h1 ⊢
    omega
theorem gm_R_det {m : Nat} {a b : Nat → Nat} (hm : 0 < m) (hab : ∀ e, e < m → a e < 5 ∧ b e < 5) (hb : ∀ v, gm_dg m a gm_all v = gm_dg m b gm_all v) : gm_R m a b = gm_det 5 (gm_M m a b (a 0) gm_all) * (gm_fI (gm_dg m a gm_all 0) * gm_fI (gm_dg m a gm_all 1) * gm_fI (gm_dg m a gm_all 2) * gm_fI (gm_dg m a gm_all 3) * gm_fI (gm_dg m a gm_all 4)) := by
  have h1 := gm_best m a b (a 0) (hab 0 hm).1 (m - 1) (gm_del gm_all 0) (b 0) (hab 0 hm).2 (fun e he _ => hab e he) (gm_R_card hm) (fun v _ => by
    rw [gm_dg_del a v hm rfl, gm_dg_del b v hm rfl, gm_ii (a 0) v, gm_ii (b 0) v, hb v]; omega)
  unfold gm_R
  rw [h1]
  have h2 : gm_M m a b (a 0) (gm_del gm_all 0) = gm_M m a b (a 0) gm_all := by
    funext p q
    by_cases h3 : a 0 = p
    · rw [gm_M_dead (Or.inl h3.symm), gm_M_dead (Or.inl h3.symm)]
    · exact gm_M_keep hm rfl h3 q
  have h4 : ∀ v, gm_F m a (a 0) (gm_del gm_all 0) v = gm_fI (gm_dg m a gm_all v) := fun v => by
    unfold gm_F
    rw [gm_dg_del a v hm rfl, gm_ii (a 0) v]
    congr 1
    omega
  rw [h2]
  unfold gm_P
  rw [h4, h4, h4, h4, h4]
end
section
/-! PLAIN PART 7: the matrix over the places with edges -/
def gm_lv (lv : Nat → Bool) : Nat → List Nat
  | 0 => []
  | k + 1 => if lv k = true then gm_lv lv k ++ [k] else gm_lv lv k
theorem gm_comp (M : Nat → Nat → Int) (lv : Nat → Bool) (hd : ∀ p, p < 5 → lv p = false → ∀ q, M p q = if p = q then 1 else 0) : gm_det 5 M = gm_det (gm_lv lv 5).length (fun i j => M ((gm_lv lv 5).getD i 0) ((gm_lv lv 5).getD j 0)) := by
  cases h0 : lv 0 <;> cases h1 : lv 1 <;> cases h2 : lv 2 <;> cases h3 : lv 3 <;> cases h4 : lv 4
  · rw [show gm_lv lv 5 = [] by simp [gm_lv, h0, h1, h2, h3, h4]]
    have d4 : ∀ q, M 4 q = if 4 = q then 1 else 0 := hd 4 (by omega) h4
    refine (gm_unit _ (s := 4) (p := 4) (by omega) (by omega) (fun j hj => by
      have h6 : j = 0 ∨ j = 1 ∨ j = 2 ∨ j = 3 ∨ j = 4 := by omega
      rcases h6 with h6 | h6 | h6 | h6 | h6 <;> subst h6 <;> exact d4 _)).trans ?_
    have d3 : ∀ q, M 3 q = if 3 = q then 1 else 0 := hd 3 (by omega) h3
    refine (gm_unit _ (s := 3) (p := 3) (by omega) (by omega) (fun j hj => by
      have h6 : j = 0 ∨ j = 1 ∨ j = 2 ∨ j = 3 := by omega
      rcases h6 with h6 | h6 | h6 | h6 <;> subst h6 <;> exact d3 _)).trans ?_
    have d2 : ∀ q, M 2 q = if 2 = q then 1 else 0 := hd 2 (by omega) h2
    refine (gm_unit _ (s := 2) (p := 2) (by omega) (by omega) (fun j hj => by
      have h6 : j = 0 ∨ j = 1 ∨ j = 2 := by omega
      rcases h6 with h6 | h6 | h6 <;> subst h6 <;> exact d2 _)).trans ?_
    have d1 : ∀ q, M 1 q = if 1 = q then 1 else 0 := hd 1 (by omega) h1
    refine (gm_unit _ (s := 1) (p := 1) (by omega) (by omega) (fun j hj => by
      have h6 : j = 0 ∨ j = 1 := by omega
      rcases h6 with h6 | h6 <;> subst h6 <;> exact d1 _)).trans ?_
    have d0 : ∀ q, M 0 q = if 0 = q then 1 else 0 := hd 0 (by omega) h0
    refine (gm_unit _ (s := 0) (p := 0) (by omega) (by omega) (fun j hj => by
      have h6 : j = 0 := by omega
      subst h6; exact d0 _)).trans ?_
    rfl
  · rw [show gm_lv lv 5 = [4] by simp [gm_lv, h0, h1, h2, h3, h4]]
    have d3 : ∀ q, M 3 q = if 3 = q then 1 else 0 := hd 3 (by omega) h3
    refine (gm_unit _ (s := 4) (p := 3) (by omega) (by omega) (fun j hj => by
      have h6 : j = 0 ∨ j = 1 ∨ j = 2 ∨ j = 3 ∨ j = 4 := by omega
      rcases h6 with h6 | h6 | h6 | h6 | h6 <;> subst h6 <;> exact d3 _)).trans ?_
    have d2 : ∀ q, M 2 q = if 2 = q then 1 else 0 := hd 2 (by omega) h2
    refine (gm_unit _ (s := 3) (p := 2) (by omega) (by omega) (fun j hj => by
      have h6 : j = 0 ∨ j = 1 ∨ j = 2 ∨ j = 3 := by omega
      rcases h6 with h6 | h6 | h6 | h6 <;> subst h6 <;> exact d2 _)).trans ?_
    have d1 : ∀ q, M 1 q = if 1 = q then 1 else 0 := hd 1 (by omega) h1
    refine (gm_unit _ (s := 2) (p := 1) (by omega) (by omega) (fun j hj => by
      have h6 : j = 0 ∨ j = 1 ∨ j = 2 := by omega
      rcases h6 with h6 | h6 | h6 <;> subst h6 <;> exact d1 _)).trans ?_
    have d0 : ∀ q, M 0 q = if 0 = q then 1 else 0 := hd 0 (by omega) h0
    refine (gm_unit _ (s := 1) (p := 0) (by omega) (by omega) (fun j hj => by
      have h6 : j = 0 ∨ j = 1 := by omega
      rcases h6 with h6 | h6 <;> subst h6 <;> exact d0 _)).trans ?_
    rfl
  · rw [show gm_lv lv 5 = [3] by simp [gm_lv, h0, h1, h2, h3, h4]]
    have d4 : ∀ q, M 4 q = if 4 = q then 1 else 0 := hd 4 (by omega) h4
    refine (gm_unit _ (s := 4) (p := 4) (by omega) (by omega) (fun j hj => by
      have h6 : j = 0 ∨ j = 1 ∨ j = 2 ∨ j = 3 ∨ j = 4 := by omega
      rcases h6 with h6 | h6 | h6 | h6 | h6 <;> subst h6 <;> exact d4 _)).trans ?_
    have d2 : ∀ q, M 2 q = if 2 = q then 1 else 0 := hd 2 (by omega) h2
    refine (gm_unit _ (s := 3) (p := 2) (by omega) (by omega) (fun j hj => by
      have h6 : j = 0 ∨ j = 1 ∨ j = 2 ∨ j = 3 := by omega
      rcases h6 with h6 | h6 | h6 | h6 <;> subst h6 <;> exact d2 _)).trans ?_
    have d1 : ∀ q, M 1 q = if 1 = q then 1 else 0 := hd 1 (by omega) h1
    refine (gm_unit _ (s := 2) (p := 1) (by omega) (by omega) (fun j hj => by
      have h6 : j = 0 ∨ j = 1 ∨ j = 2 := by omega
      rcases h6 with h6 | h6 | h6 <;> subst h6 <;> exact d1 _)).trans ?_
    have d0 : ∀ q, M 0 q = if 0 = q then 1 else 0 := hd 0 (by omega) h0
    refine (gm_unit _ (s := 1) (p := 0) (by omega) (by omega) (fun j hj => by
      have h6 : j = 0 ∨ j = 1 := by omega
      rcases h6 with h6 | h6 <;> subst h6 <;> exact d0 _)).trans ?_
    rfl
  · rw [show gm_lv lv 5 = [3, 4] by simp [gm_lv, h0, h1, h2, h3, h4]]
    have d2 : ∀ q, M 2 q = if 2 = q then 1 else 0 := hd 2 (by omega) h2
    refine (gm_unit _ (s := 4) (p := 2) (by omega) (by omega) (fun j hj => by
      have h6 : j = 0 ∨ j = 1 ∨ j = 2 ∨ j = 3 ∨ j = 4 := by omega
      rcases h6 with h6 | h6 | h6 | h6 | h6 <;> subst h6 <;> exact d2 _)).trans ?_
    have d1 : ∀ q, M 1 q = if 1 = q then 1 else 0 := hd 1 (by omega) h1
    refine (gm_unit _ (s := 3) (p := 1) (by omega) (by omega) (fun j hj => by
      have h6 : j = 0 ∨ j = 1 ∨ j = 2 ∨ j = 3 := by omega
      rcases h6 with h6 | h6 | h6 | h6 <;> subst h6 <;> exact d1 _)).trans ?_
    have d0 : ∀ q, M 0 q = if 0 = q then 1 else 0 := hd 0 (by omega) h0
    refine (gm_unit _ (s := 2) (p := 0) (by omega) (by omega) (fun j hj => by
      have h6 : j = 0 ∨ j = 1 ∨ j = 2 := by omega
      rcases h6 with h6 | h6 | h6 <;> subst h6 <;> exact d0 _)).trans ?_
    rfl
  · rw [show gm_lv lv 5 = [2] by simp [gm_lv, h0, h1, h2, h3, h4]]
    have d4 : ∀ q, M 4 q = if 4 = q then 1 else 0 := hd 4 (by omega) h4
    refine (gm_unit _ (s := 4) (p := 4) (by omega) (by omega) (fun j hj => by
      have h6 : j = 0 ∨ j = 1 ∨ j = 2 ∨ j = 3 ∨ j = 4 := by omega
      rcases h6 with h6 | h6 | h6 | h6 | h6 <;> subst h6 <;> exact d4 _)).trans ?_
    have d3 : ∀ q, M 3 q = if 3 = q then 1 else 0 := hd 3 (by omega) h3
    refine (gm_unit _ (s := 3) (p := 3) (by omega) (by omega) (fun j hj => by
      have h6 : j = 0 ∨ j = 1 ∨ j = 2 ∨ j = 3 := by omega
      rcases h6 with h6 | h6 | h6 | h6 <;> subst h6 <;> exact d3 _)).trans ?_
    have d1 : ∀ q, M 1 q = if 1 = q then 1 else 0 := hd 1 (by omega) h1
    refine (gm_unit _ (s := 2) (p := 1) (by omega) (by omega) (fun j hj => by
      have h6 : j = 0 ∨ j = 1 ∨ j = 2 := by omega
      rcases h6 with h6 | h6 | h6 <;> subst h6 <;> exact d1 _)).trans ?_
    have d0 : ∀ q, M 0 q = if 0 = q then 1 else 0 := hd 0 (by omega) h0
    refine (gm_unit _ (s := 1) (p := 0) (by omega) (by omega) (fun j hj => by
      have h6 : j = 0 ∨ j = 1 := by omega
      rcases h6 with h6 | h6 <;> subst h6 <;> exact d0 _)).trans ?_
    rfl
  · rw [show gm_lv lv 5 = [2, 4] by simp [gm_lv, h0, h1, h2, h3, h4]]
    have d3 : ∀ q, M 3 q = if 3 = q then 1 else 0 := hd 3 (by omega) h3
    refine (gm_unit _ (s := 4) (p := 3) (by omega) (by omega) (fun j hj => by
      have h6 : j = 0 ∨ j = 1 ∨ j = 2 ∨ j = 3 ∨ j = 4 := by omega
      rcases h6 with h6 | h6 | h6 | h6 | h6 <;> subst h6 <;> exact d3 _)).trans ?_
    have d1 : ∀ q, M 1 q = if 1 = q then 1 else 0 := hd 1 (by omega) h1
    refine (gm_unit _ (s := 3) (p := 1) (by omega) (by omega) (fun j hj => by
      have h6 : j = 0 ∨ j = 1 ∨ j = 2 ∨ j = 3 := by omega
      rcases h6 with h6 | h6 | h6 | h6 <;> subst h6 <;> exact d1 _)).trans ?_
    have d0 : ∀ q, M 0 q = if 0 = q then 1 else 0 := hd 0 (by omega) h0
    refine (gm_unit _ (s := 2) (p := 0) (by omega) (by omega) (fun j hj => by
      have h6 : j = 0 ∨ j = 1 ∨ j = 2 := by omega
      rcases h6 with h6 | h6 | h6 <;> subst h6 <;> exact d0 _)).trans ?_
    rfl
  · rw [show gm_lv lv 5 = [2, 3] by simp [gm_lv, h0, h1, h2, h3, h4]]
    have d4 : ∀ q, M 4 q = if 4 = q then 1 else 0 := hd 4 (by omega) h4
    refine (gm_unit _ (s := 4) (p := 4) (by omega) (by omega) (fun j hj => by
      have h6 : j = 0 ∨ j = 1 ∨ j = 2 ∨ j = 3 ∨ j = 4 := by omega
      rcases h6 with h6 | h6 | h6 | h6 | h6 <;> subst h6 <;> exact d4 _)).trans ?_
    have d1 : ∀ q, M 1 q = if 1 = q then 1 else 0 := hd 1 (by omega) h1
    refine (gm_unit _ (s := 3) (p := 1) (by omega) (by omega) (fun j hj => by
      have h6 : j = 0 ∨ j = 1 ∨ j = 2 ∨ j = 3 := by omega
      rcases h6 with h6 | h6 | h6 | h6 <;> subst h6 <;> exact d1 _)).trans ?_
    have d0 : ∀ q, M 0 q = if 0 = q then 1 else 0 := hd 0 (by omega) h0
    refine (gm_unit _ (s := 2) (p := 0) (by omega) (by omega) (fun j hj => by
      have h6 : j = 0 ∨ j = 1 ∨ j = 2 := by omega
      rcases h6 with h6 | h6 | h6 <;> subst h6 <;> exact d0 _)).trans ?_
    rfl
  · rw [show gm_lv lv 5 = [2, 3, 4] by simp [gm_lv, h0, h1, h2, h3, h4]]
    have d1 : ∀ q, M 1 q = if 1 = q then 1 else 0 := hd 1 (by omega) h1
    refine (gm_unit _ (s := 4) (p := 1) (by omega) (by omega) (fun j hj => by
      have h6 : j = 0 ∨ j = 1 ∨ j = 2 ∨ j = 3 ∨ j = 4 := by omega
      rcases h6 with h6 | h6 | h6 | h6 | h6 <;> subst h6 <;> exact d1 _)).trans ?_
    have d0 : ∀ q, M 0 q = if 0 = q then 1 else 0 := hd 0 (by omega) h0
    refine (gm_unit _ (s := 3) (p := 0) (by omega) (by omega) (fun j hj => by
      have h6 : j = 0 ∨ j = 1 ∨ j = 2 ∨ j = 3 := by omega
      rcases h6 with h6 | h6 | h6 | h6 <;> subst h6 <;> exact d0 _)).trans ?_
    rfl
  · rw [show gm_lv lv 5 = [1] by simp [gm_lv, h0, h1, h2, h3, h4]]
    have d4 : ∀ q, M 4 q = if 4 = q then 1 else 0 := hd 4 (by omega) h4
    refine (gm_unit _ (s := 4) (p := 4) (by omega) (by omega) (fun j hj => by
      have h6 : j = 0 ∨ j = 1 ∨ j = 2 ∨ j = 3 ∨ j = 4 := by omega
      rcases h6 with h6 | h6 | h6 | h6 | h6 <;> subst h6 <;> exact d4 _)).trans ?_
    have d3 : ∀ q, M 3 q = if 3 = q then 1 else 0 := hd 3 (by omega) h3
    refine (gm_unit _ (s := 3) (p := 3) (by omega) (by omega) (fun j hj => by
      have h6 : j = 0 ∨ j = 1 ∨ j = 2 ∨ j = 3 := by omega
      rcases h6 with h6 | h6 | h6 | h6 <;> subst h6 <;> exact d3 _)).trans ?_
    have d2 : ∀ q, M 2 q = if 2 = q then 1 else 0 := hd 2 (by omega) h2
    refine (gm_unit _ (s := 2) (p := 2) (by omega) (by omega) (fun j hj => by
      have h6 : j = 0 ∨ j = 1 ∨ j = 2 := by omega
      rcases h6 with h6 | h6 | h6 <;> subst h6 <;> exact d2 _)).trans ?_
    have d0 : ∀ q, M 0 q = if 0 = q then 1 else 0 := hd 0 (by omega) h0
    refine (gm_unit _ (s := 1) (p := 0) (by omega) (by omega) (fun j hj => by
      have h6 : j = 0 ∨ j = 1 := by omega
      rcases h6 with h6 | h6 <;> subst h6 <;> exact d0 _)).trans ?_
    rfl
  · rw [show gm_lv lv 5 = [1, 4] by simp [gm_lv, h0, h1, h2, h3, h4]]
    have d3 : ∀ q, M 3 q = if 3 = q then 1 else 0 := hd 3 (by omega) h3
    refine (gm_unit _ (s := 4) (p := 3) (by omega) (by omega) (fun j hj => by
      have h6 : j = 0 ∨ j = 1 ∨ j = 2 ∨ j = 3 ∨ j = 4 := by omega
      rcases h6 with h6 | h6 | h6 | h6 | h6 <;> subst h6 <;> exact d3 _)).trans ?_
    have d2 : ∀ q, M 2 q = if 2 = q then 1 else 0 := hd 2 (by omega) h2
    refine (gm_unit _ (s := 3) (p := 2) (by omega) (by omega) (fun j hj => by
      have h6 : j = 0 ∨ j = 1 ∨ j = 2 ∨ j = 3 := by omega
      rcases h6 with h6 | h6 | h6 | h6 <;> subst h6 <;> exact d2 _)).trans ?_
    have d0 : ∀ q, M 0 q = if 0 = q then 1 else 0 := hd 0 (by omega) h0
    refine (gm_unit _ (s := 2) (p := 0) (by omega) (by omega) (fun j hj => by
      have h6 : j = 0 ∨ j = 1 ∨ j = 2 := by omega
      rcases h6 with h6 | h6 | h6 <;> subst h6 <;> exact d0 _)).trans ?_
    rfl
  · rw [show gm_lv lv 5 = [1, 3] by simp [gm_lv, h0, h1, h2, h3, h4]]
    have d4 : ∀ q, M 4 q = if 4 = q then 1 else 0 := hd 4 (by omega) h4
    refine (gm_unit _ (s := 4) (p := 4) (by omega) (by omega) (fun j hj => by
      have h6 : j = 0 ∨ j = 1 ∨ j = 2 ∨ j = 3 ∨ j = 4 := by omega
      rcases h6 with h6 | h6 | h6 | h6 | h6 <;> subst h6 <;> exact d4 _)).trans ?_
    have d2 : ∀ q, M 2 q = if 2 = q then 1 else 0 := hd 2 (by omega) h2
    refine (gm_unit _ (s := 3) (p := 2) (by omega) (by omega) (fun j hj => by
      have h6 : j = 0 ∨ j = 1 ∨ j = 2 ∨ j = 3 := by omega
      rcases h6 with h6 | h6 | h6 | h6 <;> subst h6 <;> exact d2 _)).trans ?_
    have d0 : ∀ q, M 0 q = if 0 = q then 1 else 0 := hd 0 (by omega) h0
    refine (gm_unit _ (s := 2) (p := 0) (by omega) (by omega) (fun j hj => by
      have h6 : j = 0 ∨ j = 1 ∨ j = 2 := by omega
      rcases h6 with h6 | h6 | h6 <;> subst h6 <;> exact d0 _)).trans ?_
    rfl
  · rw [show gm_lv lv 5 = [1, 3, 4] by simp [gm_lv, h0, h1, h2, h3, h4]]
    have d2 : ∀ q, M 2 q = if 2 = q then 1 else 0 := hd 2 (by omega) h2
    refine (gm_unit _ (s := 4) (p := 2) (by omega) (by omega) (fun j hj => by
      have h6 : j = 0 ∨ j = 1 ∨ j = 2 ∨ j = 3 ∨ j = 4 := by omega
      rcases h6 with h6 | h6 | h6 | h6 | h6 <;> subst h6 <;> exact d2 _)).trans ?_
    have d0 : ∀ q, M 0 q = if 0 = q then 1 else 0 := hd 0 (by omega) h0
    refine (gm_unit _ (s := 3) (p := 0) (by omega) (by omega) (fun j hj => by
      have h6 : j = 0 ∨ j = 1 ∨ j = 2 ∨ j = 3 := by omega
      rcases h6 with h6 | h6 | h6 | h6 <;> subst h6 <;> exact d0 _)).trans ?_
    rfl
  · rw [show gm_lv lv 5 = [1, 2] by simp [gm_lv, h0, h1, h2, h3, h4]]
    have d4 : ∀ q, M 4 q = if 4 = q then 1 else 0 := hd 4 (by omega) h4
    refine (gm_unit _ (s := 4) (p := 4) (by omega) (by omega) (fun j hj => by
      have h6 : j = 0 ∨ j = 1 ∨ j = 2 ∨ j = 3 ∨ j = 4 := by omega
      rcases h6 with h6 | h6 | h6 | h6 | h6 <;> subst h6 <;> exact d4 _)).trans ?_
    have d3 : ∀ q, M 3 q = if 3 = q then 1 else 0 := hd 3 (by omega) h3
    refine (gm_unit _ (s := 3) (p := 3) (by omega) (by omega) (fun j hj => by
      have h6 : j = 0 ∨ j = 1 ∨ j = 2 ∨ j = 3 := by omega
      rcases h6 with h6 | h6 | h6 | h6 <;> subst h6 <;> exact d3 _)).trans ?_
    have d0 : ∀ q, M 0 q = if 0 = q then 1 else 0 := hd 0 (by omega) h0
    refine (gm_unit _ (s := 2) (p := 0) (by omega) (by omega) (fun j hj => by
      have h6 : j = 0 ∨ j = 1 ∨ j = 2 := by omega
      rcases h6 with h6 | h6 | h6 <;> subst h6 <;> exact d0 _)).trans ?_
    rfl
  · rw [show gm_lv lv 5 = [1, 2, 4] by simp [gm_lv, h0, h1, h2, h3, h4]]
    have d3 : ∀ q, M 3 q = if 3 = q then 1 else 0 := hd 3 (by omega) h3
    refine (gm_unit _ (s := 4) (p := 3) (by omega) (by omega) (fun j hj => by
      have h6 : j = 0 ∨ j = 1 ∨ j = 2 ∨ j = 3 ∨ j = 4 := by omega
      rcases h6 with h6 | h6 | h6 | h6 | h6 <;> subst h6 <;> exact d3 _)).trans ?_
    have d0 : ∀ q, M 0 q = if 0 = q then 1 else 0 := hd 0 (by omega) h0
    refine (gm_unit _ (s := 3) (p := 0) (by omega) (by omega) (fun j hj => by
      have h6 : j = 0 ∨ j = 1 ∨ j = 2 ∨ j = 3 := by omega
      rcases h6 with h6 | h6 | h6 | h6 <;> subst h6 <;> exact d0 _)).trans ?_
    rfl
  · rw [show gm_lv lv 5 = [1, 2, 3] by simp [gm_lv, h0, h1, h2, h3, h4]]
    have d4 : ∀ q, M 4 q = if 4 = q then 1 else 0 := hd 4 (by omega) h4
    refine (gm_unit _ (s := 4) (p := 4) (by omega) (by omega) (fun j hj => by
      have h6 : j = 0 ∨ j = 1 ∨ j = 2 ∨ j = 3 ∨ j = 4 := by omega
      rcases h6 with h6 | h6 | h6 | h6 | h6 <;> subst h6 <;> exact d4 _)).trans ?_
    have d0 : ∀ q, M 0 q = if 0 = q then 1 else 0 := hd 0 (by omega) h0
    refine (gm_unit _ (s := 3) (p := 0) (by omega) (by omega) (fun j hj => by
      have h6 : j = 0 ∨ j = 1 ∨ j = 2 ∨ j = 3 := by omega
      rcases h6 with h6 | h6 | h6 | h6 <;> subst h6 <;> exact d0 _)).trans ?_
    rfl
  · rw [show gm_lv lv 5 = [1, 2, 3, 4] by simp [gm_lv, h0, h1, h2, h3, h4]]
    have d0 : ∀ q, M 0 q = if 0 = q then 1 else 0 := hd 0 (by omega) h0
    refine (gm_unit _ (s := 4) (p := 0) (by omega) (by omega) (fun j hj => by
      have h6 : j = 0 ∨ j = 1 ∨ j = 2 ∨ j = 3 ∨ j = 4 := by omega
      rcases h6 with h6 | h6 | h6 | h6 | h6 <;> subst h6 <;> exact d0 _)).trans ?_
    rfl
  · rw [show gm_lv lv 5 = [0] by simp [gm_lv, h0, h1, h2, h3, h4]]
    have d4 : ∀ q, M 4 q = if 4 = q then 1 else 0 := hd 4 (by omega) h4
    refine (gm_unit _ (s := 4) (p := 4) (by omega) (by omega) (fun j hj => by
      have h6 : j = 0 ∨ j = 1 ∨ j = 2 ∨ j = 3 ∨ j = 4 := by omega
      rcases h6 with h6 | h6 | h6 | h6 | h6 <;> subst h6 <;> exact d4 _)).trans ?_
    have d3 : ∀ q, M 3 q = if 3 = q then 1 else 0 := hd 3 (by omega) h3
    refine (gm_unit _ (s := 3) (p := 3) (by omega) (by omega) (fun j hj => by
      have h6 : j = 0 ∨ j = 1 ∨ j = 2 ∨ j = 3 := by omega
      rcases h6 with h6 | h6 | h6 | h6 <;> subst h6 <;> exact d3 _)).trans ?_
    have d2 : ∀ q, M 2 q = if 2 = q then 1 else 0 := hd 2 (by omega) h2
    refine (gm_unit _ (s := 2) (p := 2) (by omega) (by omega) (fun j hj => by
      have h6 : j = 0 ∨ j = 1 ∨ j = 2 := by omega
      rcases h6 with h6 | h6 | h6 <;> subst h6 <;> exact d2 _)).trans ?_
    have d1 : ∀ q, M 1 q = if 1 = q then 1 else 0 := hd 1 (by omega) h1
    refine (gm_unit _ (s := 1) (p := 1) (by omega) (by omega) (fun j hj => by
      have h6 : j = 0 ∨ j = 1 := by omega
      rcases h6 with h6 | h6 <;> subst h6 <;> exact d1 _)).trans ?_
    rfl
  · rw [show gm_lv lv 5 = [0, 4] by simp [gm_lv, h0, h1, h2, h3, h4]]
    have d3 : ∀ q, M 3 q = if 3 = q then 1 else 0 := hd 3 (by omega) h3
    refine (gm_unit _ (s := 4) (p := 3) (by omega) (by omega) (fun j hj => by
      have h6 : j = 0 ∨ j = 1 ∨ j = 2 ∨ j = 3 ∨ j = 4 := by omega
      rcases h6 with h6 | h6 | h6 | h6 | h6 <;> subst h6 <;> exact d3 _)).trans ?_
    have d2 : ∀ q, M 2 q = if 2 = q then 1 else 0 := hd 2 (by omega) h2
    refine (gm_unit _ (s := 3) (p := 2) (by omega) (by omega) (fun j hj => by
      have h6 : j = 0 ∨ j = 1 ∨ j = 2 ∨ j = 3 := by omega
      rcases h6 with h6 | h6 | h6 | h6 <;> subst h6 <;> exact d2 _)).trans ?_
    have d1 : ∀ q, M 1 q = if 1 = q then 1 else 0 := hd 1 (by omega) h1
    refine (gm_unit _ (s := 2) (p := 1) (by omega) (by omega) (fun j hj => by
      have h6 : j = 0 ∨ j = 1 ∨ j = 2 := by omega
      rcases h6 with h6 | h6 | h6 <;> subst h6 <;> exact d1 _)).trans ?_
    rfl
  · rw [show gm_lv lv 5 = [0, 3] by simp [gm_lv, h0, h1, h2, h3, h4]]
    have d4 : ∀ q, M 4 q = if 4 = q then 1 else 0 := hd 4 (by omega) h4
    refine (gm_unit _ (s := 4) (p := 4) (by omega) (by omega) (fun j hj => by
      have h6 : j = 0 ∨ j = 1 ∨ j = 2 ∨ j = 3 ∨ j = 4 := by omega
      rcases h6 with h6 | h6 | h6 | h6 | h6 <;> subst h6 <;> exact d4 _)).trans ?_
    have d2 : ∀ q, M 2 q = if 2 = q then 1 else 0 := hd 2 (by omega) h2
    refine (gm_unit _ (s := 3) (p := 2) (by omega) (by omega) (fun j hj => by
      have h6 : j = 0 ∨ j = 1 ∨ j = 2 ∨ j = 3 := by omega
      rcases h6 with h6 | h6 | h6 | h6 <;> subst h6 <;> exact d2 _)).trans ?_
    have d1 : ∀ q, M 1 q = if 1 = q then 1 else 0 := hd 1 (by omega) h1
    refine (gm_unit _ (s := 2) (p := 1) (by omega) (by omega) (fun j hj => by
      have h6 : j = 0 ∨ j = 1 ∨ j = 2 := by omega
      rcases h6 with h6 | h6 | h6 <;> subst h6 <;> exact d1 _)).trans ?_
    rfl
  · rw [show gm_lv lv 5 = [0, 3, 4] by simp [gm_lv, h0, h1, h2, h3, h4]]
    have d2 : ∀ q, M 2 q = if 2 = q then 1 else 0 := hd 2 (by omega) h2
    refine (gm_unit _ (s := 4) (p := 2) (by omega) (by omega) (fun j hj => by
      have h6 : j = 0 ∨ j = 1 ∨ j = 2 ∨ j = 3 ∨ j = 4 := by omega
      rcases h6 with h6 | h6 | h6 | h6 | h6 <;> subst h6 <;> exact d2 _)).trans ?_
    have d1 : ∀ q, M 1 q = if 1 = q then 1 else 0 := hd 1 (by omega) h1
    refine (gm_unit _ (s := 3) (p := 1) (by omega) (by omega) (fun j hj => by
      have h6 : j = 0 ∨ j = 1 ∨ j = 2 ∨ j = 3 := by omega
      rcases h6 with h6 | h6 | h6 | h6 <;> subst h6 <;> exact d1 _)).trans ?_
    rfl
  · rw [show gm_lv lv 5 = [0, 2] by simp [gm_lv, h0, h1, h2, h3, h4]]
    have d4 : ∀ q, M 4 q = if 4 = q then 1 else 0 := hd 4 (by omega) h4
    refine (gm_unit _ (s := 4) (p := 4) (by omega) (by omega) (fun j hj => by
      have h6 : j = 0 ∨ j = 1 ∨ j = 2 ∨ j = 3 ∨ j = 4 := by omega
      rcases h6 with h6 | h6 | h6 | h6 | h6 <;> subst h6 <;> exact d4 _)).trans ?_
    have d3 : ∀ q, M 3 q = if 3 = q then 1 else 0 := hd 3 (by omega) h3
    refine (gm_unit _ (s := 3) (p := 3) (by omega) (by omega) (fun j hj => by
      have h6 : j = 0 ∨ j = 1 ∨ j = 2 ∨ j = 3 := by omega
      rcases h6 with h6 | h6 | h6 | h6 <;> subst h6 <;> exact d3 _)).trans ?_
    have d1 : ∀ q, M 1 q = if 1 = q then 1 else 0 := hd 1 (by omega) h1
    refine (gm_unit _ (s := 2) (p := 1) (by omega) (by omega) (fun j hj => by
      have h6 : j = 0 ∨ j = 1 ∨ j = 2 := by omega
      rcases h6 with h6 | h6 | h6 <;> subst h6 <;> exact d1 _)).trans ?_
    rfl
  · rw [show gm_lv lv 5 = [0, 2, 4] by simp [gm_lv, h0, h1, h2, h3, h4]]
    have d3 : ∀ q, M 3 q = if 3 = q then 1 else 0 := hd 3 (by omega) h3
    refine (gm_unit _ (s := 4) (p := 3) (by omega) (by omega) (fun j hj => by
      have h6 : j = 0 ∨ j = 1 ∨ j = 2 ∨ j = 3 ∨ j = 4 := by omega
      rcases h6 with h6 | h6 | h6 | h6 | h6 <;> subst h6 <;> exact d3 _)).trans ?_
    have d1 : ∀ q, M 1 q = if 1 = q then 1 else 0 := hd 1 (by omega) h1
    refine (gm_unit _ (s := 3) (p := 1) (by omega) (by omega) (fun j hj => by
      have h6 : j = 0 ∨ j = 1 ∨ j = 2 ∨ j = 3 := by omega
      rcases h6 with h6 | h6 | h6 | h6 <;> subst h6 <;> exact d1 _)).trans ?_
    rfl
  · rw [show gm_lv lv 5 = [0, 2, 3] by simp [gm_lv, h0, h1, h2, h3, h4]]
    have d4 : ∀ q, M 4 q = if 4 = q then 1 else 0 := hd 4 (by omega) h4
    refine (gm_unit _ (s := 4) (p := 4) (by omega) (by omega) (fun j hj => by
      have h6 : j = 0 ∨ j = 1 ∨ j = 2 ∨ j = 3 ∨ j = 4 := by omega
      rcases h6 with h6 | h6 | h6 | h6 | h6 <;> subst h6 <;> exact d4 _)).trans ?_
    have d1 : ∀ q, M 1 q = if 1 = q then 1 else 0 := hd 1 (by omega) h1
    refine (gm_unit _ (s := 3) (p := 1) (by omega) (by omega) (fun j hj => by
      have h6 : j = 0 ∨ j = 1 ∨ j = 2 ∨ j = 3 := by omega
      rcases h6 with h6 | h6 | h6 | h6 <;> subst h6 <;> exact d1 _)).trans ?_
    rfl
  · rw [show gm_lv lv 5 = [0, 2, 3, 4] by simp [gm_lv, h0, h1, h2, h3, h4]]
    have d1 : ∀ q, M 1 q = if 1 = q then 1 else 0 := hd 1 (by omega) h1
    refine (gm_unit _ (s := 4) (p := 1) (by omega) (by omega) (fun j hj => by
      have h6 : j = 0 ∨ j = 1 ∨ j = 2 ∨ j = 3 ∨ j = 4 := by omega
      rcases h6 with h6 | h6 | h6 | h6 | h6 <;> subst h6 <;> exact d1 _)).trans ?_
    rfl
  · rw [show gm_lv lv 5 = [0, 1] by simp [gm_lv, h0, h1, h2, h3, h4]]
    have d4 : ∀ q, M 4 q = if 4 = q then 1 else 0 := hd 4 (by omega) h4
    refine (gm_unit _ (s := 4) (p := 4) (by omega) (by omega) (fun j hj => by
      have h6 : j = 0 ∨ j = 1 ∨ j = 2 ∨ j = 3 ∨ j = 4 := by omega
      rcases h6 with h6 | h6 | h6 | h6 | h6 <;> subst h6 <;> exact d4 _)).trans ?_
    have d3 : ∀ q, M 3 q = if 3 = q then 1 else 0 := hd 3 (by omega) h3
    refine (gm_unit _ (s := 3) (p := 3) (by omega) (by omega) (fun j hj => by
      have h6 : j = 0 ∨ j = 1 ∨ j = 2 ∨ j = 3 := by omega
      rcases h6 with h6 | h6 | h6 | h6 <;> subst h6 <;> exact d3 _)).trans ?_
    have d2 : ∀ q, M 2 q = if 2 = q then 1 else 0 := hd 2 (by omega) h2
    refine (gm_unit _ (s := 2) (p := 2) (by omega) (by omega) (fun j hj => by
      have h6 : j = 0 ∨ j = 1 ∨ j = 2 := by omega
      rcases h6 with h6 | h6 | h6 <;> subst h6 <;> exact d2 _)).trans ?_
    rfl
  · rw [show gm_lv lv 5 = [0, 1, 4] by simp [gm_lv, h0, h1, h2, h3, h4]]
    have d3 : ∀ q, M 3 q = if 3 = q then 1 else 0 := hd 3 (by omega) h3
    refine (gm_unit _ (s := 4) (p := 3) (by omega) (by omega) (fun j hj => by
      have h6 : j = 0 ∨ j = 1 ∨ j = 2 ∨ j = 3 ∨ j = 4 := by omega
      rcases h6 with h6 | h6 | h6 | h6 | h6 <;> subst h6 <;> exact d3 _)).trans ?_
    have d2 : ∀ q, M 2 q = if 2 = q then 1 else 0 := hd 2 (by omega) h2
    refine (gm_unit _ (s := 3) (p := 2) (by omega) (by omega) (fun j hj => by
      have h6 : j = 0 ∨ j = 1 ∨ j = 2 ∨ j = 3 := by omega
      rcases h6 with h6 | h6 | h6 | h6 <;> subst h6 <;> exact d2 _)).trans ?_
    rfl
  · rw [show gm_lv lv 5 = [0, 1, 3] by simp [gm_lv, h0, h1, h2, h3, h4]]
    have d4 : ∀ q, M 4 q = if 4 = q then 1 else 0 := hd 4 (by omega) h4
    refine (gm_unit _ (s := 4) (p := 4) (by omega) (by omega) (fun j hj => by
      have h6 : j = 0 ∨ j = 1 ∨ j = 2 ∨ j = 3 ∨ j = 4 := by omega
      rcases h6 with h6 | h6 | h6 | h6 | h6 <;> subst h6 <;> exact d4 _)).trans ?_
    have d2 : ∀ q, M 2 q = if 2 = q then 1 else 0 := hd 2 (by omega) h2
    refine (gm_unit _ (s := 3) (p := 2) (by omega) (by omega) (fun j hj => by
      have h6 : j = 0 ∨ j = 1 ∨ j = 2 ∨ j = 3 := by omega
      rcases h6 with h6 | h6 | h6 | h6 <;> subst h6 <;> exact d2 _)).trans ?_
    rfl
  · rw [show gm_lv lv 5 = [0, 1, 3, 4] by simp [gm_lv, h0, h1, h2, h3, h4]]
    have d2 : ∀ q, M 2 q = if 2 = q then 1 else 0 := hd 2 (by omega) h2
    refine (gm_unit _ (s := 4) (p := 2) (by omega) (by omega) (fun j hj => by
      have h6 : j = 0 ∨ j = 1 ∨ j = 2 ∨ j = 3 ∨ j = 4 := by omega
      rcases h6 with h6 | h6 | h6 | h6 | h6 <;> subst h6 <;> exact d2 _)).trans ?_
    rfl
  · rw [show gm_lv lv 5 = [0, 1, 2] by simp [gm_lv, h0, h1, h2, h3, h4]]
    have d4 : ∀ q, M 4 q = if 4 = q then 1 else 0 := hd 4 (by omega) h4
    refine (gm_unit _ (s := 4) (p := 4) (by omega) (by omega) (fun j hj => by
      have h6 : j = 0 ∨ j = 1 ∨ j = 2 ∨ j = 3 ∨ j = 4 := by omega
      rcases h6 with h6 | h6 | h6 | h6 | h6 <;> subst h6 <;> exact d4 _)).trans ?_
    have d3 : ∀ q, M 3 q = if 3 = q then 1 else 0 := hd 3 (by omega) h3
    refine (gm_unit _ (s := 3) (p := 3) (by omega) (by omega) (fun j hj => by
      have h6 : j = 0 ∨ j = 1 ∨ j = 2 ∨ j = 3 := by omega
      rcases h6 with h6 | h6 | h6 | h6 <;> subst h6 <;> exact d3 _)).trans ?_
    rfl
  · rw [show gm_lv lv 5 = [0, 1, 2, 4] by simp [gm_lv, h0, h1, h2, h3, h4]]
    have d3 : ∀ q, M 3 q = if 3 = q then 1 else 0 := hd 3 (by omega) h3
    refine (gm_unit _ (s := 4) (p := 3) (by omega) (by omega) (fun j hj => by
      have h6 : j = 0 ∨ j = 1 ∨ j = 2 ∨ j = 3 ∨ j = 4 := by omega
      rcases h6 with h6 | h6 | h6 | h6 | h6 <;> subst h6 <;> exact d3 _)).trans ?_
    rfl
  · rw [show gm_lv lv 5 = [0, 1, 2, 3] by simp [gm_lv, h0, h1, h2, h3, h4]]
    have d4 : ∀ q, M 4 q = if 4 = q then 1 else 0 := hd 4 (by omega) h4
    refine (gm_unit _ (s := 4) (p := 4) (by omega) (by omega) (fun j hj => by
      have h6 : j = 0 ∨ j = 1 ∨ j = 2 ∨ j = 3 ∨ j = 4 := by omega
      rcases h6 with h6 | h6 | h6 | h6 | h6 <;> subst h6 <;> exact d4 _)).trans ?_
    rfl
  · rw [show gm_lv lv 5 = [0, 1, 2, 3, 4] by simp [gm_lv, h0, h1, h2, h3, h4]]
    rfl
theorem gm_lv_len (lv : Nat → Bool) (k : Nat) : (gm_lv lv k).length ≤ k := by
  induction k with
  | zero => exact Nat.le_refl 0
  | succ k ih =>
    rw [gm_lv]
    split
    · rw [List.length_append, List.length_singleton]; omega
    · omega
theorem gm_lv_lt (lv : Nat → Bool) (k : Nat) : ∀ v, v ∈ gm_lv lv k → v < k ∧ lv v = true := by
  induction k with
  | zero => intro v hv; exact absurd hv List.not_mem_nil
  | succ k ih =>
    intro v hv
    rw [gm_lv] at hv
    split at hv
    · rcases List.mem_append.mp hv with h | h
      · have h2 := ih v h
        exact ⟨by omega, h2.2⟩
      · rw [List.mem_singleton.mp h]
        exact ⟨by omega, by assumption⟩
    · have h2 := ih v hv
      exact ⟨by omega, h2.2⟩
theorem gm_lv_nd (lv : Nat → Bool) (k : Nat) : (gm_lv lv k).Nodup := by
  induction k with
  | zero => exact List.nodup_nil
  | succ k ih =>
    rw [gm_lv]
    split
    · rw [List.nodup_append]
      refine ⟨ih, by simp, fun v hv w hw h => ?_⟩
      have h1 := gm_lv_lt lv k v hv
      rw [List.mem_singleton.mp hw] at h
      omega
    · exact ih
theorem gm_lv_ext (lv : Nat → Bool) {n : Nat} (hl : ∀ v, n ≤ v → lv v = false) (k : Nat) : gm_lv lv (n + k) = gm_lv lv n := by
  induction k with
  | zero => rfl
  | succ k ih =>
    rw [show n + (k + 1) = (n + k) + 1 by omega, gm_lv, hl (n + k) (by omega), ih]
    rfl
theorem gm_lv_5 (lv : Nat → Bool) {n : Nat} (hn : n ≤ 5) (hl : ∀ v, n ≤ v → lv v = false) : gm_lv lv 5 = gm_lv lv n := by
  have h := gm_lv_ext lv hl (5 - n)
  rw [show n + (5 - n) = 5 by omega] at h
  exact h
/-- a place that isn't live makes the list short -/
theorem gm_lv_short (lv : Nat → Bool) {n r : Nat} (hr : r < n) (h : lv r = false) : (gm_lv lv n).length + 1 ≤ n := by
  induction n with
  | zero => omega
  | succ k ih =>
    rw [gm_lv]
    by_cases h1 : r = k
    · rw [← h1, h]
      have h2 := gm_lv_len lv r
      rw [if_neg (by decide)]
      omega
    · have h2 := ih (by omega)
      split
      · rw [List.length_append, List.length_singleton]; omega
      · omega
theorem gm_getD_mem {l : List Nat} {i : Nat} (hi : i < l.length) : l.getD i 0 ∈ l := by
  rw [List.getD_eq_getElem?_getD, List.getElem?_eq_getElem hi, Option.getD_some]
  exact List.getElem_mem hi
theorem gm_getD_inj {l : List Nat} (hl : l.Nodup) {i j : Nat} (hi : i < l.length) (hj : j < l.length) (h : l.getD i 0 = l.getD j 0) : i = j := by
  rw [List.getD_eq_getElem?_getD, List.getElem?_eq_getElem hi, Option.getD_some, List.getD_eq_getElem?_getD, List.getElem?_eq_getElem hj, Option.getD_some] at h
  exact (List.getElem?_inj hi hl).mp (by rw [List.getElem?_eq_getElem hi, List.getElem?_eq_getElem hj, h])
/-- live: a place other than the root that some edge leaves -/
def gm_live (m : Nat) (a : Nat → Nat) (r : Nat) : Nat → Bool := fun p => !(p == r) && !(gm_dg m a gm_all p == 0)
theorem gm_det_live {n m : Nat} {a b : Nat → Nat} (hn : n ≤ 5) (hab : ∀ e, e < m → a e < n ∧ b e < n) (r : Nat) : gm_det 5 (gm_M m a b r gm_all) = gm_det (gm_lv (gm_live m a r) n).length (fun i j => gm_M m a b r gm_all ((gm_lv (gm_live m a r) n).getD i 0) ((gm_lv (gm_live m a r) n).getD j 0)) := by
  rw [gm_comp (gm_M m a b r gm_all) (gm_live m a r) (fun p _ h q => ?_), gm_lv_5 (gm_live m a r) hn (fun v hv => ?_)]
  · unfold gm_live
    rw [gm_dg_out (fun e he => (hab e he).1) hv]
    simp
  · refine gm_M_dead ?_ q
    unfold gm_live at h
    simp only [Bool.and_eq_false_iff, Bool.not_eq_false', beq_iff_eq] at h
    exact h
end
section
/-! PLAIN PART 8: what hangs together, by roots -/
def gm_it (h : Nat → Nat) : Nat → Nat → Nat
  | 0, p => p
  | k + 1, p => gm_it h k (h p)
theorem gm_it_fix {h : Nat → Nat} {p : Nat} (hp : h p = p) (k : Nat) : gm_it h k p = p := by
  induction k with
  | zero => rfl
  | succ k ih => rw [gm_it, hp, ih]
theorem gm_it_last (h : Nat → Nat) (k : Nat) : ∀ p, gm_it h (k + 1) p = h (gm_it h k p) := by
  induction k with
  | zero => intro p; rfl
  | succ k ih => intro p; rw [gm_it, ih (h p), gm_it]
/-- h: the pointers, F: the root of each place -/
def gm_uf (n : Nat) (h F : Nat → Nat) : Prop := ∀ p, p < n → h p < n ∧ F p < n ∧ h (F p) = F p ∧ ∃ k, gm_it h k p = F p
def gm_uph (h : Nat → Nat) (i v : Nat) : Nat → Nat := fun j => if j = i then v else h j
theorem gm_uf_0 (n : Nat) : gm_uf n (fun p => p) (fun p => p) := fun p hp => ⟨hp, hp, rfl, 0, rfl⟩
theorem gm_uf_union {n : Nat} {h F : Nat → Nat} (H : gm_uf n h F) {i j : Nat} (hi : i < n) (hj : j < n) : gm_uf n (gm_uph h (F i) (F j)) (fun p => if F p = F i then F j else F p) := by
  obtain ⟨-, hFi, hri, -⟩ := H i hi
  obtain ⟨-, hFj, hrj, -⟩ := H j hj
  by_cases hij : F i = F j
  · have e1 : gm_uph h (F i) (F j) = h := by
      funext q
      unfold gm_uph
      by_cases hq : q = F i
      · rw [if_pos hq, hq, hri, hij]
      · rw [if_neg hq]
    have e2 : (fun p => if F p = F i then F j else F p) = F := by
      funext q
      by_cases hq : F q = F i
      · rw [if_pos hq, hq, hij]
      · rw [if_neg hq]
    rw [e1, e2]
    exact H
  · have hpath : ∀ (t : Nat) (k p : Nat), gm_it h k p = t → ∃ k', gm_it (gm_uph h (F i) (F j)) k' p = t := by
      intro t k
      induction k with
      | zero => intro p hp; exact ⟨0, hp⟩
      | succ k ih =>
        intro p hp
        by_cases hq : p = F i
        · rw [gm_it_fix (by rw [hq]; exact hri)] at hp
          exact ⟨0, hp⟩
        · obtain ⟨k', hk'⟩ := ih (h p) hp
          refine ⟨k' + 1, ?_⟩
          rw [gm_it, show gm_uph h (F i) (F j) p = h p from if_neg hq]
          exact hk'
    intro p hp
    obtain ⟨h1, h2, h3, k, h4⟩ := H p hp
    obtain ⟨k', hk'⟩ := hpath (F p) k p h4
    refine ⟨?_, ?_, ?_, ?_⟩
    · unfold gm_uph
      by_cases hq : p = F i
      · rw [if_pos hq]; exact hFj
      · rw [if_neg hq]; exact h1
    · (try dsimp only)
      by_cases hq : F p = F i
      · rw [if_pos hq]; exact hFj
      · rw [if_neg hq]; exact h2
    · (try dsimp only)
      by_cases hq : F p = F i
      · rw [if_pos hq, show gm_uph h (F i) (F j) (F j) = h (F j) from if_neg (fun h => hij h.symm)]
        exact hrj
      · rw [if_neg hq, show gm_uph h (F i) (F j) (F p) = h (F p) from if_neg hq]
        exact h3
    · (try dsimp only)
      by_cases hq : F p = F i
      · refine ⟨k' + 1, ?_⟩
        rw [if_pos hq, gm_it_last, hk', hq]
        exact if_pos rfl
      · rw [if_neg hq]
        exact ⟨k', hk'⟩
/-- behind i edges -/
def gm_U (n i : Nat) (a b h F : Nat → Nat) : Prop := gm_uf n h F ∧ (∀ e, e < i → F (a e) = F (b e)) ∧ ∀ f : Nat → Nat, (∀ e, e < i → f (a e) = f (b e)) → ∀ p, p < n → f (F p) = f p
theorem gm_U_0 (n : Nat) (a b : Nat → Nat) : gm_U n 0 a b (fun p => p) (fun p => p) := ⟨gm_uf_0 n, fun e he => by omega, fun _ _ _ _ => rfl⟩
theorem gm_U_step {n i : Nat} {a b h F : Nat → Nat} (H : gm_U n i a b h F) (ha : a i < n) (hb : b i < n) : gm_U n (i + 1) a b (gm_uph h (F (a i)) (F (b i))) (fun p => if F p = F (a i) then F (b i) else F p) := by
  obtain ⟨H1, H2, H3⟩ := H
  refine ⟨gm_uf_union H1 ha hb, fun e he => ?_, fun f hf p hp => ?_⟩
  · (try dsimp only)
    by_cases h1 : e = i
    · rw [h1, if_pos rfl]
      by_cases h2 : F (b i) = F (a i)
      · rw [if_pos h2]
      · rw [if_neg h2]
    · rw [H2 e (by omega)]
  · (try dsimp only)
    have h3 := H3 f (fun e he => hf e (by omega))
    by_cases h2 : F p = F (a i)
    · rw [if_pos h2, h3 (b i) hb, ← hf i (by omega), ← h3 (a i) ha, ← h2, h3 p hp]
    · rw [if_neg h2]; exact h3 p hp
theorem gm_U_end {n m : Nat} {a b h F : Nat → Nat} (H : gm_U n m a b h F) (hab : ∀ e, e < m → a e < n ∧ b e < n) : (∀ e, 1 ≤ e → e < m → F (a e) = F (a 0)) ↔ gm_conn m a b := by
  obtain ⟨H1, H2, H3⟩ := H
  constructor
  · intro h1 f hf e he
    have h2 := H3 f hf
    by_cases h3 : e = 0
    · rw [h3]
    · rw [← h2 (a e) (hab e he).1, h1 e (by omega) he, h2 (a 0) (hab 0 (by omega)).1]
  · intro h1 e _ he
    exact h1 F H2 e he
end
section
/-! PLAIN PART 9: the table of what can be gone -/
noncomputable def gm_b (p : Prop) : Int32 := @ite _ p (Classical.propDecidable p) 1 0
theorem gm_b_t {p : Prop} (h : p) : gm_b p = 1 := if_pos h
theorem gm_b_f {p : Prop} (h : ¬ p) : gm_b p = 0 := if_neg h
theorem gm_b_congr {p q : Prop} (h : p ↔ q) : gm_b p = gm_b q := by rw [propext h]
theorem gm_b_0 {p : Prop} : gm_b p = 0 ↔ ¬ p := by
  by_cases h : p
  · rw [gm_b_t h]; exact ⟨fun h1 => absurd h1 (by decide), fun h1 => absurd h h1⟩
  · rw [gm_b_f h]; exact ⟨fun _ => h, fun _ => rfl⟩
theorem gm_b_cases (p : Prop) : gm_b p = 0 ∨ gm_b p = 1 := by
  by_cases h : p
  · exact Or.inr (gm_b_t h)
  · exact Or.inl (gm_b_f h)
theorem gm_tb_or (S e i : Nat) : (S ||| 2 ^ e).testBit i = (S.testBit i || decide (e = i)) := by
  rw [Nat.testBit_or, Nat.testBit_two_pow]
theorem gm_tb_xor (S e i : Nat) : (S ^^^ 2 ^ e).testBit i = (S.testBit i ^^ decide (e = i)) := by
  rw [Nat.testBit_xor, Nat.testBit_two_pow]
theorem gm_or_gt {S e : Nat} (h : S.testBit e = false) : S < S ||| 2 ^ e := by
  refine Nat.lt_of_le_of_ne Nat.left_le_or (fun h1 => ?_)
  have h2 := gm_tb_or S e e
  rw [← h1, h] at h2
  simp at h2
theorem gm_xor_off {T e : Nat} (h : T.testBit e = true) : (T ^^^ 2 ^ e).testBit e = false := by
  rw [gm_tb_xor, h]; simp
theorem gm_xor_or {T e : Nat} (h : T.testBit e = true) : (T ^^^ 2 ^ e) ||| 2 ^ e = T := by
  refine Nat.eq_of_testBit_eq (fun i => ?_)
  rw [gm_tb_or, gm_tb_xor]
  by_cases h1 : e = i
  · rw [← h1, h]; simp
  · simp [h1]
theorem gm_xor_lt {T e : Nat} (h : T.testBit e = true) : T ^^^ 2 ^ e < T := by
  have h1 := gm_or_gt (gm_xor_off h)
  rw [gm_xor_or h] at h1
  exact h1
theorem gm_or_xor {S e : Nat} (h : S.testBit e = false) : (S ||| 2 ^ e) ^^^ 2 ^ e = S := by
  refine Nat.eq_of_testBit_eq (fun i => ?_)
  rw [gm_tb_xor, gm_tb_or]
  by_cases h1 : e = i
  · rw [← h1, h]; simp
  · simp [h1]
theorem gm_or_bd {S e m : Nat} (hS : S < 2 ^ m) (he : e < m) : S ||| 2 ^ e < 2 ^ m := Nat.or_lt_two_pow hS (Nat.pow_lt_pow_right (by decide) he)
/-- the set S of edges can be gone from s, each once, to v -/
def gm_rc (w : Bool) (m : Nat) (a b : Nat → Nat) (s S v : Nat) : Prop := ∃ l : List Nat, l.Nodup ∧ (∀ e, e ∈ l ↔ e < m ∧ S.testBit e = true) ∧ gm_tr w a b l s v
def gm_bf (S v e S0 v0 e0 : Nat) : Prop := S < S0 ∨ (S = S0 ∧ (v < v0 ∨ (v = v0 ∧ e < e0)))
/-- what the table says of T and x when the loops stand at S0, v0, e0 -/
def gm_can (w : Bool) (m : Nat) (a b : Nat → Nat) (s S0 v0 e0 T x : Nat) : Prop := (T = 0 ∧ x = s) ∨ ∃ S e v, gm_bf S v e S0 v0 e0 ∧ e < m ∧ S.testBit e = false ∧ T = S ||| 2 ^ e ∧ gm_rc w m a b s S v ∧ gm_st w a b e v x
theorem gm_rc_add {w : Bool} {m : Nat} {a b : Nat → Nat} {s S v e x : Nat} (he : e < m) (hS : S.testBit e = false) (h : gm_rc w m a b s S v) (hs : gm_st w a b e v x) : gm_rc w m a b s (S ||| 2 ^ e) x := by
  obtain ⟨l, h1, h2, h3⟩ := h
  have hel : e ∉ l := fun h => by
    have h4 := ((h2 e).mp h).2
    rw [hS] at h4
    exact absurd h4 (by decide)
  refine ⟨l ++ [e], (List.perm_append_comm (l₁ := [e])).nodup (List.nodup_cons.mpr ⟨hel, h1⟩), fun i => ?_, (gm_tr_app l [e] s x).mpr ⟨v, h3, x, hs, rfl⟩⟩
  rw [List.mem_append, List.mem_singleton, h2 i, gm_tb_or]
  by_cases h5 : i = e
  · rw [h5]; simp [he]
  · simp [h5, show e ≠ i by omega]
theorem gm_rc_split {w : Bool} {m : Nat} {a b : Nat → Nat} {s T x : Nat} (hT : T < 2 ^ m) (h : gm_rc w m a b s T x) : (T = 0 ∧ x = s) ∨ ∃ S e v, S < T ∧ e < m ∧ S.testBit e = false ∧ T = S ||| 2 ^ e ∧ gm_rc w m a b s S v ∧ gm_st w a b e v x := by
  obtain ⟨l, h1, h2, h3⟩ := h
  rcases List.eq_nil_or_concat l with h4 | ⟨l', e, h4⟩
  · left
    rw [h4] at h2 h3
    refine ⟨Nat.eq_of_testBit_eq (fun i => ?_), h3.symm⟩
    rw [Nat.zero_testBit]
    by_cases hi : i < m
    · cases h5 : T.testBit i with
      | false => rfl
      | true => exact absurd ((h2 i).mpr ⟨hi, h5⟩) List.not_mem_nil
    · exact Nat.testBit_lt_two_pow (Nat.lt_of_lt_of_le hT (Nat.pow_le_pow_right (by decide) (by omega)))
  · right
    rw [List.concat_eq_append] at h4
    have he := (h2 e).mp (by rw [h4]; simp)
    rw [h4] at h3
    obtain ⟨v, h5, h6⟩ := (gm_tr_app l' [e] s x).mp h3
    obtain ⟨y, h7, h8⟩ := h6
    have h8 : y = x := h8
    rw [h8] at h7
    have hn : e ∉ l' ∧ l'.Nodup := by
      have h9 : (e :: l').Nodup := (List.perm_append_comm (l₁ := l') (l₂ := [e])).nodup (by rw [← h4]; exact h1)
      exact List.nodup_cons.mp h9
    refine ⟨T ^^^ 2 ^ e, e, v, gm_xor_lt he.2, he.1, gm_xor_off he.2, (gm_xor_or he.2).symm, ⟨l', hn.2, fun i => ?_, h5⟩, h7⟩
    have h9 := h2 i
    rw [h4, List.mem_append, List.mem_singleton] at h9
    rw [gm_tb_xor]
    by_cases h10 : i = e
    · rw [h10, he.2]; simp [hn.1]
    · have h11 : ¬ e = i := fun h => h10 h.symm
      simp only [h10, or_false] at h9
      rw [h9]
      simp [h11]
theorem gm_can_read {w : Bool} {m : Nat} {a b : Nat → Nat} {s S0 v0 e0 T x : Nat} (hT : T < 2 ^ m) (h0 : T ≤ S0) : gm_can w m a b s S0 v0 e0 T x ↔ gm_rc w m a b s T x := by
  constructor
  · rintro (h | ⟨S, e, v, -, h2, h3, h4, h5, h6⟩)
    · refine ⟨[], List.nodup_nil, fun e => ?_, h.2.symm⟩
      rw [h.1]; simp
    · rw [h4]; exact gm_rc_add h2 h3 h5 h6
  · intro h
    rcases gm_rc_split hT h with h1 | ⟨S, e, v, h1, h2, h3, h4, h5, h6⟩
    · exact Or.inl h1
    · exact Or.inr ⟨S, e, v, Or.inl (by omega), h2, h3, h4, h5, h6⟩
theorem gm_can_mono {w : Bool} {m : Nat} {a b : Nat → Nat} {s S0 v0 e0 S1 v1 e1 : Nat} (h : ∀ S e v, e < m → S.testBit e = false → gm_rc w m a b s S v → (gm_bf S v e S0 v0 e0 ↔ gm_bf S v e S1 v1 e1)) (T x : Nat) : gm_can w m a b s S0 v0 e0 T x ↔ gm_can w m a b s S1 v1 e1 T x := by
  constructor
  · rintro (h1 | ⟨S, e, v, h1, h2, h3, h4, h5, h6⟩)
    · exact Or.inl h1
    · exact Or.inr ⟨S, e, v, (h S e v h2 h3 h5).mp h1, h2, h3, h4, h5, h6⟩
  · rintro (h1 | ⟨S, e, v, h1, h2, h3, h4, h5, h6⟩)
    · exact Or.inl h1
    · exact Or.inr ⟨S, e, v, (h S e v h2 h3 h5).mpr h1, h2, h3, h4, h5, h6⟩
/-- the table c holds it -/
def gm_CA (w : Bool) (m : Nat) (a b : Nat → Nat) (s S0 v0 e0 : Nat) (c : Nat → Int32) : Prop := ∀ T x, T < 2 ^ m → x < 5 → c (5 * T + x) = gm_b (gm_can w m a b s S0 v0 e0 T x)
theorem gm_CA_read {w : Bool} {m : Nat} {a b : Nat → Nat} {s S0 v0 e0 : Nat} {c : Nat → Int32} (h : gm_CA w m a b s S0 v0 e0 c) {T x : Nat} (hT : T < 2 ^ m) (h0 : T ≤ S0) (hx : x < 5) : c (5 * T + x) = gm_b (gm_rc w m a b s T x) := by
  rw [h T x hT hx]
  exact gm_b_congr (gm_can_read hT h0)
theorem gm_CA_mono {w : Bool} {m : Nat} {a b : Nat → Nat} {s S0 v0 e0 S1 v1 e1 : Nat} {c : Nat → Int32} (hc : gm_CA w m a b s S0 v0 e0 c) (h : ∀ S e v, e < m → S.testBit e = false → gm_rc w m a b s S v → (gm_bf S v e S0 v0 e0 ↔ gm_bf S v e S1 v1 e1)) : gm_CA w m a b s S1 v1 e1 c := fun T x hT hx => by
  rw [hc T x hT hx]
  exact gm_b_congr (gm_can_mono h T x)
theorem gm_CA_0 {w : Bool} {m : Nat} {a b : Nat → Nat} {s : Nat} {c : Nat → Int32} (hs : s < 5) (h : ∀ j, j < 5 * 2 ^ m → c j = 0) : gm_CA w m a b s 0 0 0 (upd c s 1) := fun T x hT hx => by
  by_cases h1 : T = 0 ∧ x = s
  · rw [gm_b_t (show gm_can w m a b s 0 0 0 T x from Or.inl h1), h1.1, h1.2, Nat.mul_zero, Nat.zero_add]
    exact pk_us
  · have h2 : 5 * T + x ≠ s := fun h3 => h1 (by omega)
    rw [pk_un h2, h _ (by omega), gm_b_f]
    rintro (h3 | ⟨S, e, v, h3, -⟩)
    · exact h1 h3
    · unfold gm_bf at h3; omega
theorem gm_CA_bit {w : Bool} {m : Nat} {a b : Nat → Nat} {s S0 v0 e0 : Nat} {c : Nat → Int32} (hc : gm_CA w m a b s S0 v0 e0 c) (h : S0.testBit e0 = true) : gm_CA w m a b s S0 v0 (e0 + 1) c := gm_CA_mono hc (fun S e v _ h2 _ => by
  unfold gm_bf
  constructor
  · intro h1; omega
  · rintro (h1 | ⟨h1, h3 | ⟨h3, h4⟩⟩)
    · omega
    · omega
    · by_cases h5 : e = e0
      · rw [h1, h5, h] at h2
        exact absurd h2 (by decide)
      · omega)
theorem gm_CA_none {w : Bool} {m : Nat} {a b : Nat → Nat} {s S0 v0 : Nat} {c : Nat → Int32} (hc : gm_CA w m a b s S0 v0 0 c) (h : ¬ gm_rc w m a b s S0 v0) : gm_CA w m a b s S0 (v0 + 1) 0 c := gm_CA_mono hc (fun S e v _ _ h3 => by
  unfold gm_bf
  constructor
  · intro h1; omega
  · rintro (h1 | ⟨h1, h4 | ⟨h4, h5⟩⟩)
    · omega
    · by_cases h6 : v = v0
      · rw [h1, h6] at h3; exact absurd h3 h
      · omega
    · omega)
theorem gm_CA_row {w : Bool} {m : Nat} {a b : Nat → Nat} {s S0 v0 : Nat} {c : Nat → Int32} (hc : gm_CA w m a b s S0 v0 m c) : gm_CA w m a b s S0 (v0 + 1) 0 c := gm_CA_mono hc (fun S e v h1 _ _ => by
  unfold gm_bf; omega)
theorem gm_rc_lt {w : Bool} {n m : Nat} {a b : Nat → Nat} (hab : ∀ e, e < m → a e < n ∧ b e < n) {s S v : Nat} (hs : s < n) (h : gm_rc w m a b s S v) : v < n := by
  obtain ⟨l, -, h2, h3⟩ := h
  exact gm_tr_end l (fun e he => hab e ((h2 e).mp he).1) s v hs h3
theorem gm_CA_set {w : Bool} {n m : Nat} {a b : Nat → Nat} (hab : ∀ e, e < m → a e < n ∧ b e < n) {s S0 : Nat} (hs : s < n) {c : Nat → Int32} (hc : gm_CA w m a b s S0 n 0 c) : gm_CA w m a b s (S0 + 1) 0 0 c := gm_CA_mono hc (fun S e v _ _ h3 => by
  have h4 := gm_rc_lt hab hs h3
  unfold gm_bf; omega)
/-- one edge is tried: what it reaches is marked -/
theorem gm_CA_put {w : Bool} {m : Nat} {a b : Nat → Nat} {s S0 v0 e0 : Nat} {c c' : Nat → Int32} (hc : gm_CA w m a b s S0 v0 e0 c) (hr : gm_rc w m a b s S0 v0) (he : e0 < m) (hb : S0.testBit e0 = false) (hS : S0 < 2 ^ m) (h1 : ∀ x, gm_st w a b e0 v0 x → x < 5 ∧ c' (5 * (S0 ||| 2 ^ e0) + x) = 1) (h2 : ∀ j, (∀ x, gm_st w a b e0 v0 x → j ≠ 5 * (S0 ||| 2 ^ e0) + x) → c' j = c j) : gm_CA w m a b s S0 v0 (e0 + 1) c' := fun T x hT hx => by
  by_cases h3 : T = S0 ||| 2 ^ e0 ∧ gm_st w a b e0 v0 x
  · rw [gm_b_t (show gm_can w m a b s S0 v0 (e0 + 1) T x from Or.inr ⟨S0, e0, v0, Or.inr ⟨rfl, Or.inr ⟨rfl, by omega⟩⟩, he, hb, h3.1, hr, h3.2⟩), h3.1]
    exact (h1 x h3.2).2
  · rw [h2 (5 * T + x) (fun y hy h4 => h3 ?_), hc T x hT hx]
    · refine gm_b_congr ⟨?_, ?_⟩
      · rintro (h5 | ⟨S, e, v, h5, h6⟩)
        · exact Or.inl h5
        · exact Or.inr ⟨S, e, v, by unfold gm_bf at h5 ⊢; omega, h6⟩
      · rintro (h5 | ⟨S, e, v, h5, h6, h7, h8, h9, h10⟩)
        · exact Or.inl h5
        · by_cases h11 : S = S0 ∧ v = v0 ∧ e = e0
          · exfalso
            apply h3
            rw [h11.1, h11.2.2] at h8
            rw [h11.2.1, h11.2.2] at h10
            exact ⟨h8, h10⟩
          · exact Or.inr ⟨S, e, v, by unfold gm_bf at h5 ⊢; omega, h6, h7, h8, h9, h10⟩
    · have h5 := (h1 y hy).1
      have h6 : T = S0 ||| 2 ^ e0 ∧ x = y := by
        generalize S0 ||| 2 ^ e0 = R at h4 ⊢
        omega
      rw [h6.2]; exact ⟨h6.1, hy⟩
theorem gm_rc_all {w : Bool} {m : Nat} {a b : Nat → Nat} {s v : Nat} : gm_rc w m a b s (2 ^ m - 1) v ↔ ∃ l : List Nat, gm_full m l ∧ gm_tr w a b l s v := by
  constructor
  · rintro ⟨l, h1, h2, h3⟩
    refine ⟨l, ⟨h1, fun e => ?_⟩, h3⟩
    rw [h2 e, Nat.testBit_two_pow_sub_one]; simp
  · rintro ⟨l, ⟨h1, h2⟩, h3⟩
    refine ⟨l, h1, fun e => ?_, h3⟩
    rw [h2 e, Nat.testBit_two_pow_sub_one]; simp
/-- what has been found at the starts below s0, and at s0 below v0 -/
def gm_ac (Q : Nat → Nat → Prop) (n s0 v0 : Nat) : Prop := ∃ s v, v < n ∧ (s < s0 ∨ (s = s0 ∧ v < v0)) ∧ Q s v
theorem gm_ac_0 (Q : Nat → Nat → Prop) (n : Nat) : ¬ gm_ac Q n 0 0 := by
  rintro ⟨s, v, -, h, -⟩; omega
theorem gm_ac_yes {Q : Nat → Nat → Prop} {n s0 v0 : Nat} (hv : v0 < n) (h : Q s0 v0) : gm_ac Q n s0 (v0 + 1) := ⟨s0, v0, hv, Or.inr ⟨rfl, by omega⟩, h⟩
theorem gm_ac_keep {Q : Nat → Nat → Prop} {n s0 v0 : Nat} (h : gm_ac Q n s0 v0) : gm_ac Q n s0 (v0 + 1) := by
  obtain ⟨s, v, h1, h2, h3⟩ := h
  exact ⟨s, v, h1, by omega, h3⟩
theorem gm_ac_no {Q : Nat → Nat → Prop} {n s0 v0 : Nat} (h : ¬ Q s0 v0) : gm_ac Q n s0 (v0 + 1) ↔ gm_ac Q n s0 v0 := by
  constructor
  · rintro ⟨s, v, h1, h2, h3⟩
    refine ⟨s, v, h1, ?_, h3⟩
    by_cases h4 : s = s0 ∧ v = v0
    · rw [h4.1, h4.2] at h3; exact absurd h3 h
    · omega
  · exact gm_ac_keep
theorem gm_ac_row {Q : Nat → Nat → Prop} {n s0 : Nat} : gm_ac Q n s0 n ↔ gm_ac Q n (s0 + 1) 0 := by
  constructor
  · rintro ⟨s, v, h1, h2, h3⟩
    exact ⟨s, v, h1, by omega, h3⟩
  · rintro ⟨s, v, h1, h2, h3⟩
    exact ⟨s, v, h1, by omega, h3⟩
theorem gm_ac_end {Q : Nat → Nat → Prop} {n : Nat} : gm_ac Q n n 0 ↔ ∃ s v, s < n ∧ v < n ∧ Q s v := by
  constructor
  · rintro ⟨s, v, h1, h2, h3⟩
    exact ⟨s, v, by omega, h1, h3⟩
  · rintro ⟨s, v, h1, h2, h3⟩
    exact ⟨s, v, h2, by omega, h3⟩
end
section
/-! PLAIN PART 10: the table of how many ways -/
def gm_sb (S : Nat) : Nat → Bool := fun e => decide (1 ≤ e) && S.testBit e
def gm_pc (m S : Nat) : Nat := (gm_w m (gm_sb S) (fun _ => true)).toNat
def gm_W (m : Nat) (a b : Nat → Nat) (S v : Nat) : Int := gm_T m a b (gm_pc m S) (gm_sb S) (b 0) v
theorem gm_pc_eq (m S : Nat) : gm_w m (gm_sb S) (fun _ => true) = (gm_pc m S : Int) := by
  have h := gm_w_nonneg m (gm_sb S) (fun _ => true)
  unfold gm_pc
  omega
theorem gm_w_bd (m : Nat) (S P : Nat → Bool) : gm_w m S P ≤ (m : Int) := by
  have h := gm_sm_bd (f := fun e => if (S e && P e) = true then (1 : Int) else 0) (m := m) (c := 1) (fun e _ => by (try dsimp only); split <;> decide)
  rw [Int.mul_one] at h
  exact h
theorem gm_W_bd {m : Nat} (hm : m ≤ 10) (a b : Nat → Nat) (S v : Nat) : 0 ≤ gm_W m a b S v ∧ gm_W m a b S v ≤ 10000000000 := by
  refine ⟨gm_T_nonneg _ _ _ _ _ _ _, ?_⟩
  have h1 := gm_T_bd m a b (gm_pc m S) (gm_sb S) (b 0) v
  have h2 : gm_pc m S ≤ 10 := by
    have h3 := gm_w_bd m (gm_sb S) (fun _ => true)
    rw [gm_pc_eq] at h3
    omega
  have h4 : m ^ gm_pc m S ≤ 10 ^ 10 := Nat.le_trans (Nat.pow_le_pow_left hm _) (Nat.pow_le_pow_right (by decide) h2)
  have h5 : (m : Int) ^ gm_pc m S = ((m ^ gm_pc m S : Nat) : Int) := by rw [Int.natCast_pow]
  unfold gm_W
  rw [h5] at h1
  omega
theorem gm_sb_xor {T i : Nat} (h1 : 1 ≤ i) (h2 : T.testBit i = true) (e : Nat) : gm_sb (T ^^^ 2 ^ i) e = gm_del (gm_sb T) i e := by
  by_cases h : e = i
  · rw [h, gm_del_self]
    unfold gm_sb
    rw [gm_xor_off h2]; simp
  · rw [gm_del_ne _ h]
    unfold gm_sb
    rw [gm_tb_xor]
    simp [show ¬ i = e by omega]
theorem gm_W_rec {m : Nat} {a b : Nat → Nat} {T : Nat} (x : Nat) (hT : T < 2 ^ m) (ho : T % 2 = 1) : gm_W m a b T x = (if T = 1 ∧ x = b 0 then 1 else 0) + gm_sm (fun i => if (decide (1 ≤ i) && T.testBit i && b i == x) = true then gm_W m a b (T ^^^ 2 ^ i) (a i) else 0) m := by
  have hpe := gm_pc_eq m T
  by_cases h0 : gm_pc m T = 0
  · rw [h0] at hpe
    have hbits : ∀ e, e < m → 1 ≤ e → T.testBit e = false := fun e he h1 => by
      have h2 := gm_w_eq0 hpe he
      unfold gm_sb at h2
      simpa [h1] using h2
    have hT1 : T = 1 := by
      refine Nat.eq_of_testBit_eq (fun i => ?_)
      by_cases h1 : i = 0
      · rw [h1, Nat.testBit_zero, ho]; rfl
      · have h3 : Nat.testBit 1 i = false := Nat.testBit_lt_two_pow (Nat.lt_of_lt_of_le (by decide : 1 < 2 ^ 1) (Nat.pow_le_pow_right (by decide) (by omega)))
        rw [h3]
        by_cases h2 : i < m
        · exact hbits i h2 (by omega)
        · exact Nat.testBit_lt_two_pow (Nat.lt_of_lt_of_le hT (Nat.pow_le_pow_right (by decide) (by omega)))
    rw [gm_sm_zero (fun i hi => if_neg (fun h => by
      simp only [Bool.and_eq_true, decide_eq_true_eq] at h
      rw [hbits i hi h.1.1] at h
      exact absurd h.1.2 (by decide)))]
    unfold gm_W
    rw [h0, gm_T]
    by_cases h1 : b 0 = x
    · rw [if_pos h1, if_pos ⟨hT1, h1.symm⟩]; rfl
    · rw [if_neg h1, if_neg (fun h => h1 h.2.symm)]; rfl
  · obtain ⟨k, hk⟩ : ∃ k, gm_pc m T = k + 1 := ⟨gm_pc m T - 1, by omega⟩
    have hT1 : T ≠ 1 := fun h => by
      apply h0
      have h2 : gm_w m (gm_sb T) (fun _ => true) = 0 := gm_w_zero (fun e _ => by
        unfold gm_sb
        rw [h]
        by_cases h1 : 1 ≤ e
        · have h3 : Nat.testBit 1 e = false := Nat.testBit_lt_two_pow (Nat.lt_of_lt_of_le (by decide : 1 < 2 ^ 1) (Nat.pow_le_pow_right (by decide) h1))
          rw [h3]; simp
        · simp [h1])
      rw [gm_pc_eq] at h2
      omega
    rw [if_neg (fun h => hT1 h.1), Int.zero_add]
    have hu : gm_W m a b T x = gm_T m a b (k + 1) (gm_sb T) (b 0) x := by unfold gm_W; rw [hk]
    rw [hu, gm_T_last]
    refine gm_sm_congr (fun i hi => ?_)
    have hcond : (gm_sb T i && b i == x) = (decide (1 ≤ i) && T.testBit i && b i == x) := rfl
    rw [hcond]
    by_cases h1 : (decide (1 ≤ i) && T.testBit i && b i == x) = true
    · rw [if_pos h1, if_pos h1]
      simp only [Bool.and_eq_true, decide_eq_true_eq] at h1
      have hpk : gm_pc m (T ^^^ 2 ^ i) = k := by
        have h2 : gm_w m (gm_sb (T ^^^ 2 ^ i)) (fun _ => true) = gm_w m (gm_del (gm_sb T) i) (fun _ => true) := gm_w_congr (fun e _ => by rw [gm_sb_xor h1.1.1 h1.1.2])
        rw [gm_w_del _ hi (by unfold gm_sb; simp [h1.1.1, h1.1.2]), if_pos rfl, gm_pc_eq, gm_pc_eq] at h2
        omega
      unfold gm_W
      rw [hpk]
      exact (gm_T_congr m a b k _ _ _ _ (fun e _ => gm_sb_xor h1.1.1 h1.1.2 e)).symm
    · rw [if_neg h1, if_neg h1]
def gm_bq (S v e S0 v0 e0 : Nat) : Bool := decide (S < S0 ∨ (S = S0 ∧ (v < v0 ∨ (v = v0 ∧ e < e0))))
def gm_tm (m : Nat) (a b : Nat → Nat) (S0 v0 e0 T x : Nat) : Nat → Int := fun i => if (decide (1 ≤ i) && T.testBit i && b i == x && gm_bq (T ^^^ 2 ^ i) (a i) i S0 v0 e0) = true then gm_W m a b (T ^^^ 2 ^ i) (a i) else 0
/-- what the table says of T and x when the loops stand at S0, v0, e0 -/
def gm_wp (m : Nat) (a b : Nat → Nat) (S0 v0 e0 T x : Nat) : Int := (if T = 1 ∧ x = b 0 then 1 else 0) + gm_sm (gm_tm m a b S0 v0 e0 T x) m
theorem gm_wp_congr {m : Nat} {a b : Nat → Nat} {S0 v0 e0 S1 v1 e1 T x : Nat} (h : ∀ i, i < m → 1 ≤ i → T.testBit i = true → b i = x → gm_bq (T ^^^ 2 ^ i) (a i) i S0 v0 e0 = gm_bq (T ^^^ 2 ^ i) (a i) i S1 v1 e1 ∨ gm_W m a b (T ^^^ 2 ^ i) (a i) = 0) : gm_wp m a b S0 v0 e0 T x = gm_wp m a b S1 v1 e1 T x := by
  unfold gm_wp
  rw [gm_sm_congr (fun i hi => ?_)]
  unfold gm_tm
  by_cases h1 : (decide (1 ≤ i) && T.testBit i && b i == x) = true
  · simp only [Bool.and_eq_true, decide_eq_true_eq, beq_iff_eq] at h1
    rcases h i hi h1.1.1 h1.1.2 h1.2 with h2 | h2
    · rw [h2]
    · rw [h2]; split <;> split <;> rfl
  · rw [if_neg (fun h2 => h1 (by rw [Bool.and_eq_true] at h2; exact h2.1)), if_neg (fun h2 => h1 (by rw [Bool.and_eq_true] at h2; exact h2.1))]
def gm_WA (m : Nat) (a b : Nat → Nat) (S0 v0 e0 : Nat) (c : Nat → Int64) : Prop := ∀ T x, T < 2 ^ m → T % 2 = 1 → x < 5 → c (5 * T + x) = Int64.ofInt (gm_wp m a b S0 v0 e0 T x)
theorem gm_WA_read {m : Nat} {a b : Nat → Nat} {S0 v0 e0 : Nat} {c : Nat → Int64} (h : gm_WA m a b S0 v0 e0 c) {T x : Nat} (hT : T < 2 ^ m) (ho : T % 2 = 1) (h0 : T ≤ S0) (hx : x < 5) : c (5 * T + x) = Int64.ofInt (gm_W m a b T x) := by
  rw [h T x hT ho hx, gm_W_rec x hT ho]
  unfold gm_wp
  rw [gm_sm_congr (fun i hi => ?_)]
  unfold gm_tm
  by_cases h1 : (decide (1 ≤ i) && T.testBit i && b i == x) = true
  · rw [if_pos h1, if_pos]
    rw [h1, Bool.true_and]
    simp only [Bool.and_eq_true, decide_eq_true_eq, beq_iff_eq] at h1
    have h2 := gm_xor_lt h1.1.2
    unfold gm_bq
    exact decide_eq_true (Or.inl (by omega))
  · rw [if_neg h1, if_neg (fun h2 => h1 (by rw [Bool.and_eq_true] at h2; exact h2.1))]
theorem gm_WA_mono {m : Nat} {a b : Nat → Nat} {S0 v0 e0 S1 v1 e1 : Nat} {c : Nat → Int64} (hc : gm_WA m a b S0 v0 e0 c) (h : ∀ S i, i < m → 1 ≤ i → S % 2 = 1 → S.testBit i = false → gm_bq S (a i) i S0 v0 e0 = gm_bq S (a i) i S1 v1 e1 ∨ gm_W m a b S (a i) = 0) : gm_WA m a b S1 v1 e1 c := fun T x hT ho hx => by
  rw [hc T x hT ho hx, gm_wp_congr (fun i hi h1 h2 _ => h _ i hi h1 ?_ (gm_xor_off h2))]
  have h3 := gm_tb_xor T i 0
  rw [Nat.testBit_zero, Nat.testBit_zero, ho] at h3
  simpa [show ¬ i = 0 by omega] using h3
theorem gm_WA_0 {m : Nat} {a b : Nat → Nat} {c : Nat → Int64} (hb : b 0 < 5) (h : ∀ j, j < 5 * 2 ^ m → c j = 0) : gm_WA m a b 1 0 1 (vp_updL c (5 + b 0) 1) := fun T x hT ho hx => by
  have hz : gm_sm (gm_tm m a b 1 0 1 T x) m = 0 := gm_sm_zero (fun i hi => by
    unfold gm_tm
    refine if_neg (fun h1 => ?_)
    simp only [Bool.and_eq_true, decide_eq_true_eq, beq_iff_eq] at h1
    have h2 := h1.2
    unfold gm_bq at h2
    have h2 := of_decide_eq_true h2
    have h3 := gm_tb_xor T i 0
    rw [Nat.testBit_zero, Nat.testBit_zero, ho] at h3
    have h4 : (T ^^^ 2 ^ i) % 2 = 1 := by simpa [show ¬ i = 0 by omega] using h3
    omega)
  unfold gm_wp
  rw [hz, Int.add_zero]
  by_cases h1 : T = 1 ∧ x = b 0
  · rw [if_pos h1, h1.1, h1.2]
    exact pk_uLs
  · rw [if_neg h1, pk_uLn (by omega), h _ (by omega)]; rfl
theorem gm_WA_skip {m : Nat} {a b : Nat → Nat} {S0 v0 e0 : Nat} {c : Nat → Int64} (hc : gm_WA m a b S0 v0 e0 c) (h : S0.testBit e0 = true ∨ a e0 ≠ v0) : gm_WA m a b S0 v0 (e0 + 1) c := gm_WA_mono hc (fun S i _ _ _ h3 => by
  left
  unfold gm_bq
  rw [decide_eq_decide]
  constructor
  · intro h4; omega
  · intro h4
    by_cases h5 : S = S0 ∧ a i = v0 ∧ i = e0
    · exfalso
      rcases h with h | h
      · rw [h5.1, h5.2.2, h] at h3
        exact absurd h3 (by decide)
      · rw [h5.2.2] at h5; exact h h5.2.1
    · omega)
theorem gm_WA_none {m : Nat} {a b : Nat → Nat} {S0 v0 : Nat} {c : Nat → Int64} (hc : gm_WA m a b S0 v0 1 c) (h : gm_W m a b S0 v0 = 0) : gm_WA m a b S0 (v0 + 1) 1 c := gm_WA_mono hc (fun S i _ h1 _ _ => by
  by_cases h5 : S = S0 ∧ a i = v0
  · right
    rw [h5.1, h5.2]; exact h
  · left
    unfold gm_bq
    rw [decide_eq_decide]
    omega)
theorem gm_WA_row {m : Nat} {a b : Nat → Nat} {S0 v0 : Nat} {c : Nat → Int64} (hc : gm_WA m a b S0 v0 m c) : gm_WA m a b S0 (v0 + 1) 1 c := gm_WA_mono hc (fun S i h0 h1 _ _ => by
  left
  unfold gm_bq
  rw [decide_eq_decide]
  omega)
theorem gm_WA_set {n m : Nat} {a b : Nat → Nat} (hab : ∀ e, e < m → a e < n ∧ b e < n) {S0 : Nat} (ho : S0 % 2 = 1) {c : Nat → Int64} (hc : gm_WA m a b S0 n 1 c) : gm_WA m a b (S0 + 2) 0 1 c := gm_WA_mono hc (fun S i h0 h1 h2 _ => by
  have h3 := hab i h0
  left
  unfold gm_bq
  rw [decide_eq_decide]
  omega)
theorem gm_WA_add {m : Nat} {a b : Nat → Nat} {S0 v0 e0 : Nat} {c : Nat → Int64} (hc : gm_WA m a b S0 v0 e0 c) (h1 : 1 ≤ e0) (he : e0 < m) (hb : S0.testBit e0 = false) (ha : a e0 = v0) (hb5 : b e0 < 5) (ho : S0 % 2 = 1) (hS : S0 < 2 ^ m) : gm_WA m a b S0 v0 (e0 + 1) (vp_updL c (5 * (S0 ||| 2 ^ e0) + b e0) (c (5 * (S0 ||| 2 ^ e0) + b e0) + Int64.ofInt (gm_W m a b S0 v0))) := fun T x hT hoT hx => by
  by_cases h2 : T = S0 ||| 2 ^ e0 ∧ x = b e0
  · rw [h2.1, h2.2, pk_uLs, hc (S0 ||| 2 ^ e0) (b e0) (h2.1 ▸ hT) (h2.1 ▸ hoT) hb5, ← Int64.ofInt_add]
    congr 1
    unfold gm_wp
    have h3 : gm_sm (gm_tm m a b S0 v0 (e0 + 1) (S0 ||| 2 ^ e0) (b e0)) m = gm_sm (fun i => gm_tm m a b S0 v0 e0 (S0 ||| 2 ^ e0) (b e0) i + (if i = e0 then gm_W m a b S0 v0 else 0)) m := by
      refine gm_sm_congr (fun i hi => ?_)
      unfold gm_tm
      by_cases h4 : i = e0
      · rw [h4, if_pos rfl, gm_or_xor hb, ha, gm_tb_or]
        rw [if_pos (by unfold gm_bq; simp [h1]), if_neg (by unfold gm_bq; simp)]
        omega
      · rw [if_neg h4, Int.add_zero]
        have h5 : gm_bq ((S0 ||| 2 ^ e0) ^^^ 2 ^ i) (a i) i S0 v0 (e0 + 1) = gm_bq ((S0 ||| 2 ^ e0) ^^^ 2 ^ i) (a i) i S0 v0 e0 := by
          unfold gm_bq
          rw [decide_eq_decide]
          omega
        rw [h5]
    rw [h3, gm_sm_add, gm_sm_one _ he]
    omega
  · have hne : 5 * T + x ≠ 5 * (S0 ||| 2 ^ e0) + b e0 := fun h => h2 (by
      generalize S0 ||| 2 ^ e0 = R at h ⊢
      omega)
    rw [pk_uLn hne, hc T x hT hoT hx, gm_wp_congr (fun i hi h3 h4 h5 => ?_)]
    left
    unfold gm_bq
    rw [decide_eq_decide]
    constructor
    · intro h6; omega
    · intro h6
      by_cases h7 : i = e0 ∧ T ^^^ 2 ^ i = S0
      · exfalso
        apply h2
        refine ⟨?_, by rw [← h5, h7.1]⟩
        rw [← h7.2, ← h7.1]
        exact (gm_xor_or h4).symm
      · omega
theorem gm_W_all {m : Nat} (hm : 0 < m) (a b : Nat → Nat) : gm_W m a b (2 ^ m - 1) (a 0) = gm_R m a b := by
  have hs : ∀ e, e < m → gm_sb (2 ^ m - 1) e = gm_del gm_all 0 e := fun e he => by
    unfold gm_sb gm_del gm_all
    rw [Nat.testBit_two_pow_sub_one]
    by_cases h : e = 0
    · simp [h]
    · simp [h, he, show 1 ≤ e by omega]
  have hp : gm_pc m (2 ^ m - 1) = m - 1 := by
    have h1 : gm_w m (gm_sb (2 ^ m - 1)) (fun _ => true) = gm_w m (gm_del gm_all 0) (fun _ => true) := gm_w_congr (fun e he => by rw [hs e he])
    rw [gm_pc_eq, gm_R_card hm] at h1
    omega
  unfold gm_W gm_R
  rw [hp]
  exact gm_T_congr m a b _ _ _ _ _ hs
theorem gm_W_le0 {m : Nat} (hm : m ≤ 10) {a b : Nat → Nat} {S v : Nat} (h : Int64.ofInt (gm_W m a b S v) ≤ 0) : gm_W m a b S v = 0 := by
  have h1 := gm_W_bd hm a b S v
  rw [Int64.le_iff_toInt_le, gm_l_toInt (by omega)] at h
  have h2 : (0 : Int64).toInt = 0 := by decide
  omega
end
section
/-! ROWS OF OUR OWN over the kit's: numbers by naturals, arrays by natural places, long arrays in a pool, arrays of arrays -/
theorem gm_asg (vm : Vm) (c : ClassId) : vm.assignable c c = true := by
  show Vm.assignableAux vm (255 + 1) c c = true
  rw [Vm.assignableAux, beq_self_eq_true, Bool.true_or]
section GMR
variable {p : Program} {l : Launch} {e : Env} {R : Room} {s : State} {m : MethodId} {args : Array Value} {below : List Frame} {meth : Method} {c : Code} {H : Heap} {locs : List Loc} {cells slots : Nat} {Q : State → Prop}
variable {cc : ByteArray} {pc : Nat} {ls : Array Slot} {rest : List Value} {D : va_G} {cl : List vw_C} {A : Nat → Prop} {a : Nat} {tys : List (ClassId × FieldType)} {ws : va_W} {H0 : Heap}
theorem gm_tpi {v w : Int32} (h : v = w) (k : W p l e R s m args below meth c H locs cells slots Q (F0 m pc ls (.int w :: rest))) : W p l e R s m args below meth c H locs cells slots Q (F0 m pc ls (.int v :: rest)) := by rw [h]; exact k
theorem gm_tpl {v w : Int64} (h : v = w) (k : W p l e R s m args below meth c H locs cells slots Q (F0 m pc ls (.long w :: rest))) : W p l e R s m args below meth c H locs cells slots Q (F0 m pc ls (.long v :: rest)) := by rw [h]; exact k
theorem gm_bge (hexec : p.tables.exec = Jvm.exec) (hb : c.code = cc) {x y : Nat} {off : Int} {tgt : Nat} (hdg : decode cc pc = .ok (.if_icmp .ge off, 3)) (ht : (pc : Int) + off = (tgt : Int)) (hx : x < 2 ^ 31) (hy : y < 2 ^ 31)
    (kt : y ≤ x → W p l e R s m args below meth c H locs cells slots Q (F0 m tgt ls rest)) (kf : x < y → W p l e R s m args below meth c H locs cells slots Q (F0 m (pc + 3) ls rest)) : W p l e R s m args below meth c H locs cells slots Q (F0 m pc ls (.int (nI y) :: .int (nI x) :: rest)) :=
  lv_icmp_ge hexec hb hdg ht (fun h => kt ((nI_leI hy hx).mp h)) (fun h => kf (Nat.not_le.mp (fun q => h ((nI_leI hy hx).mpr q))))
theorem gm_ble (hexec : p.tables.exec = Jvm.exec) (hb : c.code = cc) {x y : Nat} {off : Int} {tgt : Nat} (hdg : decode cc pc = .ok (.if_icmp .le off, 3)) (ht : (pc : Int) + off = (tgt : Int)) (hx : x < 2 ^ 31) (hy : y < 2 ^ 31)
    (kt : x ≤ y → W p l e R s m args below meth c H locs cells slots Q (F0 m tgt ls rest)) (kf : y < x → W p l e R s m args below meth c H locs cells slots Q (F0 m (pc + 3) ls rest)) : W p l e R s m args below meth c H locs cells slots Q (F0 m pc ls (.int (nI y) :: .int (nI x) :: rest)) :=
  lv_icmp_le hexec hb hdg ht (fun h => kt ((nI_leI hx hy).mp h)) (fun h => kf (Nat.not_le.mp (fun q => h ((nI_leI hx hy).mpr q))))
theorem gm_bgt (hexec : p.tables.exec = Jvm.exec) (hb : c.code = cc) {x y : Nat} {off : Int} {tgt : Nat} (hdg : decode cc pc = .ok (.if_icmp .gt off, 3)) (ht : (pc : Int) + off = (tgt : Int)) (hx : x < 2 ^ 31) (hy : y < 2 ^ 31)
    (kt : y < x → W p l e R s m args below meth c H locs cells slots Q (F0 m tgt ls rest)) (kf : x ≤ y → W p l e R s m args below meth c H locs cells slots Q (F0 m (pc + 3) ls rest)) : W p l e R s m args below meth c H locs cells slots Q (F0 m pc ls (.int (nI y) :: .int (nI x) :: rest)) :=
  lv_icmp_gt hexec hb hdg ht (fun h => kt ((nI_ltI hy hx).mp h)) (fun h => kf (Nat.not_lt.mp (fun q => h ((nI_ltI hy hx).mpr q))))
theorem gm_beq (hexec : p.tables.exec = Jvm.exec) (hb : c.code = cc) {x y : Nat} {off : Int} {tgt : Nat} (hdg : decode cc pc = .ok (.if_icmp .eq off, 3)) (ht : (pc : Int) + off = (tgt : Int)) (hx : x < 2 ^ 31) (hy : y < 2 ^ 31)
    (kt : x = y → W p l e R s m args below meth c H locs cells slots Q (F0 m tgt ls rest)) (kf : x ≠ y → W p l e R s m args below meth c H locs cells slots Q (F0 m (pc + 3) ls rest)) : W p l e R s m args below meth c H locs cells slots Q (F0 m pc ls (.int (nI y) :: .int (nI x) :: rest)) :=
  lv_icmp_eq hexec hb hdg ht (fun h => kt ((nI_eq hx hy).mp h)) (fun h => kf (fun q => h ((nI_eq hx hy).mpr q)))
theorem gm_bne (hexec : p.tables.exec = Jvm.exec) (hb : c.code = cc) {x y : Nat} {off : Int} {tgt : Nat} (hdg : decode cc pc = .ok (.if_icmp .ne off, 3)) (ht : (pc : Int) + off = (tgt : Int)) (hx : x < 2 ^ 31) (hy : y < 2 ^ 31)
    (kt : x ≠ y → W p l e R s m args below meth c H locs cells slots Q (F0 m tgt ls rest)) (kf : x = y → W p l e R s m args below meth c H locs cells slots Q (F0 m (pc + 3) ls rest)) : W p l e R s m args below meth c H locs cells slots Q (F0 m pc ls (.int (nI y) :: .int (nI x) :: rest)) :=
  lv_icmp_ne hexec hb hdg ht (fun h => kt (fun q => h ((nI_eq hx hy).mpr q))) (fun h => kf ((nI_eq hx hy).mp h))
theorem gm_nI0 {x : Nat} (hx : x < 2 ^ 31) : nI x = 0 ↔ x = 0 := by
  rw [← nI_0]; exact nI_eq hx (by decide)
theorem gm_zne (hexec : p.tables.exec = Jvm.exec) (hb : c.code = cc) {x : Nat} {off : Int} {tgt : Nat} (hdg : decode cc pc = .ok (.ifCond .ne off, 3)) (ht : (pc : Int) + off = (tgt : Int)) (hx : x < 2 ^ 31)
    (kt : x ≠ 0 → W p l e R s m args below meth c H locs cells slots Q (F0 m tgt ls rest)) (kf : x = 0 → W p l e R s m args below meth c H locs cells slots Q (F0 m (pc + 3) ls rest)) : W p l e R s m args below meth c H locs cells slots Q (F0 m pc ls (.int (nI x) :: rest)) :=
  lv_if_ne hexec hb hdg ht (fun h => kt (fun q => h ((gm_nI0 hx).mpr q))) (fun h => kf ((gm_nI0 hx).mp h))
theorem gm_zeq (hexec : p.tables.exec = Jvm.exec) (hb : c.code = cc) {x : Nat} {off : Int} {tgt : Nat} (hdg : decode cc pc = .ok (.ifCond .eq off, 3)) (ht : (pc : Int) + off = (tgt : Int)) (hx : x < 2 ^ 31)
    (kt : x = 0 → W p l e R s m args below meth c H locs cells slots Q (F0 m tgt ls rest)) (kf : x ≠ 0 → W p l e R s m args below meth c H locs cells slots Q (F0 m (pc + 3) ls rest)) : W p l e R s m args below meth c H locs cells slots Q (F0 m pc ls (.int (nI x) :: rest)) :=
  lv_if_eq hexec hb hdg ht (fun h => kt ((gm_nI0 hx).mp h)) (fun h => kf (fun q => h ((gm_nI0 hx).mpr q)))
theorem gm_zle (hexec : p.tables.exec = Jvm.exec) (hb : c.code = cc) {x : Nat} {off : Int} {tgt : Nat} (hdg : decode cc pc = .ok (.ifCond .le off, 3)) (ht : (pc : Int) + off = (tgt : Int)) (hx : x < 2 ^ 31)
    (kt : x = 0 → W p l e R s m args below meth c H locs cells slots Q (F0 m tgt ls rest)) (kf : 0 < x → W p l e R s m args below meth c H locs cells slots Q (F0 m (pc + 3) ls rest)) : W p l e R s m args below meth c H locs cells slots Q (F0 m pc ls (.int (nI x) :: rest)) :=
  lv_if_le hexec hb hdg ht (fun h => kt (by
    rw [← nI_0, nI_leI hx (by decide)] at h
    omega)) (fun h => kf (Nat.pos_of_ne_zero (fun q => h (by rw [q, nI_0]; exact Int32.le_refl 0))))
theorem gm_iald (hexec : p.tables.exec = Jvm.exec) (hb : c.code = cc) (hK : va_K D cl tys s) (hP : va_P D cl ws H) (q0 t0 : Nat) {cA : ClassId} {n : Nat} {f : Nat → Int32} (ha : ws[q0]? = some (a, .inl (cA, n, .inl f))) (ht : tys[t0]? = some (cA, .int)) {k : Nat} (hk : k < n) (hn : n < 2 ^ 31) {v : Int32} (hv : f k = v) (hdg : decode cc pc = .ok (.iaload, 1))
    (kk : W p l e R s m args below meth c H locs cells slots Q (F0 m (pc + 1) ls (.int v :: rest))) : W p l e R s m args below meth c H locs cells slots Q (F0 m pc ls (.int (nI k) :: .ref a :: rest)) := by
  refine va_iald hexec hb hK hP q0 t0 ha ht (vp_in_nI hk hn) hdg ?_
  rw [nI_clamp (by omega), hv]; exact kk
theorem gm_zald (hexec : p.tables.exec = Jvm.exec) (hb : c.code = cc) (hK : va_K D cl tys s) (hP : va_P D cl ws H) (q0 t0 : Nat) {cA : ClassId} {n : Nat} {f : Nat → Int32} (ha : ws[q0]? = some (a, .inl (cA, n, .inl f))) (ht : tys[t0]? = some (cA, .boolean)) {k : Nat} (hk : k < n) (hn : n < 2 ^ 31) {v : Int32} (hv : f k = v) (hdg : decode cc pc = .ok (.baload, 1))
    (kk : W p l e R s m args below meth c H locs cells slots Q (F0 m (pc + 1) ls (.int v :: rest))) : W p l e R s m args below meth c H locs cells slots Q (F0 m pc ls (.int (nI k) :: .ref a :: rest)) := by
  refine va_zald hexec hb hK hP q0 t0 ha ht (vp_in_nI hk hn) hdg ?_
  rw [nI_clamp (by omega), hv]; exact kk
theorem gm_lald (hexec : p.tables.exec = Jvm.exec) (hb : c.code = cc) (hK : va_K D cl tys s) (hP : va_P D cl ws H) (q0 t0 : Nat) {cA : ClassId} {n : Nat} {f : Nat → Int64} (ha : ws[q0]? = some (a, .inl (cA, n, .inr (.inl f)))) (ht : tys[t0]? = some (cA, .long)) {k : Nat} (hk : k < n) (hn : n < 2 ^ 31) {v : Int64} (hv : f k = v) (hdg : decode cc pc = .ok (.laload, 1))
    (kk : W p l e R s m args below meth c H locs cells slots Q (F0 m (pc + 1) ls (.long v :: rest))) : W p l e R s m args below meth c H locs cells slots Q (F0 m pc ls (.int (nI k) :: .ref a :: rest)) := by
  refine va_lald hexec hb hK hP q0 t0 ha ht (vp_in_nI hk hn) hdg ?_
  rw [nI_clamp (by omega), hv]; exact kk
theorem gm_iast (hexec : p.tables.exec = Jvm.exec) (hb : c.code = cc) (hK : va_K D cl tys s) (hP : va_P D cl ws H) (hD : va_D A ws) (hS : va_S A H0 H locs) (q0 t0 : Nat) {cA : ClassId} {n : Nat} {f : Nat → Int32} (ha : ws[q0]? = some (a, .inl (cA, n, .inl f))) (ht : tys[t0]? = some (cA, .int)) {k : Nat} {v : Int32} (hk : k < n) (hn : n < 2 ^ 31) (hdg : decode cc pc = .ok (.iastore, 1))
    (kk : ∀ (H1 : Heap) (locs1 : List Loc), va_P D cl (ws.set q0 (a, .inl (cA, n, .inl (upd f k v)))) H1 → va_D A (ws.set q0 (a, .inl (cA, n, .inl (upd f k v)))) → va_S A H0 H1 locs1 → W p l e R s m args below meth c H1 locs1 cells slots Q (F0 m (pc + 1) ls rest)) : W p l e R s m args below meth c H locs cells slots Q (F0 m pc ls (.int v :: .int (nI k) :: .ref a :: rest)) := by
  refine va_iast hexec hb hK hP hD hS q0 t0 ha ht (vp_in_nI hk hn) hdg (fun H1 locs1 h1 h2 h3 => ?_)
  rw [nI_clamp (by omega)] at h1 h2
  exact kk H1 locs1 h1 h2 h3
theorem gm_zast (hexec : p.tables.exec = Jvm.exec) (hb : c.code = cc) (hK : va_K D cl tys s) (hP : va_P D cl ws H) (hD : va_D A ws) (hS : va_S A H0 H locs) (q0 t0 : Nat) {cA : ClassId} {n : Nat} {f : Nat → Int32} (ha : ws[q0]? = some (a, .inl (cA, n, .inl f))) (ht : tys[t0]? = some (cA, .boolean)) {k : Nat} {v : Int32} (hv : vp_nar .boolean v = v) (hk : k < n) (hn : n < 2 ^ 31) (hdg : decode cc pc = .ok (.bastore, 1))
    (kk : ∀ (H1 : Heap) (locs1 : List Loc), va_P D cl (ws.set q0 (a, .inl (cA, n, .inl (upd f k v)))) H1 → va_D A (ws.set q0 (a, .inl (cA, n, .inl (upd f k v)))) → va_S A H0 H1 locs1 → W p l e R s m args below meth c H1 locs1 cells slots Q (F0 m (pc + 1) ls rest)) : W p l e R s m args below meth c H locs cells slots Q (F0 m pc ls (.int v :: .int (nI k) :: .ref a :: rest)) := by
  refine va_zast hexec hb hK hP hD hS q0 t0 ha ht (vp_in_nI hk hn) hdg (fun H1 locs1 h1 h2 h3 => ?_)
  rw [nI_clamp (by omega), hv] at h1 h2
  exact kk H1 locs1 h1 h2 h3
theorem gm_last (hexec : p.tables.exec = Jvm.exec) (hb : c.code = cc) (hK : va_K D cl tys s) (hP : va_P D cl ws H) (hD : va_D A ws) (hS : va_S A H0 H locs) (q0 t0 : Nat) {cA : ClassId} {n : Nat} {f : Nat → Int64} (ha : ws[q0]? = some (a, .inl (cA, n, .inr (.inl f)))) (ht : tys[t0]? = some (cA, .long)) {k : Nat} {v : Int64} (hk : k < n) (hn : n < 2 ^ 31) (hdg : decode cc pc = .ok (.lastore, 1))
    (kk : ∀ (H1 : Heap) (locs1 : List Loc), va_P D cl (ws.set q0 (a, .inl (cA, n, .inr (.inl (vp_updL f k v))))) H1 → va_D A (ws.set q0 (a, .inl (cA, n, .inr (.inl (vp_updL f k v))))) → va_S A H0 H1 locs1 → W p l e R s m args below meth c H1 locs1 cells slots Q (F0 m (pc + 1) ls rest)) : W p l e R s m args below meth c H locs cells slots Q (F0 m pc ls (.long v :: .int (nI k) :: .ref a :: rest)) := by
  refine va_last hexec hb hK hP hD hS q0 t0 ha ht (vp_in_nI hk hn) hdg (fun H1 locs1 h1 h2 h3 => ?_)
  rw [nI_clamp (by omega)] at h1 h2
  exact kk H1 locs1 h1 h2 h3
/-- a row out of an array of rows -/
theorem gm_ald2 (hexec : p.tables.exec = Jvm.exec) (hb : c.code = cc) (hK : va_K D cl tys s) (hP : va_P D cl ws H) (q0 t0 : Nat) {cA : ClassId} {ty : FieldType} {n : Nat} {f : Nat → Option Nat} (ha : ws[q0]? = some (a, .inl (cA, n, .inr (.inr (.inr (.inr f)))))) (ht : tys[t0]? = some (cA, .array ty)) {k y : Nat} (hk : k < n) (hn : n < 2 ^ 31) (hv : f k = some y) (hdg : decode cc pc = .ok (.aaload, 1))
    (kk : W p l e R s m args below meth c H locs cells slots Q (F0 m (pc + 1) ls (.ref y :: rest))) : W p l e R s m args below meth c H locs cells slots Q (F0 m pc ls (.int (nI k) :: .ref a :: rest)) := by
  have hin : vp_in (nI k) n := vp_in_nI hk hn
  have hlt : (nI k).toNatClampNeg < n := Nat.not_le.mp fun q => hin (Or.inr q)
  refine W.aald (v := va_rf (f (nI k).toNatClampNeg)) (ty := .array ty) hexec hb (hP q0 _ ha) ((hK.2 t0 _ ht).1 n (fun j => va_rf (f j))) rfl (fun q => by cases q) (by show ¬ (nI k < 0 ∨ (arrV _ _ _).slots.size ≤ _); rw [arrV_size]; exact hin) (by show (arrV _ _ _).slots[_]? = _; rw [arrV_read _ _ hlt]) rfl rfl hdg ?_
  rw [nI_clamp (by omega), hv]
  exact kk
/-- the class of arrays of rows, and of rows -/
def gm_GA (cG cL : ClassId) (U : State) : Prop := ∃ kG kL : Class, U.vm.classes[cG]? = some kG ∧ kG.kind = .array cL (.array .long) ∧ U.vm.classes[cL]? = some kL
theorem gm_GA.moved {cG cL : ClassId} {u U : State} (hvm : u.vm.Alike U.vm) (h : gm_GA cG cL u) : gm_GA cG cL U := by
  obtain ⟨kG, kL, h1, h2, h3⟩ := h
  obtain ⟨kG', hk', he⟩ := hvm.2.2 _ _ h1
  obtain ⟨kL', hl', -⟩ := hvm.2.2 _ _ h3
  exact ⟨kG', kL', hk', by rw [he]; exact h2, hl'⟩
/-- a row into an array of rows -/
theorem gm_ast2 (hexec : p.tables.exec = Jvm.exec) (hb : c.code = cc) (hP : va_P D cl ws H) (hD : va_D A ws) (hS : va_S A H0 H locs) (q0 qk : Nat) {cG cL : ClassId} (hG : gm_GA cG cL s) {n nr y : Nat} {f : Nat → Option Nat} {r : Nat → Int64} (ha : ws[q0]? = some (a, .inl (cG, n, .inr (.inr (.inr (.inr f)))))) (hv : ws[qk]? = some (y, .inl (cL, nr, .inr (.inl r)))) {k : Nat} (hk : k < n) (hn : n < 2 ^ 31) (hdg : decode cc pc = .ok (.aastore, 1))
    (kk : ∀ (H1 : Heap) (locs1 : List Loc), va_P D cl (ws.set q0 (a, .inl (cG, n, .inr (.inr (.inr (.inr (va_up f k (some y)))))))) H1 → va_D A (ws.set q0 (a, .inl (cG, n, .inr (.inr (.inr (.inr (va_up f k (some y)))))))) → va_S A H0 H1 locs1 → W p l e R s m args below meth c H1 locs1 cells slots Q (F0 m (pc + 1) ls rest)) : W p l e R s m args below meth c H locs cells slots Q (F0 m pc ls (.ref y :: .int (nI k) :: .ref a :: rest)) := by
  have hin : vp_in (nI k) n := vp_in_nI hk hn
  have hlt : (nI k).toNatClampNeg < n := Nat.not_le.mp fun q => hin (Or.inr q)
  have h0 : ¬ nI k < 0 := fun q => hin (Or.inl q)
  obtain ⟨kG, kL, g1, g2, g3⟩ := hG
  refine W.aast hexec hb (hP q0 _ ha) (fun q h => by cases h) (fun h => by cases h) g1 g2 rfl g3 ⟨h0, by show _ < (arrV _ _ _).slots.size; rw [arrV_size]; exact hlt⟩ (hP qk _ hv) (fun q h => by cases h) g3 (gm_asg s.vm cL) rfl rfl hdg fun H1 e z oq => ?_
  refine kk H1 _ (hP.set hD ha ?_ oq) (hD.set ha) (hS.put z oq (hD.2 q0 _ ha))
  show H1[a]? = some (vp_cell _ _)
  rw [e]
  rw [vp_cell_q, vp_cell_q, arrV_store, nI_clamp (by omega)]
  congr 2
  funext q
  by_cases hq : q = k
  · subst hq
    simp [updV, va_up, va_rf]
  · simp [updV, va_up, hq]
/-- the pool of rows: each of n longs -/
def gm_pool (cL : ClassId) (n : Nat) (LP : List Nat) (pr : Nat → Nat → Int64) : va_W := va_pl LP (fun y => .inl (cL, n, .inr (.inl (pr y))))
theorem gm_pool_up (cL : ClassId) (n : Nat) (LP : List Nat) (pr : Nat → Nat → Int64) (y : Nat) (r : Nat → Int64) : va_pl LP (va_up (fun y => .inl (cL, n, .inr (.inl (pr y)))) y (.inl (cL, n, .inr (.inl r)))) = gm_pool cL n LP (va_up pr y r) := by
  unfold gm_pool
  refine va_pl_congr (fun z => ?_)
  unfold va_up
  by_cases h : z = y
  · rw [if_pos h, if_pos h]
  · rw [if_neg h, if_neg h]
theorem gm_lald2 (hexec : p.tables.exec = Jvm.exec) (hb : c.code = cc) {X : va_W} {cL : ClassId} {n : Nat} {LP : List Nat} {pr : Nat → Nat → Int64} (hK : va_K D cl tys s) (hP : va_P D cl (X ++ gm_pool cL n LP pr) H) (t0 : Nat) (ht : tys[t0]? = some (cL, .long)) {y k : Nat} (hy : y ∈ LP) (hk : k < n) (hn : n < 2 ^ 31) {v : Int64} (hv : pr y k = v) (hdg : decode cc pc = .ok (.laload, 1))
    (kk : W p l e R s m args below meth c H locs cells slots Q (F0 m (pc + 1) ls (.long v :: rest))) : W p l e R s m args below meth c H locs cells slots Q (F0 m pc ls (.int (nI k) :: .ref y :: rest)) := by
  obtain ⟨q0, hq0⟩ := va_pl_get (X := X) (f := fun y => .inl (cL, n, .inr (.inl (pr y)))) hy
  exact gm_lald hexec hb hK hP q0 t0 hq0 ht hk hn hv hdg kk
theorem gm_last2 (hexec : p.tables.exec = Jvm.exec) (hb : c.code = cc) {X : va_W} {cL : ClassId} {n : Nat} {LP : List Nat} {pr : Nat → Nat → Int64} (hK : va_K D cl tys s) (hP : va_P D cl (X ++ gm_pool cL n LP pr) H) (hD : va_D A (X ++ gm_pool cL n LP pr)) (hS : va_S A H0 H locs) (t0 : Nat) (ht : tys[t0]? = some (cL, .long)) {y k : Nat} {v : Int64} (hy : y ∈ LP) (hk : k < n) (hn : n < 2 ^ 31) (hdg : decode cc pc = .ok (.lastore, 1))
    (kk : ∀ (H1 : Heap) (locs1 : List Loc), va_P D cl (X ++ gm_pool cL n LP (va_up pr y (vp_updL (pr y) k v))) H1 → va_D A (X ++ gm_pool cL n LP (va_up pr y (vp_updL (pr y) k v))) → va_S A H0 H1 locs1 → W p l e R s m args below meth c H1 locs1 cells slots Q (F0 m (pc + 1) ls rest)) : W p l e R s m args below meth c H locs cells slots Q (F0 m pc ls (.long v :: .int (nI k) :: .ref y :: rest)) := by
  obtain ⟨q0, hq0⟩ := va_pl_get (X := X) (f := fun y => .inl (cL, n, .inr (.inl (pr y)))) hy
  refine gm_last hexec hb hK hP hD hS q0 t0 hq0 ht hk hn hdg (fun H1 locs1 h1 h2 h3 => ?_)
  have e1 := va_pl_set (e := .inl (cL, n, .inr (.inl (vp_updL (pr y) k v)))) hD hy hq0
  rw [gm_pool_up] at e1
  have h1 : va_P D cl ((X ++ va_pl LP (fun y => .inl (cL, n, .inr (.inl (pr y))))).set q0 (y, .inl (cL, n, .inr (.inl (vp_updL (pr y) k v))))) H1 := h1
  have h2 : va_D A ((X ++ va_pl LP (fun y => .inl (cL, n, .inr (.inl (pr y))))).set q0 (y, .inl (cL, n, .inr (.inl (vp_updL (pr y) k v))))) := h2
  rw [e1] at h1 h2
  exact kk H1 locs1 h1 h2 h3
/-- all cells of the world, and all new ones, are the caller's to change -/
theorem gm_free {A0 : Nat → Prop} (hD : va_D A0 ws) (hS : va_S A0 H0 H locs) (hA : ∀ q, H0.size ≤ q → A0 q) : ∀ q, va_A ws H.size q → A0 q := by
  intro q h
  rcases h with ⟨k, e, h⟩ | h
  · exact hD.2 k (q, e) h
  · exact hA q (Nat.le_trans hS.1 h)
end GMR
end
section
/-! NUMBERS: counts by naturals, and the machine's ints -/
def gm_pl (k : Int32) (n : Nat) : Nat := k.toBitVec.toNat % 2 ^ 31 % n
theorem gm_and31 (k : Int32) : k &&& 2147483647 = nI (k.toBitVec.toNat % 2 ^ 31) := pk_and k 31 (by decide)
theorem gm_rem {n : Nat} (k : Int32) (h0 : 0 < n) (hn : n < 2 ^ 31) : nI (k.toBitVec.toNat % 2 ^ 31) - nI (k.toBitVec.toNat % 2 ^ 31) / nI n * nI n = nI (gm_pl k n) := pk_rem (Nat.mod_lt _ (by decide)) h0 hn
theorem gm_pl_lt {n : Nat} (k : Int32) (h0 : 0 < n) : gm_pl k n < n := Nat.mod_lt _ h0
def gm_ct (f : Nat → Nat) (p : Nat) : Nat → Nat
  | 0 => 0
  | i + 1 => gm_ct f p i + (if f i = p then 1 else 0)
theorem gm_ct_le (f : Nat → Nat) (p i : Nat) : gm_ct f p i ≤ i := by
  induction i with
  | zero => exact Nat.le_refl 0
  | succ i ih => rw [gm_ct]; split <;> omega
theorem gm_ct_dg (f : Nat → Nat) (p m : Nat) : ((gm_ct f p m : Nat) : Int) = gm_dg m f gm_all p := by
  induction m with
  | zero => rfl
  | succ m ih =>
    unfold gm_dg gm_w at ih ⊢
    rw [gm_ct, gm_sm, ← ih]
    by_cases h : f m = p
    · rw [if_pos h, if_pos (by simp [gm_all, h])]; omega
    · rw [if_neg h, if_neg (by simp [gm_all, h])]; omega
def gm_od (m : Nat) (a b : Nat → Nat) : Nat → Nat
  | 0 => 0
  | q + 1 => gm_od m a b q + (gm_ct a q m + gm_ct b q m) % 2
theorem gm_od_le (m : Nat) (a b : Nat → Nat) (q : Nat) : gm_od m a b q ≤ q := by
  induction q with
  | zero => exact Nat.le_refl 0
  | succ i ih => rw [gm_od]; omega
theorem gm_od_eq (m : Nat) (a b : Nat → Nat) (n : Nat) : ((gm_od m a b n : Nat) : Int) = gm_odd n m a b := by
  induction n with
  | zero => rfl
  | succ n ih =>
    unfold gm_odd at ih ⊢
    rw [gm_od, gm_sm, ← ih]
    unfold gm_D
    rw [← gm_ct_dg, ← gm_ct_dg]
    omega
theorem gm_and1 {x : Nat} (h : x < 2 ^ 32) : nI x &&& 1 = nI (x % 2) := pk_andN h 1 (by decide)
theorem gm_toInt1 : (1 : Int32).toInt = 1 := by decide
theorem gm_toIntm1 : (-1 : Int32).toInt = -1 := by decide
theorem gm_df_gt {x y : Nat} (hx : x < 2 ^ 30) (hy : y < 2 ^ 30) : (1 : Int32) < nI x - nI y ↔ (1 : Int) < (x : Int) - y := by
  rw [Int32.lt_iff_toInt_lt, pk_sub_toInt hx hy, gm_toInt1]
theorem gm_df_ge {x y : Nat} (hx : x < 2 ^ 30) (hy : y < 2 ^ 30) : (-1 : Int32) ≤ nI x - nI y ↔ (-1 : Int) ≤ (x : Int) - y := by
  rw [Int32.le_iff_toInt_le, pk_sub_toInt hx hy, gm_toIntm1]
theorem gm_df_eq {x y : Nat} (hx : x < 2 ^ 30) (hy : y < 2 ^ 30) : nI x - nI y = 1 ↔ (x : Int) - y = 1 := by
  rw [← Int32.toInt_inj, pk_sub_toInt hx hy, gm_toInt1]
/-- at how many of the first q places one more leaves than comes -/
def gm_oc (m : Nat) (a b : Nat → Nat) : Nat → Nat
  | 0 => 0
  | q + 1 => gm_oc m a b q + (if gm_ct a q m = gm_ct b q m + 1 then 1 else 0)
theorem gm_oc_le (m : Nat) (a b : Nat → Nat) (q : Nat) : gm_oc m a b q ≤ q := by
  induction q with
  | zero => exact Nat.le_refl 0
  | succ i ih => rw [gm_oc]; split <;> omega
theorem gm_oc_eq (m : Nat) (a b : Nat → Nat) (n : Nat) : ((gm_oc m a b n : Nat) : Int) = gm_ov n m a b := by
  induction n with
  | zero => rfl
  | succ n ih =>
    unfold gm_ov at ih ⊢
    rw [gm_oc, gm_sm, ← ih]
    unfold gm_d
    rw [← gm_ct_dg, ← gm_ct_dg]
    by_cases h : gm_ct a n m = gm_ct b n m + 1
    · rw [if_pos h, if_pos (by omega)]; omega
    · rw [if_neg h, if_neg (by omega)]; omega
/-- the places are all good: -1, 0 or 1 more leave than come -/
def gm_good (m : Nat) (a b : Nat → Nat) (n : Nat) : Prop := ∀ v, v < n → -1 ≤ gm_d m a b v ∧ gm_d m a b v ≤ 1
theorem gm_d_ct (m : Nat) (a b : Nat → Nat) (v : Nat) : gm_d m a b v = (gm_ct a v m : Int) - (gm_ct b v m : Int) := by
  unfold gm_d
  rw [← gm_ct_dg, ← gm_ct_dg]
end
section
/-! BITS of a set in an int; the marks that one edge makes; what the flags say at the end -/
theorem gm_sl : ∀ n, n < 32 → ((nI n &&& 31).toBitVec.smod 32).toNat = n := by decide +kernel
theorem gm_p10 {e : Nat} (h : e ≤ 10) : 1 ≤ 2 ^ e ∧ 2 ^ e ≤ 1024 := ⟨Nat.one_le_two_pow, Nat.le_trans (Nat.pow_le_pow_right (by decide) h) (by decide)⟩
theorem gm_shl1 {e : Nat} (h : e ≤ 10) : nI 1 <<< (nI e &&& 31) = nI (2 ^ e) := by
  have h1 := gm_p10 h
  have h2 := pk_shlN (n := 1) (nI e &&& 31) e (gm_sl e (by omega)) (by omega)
  rw [Nat.one_mul] at h2
  exact h2
theorem gm_shr {S e : Nat} (hS : S < 2 ^ 31) (he : e < 32) : nI S >>> (nI e &&& 31) = nI (S / 2 ^ e) := pk_shrN hS _ e (gm_sl e he)
theorem gm_bit0 {S e : Nat} (h : S / 2 ^ e % 2 = 0) : S.testBit e = false := by
  rw [Nat.testBit_eq_decide_div_mod_eq, h]; rfl
theorem gm_bit1 {S e : Nat} (h : S / 2 ^ e % 2 ≠ 0) : S.testBit e = true := by
  rw [Nat.testBit_eq_decide_div_mod_eq]
  exact decide_eq_true (by omega)
theorem gm_nor (x y : Nat) : nI x ||| nI y = nI (x ||| y) := by
  apply Int32.toBitVec_inj.mp
  show BitVec.ofNat 32 x ||| BitVec.ofNat 32 y = BitVec.ofNat 32 (x ||| y)
  apply BitVec.eq_of_getLsbD_eq
  intro i hi
  simp [BitVec.getLsbD_ofNat, hi]
theorem gm_CA_ab {w : Bool} {m : Nat} {a b : Nat → Nat} {s S0 v0 e0 : Nat} {c : Nat → Int32} (hc : gm_CA w m a b s S0 v0 e0 c) (hr : gm_rc w m a b s S0 v0) (he : e0 < m) (hb : S0.testBit e0 = false) (hS : S0 < 2 ^ m) (h5 : a e0 < 5 ∧ b e0 < 5) (h1 : a e0 = v0) (h2 : ¬ (w = true ∧ b e0 = v0)) : gm_CA w m a b s S0 v0 (e0 + 1) (upd c (5 * (S0 ||| 2 ^ e0) + b e0) (nI 1)) :=
  gm_CA_put hc hr he hb hS (fun y hy => by
    rcases hy with hy | hy
    · rw [← hy.2]; exact ⟨h5.2, pk_us⟩
    · exact absurd ⟨hy.1, hy.2.1⟩ h2) (fun j hj => pk_un (hj (b e0) (Or.inl ⟨h1, rfl⟩)))
theorem gm_CA_ba {w : Bool} {m : Nat} {a b : Nat → Nat} {s S0 v0 e0 : Nat} {c : Nat → Int32} (hc : gm_CA w m a b s S0 v0 e0 c) (hr : gm_rc w m a b s S0 v0) (he : e0 < m) (hb : S0.testBit e0 = false) (hS : S0 < 2 ^ m) (h5 : a e0 < 5 ∧ b e0 < 5) (h1 : a e0 ≠ v0) (h2 : w = true ∧ b e0 = v0) : gm_CA w m a b s S0 v0 (e0 + 1) (upd c (5 * (S0 ||| 2 ^ e0) + a e0) (nI 1)) :=
  gm_CA_put hc hr he hb hS (fun y hy => by
    rcases hy with hy | hy
    · exact absurd hy.1 h1
    · rw [← hy.2.2]; exact ⟨h5.1, pk_us⟩) (fun j hj => pk_un (hj (a e0) (Or.inr ⟨h2.1, h2.2, rfl⟩)))
theorem gm_CA_two {w : Bool} {m : Nat} {a b : Nat → Nat} {s S0 v0 e0 : Nat} {c : Nat → Int32} (hc : gm_CA w m a b s S0 v0 e0 c) (hr : gm_rc w m a b s S0 v0) (he : e0 < m) (hb : S0.testBit e0 = false) (hS : S0 < 2 ^ m) (h5 : a e0 < 5 ∧ b e0 < 5) (h1 : a e0 = v0) (h2 : w = true ∧ b e0 = v0) : gm_CA w m a b s S0 v0 (e0 + 1) (upd (upd c (5 * (S0 ||| 2 ^ e0) + b e0) (nI 1)) (5 * (S0 ||| 2 ^ e0) + a e0) (nI 1)) :=
  gm_CA_put hc hr he hb hS (fun y hy => by
    have h3 : y = a e0 := by
      rcases hy with hy | hy
      · rw [← hy.2, h2.2, h1]
      · exact hy.2.2.symm
    rw [h3]; exact ⟨h5.1, pk_us⟩) (fun j hj => by
    rw [pk_un (hj (a e0) (Or.inr ⟨h2.1, h2.2, rfl⟩)), pk_un (hj (b e0) (Or.inl ⟨h1, rfl⟩))])
theorem gm_CA_no {w : Bool} {m : Nat} {a b : Nat → Nat} {s S0 v0 e0 : Nat} {c : Nat → Int32} (hc : gm_CA w m a b s S0 v0 e0 c) (hr : gm_rc w m a b s S0 v0) (he : e0 < m) (hb : S0.testBit e0 = false) (hS : S0 < 2 ^ m) (h1 : a e0 ≠ v0) (h2 : ¬ (w = true ∧ b e0 = v0)) : gm_CA w m a b s S0 v0 (e0 + 1) c :=
  gm_CA_put hc hr he hb hS (fun y hy => by
    rcases hy with hy | hy
    · exact absurd hy.1 h1
    · exact absurd ⟨hy.1, hy.2.1⟩ h2) (fun j _ => rfl)
def gm_Q (w : Bool) (m : Nat) (a b : Nat → Nat) (s v : Nat) : Prop := gm_rc w m a b s (2 ^ m - 1) v
def gm_Qc (m : Nat) (a b : Nat → Nat) (s v : Nat) : Prop := gm_rc true m a b s (2 ^ m - 1) v ∧ v = s
theorem gm_fo_end {n m : Nat} {a b : Nat → Nat} (hn : 1 ≤ n) (hab : ∀ e, e < m → a e < n ∧ b e < n) : gm_ac (gm_Q true m a b) n n 0 ↔ (gm_odd n m a b ≤ 2 ∧ gm_conn m a b) := by
  rw [gm_ac_end, gm_is_way hn hab]
  constructor
  · rintro ⟨s, v, h1, h2, h3⟩
    obtain ⟨l, h4, h5⟩ := gm_rc_all.mp h3
    exact ⟨s, v, l, h1, h2, h4, h5⟩
  · rintro ⟨s, v, l, h1, h2, h4, h5⟩
    exact ⟨s, v, h1, h2, gm_rc_all.mpr ⟨l, h4, h5⟩⟩
theorem gm_fc_end {n m : Nat} {a b : Nat → Nat} (hn : 1 ≤ n) (hab : ∀ e, e < m → a e < n ∧ b e < n) : gm_ac (gm_Qc m a b) n n 0 ↔ (gm_odd n m a b = 0 ∧ gm_conn m a b) := by
  rw [gm_ac_end, gm_is_closed hn hab]
  constructor
  · rintro ⟨s, v, h1, h2, h3, h6⟩
    rw [h6] at h3
    obtain ⟨l, h4, h5⟩ := gm_rc_all.mp h3
    exact ⟨s, l, h1, h4, h5⟩
  · rintro ⟨s, l, h1, h4, h5⟩
    exact ⟨s, s, h1, h1, gm_rc_all.mpr ⟨l, h4, h5⟩, rfl⟩
theorem gm_fr_end {n m : Nat} {a b : Nat → Nat} (hn : 1 ≤ n) (hab : ∀ e, e < m → a e < n ∧ b e < n) : gm_ac (gm_Q false m a b) n n 0 ↔ (gm_good m a b n ∧ gm_ov n m a b ≤ 1 ∧ gm_conn m a b) := by
  rw [gm_ac_end, show (gm_good m a b n ∧ gm_ov n m a b ≤ 1 ∧ gm_conn m a b) ↔ _ from gm_is_arrows hn hab]
  constructor
  · rintro ⟨s, v, h1, h2, h3⟩
    obtain ⟨l, h4, h5⟩ := gm_rc_all.mp h3
    exact ⟨s, v, l, h1, h2, h4, h5⟩
  · rintro ⟨s, v, l, h1, h2, h4, h5⟩
    exact ⟨s, v, h1, h2, gm_rc_all.mpr ⟨l, h4, h5⟩⟩
/-- the answer of rounds() -/
def gm_RO (m : Nat) (a b : Nat → Nat) : Int64 := if m = 0 then 0 else Int64.ofInt (gm_R m a b)
theorem gm_cmp_le {v : Int64} (h : lg_cmp v 0 ≤ 0) : v ≤ 0 := by
  by_cases h1 : (0 : Int64) < v
  · have e1 : lg_cmp v 0 = 1 := by simp [lg_cmp, h1]
    rw [e1] at h
    exact absurd h (by decide)
  · exact Int64.not_lt.mp h1
end
section
/-! THE TABLE of rows; the turned sign; products of orders -/
def gm_gr (g : Nat → Option Nat) (LP : List Nat) (pr : Nat → Nat → Int64) (t : Nat → Nat → Int64) : Prop := (∀ i, i < 5 → ∃ y, g i = some y ∧ y ∈ LP ∧ ∀ j, j < 5 → pr y j = t i j) ∧ ∀ i j, i < 5 → j < 5 → g i = g j → i = j
def gm_mu (t : Nat → Nat → Int64) (i k : Nat) (v : Int64) : Nat → Nat → Int64 := fun x y => if x = i ∧ y = k then v else t x y
theorem gm_gr_row {g : Nat → Option Nat} {LP : List Nat} {pr t t' : Nat → Nat → Int64} (H : gm_gr g LP pr t) {i y : Nat} {r : Nat → Int64} (hi : i < 5) (hy : g i = some y) (h1 : ∀ j, j < 5 → r j = t' i j) (h2 : ∀ x j, x < 5 → x ≠ i → j < 5 → t' x j = t x j) : gm_gr g LP (va_up pr y r) t' := by
  refine ⟨fun x hx => ?_, H.2⟩
  obtain ⟨z, e1, e2, e3⟩ := H.1 x hx
  refine ⟨z, e1, e2, fun j hj => ?_⟩
  by_cases hxi : x = i
  · have hz : z = y := by
      rw [hxi, hy] at e1
      exact (Option.some.inj e1).symm
    rw [hz, va_up_self, hxi]; exact h1 j hj
  · have hz : z ≠ y := fun q => hxi (H.2 x i hx hi (by rw [e1, q, hy]))
    rw [va_up_ne _ _ hz, h2 x j hx hxi hj]; exact e3 j hj
theorem gm_gr_put {g : Nat → Option Nat} {LP : List Nat} {pr t : Nat → Nat → Int64} (H : gm_gr g LP pr t) {i y k : Nat} {v : Int64} (hi : i < 5) (hy : g i = some y) : gm_gr g LP (va_up pr y (vp_updL (pr y) k v)) (gm_mu t i k v) := by
  refine gm_gr_row H hi hy (fun j hj => ?_) (fun x j _ hx _ => ?_)
  · obtain ⟨z, e1, -, e3⟩ := H.1 i hi
    rw [hy] at e1
    have hz := Option.some.inj e1
    unfold gm_mu
    by_cases h : j = k
    · rw [if_pos ⟨rfl, h⟩, h]; exact pk_uLs
    · rw [if_neg (fun q => h q.2), pk_uLn h, hz]; exact e3 j hj
  · unfold gm_mu
    rw [if_neg (fun q => hx q.1)]
theorem gm_gr_swap {g : Nat → Option Nat} {LP : List Nat} {pr t : Nat → Nat → Int64} (H : gm_gr g LP pr t) {k r yk yr : Nat} (hk : k < 5) (hr : r < 5) (ek : g k = some yk) (er : g r = some yr) : gm_gr (va_up (va_up g r (some yk)) k (some yr)) LP pr (fun i j => t (gm_sw k r i) j) := by
  have hg : ∀ i, i < 5 → va_up (va_up g r (some yk)) k (some yr) i = g (gm_sw k r i) ∧ gm_sw k r i < 5 := fun i hi => by
    unfold gm_sw
    by_cases h1 : i = k
    · rw [if_pos h1, h1, va_up_self, er]; exact ⟨rfl, hr⟩
    · rw [if_neg h1, va_up_ne _ _ h1]
      by_cases h2 : i = r
      · rw [if_pos h2, h2, va_up_self, ek]; exact ⟨rfl, hk⟩
      · rw [if_neg h2, va_up_ne _ _ h2]; exact ⟨rfl, hi⟩
  refine ⟨fun i hi => ?_, fun i j hi hj h => ?_⟩
  · rw [(hg i hi).1]
    exact H.1 _ (hg i hi).2
  · rw [(hg i hi).1, (hg j hj).1] at h
    have h3 := H.2 _ _ (hg i hi).2 (hg j hj).2 h
    unfold gm_sw at h3
    (repeat' split at h3) <;> omega
def gm_tn (tu : Bool) : Nat := if tu = true then 1 else 0
theorem gm_tn_le (tu : Bool) : gm_tn tu ≤ 1 := by cases tu <;> decide
theorem gm_tn_0 {tu : Bool} : gm_tn tu = 0 ↔ tu = false := by cases tu <;> decide
theorem gm_cmp0 {v : Int64} : lg_cmp v 0 = 0 ↔ v = 0 := by
  unfold lg_cmp
  by_cases h1 : v > 0
  · rw [if_pos h1]
    refine ⟨fun h => absurd h (by decide), fun h => ?_⟩
    rw [h] at h1; exact absurd h1 (by decide)
  · rw [if_neg h1]
    by_cases h2 : v = 0
    · rw [if_pos h2]; exact ⟨fun _ => h2, fun _ => rfl⟩
    · rw [if_neg h2]; exact ⟨fun h => absurd h (by decide), fun h => absurd h h2⟩
theorem gm_cmpE {v w : Int64} : lg_cmp v w = 0 ↔ v = w := by
  unfold lg_cmp
  by_cases h1 : v > w
  · rw [if_pos h1]
    refine ⟨fun h => absurd h (by decide), fun h => ?_⟩
    rw [h] at h1; exact (Int64.lt_irrefl h1).elim
  · rw [if_neg h1]
    by_cases h2 : v = w
    · rw [if_pos h2]; exact ⟨fun _ => h2, fun _ => rfl⟩
    · rw [if_neg h2]; exact ⟨fun h => absurd h (by decide), fun h => absurd h h2⟩
theorem gm_b_nar (q : Prop) : narrow .boolean (.int (gm_b q)) = .int (gm_b q) := by
  rcases gm_b_cases q with h | h <;> rw [h] <;> rfl
section GMG
variable {p : Program} {l : Launch} {e : Env} {R : Room} {s : State} {m : MethodId} {args : Array Value} {below : List Frame} {meth : Method} {c : Code} {H : Heap} {locs : List Loc} {cells slots : Nat} {Q : State → Prop}
variable {cc : ByteArray} {pc : Nat} {ls : Array Slot} {rest : List Value} {D : va_G} {cl : List vw_C} {A : Nat → Prop} {a : Nat} {tys : List (ClassId × FieldType)} {ws : va_W} {H0 : Heap}
theorem gm_ast2P (hexec : p.tables.exec = Jvm.exec) (hb : c.code = cc) {X : va_W} {cG cL : ClassId} {nr : Nat} {LP : List Nat} {pr : Nat → Nat → Int64} (hP : va_P D cl (X ++ gm_pool cL nr LP pr) H) (hD : va_D A (X ++ gm_pool cL nr LP pr)) (hS : va_S A H0 H locs) (q0 : Nat) (hG : gm_GA cG cL s) {n y : Nat} {f : Nat → Option Nat} (ha : (X ++ gm_pool cL nr LP pr)[q0]? = some (a, .inl (cG, n, .inr (.inr (.inr (.inr f)))))) (hy : y ∈ LP) {k : Nat} (hk : k < n) (hn : n < 2 ^ 31) (hdg : decode cc pc = .ok (.aastore, 1))
    (kk : ∀ (H1 : Heap) (locs1 : List Loc), va_P D cl ((X ++ gm_pool cL nr LP pr).set q0 (a, .inl (cG, n, .inr (.inr (.inr (.inr (va_up f k (some y)))))))) H1 → va_D A ((X ++ gm_pool cL nr LP pr).set q0 (a, .inl (cG, n, .inr (.inr (.inr (.inr (va_up f k (some y)))))))) → va_S A H0 H1 locs1 → W p l e R s m args below meth c H1 locs1 cells slots Q (F0 m (pc + 1) ls rest)) : W p l e R s m args below meth c H locs cells slots Q (F0 m pc ls (.ref y :: .int (nI k) :: .ref a :: rest)) := by
  obtain ⟨qk, hqk⟩ := va_pl_get (X := X) (f := fun y => .inl (cL, nr, .inr (.inl (pr y)))) hy
  exact gm_ast2 hexec hb hP hD hS q0 qk hG ha hqk hk hn hdg kk
theorem gm_alenP (hexec : p.tables.exec = Jvm.exec) (hb : c.code = cc) {X : va_W} {cL : ClassId} {nr : Nat} {LP : List Nat} {pr : Nat → Nat → Int64} (hK : va_K D cl tys s) (hP : va_P D cl (X ++ gm_pool cL nr LP pr) H) (t0 : Nat) (ht : tys[t0]? = some (cL, .long)) {y : Nat} (hy : y ∈ LP) (hdg : decode cc pc = .ok (.arraylength, 1))
    (kk : W p l e R s m args below meth c H locs cells slots Q (F0 m (pc + 1) ls (.int (nI nr) :: rest))) : W p l e R s m args below meth c H locs cells slots Q (F0 m pc ls (.ref y :: rest)) := by
  obtain ⟨qk, hqk⟩ := va_pl_get (X := X) (f := fun y => .inl (cL, nr, .inr (.inl (pr y)))) hy
  exact va_alen (v := nI nr) hexec hb hK hP qk t0 hqk ht rfl hdg kk
end GMG
end
section
/-! PLAIN: the table of rounds(), the product of the orders, and what rounds() answers -/
theorem gm_i2l {k : Nat} (h : k < 2 ^ 31) : (nI k).toInt64 = Int64.ofInt (k : Int) := by
  apply Int64.toInt_inj.mp
  rw [Int32.toInt_toInt64, nI_toInt h, Int64.toInt_ofInt_of_le (by omega) (by omega)]
/-- one place of the table behind e edges -/
def gm_en (a b : Nat → Nat) (p q : Nat) : Nat → Int
  | 0 => 0
  | e + 1 => gm_en a b p q e + (if a e = p ∧ a e ≠ b e then (if p = q then 1 else if b e = q then -1 else 0) else 0)
theorem gm_en_bd (a b : Nat → Nat) (p q e : Nat) : (gm_en a b p q e).natAbs ≤ e := by
  induction e with
  | zero => exact Nat.le_refl 0
  | succ e ih =>
    have h1 : (if a e = p ∧ a e ≠ b e then (if p = q then (1 : Int) else if b e = q then -1 else 0) else 0).natAbs ≤ 1 := by
      (repeat' split) <;> decide
    rw [gm_en]
    omega
theorem gm_en_M (a b : Nat → Nat) (p q m : Nat) : gm_en a b p q m = (if p = q then gm_dg m a gm_all p else 0) - gm_pq m a b gm_all p q := by
  induction m with
  | zero =>
    have h1 : gm_dg 0 a gm_all p = 0 := rfl
    have h2 : gm_pq 0 a b gm_all p q = 0 := rfl
    rw [h1, h2, gm_en]
    split <;> rfl
  | succ m ih =>
    have h1 : gm_dg (m + 1) a gm_all p = gm_dg m a gm_all p + (if a m = p then 1 else 0) := by
      unfold gm_dg gm_w
      rw [gm_sm]
      congr 1
      simp [gm_all]
    have h2 : gm_pq (m + 1) a b gm_all p q = gm_pq m a b gm_all p q + (if a m = p ∧ b m = q then 1 else 0) := by
      unfold gm_pq gm_w
      rw [gm_sm]
      congr 1
      simp [gm_all]
    rw [gm_en, ih, h1, h2]
    (repeat' split) <;> omega
/-- the table at row i, column j, behind e edges -/
def gm_tt (U : Nat → Nat) (a b : Nat → Nat) (m z i j e : Nat) (t : Nat → Nat → Int64) : Prop := (∀ x y, x < i → y < z → t x y = Int64.ofInt (gm_en a b (U x) (U y) m)) ∧ ∀ y, y < z → t i y = Int64.ofInt (gm_en a b (U i) (U y) (if y < j then m else if y = j then e else 0))
theorem gm_tt_0 {U : Nat → Nat} {a b : Nat → Nat} {m z i : Nat} {t : Nat → Nat → Int64} (h1 : ∀ x y, x < i → y < z → t x y = Int64.ofInt (gm_en a b (U x) (U y) m)) (h2 : ∀ y, y < z → t i y = 0) : gm_tt U a b m z i 0 0 t := by
  refine ⟨h1, fun y hy => ?_⟩
  have h3 : (if y < 0 then m else if y = 0 then 0 else 0) = 0 := by
    rw [if_neg (by omega)]; split <;> rfl
  rw [h2 y hy, h3]; rfl
theorem gm_tt_skip {U : Nat → Nat} {a b : Nat → Nat} {m z i j e : Nat} {t : Nat → Nat → Int64} (h : gm_tt U a b m z i j e t) (hs : gm_en a b (U i) (U j) (e + 1) = gm_en a b (U i) (U j) e) : gm_tt U a b m z i j (e + 1) t := by
  refine ⟨h.1, fun y hy => ?_⟩
  rw [h.2 y hy]
  by_cases h1 : y < j
  · rw [if_pos h1, if_pos h1]
  · rw [if_neg h1, if_neg h1]
    by_cases h2 : y = j
    · rw [if_pos h2, if_pos h2, h2, hs]
    · rw [if_neg h2, if_neg h2]
theorem gm_tt_at {U : Nat → Nat} {a b : Nat → Nat} {m z i j e : Nat} {t : Nat → Nat → Int64} (h : gm_tt U a b m z i j e t) (hj : j < z) : t i j = Int64.ofInt (gm_en a b (U i) (U j) e) := by
  rw [h.2 j hj, if_neg (Nat.lt_irrefl j), if_pos rfl]
theorem gm_tt_put {U : Nat → Nat} {a b : Nat → Nat} {m z i j e : Nat} {t : Nat → Nat → Int64} (h : gm_tt U a b m z i j e t) {v : Int64} (hv : v = Int64.ofInt (gm_en a b (U i) (U j) (e + 1))) : gm_tt U a b m z i j (e + 1) (gm_mu t i j v) := by
  refine ⟨fun x y hx hy => ?_, fun y hy => ?_⟩
  · unfold gm_mu
    rw [if_neg (by omega)]; exact h.1 x y hx hy
  · unfold gm_mu
    by_cases h2 : y = j
    · rw [if_pos ⟨rfl, h2⟩, if_neg (by omega), if_pos h2, h2, hv]
    · rw [if_neg (fun q => h2 q.2), h.2 y hy]
      by_cases h1 : y < j
      · rw [if_pos h1, if_pos h1]
      · rw [if_neg h1, if_neg h1, if_neg h2, if_neg h2]
theorem gm_tt_col {U : Nat → Nat} {a b : Nat → Nat} {m z i j : Nat} {t : Nat → Nat → Int64} (h : gm_tt U a b m z i j m t) : gm_tt U a b m z i (j + 1) 0 t := by
  refine ⟨h.1, fun y hy => ?_⟩
  rw [h.2 y hy]
  by_cases h1 : y < j
  · rw [if_pos h1, if_pos (by omega)]
  · rw [if_neg h1]
    by_cases h2 : y = j
    · rw [if_pos h2, if_pos (by omega)]
    · rw [if_neg h2, if_neg (by omega)]
      split <;> rfl
theorem gm_tt_row {U : Nat → Nat} {a b : Nat → Nat} {m z i e : Nat} {t : Nat → Nat → Int64} (h : gm_tt U a b m z i z e t) : ∀ x y, x < i + 1 → y < z → t x y = Int64.ofInt (gm_en a b (U x) (U y) m) := by
  intro x y hx hy
  by_cases h1 : x = i
  · rw [h1, h.2 y hy, if_pos hy]
  · exact h.1 x y (by omega) hy
/-- the live places, by number -/
def gm_us (n m : Nat) (a : Nat → Nat) : Nat → Nat := fun i => (gm_lv (gm_live m a (a 0)) n).getD i 0
def gm_sz (n m : Nat) (a : Nat → Nat) : Nat := (gm_lv (gm_live m a (a 0)) n).length
theorem gm_sz_le {n m : Nat} {a : Nat → Nat} (hn : n ≤ 5) (h0 : a 0 < n) : gm_sz n m a ≤ 4 := by
  have h1 := gm_lv_short (gm_live m a (a 0)) h0 (by simp [gm_live])
  unfold gm_sz
  omega
theorem gm_us_inj {n m : Nat} {a : Nat → Nat} {i j : Nat} (hi : i < gm_sz n m a) (hj : j < gm_sz n m a) (h : gm_us n m a i = gm_us n m a j) : i = j := gm_getD_inj (gm_lv_nd _ _) hi hj h
theorem gm_us_lt {n m : Nat} {a : Nat → Nat} {i : Nat} (hi : i < gm_sz n m a) : gm_us n m a i < n := (gm_lv_lt _ _ _ (gm_getD_mem hi)).1
theorem gm_live_t {m : Nat} {a : Nat → Nat} {r p : Nat} (h1 : p ≠ r) (h2 : gm_ct a p m ≠ 0) : gm_live m a r p = true := by
  unfold gm_live
  rw [← gm_ct_dg]
  simp [h1]
  omega
theorem gm_live_f {m : Nat} {a : Nat → Nat} {r p : Nat} (h : p = r ∨ gm_ct a p m = 0) : gm_live m a r p = false := by
  unfold gm_live
  rw [← gm_ct_dg]
  rcases h with h | h <;> simp [h]
theorem gm_sz_t {n m : Nat} {a : Nat → Nat} (h : gm_live m a (a 0) n = true) : gm_sz (n + 1) m a = gm_sz n m a + 1 := by
  unfold gm_sz
  rw [gm_lv, if_pos h, List.length_append, List.length_singleton]
theorem gm_sz_f {n m : Nat} {a : Nat → Nat} (h : gm_live m a (a 0) n = false) : gm_sz (n + 1) m a = gm_sz n m a := by
  unfold gm_sz
  rw [gm_lv, if_neg (by rw [h]; decide)]
/-- the numbers of the live places stand in us -/
def gm_uh (n m : Nat) (a : Nat → Nat) (us : Nat → Int32) : Prop := ∀ i, i < gm_sz n m a → us i = nI (gm_us n m a i)
theorem gm_uh_0 (m : Nat) (a : Nat → Nat) (us : Nat → Int32) : gm_uh 0 m a us := fun i hi => absurd hi (Nat.not_lt_zero i)
theorem gm_uh_f {n m : Nat} {a : Nat → Nat} {us : Nat → Int32} (H : gm_uh n m a us) (h : gm_live m a (a 0) n = false) : gm_uh (n + 1) m a us := by
  intro i hi
  rw [gm_sz_f h] at hi
  rw [H i hi]
  unfold gm_us
  rw [gm_lv, if_neg (by rw [h]; decide)]
theorem gm_uh_t {n m : Nat} {a : Nat → Nat} {us : Nat → Int32} (H : gm_uh n m a us) (h : gm_live m a (a 0) n = true) : gm_uh (n + 1) m a (upd us (gm_sz n m a) (nI n)) := by
  intro i hi
  rw [gm_sz_t h] at hi
  by_cases h1 : i = gm_sz n m a
  · rw [h1, pk_us]
    congr 1
    unfold gm_us gm_sz
    rw [gm_lv, if_pos h, List.getD_eq_getElem?_getD, List.getElem?_append_right (Nat.le_refl _)]
    simp
  · rw [pk_un h1, H i (by omega)]
    congr 1
    unfold gm_us
    have h2 : i < (gm_lv (gm_live m a (a 0)) n).length := by
      have h3 : gm_sz n m a = (gm_lv (gm_live m a (a 0)) n).length := rfl
      omega
    rw [gm_lv, if_pos h, List.getD_eq_getElem?_getD, List.getD_eq_getElem?_getD, List.getElem?_append_left h2]
/-- the matrix whose determinant is taken -/
def gm_N (n m : Nat) (a b : Nat → Nat) : Nat → Nat → Int := fun i j => gm_M m a b (a 0) gm_all (gm_us n m a i) (gm_us n m a j)
theorem gm_N_J {n m : Nat} {a b : Nat → Nat} (hm : m ≤ 10) {t : Nat → Nat → Int64} (h : ∀ x y, x < gm_sz n m a → y < gm_sz n m a → t x y = Int64.ofInt (gm_en a b (gm_us n m a x) (gm_us n m a y) m)) : gm_J (gm_sz n m a) (gm_N n m a b) 0 t 1 false := by
  refine gm_J_0 (fun i j hi hj => ?_)
  have h1 := gm_lv_lt (gm_live m a (a 0)) n (gm_us n m a i) (gm_getD_mem hi)
  have h2 : gm_us n m a i ≠ a 0 ∧ gm_dg m a gm_all (gm_us n m a i) ≠ 0 := by
    have h3 := h1.2
    unfold gm_live at h3
    simp only [Bool.and_eq_true, Bool.not_eq_true', beq_eq_false_iff_ne] at h3
    exact h3
  have h4 : gm_N n m a b i j = gm_en a b (gm_us n m a i) (gm_us n m a j) m := by
    unfold gm_N
    rw [gm_M_live h2.1 h2.2, gm_en_M]
  rw [h4]
  have h5 := gm_en_bd a b (gm_us n m a i) (gm_us n m a j) m
  exact ⟨h i j hi hj, by omega⟩
theorem gm_N_det {n m : Nat} {a b : Nat → Nat} (hn : n ≤ 5) (hab : ∀ e, e < m → a e < n ∧ b e < n) : gm_det (gm_sz n m a) (gm_N n m a b) = gm_det 5 (gm_M m a b (a 0) gm_all) := (gm_det_live hn hab (a 0)).symm
/-- the product of the orders at the first q places -/
def gm_pd (a : Nat → Nat) (m : Nat) : Nat → Int
  | 0 => 1
  | q + 1 => gm_pd a m q * gm_fc (gm_ct a q m)
theorem gm_pd_ext {a : Nat → Nat} {m n : Nat} (h : ∀ e, e < m → a e < n) (k : Nat) : gm_pd a m (n + k) = gm_pd a m n := by
  induction k with
  | zero => rfl
  | succ k ih =>
    have h1 : gm_ct a (n + k) m = 0 := by
      have h2 := gm_ct_dg a (n + k) m
      rw [gm_dg_out h (Nat.le_add_right n k)] at h2
      omega
    rw [show n + (k + 1) = (n + k) + 1 by omega, gm_pd, ih, h1, gm_fc, Int.mul_one]
theorem gm_pd_5 {a : Nat → Nat} {m n : Nat} (hn : n ≤ 5) (h : ∀ e, e < m → a e < n) : gm_pd a m n = gm_fI (gm_dg m a gm_all 0) * gm_fI (gm_dg m a gm_all 1) * gm_fI (gm_dg m a gm_all 2) * gm_fI (gm_dg m a gm_all 3) * gm_fI (gm_dg m a gm_all 4) := by
  have h1 := gm_pd_ext h (5 - n)
  rw [show n + (5 - n) = 5 by omega] at h1
  have h2 : ∀ v, gm_fI (gm_dg m a gm_all v) = gm_fc (gm_ct a v m) := fun v => by
    unfold gm_fI
    rw [← gm_ct_dg]; rfl
  rw [← h1, h2, h2, h2, h2, h2]
  simp only [gm_pd, Int.one_mul]
theorem gm_fc_lo {k : Nat} (h : k ≤ 1) : gm_fc (k + 1) = 1 := by
  have h5 : k = 0 ∨ k = 1 := by omega
  rcases h5 with e | e <;> subst e <;> decide
theorem gm_fc_hi {k : Nat} (h : 1 ≤ k) : gm_fc (k + 1) = (k : Int) * gm_fc k := by
  obtain ⟨q, rfl⟩ : ∃ q, k = q + 1 := ⟨k - 1, by omega⟩
  rw [gm_fc]
  congr 1
/-- what rounds() answers, where it reckons -/
theorem gm_RO_yes {n m : Nat} {a b : Nat → Nat} (hn : n ≤ 5) (hm : m ≠ 0) (hab : ∀ e, e < m → a e < n ∧ b e < n) (hg : gm_good m a b n) (h0 : gm_oc m a b n = 0) : Int64.ofInt (gm_det (gm_sz n m a) (gm_N n m a b) * gm_pd a m n) = gm_RO m a b := by
  unfold gm_RO
  have h1 : gm_ov n m a b = 0 := by
    rw [← gm_oc_eq, h0]; rfl
  rw [if_neg hm, gm_R_det (by omega) (fun e he => ⟨by have := hab e he; omega, by have := hab e he; omega⟩) (gm_bal hab hg h1), gm_N_det hn hab, gm_pd_5 hn (fun e he => (hab e he).1)]
theorem gm_RO_none (a b : Nat → Nat) : (0 : Int64) = gm_RO 0 a b := rfl
theorem gm_RO_no {n m : Nat} {a b : Nat → Nat} (h : ¬ ((gm_good m a b n ∧ gm_oc m a b n = 0) ∧ gm_conn m a b)) : (0 : Int64) = gm_RO m a b := by
  unfold gm_RO
  by_cases hm : m = 0
  · rw [if_pos hm]
  · rw [if_neg hm, gm_R_zero (by omega) (fun h1 => h ⟨⟨fun v _ => ?_, ?_⟩, h1.2⟩)]; rfl
    · unfold gm_d
      have h2 := h1.1 v
      omega
    · have h2 : gm_ov n m a b = 0 := by
        unfold gm_ov
        refine gm_sm_zero (fun v _ => ?_)
        (try dsimp only)
        unfold gm_d
        have h2 := h1.1 v
        rw [if_neg (by omega)]
      have h3 := gm_oc_eq m a b n
      omega
end
section
/-! A NEW TABLE: 'multianewarray' of five rows of five longs, over the walk's facts -/
def gm_fo (h i : Nat) : Nat → Value := fun j => if j < i then .ref (h + 1 + j) else .null
def gm_fl (S : State) (cA cL : ClassId) : Nat → State
  | 0 => S.pushCell (arrV cA 5 (gm_fo S.heap.size 0))
  | i + 1 => ((gm_fl S cA cL i).pushCell (arrV cL 5 (fun _ => .long 0))).setCell S.heap.size (arrV cA 5 (gm_fo S.heap.size (i + 1)))
theorem gm_fo_put (cA : ClassId) (h i : Nat) : (arrV cA 5 (gm_fo h i)).setSlot i (.ref (h + 1 + i)) = arrV cA 5 (gm_fo h (i + 1)) := by
  rw [arrV_store]
  congr 1
  funext j
  unfold updV gm_fo
  by_cases h1 : j = i
  · rw [if_pos h1, if_pos (by omega), h1]
  · rw [if_neg h1]
    by_cases h2 : j < i
    · rw [if_pos h2, if_pos (by omega)]
    · rw [if_neg h2, if_neg (by omega)]
theorem gm_fl_facts (S : State) (cA cL : ClassId) (i : Nat) : (gm_fl S cA cL i).heap.size = S.heap.size + 1 + i ∧ (gm_fl S cA cL i).heap[S.heap.size]? = some (arrV cA 5 (gm_fo S.heap.size i)) ∧ (gm_fl S cA cL i).vm = S.vm ∧ (gm_fl S cA cL i).slotsUsed = S.slotsUsed + 5 + 5 * i ∧ (∀ q, q < S.heap.size → (gm_fl S cA cL i).heap[q]? = S.heap[q]?) ∧ ∀ j, j < i → (gm_fl S cA cL i).heap[S.heap.size + 1 + j]? = some (arrV cL 5 (fun _ => .long 0)) := by
  induction i with
  | zero =>
    refine ⟨by rw [gm_fl, size_pushCell], by rw [gm_fl]; exact State.heap_pushCell_size _ _, rfl, ?_, fun q hq => by rw [gm_fl]; exact State.heap_pushCell_of_lt _ _ hq, fun j hj => absurd hj (Nat.not_lt_zero j)⟩
    rw [gm_fl, State.slotsUsed_pushCell, arrV_size]
  | succ i ih =>
    obtain ⟨f1, f2, f3, f4, f5, f6⟩ := ih
    have hp : ∀ q, q < (gm_fl S cA cL i).heap.size → ((gm_fl S cA cL i).pushCell (arrV cL 5 (fun _ => .long 0))).heap[q]? = (gm_fl S cA cL i).heap[q]? := fun q hq => State.heap_pushCell_of_lt _ _ hq
    refine ⟨?_, ?_, ?_, ?_, fun q hq => ?_, fun j hj => ?_⟩
    · rw [gm_fl, size_setCell, size_pushCell, f1]; omega
    · rw [gm_fl]
      exact State.heap_setCell_self (c := arrV cA 5 (gm_fo S.heap.size i)) (by rw [hp _ (by omega)]; exact f2)
    · rw [gm_fl]; exact f3
    · rw [gm_fl, State.slotsUsed_setCell, State.slotsUsed_pushCell, f4, arrV_size]; omega
    · rw [gm_fl, State.heap_setCell_other (show S.heap.size ≠ q by omega), hp q (by omega), f5 q hq]
    · rw [gm_fl, State.heap_setCell_other (show S.heap.size ≠ S.heap.size + 1 + j by omega)]
      by_cases h1 : j = i
      · rw [h1, ← f1]
        exact State.heap_pushCell_size _ _
      · rw [hp _ (by omega)]
        exact f6 j (by omega)
theorem gm_fl_top (S : State) (f : JFrame) (cA cL : ClassId) (i : Nat) : gm_fl (S.setTop f) cA cL i = (gm_fl S cA cL i).setTop f := by
  induction i with
  | zero => rfl
  | succ i ih => rw [gm_fl, ih, gm_fl]; rfl
section GMM
variable {p : Program} {l : Launch} {e : Env} {R : Room} {s : State} {m : MethodId} {args : Array Value} {below : List Frame} {meth : Method} {c : Code} {T : State} {locs : List Loc} {cells slots : Nat}
theorem gm_fl_stand (X : Stand p l e R s m args below meth c T locs cells slots) (cA cL : ClassId) (i : Nat) : ∃ locs', (∀ q ∈ locs', q ∈ locs ∨ q.base = T.heap.size) ∧ Stand p l e R s m args below meth c (gm_fl T cA cL i) locs' (cells + 1 + i) (slots + 5 + 5 * i) := by
  induction i with
  | zero =>
    have h := X.pushed (arrV cA 5 (gm_fo T.heap.size 0))
    rw [arrV_size] at h
    exact ⟨locs, fun q hq => Or.inl hq, h⟩
  | succ i ih =>
    obtain ⟨L, hL, Xi⟩ := ih
    obtain ⟨f1, f2, -, -, -, -⟩ := gm_fl_facts T cA cL i
    have hcell : ((gm_fl T cA cL i).pushCell (arrV cL 5 (fun _ => .long 0))).heap[T.heap.size]? = some (arrV cA 5 (gm_fo T.heap.size i)) := by
      rw [State.heap_pushCell_of_lt _ _ (show T.heap.size < (gm_fl T cA cL i).heap.size by omega)]; exact f2
    have h := (Xi.pushed (arrV cL 5 (fun _ => .long 0))).stored hcell i (.ref (T.heap.size + 1 + i))
    rw [arrV_size, gm_fo_put] at h
    refine ⟨L ++ [⟨T.heap.size, i⟩], fun q hq => ?_, ?_⟩
    · rcases List.mem_append.mp hq with h1 | h1
      · exact hL q h1
      · rw [List.mem_singleton.mp h1]; exact Or.inr rfl
    · have e1 : slots + 5 + 5 * (i + 1) = slots + 5 + 5 * i + 5 := by omega
      rw [e1]
      exact h
end GMM
section GMN
variable {E : CtlPost} {e : Env} {d : Bool} {acts : List Action} {s : State}
theorem gm_wp_na {c comp : ClassId} {k : Class} {ty : FieldType} {init : Value} (hk : s.vm.classes[c]? = some k) (hkind : k.kind = .array comp ty) (hl : ¬ 5 > e.platform.arrayLengthLimit) (hh : ¬ 5 * componentBytes ty > e.platform.maxHeapBytes) (hf : fits ty init = true) {Q : Addr → Pre} (h1 : s.heap.size < e.platform.maxCells) (h2 : s.slotsUsed + 5 ≤ e.platform.maxSlots) (hq : ∀ acts', Q s.heap.size d acts' (s.pushCell (arrV c 5 (fun _ => init)))) : wp (Jvm.newArray c 5 init) Q E e d acts s := by
  have hfits : ∀ i v, (Array.replicate 5 init)[i]? = some v → s.fitsSlot c .none i v = true := by
    intro i v hv
    simp only [Array.getElem?_replicate] at hv
    split at hv
    · cases hv; simp [State.fitsSlot, State.slotType?, hk, hkind, hf]
    · cases hv
  have hq' := fun a => hq a
  simp only [← arrV_new] at hq'
  simp only [Jvm.newArray, Jvm.arrayFits, wp_bind', Jvm.W.ask, Jvm.W.ite, hl, if_false, wp_pure', Jvm.W.theClass, hk, hkind, hh, Jvm.W.alloc, Jvm.W.stop, Option.some.injEq, exists_eq_left', Array.size_replicate]
  rw [if_neg (by omega)]
  exact ⟨h1, h2, hfits, hq' _⟩
/-- 'make' of five rows -/
theorem gm_wp_mk {cA cL cc : ClassId} {kA kL : Class} (hkA : s.vm.classes[cA]? = some kA) (hkindA : kA.kind = .array cL (.array .long)) (hkL : s.vm.classes[cL]? = some kL) (hkindL : kL.kind = .array cc .long) (hl : ¬ 5 > e.platform.arrayLengthLimit) (hh : ¬ 5 * 8 > e.platform.maxHeapBytes)
    (hc : s.heap.size + 6 ≤ e.platform.maxCells) (hs : s.slotsUsed + 30 ≤ e.platform.maxSlots) {Q : Addr → Pre} (hq : ∀ d' acts', Q s.heap.size d' acts' (gm_fl s cA cL 5)) : wp (multianewarray.make cA [5, 5]) Q E e d acts s := by
  have h5 : (5 : Int32).toNatClampNeg = 5 := by decide
  have hn : ¬ (5 : Int32) < 0 := by decide
  have hb : ((5 : Int32) == 0) = false := by decide
  rw [multianewarray.make]
  simp only [wp_bind', Jvm.W.ite, hn, if_false, wp_pure', Jvm.W.theClass, hkA, hkindA, Option.some.injEq, exists_eq_left', h5]
  refine gm_wp_na hkA hkindA hl (by show ¬ 5 * 4 > _; omega) rfl (by omega) (by omega) (fun acts' => ?_)
  simp only [hb, Bool.false_eq_true, if_false, wp_bind', wp_pure', Std.Legacy.Range.forIn_eq_forIn_range']
  show wp (forIn [0, 1, 2, 3, 4] PUnit.unit _) _ E e d acts' _
  refine wp_forIn_inv (fun rest s' => ∃ i, i ≤ 5 ∧ rest = [0, 1, 2, 3, 4].drop i ∧ s' = gm_fl s cA cL i) _ _ ⟨0, by omega, rfl, rfl⟩ ?_ ?_
  · rintro x rest s' d' acts'' Q' ⟨i, hi, hl', rfl⟩ hnext
    have hx : x = i ∧ i < 5 ∧ rest = [0, 1, 2, 3, 4].drop (i + 1) := by
      have h6 : i = 0 ∨ i = 1 ∨ i = 2 ∨ i = 3 ∨ i = 4 ∨ i = 5 := by omega
      rcases h6 with e1 | e1 | e1 | e1 | e1 | e1 <;> subst e1 <;> simp at hl' ⊢ <;> exact hl'
    obtain ⟨rfl, hlt, hrest⟩ := hx
    obtain ⟨f1, f2, f3, f4, f5, f6⟩ := gm_fl_facts s cA cL x
    simp only [wp_bind']
    rw [multianewarray.make]
    simp only [wp_bind', Jvm.W.ite, hn, if_false, wp_pure', Jvm.W.theClass, f3, hkL, hkindL, Option.some.injEq, exists_eq_left', h5]
    refine gm_wp_na (by rw [f3]; exact hkL) hkindL hl hh rfl (by rw [f1]; omega) (by rw [f4]; omega) (fun acts3 => ?_)
    simp only [wp_bind', Jvm.W.writeLoc, wp_pure']
    refine ⟨arrV cA 5 (gm_fo s.heap.size x), by rw [State.heap_pushCell_of_lt _ _ (show s.heap.size < (gm_fl s cA cL x).heap.size by rw [f1]; omega)]; exact f2, by simp [arrV], by rw [arrV_size]; exact hlt, ?_, hnext _ _ _ ⟨x + 1, by omega, hrest, ?_⟩⟩
    · show State.fitsSlot _ cA .none x _ = true
      simp [State.fitsSlot, State.slotType?, f3, hkA, hkindA, fits]
    · rw [f1, gm_fo_put]; rfl
  · rintro s' d' acts'' ⟨i, hi, hl', rfl⟩
    have hi5 : i = 5 := by
      have h6 : i = 0 ∨ i = 1 ∨ i = 2 ∨ i = 3 ∨ i = 4 ∨ i = 5 := by omega
      rcases h6 with e1 | e1 | e1 | e1 | e1 | e1 <;> subst e1 <;> simp at hl' ⊢
    subst hi5
    exact hq _ _
end GMN
section GMO
variable {p : Program} {l : Launch} {e : Env} {R : Room} {s : State} {m : MethodId} {args : Array Value} {below : List Frame} {meth : Method} {c : Code} {H : Heap} {locs : List Loc} {cells slots : Nat} {Q : State → Prop}
theorem gm_Wmulti {cc : ByteArray} (hexec : p.tables.exec = Jvm.exec) (hb : c.code = cc) {own : String} {index : Nat} (hown : s.vm.findClass own = some m.cls) (hclink : (Cond.classLink own index "[[J").before args s = true) (hover : (Cond.arrayOver (.array .long)).before args s = true) (harr : (Cond.arrayClass .long).before args s = true)
    {g : JFrame} (hg : g.method = m) (hdg : decode cc g.pc = .ok (.multianewarray index 2, 4)) {rest : List Value} (hstack : g.stack = .int 5 :: .int 5 :: rest) (hcells : cells + 6 ≤ R.cells) (hslots : slots + 30 ≤ R.slots) {h : Nat} (hh : H.size = h)
    (kk : ∀ (H' : Heap) (locs' : List Loc) (cA cL : ClassId), s.vm.findClass "[[J" = some cA → s.vm.findClass "[J" = some cL → H'.size = h + 6 → (∀ q, q < h → H'[q]? = H[q]?) → H'[h]? = some (arrV cA 5 (fun j => .ref (h + 1 + j))) → (∀ j, j < 5 → H'[h + 1 + j]? = some (arrV cL 5 (fun _ => .long 0))) → (∀ q ∈ locs', q ∈ locs ∨ q.base = h) →
      W p l e R s m args below meth c H' locs' (cells + 6) (slots + 30) Q { g with pc := g.pc + 4, stack := .ref h :: rest }) : W p l e R s m args below meth c H locs cells slots Q g := by
  intro T hT X
  subst hT; subst hb; subst hg; subst hh
  have hpl : e.platform.magicAccessors = ({} : Platform).magicAccessors := by rw [X.admits.platform]
  obtain ⟨cL, cA, kA, hcL, -, hkA, hkindA, hnameA⟩ := arrayOverA_spec hover
  obtain ⟨cL', kL, cc', hcL', hkL, hkindL⟩ := Cond.arrayClass_spec harr
  cases Option.some.inj (hcL'.symm.trans hcL)
  obtain ⟨c0, hfc0, hcl⟩ := Cond.classLink_spec hown hclink e.platform hpl
  have hnA : s.vm.findClass "[[J" = some cA := hnameA
  have hnL : s.vm.findClass "[J" = some cL := hcL
  cases Option.some.inj (hnA.symm.trans hfc0)
  obtain ⟨hg₁, hwarm₁, hready₁⟩ := State.classEntry (e := e) X.warmed hcl
  generalize T.vm.noted g.method.cls index (.cls cA) = vm₁ at hg₁ hwarm₁ hready₁
  have hal : s.vm.Alike vm₁ := hwarm₁.alike
  obtain ⟨kA₁, hkA₁, heA⟩ := hal.2.2 _ _ hkA
  obtain ⟨kL₁, hkL₁, heL⟩ := hal.2.2 _ _ hkL
  have hkindA₁ : kA₁.kind = .array cL (.array .long) := by rw [heA]; exact hkindA
  have hkindL₁ : kL₁.kind = .array cc' .long := by rw [heL]; exact hkindL
  have X₁ := X.noted hwarm₁
  obtain ⟨hr1, hr2⟩ := X.roomAbove hcells hslots
  obtain ⟨L, hL, XF⟩ := gm_fl_stand X₁ cA cL 5
  obtain ⟨f1, f2, f3, f4, f5, f6⟩ := gm_fl_facts (T.setVm vm₁) cA cL 5
  have f2 : (gm_fl (T.setVm vm₁) cA cL 5).heap[T.heap.size]? = some (arrV cA 5 (fun j => .ref (T.heap.size + 1 + j))) := by
    rw [show T.heap.size = (T.setVm vm₁).heap.size from rfl, f2]
    congr 1
  obtain ⟨t', a1, b1⟩ := kk (gm_fl (T.setVm vm₁) cA cL 5).heap L cA cL hnA hnL f1 f5 f2 f6 hL (gm_fl (T.setVm vm₁) cA cL 5) rfl XF
  refine ⟨t', ?_, b1⟩
  have hl1 : ¬ 5 > e.platform.arrayLengthLimit := by rw [Launch.admits_arrayLengthLimit X.admits]; decide
  have hh1 : ¬ 5 * 8 > e.platform.maxHeapBytes := by rw [Launch.admits_maxHeapBytes X.admits]; decide
  jvm_step X.here [hexec, hdg]
  simp only [multianewarray.sem, wp_bind', Jvm.W.resolveClassAt_links (State.method?_setTop g X.here.top) hg₁]
  rw [Jvm.W.popN, if_neg (by decide)]
  refine ⟨g, State.topJava?_setTop' (s := T.setVm vm₁) g X.here.top, [.int 5, .int 5], rest, rfl, hstack, ?_⟩
  simp only [List.mapM_cons, List.mapM_nil, wp_bind', wp_pure']
  refine gm_wp_mk hkA₁ hkindA₁ hkL₁ hkindL₁ hl1 hh1 (by show T.heap.size + 6 ≤ _; omega) (by show T.slotsUsed + 30 ≤ _; omega) (fun d' acts' => ?_)
  have eS : ((T.setTop g).setVm vm₁).setTop { g with stack := rest } = (T.setVm vm₁).setTop { g with stack := rest } := by
    show ((T.setVm vm₁).setTop g).setTop _ = _
    rw [State.setTop_setTop]
  rw [eS, gm_fl_top]
  simp only [wp_bind', Jvm.W.mark, Jvm.W.pushRef, State.topJava?_setTop' _ XF.here.top, Option.some.injEq, exists_eq_left', State.setTop_setTop, State.heap_setTop]
  intro acts
  simp [jvm, XF.here.top]
  exact a1
end GMO
section GMQ
variable {p : Program} {l : Launch} {e : Env} {R : Room} {s : State} {m : MethodId} {args : Array Value} {below : List Frame} {meth : Method} {c : Code} {H : Heap} {locs : List Loc} {cells slots : Nat} {Q : State → Prop}
variable {cc : ByteArray} {pc : Nat} {ls : Array Slot} {rest : List Value} {D : va_G} {cl : List vw_C} {A : Nat → Prop} {tys : List (ClassId × FieldType)} {ws : va_W} {H0 : Heap}
/-- the rows of a table at h -/
def gm_rng (h : Nat) : List Nat := [h + 1, h + 2, h + 3, h + 4, h + 5]
/-- the cells of a new table at h -/
def gm_tab (cG cL : ClassId) (h : Nat) : va_W := (h, .inl (cG, 5, .inr (.inr (.inr (.inr (fun j => some (h + 1 + j))))))) :: gm_pool cL 5 (gm_rng h) (fun _ _ => 0)
theorem gm_tab_cell {cG cL : ClassId} {h k : Nat} {q : Nat × va_E} (hq : (gm_tab cG cL h)[k]? = some q) : (k = 0 ∧ q = (h, .inl (cG, 5, .inr (.inr (.inr (.inr (fun j => some (h + 1 + j)))))))) ∨ ∃ j, j < 5 ∧ k = j + 1 ∧ q = (h + 1 + j, .inl (cL, 5, .inr (.inl (fun _ => 0)))) := by
  have hk : k < 6 := (List.getElem?_eq_some_iff.mp hq).1
  have h6 : k = 0 ∨ k = 1 ∨ k = 2 ∨ k = 3 ∨ k = 4 ∨ k = 5 := by omega
  rcases h6 with e1 | e1 | e1 | e1 | e1 | e1 <;> subst e1 <;> have hq := (Option.some.inj hq).symm
  · exact Or.inl ⟨rfl, hq⟩
  · exact Or.inr ⟨0, by omega, rfl, hq⟩
  · exact Or.inr ⟨1, by omega, rfl, hq⟩
  · exact Or.inr ⟨2, by omega, rfl, hq⟩
  · exact Or.inr ⟨3, by omega, rfl, hq⟩
  · exact Or.inr ⟨4, by omega, rfl, hq⟩
theorem gm_tab_at {cG cL : ClassId} {h k : Nat} {q : Nat × va_E} (hq : (gm_tab cG cL h)[k]? = some q) : q.1 = h + k := by
  rcases gm_tab_cell hq with ⟨h1, h2⟩ | ⟨j, h0, h1, h2⟩
  · rw [h2, h1]; rfl
  · rw [h2, h1]; show h + 1 + j = h + (j + 1); omega
theorem gm_multi (hexec : p.tables.exec = Jvm.exec) (hb : c.code = cc) {own : String} {index : Nat} (hown : s.vm.findClass own = some m.cls) (hclink : (Cond.classLink own index "[[J").before args s = true) (hover : (Cond.arrayOver (.array .long)).before args s = true) (harr : (Cond.arrayClass .long).before args s = true) (hP : va_P D cl ws H) (hD : va_D A ws) (hS : va_S A H0 H locs) (hA : ∀ q, H0.size ≤ q → A q)
    {cG cL : ClassId} (hG : s.vm.findClass "[[J" = some cG) (hL : s.vm.findClass "[J" = some cL) (hcells : cells + 6 ≤ R.cells) (hslots : slots + 30 ≤ R.slots) (hdg : decode cc pc = .ok (.multianewarray index 2, 4))
    (kk : ∀ (h : Nat) (H1 : Heap) (locs1 : List Loc), va_P D cl (ws ++ gm_tab cG cL h) H1 → va_D A (ws ++ gm_tab cG cL h) → va_S A H0 H1 locs1 → W p l e R s m args below meth c H1 locs1 (cells + 6) (slots + 30) Q (F0 m (pc + 4) ls (.ref h :: rest))) : W p l e R s m args below meth c H locs cells slots Q (F0 m pc ls (.int (nI 5) :: .int (nI 5) :: rest)) := by
  refine gm_Wmulti hexec hb hown hclink hover harr rfl hdg rfl hcells hslots rfl fun H1 L cA cL' g1 g2 z1 o1 e1 e2 hL' => ?_
  cases Option.some.inj (g1.symm.trans hG)
  cases Option.some.inj (g2.symm.trans hL)
  have hlo : ∀ (k : Nat) (x : Nat × va_E), ws[k]? = some x → x.1 < H.size := fun k x hx => (hP k x hx).lt
  refine kk H.size H1 L ((hP.kept (fun k x hx => o1 x.1 (hlo k x hx))).app (fun k x hx => ?_)) ⟨fun i j x y hi hj hxy => ?_, fun k x hx => ?_⟩ ⟨Nat.le_trans hS.1 (by omega), fun x h1 h2 => (o1 x (Nat.lt_of_lt_of_le h1 hS.1)).trans (hS.2.1 x h1 h2), fun q hq => ?_⟩
  · rcases gm_tab_cell hx with ⟨h1, h2⟩ | ⟨j, h0, h1, h2⟩
    · rw [h2]; exact e1
    · rw [h2]; exact e2 j h0
  · by_cases hi' : i < ws.length
    · rw [List.getElem?_append_left hi'] at hi
      by_cases hj' : j < ws.length
      · rw [List.getElem?_append_left hj'] at hj
        exact hD.1 i j x y hi hj hxy
      · rw [List.getElem?_append_right (by omega)] at hj
        have h1 := hlo i x hi
        have h2 := gm_tab_at hj
        omega
    · rw [List.getElem?_append_right (by omega)] at hi
      have h1 := gm_tab_at hi
      by_cases hj' : j < ws.length
      · rw [List.getElem?_append_left hj'] at hj
        have h2 := hlo j y hj
        omega
      · rw [List.getElem?_append_right (by omega)] at hj
        have h2 := gm_tab_at hj
        omega
  · by_cases hk : k < ws.length
    · rw [List.getElem?_append_left hk] at hx
      exact hD.2 k x hx
    · rw [List.getElem?_append_right (by omega)] at hx
      have h1 := gm_tab_at hx
      exact hA _ (by have := hS.1; omega)
  · rcases hL' q hq with h1 | h1
    · exact hS.2.2 q h1
    · rw [h1]; exact hA _ hS.1
end GMQ
end
section
-- ===== PART A: goes FIRST, ahead of the names: the tables' words, and 'selects' of the private methods out of them =====
/-- a private method of a class that the tables say can be made, by its rows of tables_1 -/
def lw_okq (q : MethodName × Nat) : Prop := (q.1.cls ≠ "java/lang/invoke/MethodHandle" ∧ q.1.cls ≠ "java/lang/invoke/VarHandle") ∧ Cond.instantiable q.1.cls q.2 ∈ tables_1 ∧ Cond.privateMethod q.1 ∈ tables_1 ∧ Cond.instanceMethod q.1 ∈ tables_1
set_option maxRecDepth 100000
theorem lw_p0 : lw_okq (⟨"TrailDesk", "place", "(I)I"⟩, 7) := ⟨⟨by decide +kernel, by decide +kernel⟩, List.mem_of_getElem? (i := 5) rfl, List.mem_of_getElem? (i := 48) rfl, List.mem_of_getElem? (i := 49) rfl⟩
theorem lw_p1 : lw_okq (⟨"TrailDesk", "leaving", "(I)I"⟩, 7) := ⟨⟨by decide +kernel, by decide +kernel⟩, List.mem_of_getElem? (i := 5) rfl, List.mem_of_getElem? (i := 60) rfl, List.mem_of_getElem? (i := 61) rfl⟩
theorem lw_p2 : lw_okq (⟨"TrailDesk", "coming", "(I)I"⟩, 7) := ⟨⟨by decide +kernel, by decide +kernel⟩, List.mem_of_getElem? (i := 5) rfl, List.mem_of_getElem? (i := 64) rfl, List.mem_of_getElem? (i := 65) rfl⟩
theorem lw_p3 : lw_okq (⟨"TrailDesk", "odd", "()I"⟩, 7) := ⟨⟨by decide +kernel, by decide +kernel⟩, List.mem_of_getElem? (i := 5) rfl, List.mem_of_getElem? (i := 72) rfl, List.mem_of_getElem? (i := 73) rfl⟩
theorem lw_p4 : lw_okq (⟨"TrailDesk", "isOne", "()Z"⟩, 7) := ⟨⟨by decide +kernel, by decide +kernel⟩, List.mem_of_getElem? (i := 5) rfl, List.mem_of_getElem? (i := 76) rfl, List.mem_of_getElem? (i := 77) rfl⟩
theorem lw_p5 : lw_okq (⟨"TrailDesk", "rootOf", "(I)I"⟩, 7) := ⟨⟨by decide +kernel, by decide +kernel⟩, List.mem_of_getElem? (i := 5) rfl, List.mem_of_getElem? (i := 80) rfl, List.mem_of_getElem? (i := 81) rfl⟩
theorem lw_p6 : lw_okq (⟨"TrailDesk", "over", "()I"⟩, 7) := ⟨⟨by decide +kernel, by decide +kernel⟩, List.mem_of_getElem? (i := 5) rfl, List.mem_of_getElem? (i := 92) rfl, List.mem_of_getElem? (i := 93) rfl⟩
theorem lw_p7 : lw_okq (⟨"TrailDesk", "determinant", "(I)J"⟩, 7) := ⟨⟨by decide +kernel, by decide +kernel⟩, List.mem_of_getElem? (i := 5) rfl, List.mem_of_getElem? (i := 103) rfl, List.mem_of_getElem? (i := 104) rfl⟩
theorem lw_p8 : lw_okq (⟨"TrailDeskModel", "reckon", "()V"⟩, 11) := ⟨⟨by decide +kernel, by decide +kernel⟩, List.mem_of_getElem? (i := 107) rfl, List.mem_of_getElem? (i := 165) rfl, List.mem_of_getElem? (i := 166) rfl⟩
def lw_privs_1 : List (MethodName × Nat) := [(⟨"TrailDesk", "place", "(I)I"⟩, 7), (⟨"TrailDesk", "leaving", "(I)I"⟩, 7), (⟨"TrailDesk", "coming", "(I)I"⟩, 7), (⟨"TrailDesk", "odd", "()I"⟩, 7), (⟨"TrailDesk", "isOne", "()Z"⟩, 7), (⟨"TrailDesk", "rootOf", "(I)I"⟩, 7), (⟨"TrailDesk", "over", "()I"⟩, 7), (⟨"TrailDesk", "determinant", "(I)J"⟩, 7), (⟨"TrailDeskModel", "reckon", "()V"⟩, 11)]
theorem lw_r1 : ∀ q ∈ lw_privs_1, lw_okq q := List.forall_mem_cons.mpr ⟨lw_p0, List.forall_mem_cons.mpr ⟨lw_p1, List.forall_mem_cons.mpr ⟨lw_p2, List.forall_mem_cons.mpr ⟨lw_p3, List.forall_mem_cons.mpr ⟨lw_p4, List.forall_mem_cons.mpr ⟨lw_p5, List.forall_mem_cons.mpr ⟨lw_p6, List.forall_mem_cons.mpr ⟨lw_p7, List.forall_mem_cons.mpr ⟨lw_p8, fun _ h => absurd h List.not_mem_nil⟩⟩⟩⟩⟩⟩⟩⟩⟩
def lw_privs : List (MethodName × Nat) := lw_privs_1
def lw_tbl : List Cond := k2_sels lw_privs ++ tables_1
theorem lw_privs_ok : ∀ q ∈ lw_privs, lw_okq q := lw_r1
-- ===== ONE list of words for every method: the tables' words that hold all through a run =====
def lw_all : List Cond := lw_tbl.filter goodWord
/-- a word of the tables by its place: claim/WORDS.tsv -/
theorem lw_w {w : Cond} (i : Nat) (h : lw_tbl[i]? = some w) (g : goodWord w = true) : w ∈ lw_all := List.mem_filter.mpr ⟨List.mem_of_getElem? h, g⟩
theorem lw_all_tbl {w : Cond} (h : w ∈ lw_all) : w ∈ lw_tbl := (List.mem_filter.mp h).1
theorem lw_self : GoodIn lw_all lw_all := fun w h => ⟨h, good_of_word (List.mem_filter.mp h).2⟩
/-- a class's field words, by their places -/
theorem lw_in (ws : List Cond) (ps : List Nat) (hp : ws = ps.filterMap (fun i => lw_tbl[i]?)) (hg : ws.all goodWord = true) : ∀ w ∈ ws, w ∈ lw_all := by
  intro w h
  have h1 := List.all_eq_true.mp hg w h
  rw [hp] at h
  obtain ⟨i, -, hi⟩ := List.mem_filterMap.mp h
  exact lw_w i hi h1
/-- the words of a contract for the method y with code b, L locals, answer r -/
abbrev ws_ (y : MethodName) (b : ByteArray) (L : Nat) (r : Option FieldType) : List Cond := Cond.code y b L r :: lw_all
theorem lw_meth {y : MethodName} {b : ByteArray} {L : Nat} {r : Option FieldType} (h : Cond.code y b L r ∈ lw_all) : GoodIn lw_all (ws_ y b L r) := by
  intro w hw
  rcases List.mem_cons.mp hw with e | e
  · rw [e]
    exact lw_self _ h
  · exact lw_self _ e
theorem lw_app {a c : List Cond} (ha : ∀ w ∈ a, w ∈ lw_all) (hc : GoodIn lw_all c) : GoodIn lw_all (a ++ c) := by
  intro w hw
  rcases List.mem_append.mp hw with e | e
  · exact lw_self w (ha w e)
  · exact hc w e
/-- what a call through an object asks: cwV n hts (lw_V ..) -/
theorem lw_V {own : String} {idx : Nat} {C : String} {y : MethodName} {b : ByteArray} {L : Nat} {r : Option FieldType} (h1 : Cond.methodLink own idx y ∈ lw_all) (h2 : Cond.instanceMethod y ∈ lw_all) (h3 : Cond.selects C y y ∈ lw_all) (h4 : Cond.initialized C ∈ lw_all) (h5 : Cond.code y b L r ∈ lw_all) : GoodIn lw_all (wsV own idx C y (ws_ y b L r)) := by
  refine lw_app ?_ (lw_meth h5)
  intro w hw
  simp only [List.mem_cons, List.not_mem_nil, or_false] at hw
  rcases hw with e | e | e | e
  · rw [e]; exact h1
  · rw [e]; exact h2
  · rw [e]; exact h3
  · rw [e]; exact h4
/-- what a static call asks: va_cwS n hts (lw_S ..) -/
theorem lw_S {own : String} {idx : Nat} {y : MethodName} {b : ByteArray} {L : Nat} {r : Option FieldType} (h1 : Cond.methodLink own idx y ∈ lw_all) (h2 : Cond.static y ∈ lw_all) (h3 : Cond.initialized y.cls ∈ lw_all) (h4 : Cond.code y b L r ∈ lw_all) : GoodIn lw_all (va_wsS own idx y (ws_ y b L r)) := by
  refine lw_app ?_ (lw_meth h4)
  intro w hw
  simp only [List.mem_cons, List.not_mem_nil, or_false] at hw
  rcases hw with e | e | e
  · rw [e]; exact h1
  · rw [e]; exact h2
  · rw [e]; exact h3
/-- the words of a contract for a method WITH HANDLERS (hh: its table) -/
abbrev wsW_ (y : MethodName) (b : ByteArray) (L : Nat) (r : Option FieldType) (hh : List (Nat × Nat × Nat × Nat)) : List Cond := Cond.codeWith y b L r hh :: lw_all
theorem lw_methW {y : MethodName} {b : ByteArray} {L : Nat} {r : Option FieldType} {hh : List (Nat × Nat × Nat × Nat)} (h : Cond.codeWith y b L r hh ∈ lw_all) : GoodIn lw_all (wsW_ y b L r hh) := by
  intro w hw
  rcases List.mem_cons.mp hw with e | e
  · rw [e]
    exact lw_self _ h
  · exact lw_self _ e
/-- any list of words by their places (lw_in), good -/
theorem lw_good {ws : List Cond} (h : ∀ w ∈ ws, w ∈ lw_all) : GoodIn lw_all ws := fun w hw => lw_self w (h w hw)
/-- what a call of a method with handlers asks: vx_cwVW n hts (lw_VW ..), vx_cwSW n hts (lw_SW ..) -/
theorem lw_VW {own : String} {idx : Nat} {C : String} {y : MethodName} {b : ByteArray} {L : Nat} {r : Option FieldType} {hh : List (Nat × Nat × Nat × Nat)} (h1 : Cond.methodLink own idx y ∈ lw_all) (h2 : Cond.instanceMethod y ∈ lw_all) (h3 : Cond.selects C y y ∈ lw_all) (h4 : Cond.initialized C ∈ lw_all) (h5 : Cond.codeWith y b L r hh ∈ lw_all) : GoodIn lw_all (wsV own idx C y (wsW_ y b L r hh)) := by
  refine lw_app ?_ (lw_methW h5)
  intro w hw
  simp only [List.mem_cons, List.not_mem_nil, or_false] at hw
  rcases hw with e | e | e | e
  · rw [e]; exact h1
  · rw [e]; exact h2
  · rw [e]; exact h3
  · rw [e]; exact h4
theorem lw_SW {own : String} {idx : Nat} {y : MethodName} {b : ByteArray} {L : Nat} {r : Option FieldType} {hh : List (Nat × Nat × Nat × Nat)} (h1 : Cond.methodLink own idx y ∈ lw_all) (h2 : Cond.static y ∈ lw_all) (h3 : Cond.initialized y.cls ∈ lw_all) (h4 : Cond.codeWith y b L r hh ∈ lw_all) : GoodIn lw_all (va_wsS own idx y (wsW_ y b L r hh)) := by
  refine lw_app ?_ (lw_methW h4)
  intro w hw
  simp only [List.mem_cons, List.not_mem_nil, or_false] at hw
  rcases hw with e | e | e
  · rw [e]; exact h1
  · rw [e]; exact h2
  · rw [e]; exact h3
/-- a word by its place in its run of the tables -/
theorem lw_at {r : List Cond} (hr : ∀ w ∈ r, w ∈ lw_tbl) {w : Cond} (i : Nat) (h : r[i]? = some w) : w ∈ lw_tbl := hr w (List.mem_of_getElem? h)
theorem lw_g {w : Cond} (h : w ∈ lw_tbl) (g : goodWord w = true) : w ∈ lw_all := List.mem_filter.mpr ⟨h, g⟩
theorem lw_ms : ∀ w ∈ k2_sels lw_privs, w ∈ lw_tbl := fun w h => show w ∈ k2_sels lw_privs ++ tables_1 from List.mem_append_left _ h
theorem lw_m0 : ∀ w ∈ tables_1, w ∈ lw_tbl := fun w h => show w ∈ k2_sels lw_privs ++ tables_1 from List.mem_append_right (k2_sels lw_privs) h
theorem qs0 : (Cond.selects "TrailDesk" ⟨"TrailDesk", "place", "(I)I"⟩ ⟨"TrailDesk", "place", "(I)I"⟩) ∈ lw_all := lw_g (lw_at lw_ms 0 rfl) rfl
theorem qs1 : (Cond.selects "TrailDesk" ⟨"TrailDesk", "leaving", "(I)I"⟩ ⟨"TrailDesk", "leaving", "(I)I"⟩) ∈ lw_all := lw_g (lw_at lw_ms 1 rfl) rfl
theorem qs2 : (Cond.selects "TrailDesk" ⟨"TrailDesk", "coming", "(I)I"⟩ ⟨"TrailDesk", "coming", "(I)I"⟩) ∈ lw_all := lw_g (lw_at lw_ms 2 rfl) rfl
theorem qs3 : (Cond.selects "TrailDesk" ⟨"TrailDesk", "odd", "()I"⟩ ⟨"TrailDesk", "odd", "()I"⟩) ∈ lw_all := lw_g (lw_at lw_ms 3 rfl) rfl
theorem qs4 : (Cond.selects "TrailDesk" ⟨"TrailDesk", "isOne", "()Z"⟩ ⟨"TrailDesk", "isOne", "()Z"⟩) ∈ lw_all := lw_g (lw_at lw_ms 4 rfl) rfl
theorem qs5 : (Cond.selects "TrailDesk" ⟨"TrailDesk", "rootOf", "(I)I"⟩ ⟨"TrailDesk", "rootOf", "(I)I"⟩) ∈ lw_all := lw_g (lw_at lw_ms 5 rfl) rfl
theorem qs6 : (Cond.selects "TrailDesk" ⟨"TrailDesk", "over", "()I"⟩ ⟨"TrailDesk", "over", "()I"⟩) ∈ lw_all := lw_g (lw_at lw_ms 6 rfl) rfl
theorem qs7 : (Cond.selects "TrailDesk" ⟨"TrailDesk", "determinant", "(I)J"⟩ ⟨"TrailDesk", "determinant", "(I)J"⟩) ∈ lw_all := lw_g (lw_at lw_ms 7 rfl) rfl
theorem qs8 : (Cond.selects "TrailDeskModel" ⟨"TrailDeskModel", "reckon", "()V"⟩ ⟨"TrailDeskModel", "reckon", "()V"⟩) ∈ lw_all := lw_g (lw_at lw_ms 8 rfl) rfl
end
section
/-! java/lang/Object -/
set_option maxRecDepth 100000
def RJ1 : String := "java/lang/Object"
abbrev cJ1_init : ByteArray := object_method_1_code
def yJ1_init : MethodName := ⟨RJ1, "<init>", "()V"⟩
theorem dJ1_init_0 : decode cJ1_init 0 = .ok (.return_, 1) := by decide +kernel
theorem q19 : (Jvm.Cond.instanceMethod ({ cls := "java/lang/Object", name := "<init>", desc := "()V" } : Jvm.MethodName)) ∈ lw_all := lw_g (lw_at lw_m0 10 rfl) rfl
theorem q20 : (Jvm.Cond.code ({ cls := "java/lang/Object", name := "<init>", desc := "()V" } : Jvm.MethodName) object_method_1_code (1 : Nat) (Option.none : Option Jvm.ClassFile.FieldType)) ∈ lw_all := lw_g (lw_at lw_m0 11 rfl) rfl
/-! java/util/Arrays -/
set_option maxRecDepth 100000
def RJ0 : String := "java/util/Arrays"
abbrev cJ0_fill : ByteArray := prog_4_method_101_code
def yJ0_fill : MethodName := ⟨RJ0, "fill", "([JJ)V"⟩
theorem dJ0_fill_0 : decode cJ0_fill 0 = .ok (.iconst 0, 1) := by decide +kernel
theorem dJ0_fill_1 : decode cJ0_fill 1 = .ok (.istore_n 3, 1) := by decide +kernel
theorem dJ0_fill_2 : decode cJ0_fill 2 = .ok (.aload_n 0, 1) := by decide +kernel
theorem dJ0_fill_3 : decode cJ0_fill 3 = .ok (.arraylength, 1) := by decide +kernel
theorem dJ0_fill_4 : decode cJ0_fill 4 = .ok (.istore 4, 2) := by decide +kernel
theorem dJ0_fill_6 : decode cJ0_fill 6 = .ok (.iload_n 3, 1) := by decide +kernel
theorem dJ0_fill_7 : decode cJ0_fill 7 = .ok (.iload 4, 2) := by decide +kernel
theorem dJ0_fill_9 : decode cJ0_fill 9 = .ok (.if_icmp .ge 13, 3) := by decide +kernel
theorem dJ0_fill_12 : decode cJ0_fill 12 = .ok (.aload_n 0, 1) := by decide +kernel
theorem dJ0_fill_13 : decode cJ0_fill 13 = .ok (.iload_n 3, 1) := by decide +kernel
theorem dJ0_fill_14 : decode cJ0_fill 14 = .ok (.lload_n 1, 1) := by decide +kernel
theorem dJ0_fill_15 : decode cJ0_fill 15 = .ok (.lastore, 1) := by decide +kernel
theorem dJ0_fill_16 : decode cJ0_fill 16 = .ok (.iinc 3 1, 3) := by decide +kernel
theorem dJ0_fill_19 : decode cJ0_fill 19 = .ok (.goto (-13), 3) := by decide +kernel
theorem dJ0_fill_22 : decode cJ0_fill 22 = .ok (.return_, 1) := by decide +kernel
theorem q12 : (Jvm.Cond.initialized "java/util/Arrays") ∈ lw_all := lw_g (lw_at lw_m0 3 rfl) rfl
theorem q109 : (Jvm.Cond.static ({ cls := "java/util/Arrays", name := "fill", desc := "([JJ)V" } : Jvm.MethodName)) ∈ lw_all := lw_g (lw_at lw_m0 100 rfl) rfl
theorem q110 : (Jvm.Cond.code ({ cls := "java/util/Arrays", name := "fill", desc := "([JJ)V" } : Jvm.MethodName) prog_4_method_101_code (5 : Nat) (Option.none : Option Jvm.ClassFile.FieldType)) ∈ lw_all := lw_g (lw_at lw_m0 101 rfl) rfl
/-! TrailDesk -/
set_option maxRecDepth 100000
def RX0 : String := "TrailDesk"
def TX0 : u_T := fun k => match k with
  | 0 => ("TrailDesk", "n", "I", false)
  | 1 => ("TrailDesk", "many", "I", false)
  | 2 => ("TrailDesk", "first", "[I", true)
  | 3 => ("TrailDesk", "second", "[I", true)
  | 4 => ("TrailDesk", "root", "[I", true)
  | 5 => ("TrailDesk", "used", "[I", true)
  | _ => ("TrailDesk", "table", "[[J", true)
def tyX0 : Nat → FieldType := fun k => match k with
  | 0 => .int
  | 1 => .int
  | 2 => .array .int
  | 3 => .array .int
  | 4 => .array .int
  | 5 => .array .int
  | _ => .array (.array .long)
abbrev wsX00 : List Cond := u_ws RX0 TX0 7
theorem nmX0 : ∀ a, a < 7 → ∀ b, b < 7 → a ≠ b → (TX0 a).2.1 ≠ (TX0 b).2.1 := by decide +kernel
theorem tyX0_ok : ∀ k, k < 7 → parseFieldDescriptor (TX0 k).2.2.1 = some (tyX0 k) := by decide +kernel
abbrev cX0_init : ByteArray := prog_1_method_1_code
def yX0_init : MethodName := ⟨RX0, "<init>", "()V"⟩
theorem dX0_init_0 : decode cX0_init 0 = .ok (.aload_n 0, 1) := by decide +kernel
theorem dX0_init_1 : decode cX0_init 1 = .ok (.invokespecial 1, 3) := by decide +kernel
theorem dX0_init_4 : decode cX0_init 4 = .ok (.aload_n 0, 1) := by decide +kernel
theorem dX0_init_5 : decode cX0_init 5 = .ok (.iconst 3, 1) := by decide +kernel
theorem dX0_init_6 : decode cX0_init 6 = .ok (.putfield 7, 3) := by decide +kernel
theorem dX0_init_9 : decode cX0_init 9 = .ok (.aload_n 0, 1) := by decide +kernel
theorem dX0_init_10 : decode cX0_init 10 = .ok (.bipush 10, 2) := by decide +kernel
theorem dX0_init_12 : decode cX0_init 12 = .ok (.newarray .int, 2) := by decide +kernel
theorem dX0_init_14 : decode cX0_init 14 = .ok (.putfield 13, 3) := by decide +kernel
theorem dX0_init_17 : decode cX0_init 17 = .ok (.aload_n 0, 1) := by decide +kernel
theorem dX0_init_18 : decode cX0_init 18 = .ok (.bipush 10, 2) := by decide +kernel
theorem dX0_init_20 : decode cX0_init 20 = .ok (.newarray .int, 2) := by decide +kernel
theorem dX0_init_22 : decode cX0_init 22 = .ok (.putfield 17, 3) := by decide +kernel
theorem dX0_init_25 : decode cX0_init 25 = .ok (.aload_n 0, 1) := by decide +kernel
theorem dX0_init_26 : decode cX0_init 26 = .ok (.iconst 5, 1) := by decide +kernel
theorem dX0_init_27 : decode cX0_init 27 = .ok (.newarray .int, 2) := by decide +kernel
theorem dX0_init_29 : decode cX0_init 29 = .ok (.putfield 20, 3) := by decide +kernel
theorem dX0_init_32 : decode cX0_init 32 = .ok (.aload_n 0, 1) := by decide +kernel
theorem dX0_init_33 : decode cX0_init 33 = .ok (.iconst 5, 1) := by decide +kernel
theorem dX0_init_34 : decode cX0_init 34 = .ok (.newarray .int, 2) := by decide +kernel
theorem dX0_init_36 : decode cX0_init 36 = .ok (.putfield 23, 3) := by decide +kernel
theorem dX0_init_39 : decode cX0_init 39 = .ok (.aload_n 0, 1) := by decide +kernel
theorem dX0_init_40 : decode cX0_init 40 = .ok (.iconst 5, 1) := by decide +kernel
theorem dX0_init_41 : decode cX0_init 41 = .ok (.iconst 5, 1) := by decide +kernel
theorem dX0_init_42 : decode cX0_init 42 = .ok (.multianewarray 26 2, 4) := by decide +kernel
theorem dX0_init_46 : decode cX0_init 46 = .ok (.putfield 28, 3) := by decide +kernel
theorem dX0_init_49 : decode cX0_init 49 = .ok (.return_, 1) := by decide +kernel
abbrev cX0_places : ByteArray := prog_1_method_3_code
def yX0_places : MethodName := ⟨RX0, "places", "(I)V"⟩
theorem dX0_places_0 : decode cX0_places 0 = .ok (.aload_n 0, 1) := by decide +kernel
theorem dX0_places_1 : decode cX0_places 1 = .ok (.iconst 1, 1) := by decide +kernel
theorem dX0_places_2 : decode cX0_places 2 = .ok (.iload_n 1, 1) := by decide +kernel
theorem dX0_places_3 : decode cX0_places 3 = .ok (.ldc 33, 2) := by decide +kernel
theorem dX0_places_5 : decode cX0_places 5 = .ok (.iand, 1) := by decide +kernel
theorem dX0_places_6 : decode cX0_places 6 = .ok (.iconst 5, 1) := by decide +kernel
theorem dX0_places_7 : decode cX0_places 7 = .ok (.irem, 1) := by decide +kernel
theorem dX0_places_8 : decode cX0_places 8 = .ok (.iadd, 1) := by decide +kernel
theorem dX0_places_9 : decode cX0_places 9 = .ok (.putfield 7, 3) := by decide +kernel
theorem dX0_places_12 : decode cX0_places 12 = .ok (.aload_n 0, 1) := by decide +kernel
theorem dX0_places_13 : decode cX0_places 13 = .ok (.iconst 0, 1) := by decide +kernel
theorem dX0_places_14 : decode cX0_places 14 = .ok (.putfield 34, 3) := by decide +kernel
theorem dX0_places_17 : decode cX0_places 17 = .ok (.return_, 1) := by decide +kernel
abbrev cX0_edge : ByteArray := prog_1_method_4_code
def yX0_edge : MethodName := ⟨RX0, "edge", "(II)Z"⟩
theorem dX0_edge_0 : decode cX0_edge 0 = .ok (.aload_n 0, 1) := by decide +kernel
theorem dX0_edge_1 : decode cX0_edge 1 = .ok (.getfield 34, 3) := by decide +kernel
theorem dX0_edge_4 : decode cX0_edge 4 = .ok (.bipush 10, 2) := by decide +kernel
theorem dX0_edge_6 : decode cX0_edge 6 = .ok (.if_icmp .ne 5, 3) := by decide +kernel
theorem dX0_edge_9 : decode cX0_edge 9 = .ok (.iconst 0, 1) := by decide +kernel
theorem dX0_edge_10 : decode cX0_edge 10 = .ok (.ireturn, 1) := by decide +kernel
theorem dX0_edge_11 : decode cX0_edge 11 = .ok (.aload_n 0, 1) := by decide +kernel
theorem dX0_edge_12 : decode cX0_edge 12 = .ok (.getfield 13, 3) := by decide +kernel
theorem dX0_edge_15 : decode cX0_edge 15 = .ok (.aload_n 0, 1) := by decide +kernel
theorem dX0_edge_16 : decode cX0_edge 16 = .ok (.getfield 34, 3) := by decide +kernel
theorem dX0_edge_19 : decode cX0_edge 19 = .ok (.aload_n 0, 1) := by decide +kernel
theorem dX0_edge_20 : decode cX0_edge 20 = .ok (.iload_n 1, 1) := by decide +kernel
theorem dX0_edge_21 : decode cX0_edge 21 = .ok (.invokevirtual 37, 3) := by decide +kernel
theorem dX0_edge_24 : decode cX0_edge 24 = .ok (.iastore, 1) := by decide +kernel
theorem dX0_edge_25 : decode cX0_edge 25 = .ok (.aload_n 0, 1) := by decide +kernel
theorem dX0_edge_26 : decode cX0_edge 26 = .ok (.getfield 17, 3) := by decide +kernel
theorem dX0_edge_29 : decode cX0_edge 29 = .ok (.aload_n 0, 1) := by decide +kernel
theorem dX0_edge_30 : decode cX0_edge 30 = .ok (.getfield 34, 3) := by decide +kernel
theorem dX0_edge_33 : decode cX0_edge 33 = .ok (.aload_n 0, 1) := by decide +kernel
theorem dX0_edge_34 : decode cX0_edge 34 = .ok (.iload_n 2, 1) := by decide +kernel
theorem dX0_edge_35 : decode cX0_edge 35 = .ok (.invokevirtual 37, 3) := by decide +kernel
theorem dX0_edge_38 : decode cX0_edge 38 = .ok (.iastore, 1) := by decide +kernel
theorem dX0_edge_39 : decode cX0_edge 39 = .ok (.aload_n 0, 1) := by decide +kernel
theorem dX0_edge_40 : decode cX0_edge 40 = .ok (.dup, 1) := by decide +kernel
theorem dX0_edge_41 : decode cX0_edge 41 = .ok (.getfield 34, 3) := by decide +kernel
theorem dX0_edge_44 : decode cX0_edge 44 = .ok (.iconst 1, 1) := by decide +kernel
theorem dX0_edge_45 : decode cX0_edge 45 = .ok (.iadd, 1) := by decide +kernel
theorem dX0_edge_46 : decode cX0_edge 46 = .ok (.putfield 34, 3) := by decide +kernel
theorem dX0_edge_49 : decode cX0_edge 49 = .ok (.iconst 1, 1) := by decide +kernel
theorem dX0_edge_50 : decode cX0_edge 50 = .ok (.ireturn, 1) := by decide +kernel
abbrev cX0_place : ByteArray := prog_1_method_2_code
def yX0_place : MethodName := ⟨RX0, "place", "(I)I"⟩
theorem dX0_place_0 : decode cX0_place 0 = .ok (.iload_n 1, 1) := by decide +kernel
theorem dX0_place_1 : decode cX0_place 1 = .ok (.ldc 33, 2) := by decide +kernel
theorem dX0_place_3 : decode cX0_place 3 = .ok (.iand, 1) := by decide +kernel
theorem dX0_place_4 : decode cX0_place 4 = .ok (.aload_n 0, 1) := by decide +kernel
theorem dX0_place_5 : decode cX0_place 5 = .ok (.getfield 7, 3) := by decide +kernel
theorem dX0_place_8 : decode cX0_place 8 = .ok (.irem, 1) := by decide +kernel
theorem dX0_place_9 : decode cX0_place 9 = .ok (.ireturn, 1) := by decide +kernel
abbrev cX0_drop : ByteArray := prog_1_method_5_code
def yX0_drop : MethodName := ⟨RX0, "drop", "()Z"⟩
theorem dX0_drop_0 : decode cX0_drop 0 = .ok (.aload_n 0, 1) := by decide +kernel
theorem dX0_drop_1 : decode cX0_drop 1 = .ok (.getfield 34, 3) := by decide +kernel
theorem dX0_drop_4 : decode cX0_drop 4 = .ok (.ifCond .ne 5, 3) := by decide +kernel
theorem dX0_drop_7 : decode cX0_drop 7 = .ok (.iconst 0, 1) := by decide +kernel
theorem dX0_drop_8 : decode cX0_drop 8 = .ok (.ireturn, 1) := by decide +kernel
theorem dX0_drop_9 : decode cX0_drop 9 = .ok (.aload_n 0, 1) := by decide +kernel
theorem dX0_drop_10 : decode cX0_drop 10 = .ok (.dup, 1) := by decide +kernel
theorem dX0_drop_11 : decode cX0_drop 11 = .ok (.getfield 34, 3) := by decide +kernel
theorem dX0_drop_14 : decode cX0_drop 14 = .ok (.iconst 1, 1) := by decide +kernel
theorem dX0_drop_15 : decode cX0_drop 15 = .ok (.isub, 1) := by decide +kernel
theorem dX0_drop_16 : decode cX0_drop 16 = .ok (.putfield 34, 3) := by decide +kernel
theorem dX0_drop_19 : decode cX0_drop 19 = .ok (.iconst 1, 1) := by decide +kernel
theorem dX0_drop_20 : decode cX0_drop 20 = .ok (.ireturn, 1) := by decide +kernel
abbrev cX0_ends : ByteArray := prog_1_method_8_code
def yX0_ends : MethodName := ⟨RX0, "ends", "(I)I"⟩
theorem dX0_ends_0 : decode cX0_ends 0 = .ok (.aload_n 0, 1) := by decide +kernel
theorem dX0_ends_1 : decode cX0_ends 1 = .ok (.aload_n 0, 1) := by decide +kernel
theorem dX0_ends_2 : decode cX0_ends 2 = .ok (.iload_n 1, 1) := by decide +kernel
theorem dX0_ends_3 : decode cX0_ends 3 = .ok (.invokevirtual 37, 3) := by decide +kernel
theorem dX0_ends_6 : decode cX0_ends 6 = .ok (.invokevirtual 41, 3) := by decide +kernel
theorem dX0_ends_9 : decode cX0_ends 9 = .ok (.aload_n 0, 1) := by decide +kernel
theorem dX0_ends_10 : decode cX0_ends 10 = .ok (.aload_n 0, 1) := by decide +kernel
theorem dX0_ends_11 : decode cX0_ends 11 = .ok (.iload_n 1, 1) := by decide +kernel
theorem dX0_ends_12 : decode cX0_ends 12 = .ok (.invokevirtual 37, 3) := by decide +kernel
theorem dX0_ends_15 : decode cX0_ends 15 = .ok (.invokevirtual 44, 3) := by decide +kernel
theorem dX0_ends_18 : decode cX0_ends 18 = .ok (.iadd, 1) := by decide +kernel
theorem dX0_ends_19 : decode cX0_ends 19 = .ok (.ireturn, 1) := by decide +kernel
abbrev cX0_leaving : ByteArray := prog_1_method_6_code
def yX0_leaving : MethodName := ⟨RX0, "leaving", "(I)I"⟩
theorem dX0_leaving_0 : decode cX0_leaving 0 = .ok (.iconst 0, 1) := by decide +kernel
theorem dX0_leaving_1 : decode cX0_leaving 1 = .ok (.istore_n 2, 1) := by decide +kernel
theorem dX0_leaving_2 : decode cX0_leaving 2 = .ok (.iconst 0, 1) := by decide +kernel
theorem dX0_leaving_3 : decode cX0_leaving 3 = .ok (.istore_n 3, 1) := by decide +kernel
theorem dX0_leaving_4 : decode cX0_leaving 4 = .ok (.iload_n 3, 1) := by decide +kernel
theorem dX0_leaving_5 : decode cX0_leaving 5 = .ok (.aload_n 0, 1) := by decide +kernel
theorem dX0_leaving_6 : decode cX0_leaving 6 = .ok (.getfield 34, 3) := by decide +kernel
theorem dX0_leaving_9 : decode cX0_leaving 9 = .ok (.if_icmp .ge 22, 3) := by decide +kernel
theorem dX0_leaving_12 : decode cX0_leaving 12 = .ok (.aload_n 0, 1) := by decide +kernel
theorem dX0_leaving_13 : decode cX0_leaving 13 = .ok (.getfield 13, 3) := by decide +kernel
theorem dX0_leaving_16 : decode cX0_leaving 16 = .ok (.iload_n 3, 1) := by decide +kernel
theorem dX0_leaving_17 : decode cX0_leaving 17 = .ok (.iaload, 1) := by decide +kernel
theorem dX0_leaving_18 : decode cX0_leaving 18 = .ok (.iload_n 1, 1) := by decide +kernel
theorem dX0_leaving_19 : decode cX0_leaving 19 = .ok (.if_icmp .ne 6, 3) := by decide +kernel
theorem dX0_leaving_22 : decode cX0_leaving 22 = .ok (.iinc 2 1, 3) := by decide +kernel
theorem dX0_leaving_25 : decode cX0_leaving 25 = .ok (.iinc 3 1, 3) := by decide +kernel
theorem dX0_leaving_28 : decode cX0_leaving 28 = .ok (.goto (-24), 3) := by decide +kernel
theorem dX0_leaving_31 : decode cX0_leaving 31 = .ok (.iload_n 2, 1) := by decide +kernel
theorem dX0_leaving_32 : decode cX0_leaving 32 = .ok (.ireturn, 1) := by decide +kernel
abbrev cX0_coming : ByteArray := prog_1_method_7_code
def yX0_coming : MethodName := ⟨RX0, "coming", "(I)I"⟩
theorem dX0_coming_0 : decode cX0_coming 0 = .ok (.iconst 0, 1) := by decide +kernel
theorem dX0_coming_1 : decode cX0_coming 1 = .ok (.istore_n 2, 1) := by decide +kernel
theorem dX0_coming_2 : decode cX0_coming 2 = .ok (.iconst 0, 1) := by decide +kernel
theorem dX0_coming_3 : decode cX0_coming 3 = .ok (.istore_n 3, 1) := by decide +kernel
theorem dX0_coming_4 : decode cX0_coming 4 = .ok (.iload_n 3, 1) := by decide +kernel
theorem dX0_coming_5 : decode cX0_coming 5 = .ok (.aload_n 0, 1) := by decide +kernel
theorem dX0_coming_6 : decode cX0_coming 6 = .ok (.getfield 34, 3) := by decide +kernel
theorem dX0_coming_9 : decode cX0_coming 9 = .ok (.if_icmp .ge 22, 3) := by decide +kernel
theorem dX0_coming_12 : decode cX0_coming 12 = .ok (.aload_n 0, 1) := by decide +kernel
theorem dX0_coming_13 : decode cX0_coming 13 = .ok (.getfield 17, 3) := by decide +kernel
theorem dX0_coming_16 : decode cX0_coming 16 = .ok (.iload_n 3, 1) := by decide +kernel
theorem dX0_coming_17 : decode cX0_coming 17 = .ok (.iaload, 1) := by decide +kernel
theorem dX0_coming_18 : decode cX0_coming 18 = .ok (.iload_n 1, 1) := by decide +kernel
theorem dX0_coming_19 : decode cX0_coming 19 = .ok (.if_icmp .ne 6, 3) := by decide +kernel
theorem dX0_coming_22 : decode cX0_coming 22 = .ok (.iinc 2 1, 3) := by decide +kernel
theorem dX0_coming_25 : decode cX0_coming 25 = .ok (.iinc 3 1, 3) := by decide +kernel
theorem dX0_coming_28 : decode cX0_coming 28 = .ok (.goto (-24), 3) := by decide +kernel
theorem dX0_coming_31 : decode cX0_coming 31 = .ok (.iload_n 2, 1) := by decide +kernel
theorem dX0_coming_32 : decode cX0_coming 32 = .ok (.ireturn, 1) := by decide +kernel
abbrev cX0_open : ByteArray := prog_1_method_12_code
def yX0_open : MethodName := ⟨RX0, "open", "()Z"⟩
theorem dX0_open_0 : decode cX0_open 0 = .ok (.aload_n 0, 1) := by decide +kernel
theorem dX0_open_1 : decode cX0_open 1 = .ok (.invokevirtual 50, 3) := by decide +kernel
theorem dX0_open_4 : decode cX0_open 4 = .ok (.iconst 2, 1) := by decide +kernel
theorem dX0_open_5 : decode cX0_open 5 = .ok (.if_icmp .gt 14, 3) := by decide +kernel
theorem dX0_open_8 : decode cX0_open 8 = .ok (.aload_n 0, 1) := by decide +kernel
theorem dX0_open_9 : decode cX0_open 9 = .ok (.invokevirtual 54, 3) := by decide +kernel
theorem dX0_open_12 : decode cX0_open 12 = .ok (.ifCond .eq 7, 3) := by decide +kernel
theorem dX0_open_15 : decode cX0_open 15 = .ok (.iconst 1, 1) := by decide +kernel
theorem dX0_open_16 : decode cX0_open 16 = .ok (.goto 4, 3) := by decide +kernel
theorem dX0_open_19 : decode cX0_open 19 = .ok (.iconst 0, 1) := by decide +kernel
theorem dX0_open_20 : decode cX0_open 20 = .ok (.ireturn, 1) := by decide +kernel
abbrev cX0_odd : ByteArray := prog_1_method_11_code
def yX0_odd : MethodName := ⟨RX0, "odd", "()I"⟩
theorem dX0_odd_0 : decode cX0_odd 0 = .ok (.iconst 0, 1) := by decide +kernel
theorem dX0_odd_1 : decode cX0_odd 1 = .ok (.istore_n 1, 1) := by decide +kernel
theorem dX0_odd_2 : decode cX0_odd 2 = .ok (.iconst 0, 1) := by decide +kernel
theorem dX0_odd_3 : decode cX0_odd 3 = .ok (.istore_n 2, 1) := by decide +kernel
theorem dX0_odd_4 : decode cX0_odd 4 = .ok (.iload_n 2, 1) := by decide +kernel
theorem dX0_odd_5 : decode cX0_odd 5 = .ok (.aload_n 0, 1) := by decide +kernel
theorem dX0_odd_6 : decode cX0_odd 6 = .ok (.getfield 7, 3) := by decide +kernel
theorem dX0_odd_9 : decode cX0_odd 9 = .ok (.if_icmp .ge 25, 3) := by decide +kernel
theorem dX0_odd_12 : decode cX0_odd 12 = .ok (.iload_n 1, 1) := by decide +kernel
theorem dX0_odd_13 : decode cX0_odd 13 = .ok (.aload_n 0, 1) := by decide +kernel
theorem dX0_odd_14 : decode cX0_odd 14 = .ok (.iload_n 2, 1) := by decide +kernel
theorem dX0_odd_15 : decode cX0_odd 15 = .ok (.invokevirtual 41, 3) := by decide +kernel
theorem dX0_odd_18 : decode cX0_odd 18 = .ok (.aload_n 0, 1) := by decide +kernel
theorem dX0_odd_19 : decode cX0_odd 19 = .ok (.iload_n 2, 1) := by decide +kernel
theorem dX0_odd_20 : decode cX0_odd 20 = .ok (.invokevirtual 44, 3) := by decide +kernel
theorem dX0_odd_23 : decode cX0_odd 23 = .ok (.iadd, 1) := by decide +kernel
theorem dX0_odd_24 : decode cX0_odd 24 = .ok (.iconst 1, 1) := by decide +kernel
theorem dX0_odd_25 : decode cX0_odd 25 = .ok (.iand, 1) := by decide +kernel
theorem dX0_odd_26 : decode cX0_odd 26 = .ok (.iadd, 1) := by decide +kernel
theorem dX0_odd_27 : decode cX0_odd 27 = .ok (.istore_n 1, 1) := by decide +kernel
theorem dX0_odd_28 : decode cX0_odd 28 = .ok (.iinc 2 1, 3) := by decide +kernel
theorem dX0_odd_31 : decode cX0_odd 31 = .ok (.goto (-27), 3) := by decide +kernel
theorem dX0_odd_34 : decode cX0_odd 34 = .ok (.iload_n 1, 1) := by decide +kernel
theorem dX0_odd_35 : decode cX0_odd 35 = .ok (.ireturn, 1) := by decide +kernel
abbrev cX0_isOne : ByteArray := prog_1_method_10_code
def yX0_isOne : MethodName := ⟨RX0, "isOne", "()Z"⟩
theorem dX0_isOne_0 : decode cX0_isOne 0 = .ok (.iconst 0, 1) := by decide +kernel
theorem dX0_isOne_1 : decode cX0_isOne 1 = .ok (.istore_n 1, 1) := by decide +kernel
theorem dX0_isOne_2 : decode cX0_isOne 2 = .ok (.iload_n 1, 1) := by decide +kernel
theorem dX0_isOne_3 : decode cX0_isOne 3 = .ok (.aload_n 0, 1) := by decide +kernel
theorem dX0_isOne_4 : decode cX0_isOne 4 = .ok (.getfield 7, 3) := by decide +kernel
theorem dX0_isOne_7 : decode cX0_isOne 7 = .ok (.if_icmp .ge 16, 3) := by decide +kernel
theorem dX0_isOne_10 : decode cX0_isOne 10 = .ok (.aload_n 0, 1) := by decide +kernel
theorem dX0_isOne_11 : decode cX0_isOne 11 = .ok (.getfield 20, 3) := by decide +kernel
theorem dX0_isOne_14 : decode cX0_isOne 14 = .ok (.iload_n 1, 1) := by decide +kernel
theorem dX0_isOne_15 : decode cX0_isOne 15 = .ok (.iload_n 1, 1) := by decide +kernel
theorem dX0_isOne_16 : decode cX0_isOne 16 = .ok (.iastore, 1) := by decide +kernel
theorem dX0_isOne_17 : decode cX0_isOne 17 = .ok (.iinc 1 1, 3) := by decide +kernel
theorem dX0_isOne_20 : decode cX0_isOne 20 = .ok (.goto (-18), 3) := by decide +kernel
theorem dX0_isOne_23 : decode cX0_isOne 23 = .ok (.iconst 0, 1) := by decide +kernel
theorem dX0_isOne_24 : decode cX0_isOne 24 = .ok (.istore_n 1, 1) := by decide +kernel
theorem dX0_isOne_25 : decode cX0_isOne 25 = .ok (.iload_n 1, 1) := by decide +kernel
theorem dX0_isOne_26 : decode cX0_isOne 26 = .ok (.aload_n 0, 1) := by decide +kernel
theorem dX0_isOne_27 : decode cX0_isOne 27 = .ok (.getfield 34, 3) := by decide +kernel
theorem dX0_isOne_30 : decode cX0_isOne 30 = .ok (.if_icmp .ge 34, 3) := by decide +kernel
theorem dX0_isOne_33 : decode cX0_isOne 33 = .ok (.aload_n 0, 1) := by decide +kernel
theorem dX0_isOne_34 : decode cX0_isOne 34 = .ok (.getfield 20, 3) := by decide +kernel
theorem dX0_isOne_37 : decode cX0_isOne 37 = .ok (.aload_n 0, 1) := by decide +kernel
theorem dX0_isOne_38 : decode cX0_isOne 38 = .ok (.aload_n 0, 1) := by decide +kernel
theorem dX0_isOne_39 : decode cX0_isOne 39 = .ok (.getfield 13, 3) := by decide +kernel
theorem dX0_isOne_42 : decode cX0_isOne 42 = .ok (.iload_n 1, 1) := by decide +kernel
theorem dX0_isOne_43 : decode cX0_isOne 43 = .ok (.iaload, 1) := by decide +kernel
theorem dX0_isOne_44 : decode cX0_isOne 44 = .ok (.invokevirtual 47, 3) := by decide +kernel
theorem dX0_isOne_47 : decode cX0_isOne 47 = .ok (.aload_n 0, 1) := by decide +kernel
theorem dX0_isOne_48 : decode cX0_isOne 48 = .ok (.aload_n 0, 1) := by decide +kernel
theorem dX0_isOne_49 : decode cX0_isOne 49 = .ok (.getfield 17, 3) := by decide +kernel
theorem dX0_isOne_52 : decode cX0_isOne 52 = .ok (.iload_n 1, 1) := by decide +kernel
theorem dX0_isOne_53 : decode cX0_isOne 53 = .ok (.iaload, 1) := by decide +kernel
theorem dX0_isOne_54 : decode cX0_isOne 54 = .ok (.invokevirtual 47, 3) := by decide +kernel
theorem dX0_isOne_57 : decode cX0_isOne 57 = .ok (.iastore, 1) := by decide +kernel
theorem dX0_isOne_58 : decode cX0_isOne 58 = .ok (.iinc 1 1, 3) := by decide +kernel
theorem dX0_isOne_61 : decode cX0_isOne 61 = .ok (.goto (-36), 3) := by decide +kernel
theorem dX0_isOne_64 : decode cX0_isOne 64 = .ok (.iconst 1, 1) := by decide +kernel
theorem dX0_isOne_65 : decode cX0_isOne 65 = .ok (.istore_n 1, 1) := by decide +kernel
theorem dX0_isOne_66 : decode cX0_isOne 66 = .ok (.iload_n 1, 1) := by decide +kernel
theorem dX0_isOne_67 : decode cX0_isOne 67 = .ok (.aload_n 0, 1) := by decide +kernel
theorem dX0_isOne_68 : decode cX0_isOne 68 = .ok (.getfield 34, 3) := by decide +kernel
theorem dX0_isOne_71 : decode cX0_isOne 71 = .ok (.if_icmp .ge 34, 3) := by decide +kernel
theorem dX0_isOne_74 : decode cX0_isOne 74 = .ok (.aload_n 0, 1) := by decide +kernel
theorem dX0_isOne_75 : decode cX0_isOne 75 = .ok (.aload_n 0, 1) := by decide +kernel
theorem dX0_isOne_76 : decode cX0_isOne 76 = .ok (.getfield 13, 3) := by decide +kernel
theorem dX0_isOne_79 : decode cX0_isOne 79 = .ok (.iload_n 1, 1) := by decide +kernel
theorem dX0_isOne_80 : decode cX0_isOne 80 = .ok (.iaload, 1) := by decide +kernel
theorem dX0_isOne_81 : decode cX0_isOne 81 = .ok (.invokevirtual 47, 3) := by decide +kernel
theorem dX0_isOne_84 : decode cX0_isOne 84 = .ok (.aload_n 0, 1) := by decide +kernel
theorem dX0_isOne_85 : decode cX0_isOne 85 = .ok (.aload_n 0, 1) := by decide +kernel
theorem dX0_isOne_86 : decode cX0_isOne 86 = .ok (.getfield 13, 3) := by decide +kernel
theorem dX0_isOne_89 : decode cX0_isOne 89 = .ok (.iconst 0, 1) := by decide +kernel
theorem dX0_isOne_90 : decode cX0_isOne 90 = .ok (.iaload, 1) := by decide +kernel
theorem dX0_isOne_91 : decode cX0_isOne 91 = .ok (.invokevirtual 47, 3) := by decide +kernel
theorem dX0_isOne_94 : decode cX0_isOne 94 = .ok (.if_icmp .eq 5, 3) := by decide +kernel
theorem dX0_isOne_97 : decode cX0_isOne 97 = .ok (.iconst 0, 1) := by decide +kernel
theorem dX0_isOne_98 : decode cX0_isOne 98 = .ok (.ireturn, 1) := by decide +kernel
theorem dX0_isOne_99 : decode cX0_isOne 99 = .ok (.iinc 1 1, 3) := by decide +kernel
theorem dX0_isOne_102 : decode cX0_isOne 102 = .ok (.goto (-36), 3) := by decide +kernel
theorem dX0_isOne_105 : decode cX0_isOne 105 = .ok (.iconst 1, 1) := by decide +kernel
theorem dX0_isOne_106 : decode cX0_isOne 106 = .ok (.ireturn, 1) := by decide +kernel
abbrev cX0_rootOf : ByteArray := prog_1_method_9_code
def yX0_rootOf : MethodName := ⟨RX0, "rootOf", "(I)I"⟩
theorem dX0_rootOf_0 : decode cX0_rootOf 0 = .ok (.iload_n 1, 1) := by decide +kernel
theorem dX0_rootOf_1 : decode cX0_rootOf 1 = .ok (.istore_n 2, 1) := by decide +kernel
theorem dX0_rootOf_2 : decode cX0_rootOf 2 = .ok (.aload_n 0, 1) := by decide +kernel
theorem dX0_rootOf_3 : decode cX0_rootOf 3 = .ok (.getfield 20, 3) := by decide +kernel
theorem dX0_rootOf_6 : decode cX0_rootOf 6 = .ok (.iload_n 2, 1) := by decide +kernel
theorem dX0_rootOf_7 : decode cX0_rootOf 7 = .ok (.iaload, 1) := by decide +kernel
theorem dX0_rootOf_8 : decode cX0_rootOf 8 = .ok (.iload_n 2, 1) := by decide +kernel
theorem dX0_rootOf_9 : decode cX0_rootOf 9 = .ok (.if_icmp .eq 13, 3) := by decide +kernel
theorem dX0_rootOf_12 : decode cX0_rootOf 12 = .ok (.aload_n 0, 1) := by decide +kernel
theorem dX0_rootOf_13 : decode cX0_rootOf 13 = .ok (.getfield 20, 3) := by decide +kernel
theorem dX0_rootOf_16 : decode cX0_rootOf 16 = .ok (.iload_n 2, 1) := by decide +kernel
theorem dX0_rootOf_17 : decode cX0_rootOf 17 = .ok (.iaload, 1) := by decide +kernel
theorem dX0_rootOf_18 : decode cX0_rootOf 18 = .ok (.istore_n 2, 1) := by decide +kernel
theorem dX0_rootOf_19 : decode cX0_rootOf 19 = .ok (.goto (-17), 3) := by decide +kernel
theorem dX0_rootOf_22 : decode cX0_rootOf 22 = .ok (.iload_n 2, 1) := by decide +kernel
theorem dX0_rootOf_23 : decode cX0_rootOf 23 = .ok (.ireturn, 1) := by decide +kernel
abbrev cX0_closed : ByteArray := prog_1_method_13_code
def yX0_closed : MethodName := ⟨RX0, "closed", "()Z"⟩
theorem dX0_closed_0 : decode cX0_closed 0 = .ok (.aload_n 0, 1) := by decide +kernel
theorem dX0_closed_1 : decode cX0_closed 1 = .ok (.invokevirtual 50, 3) := by decide +kernel
theorem dX0_closed_4 : decode cX0_closed 4 = .ok (.ifCond .ne 14, 3) := by decide +kernel
theorem dX0_closed_7 : decode cX0_closed 7 = .ok (.aload_n 0, 1) := by decide +kernel
theorem dX0_closed_8 : decode cX0_closed 8 = .ok (.invokevirtual 54, 3) := by decide +kernel
theorem dX0_closed_11 : decode cX0_closed 11 = .ok (.ifCond .eq 7, 3) := by decide +kernel
theorem dX0_closed_14 : decode cX0_closed 14 = .ok (.iconst 1, 1) := by decide +kernel
theorem dX0_closed_15 : decode cX0_closed 15 = .ok (.goto 4, 3) := by decide +kernel
theorem dX0_closed_18 : decode cX0_closed 18 = .ok (.iconst 0, 1) := by decide +kernel
theorem dX0_closed_19 : decode cX0_closed 19 = .ok (.ireturn, 1) := by decide +kernel
abbrev cX0_arrows : ByteArray := prog_1_method_15_code
def yX0_arrows : MethodName := ⟨RX0, "arrows", "()Z"⟩
theorem dX0_arrows_0 : decode cX0_arrows 0 = .ok (.aload_n 0, 1) := by decide +kernel
theorem dX0_arrows_1 : decode cX0_arrows 1 = .ok (.invokevirtual 58, 3) := by decide +kernel
theorem dX0_arrows_4 : decode cX0_arrows 4 = .ok (.istore_n 1, 1) := by decide +kernel
theorem dX0_arrows_5 : decode cX0_arrows 5 = .ok (.iload_n 1, 1) := by decide +kernel
theorem dX0_arrows_6 : decode cX0_arrows 6 = .ok (.ifCond .lt 19, 3) := by decide +kernel
theorem dX0_arrows_9 : decode cX0_arrows 9 = .ok (.iload_n 1, 1) := by decide +kernel
theorem dX0_arrows_10 : decode cX0_arrows 10 = .ok (.iconst 1, 1) := by decide +kernel
theorem dX0_arrows_11 : decode cX0_arrows 11 = .ok (.if_icmp .gt 14, 3) := by decide +kernel
theorem dX0_arrows_14 : decode cX0_arrows 14 = .ok (.aload_n 0, 1) := by decide +kernel
theorem dX0_arrows_15 : decode cX0_arrows 15 = .ok (.invokevirtual 54, 3) := by decide +kernel
theorem dX0_arrows_18 : decode cX0_arrows 18 = .ok (.ifCond .eq 7, 3) := by decide +kernel
theorem dX0_arrows_21 : decode cX0_arrows 21 = .ok (.iconst 1, 1) := by decide +kernel
theorem dX0_arrows_22 : decode cX0_arrows 22 = .ok (.goto 4, 3) := by decide +kernel
theorem dX0_arrows_25 : decode cX0_arrows 25 = .ok (.iconst 0, 1) := by decide +kernel
theorem dX0_arrows_26 : decode cX0_arrows 26 = .ok (.ireturn, 1) := by decide +kernel
abbrev cX0_over : ByteArray := prog_1_method_14_code
def yX0_over : MethodName := ⟨RX0, "over", "()I"⟩
theorem dX0_over_0 : decode cX0_over 0 = .ok (.iconst 0, 1) := by decide +kernel
theorem dX0_over_1 : decode cX0_over 1 = .ok (.istore_n 1, 1) := by decide +kernel
theorem dX0_over_2 : decode cX0_over 2 = .ok (.iconst 0, 1) := by decide +kernel
theorem dX0_over_3 : decode cX0_over 3 = .ok (.istore_n 2, 1) := by decide +kernel
theorem dX0_over_4 : decode cX0_over 4 = .ok (.iload_n 2, 1) := by decide +kernel
theorem dX0_over_5 : decode cX0_over 5 = .ok (.aload_n 0, 1) := by decide +kernel
theorem dX0_over_6 : decode cX0_over 6 = .ok (.getfield 7, 3) := by decide +kernel
theorem dX0_over_9 : decode cX0_over 9 = .ok (.if_icmp .ge 41, 3) := by decide +kernel
theorem dX0_over_12 : decode cX0_over 12 = .ok (.aload_n 0, 1) := by decide +kernel
theorem dX0_over_13 : decode cX0_over 13 = .ok (.iload_n 2, 1) := by decide +kernel
theorem dX0_over_14 : decode cX0_over 14 = .ok (.invokevirtual 41, 3) := by decide +kernel
theorem dX0_over_17 : decode cX0_over 17 = .ok (.aload_n 0, 1) := by decide +kernel
theorem dX0_over_18 : decode cX0_over 18 = .ok (.iload_n 2, 1) := by decide +kernel
theorem dX0_over_19 : decode cX0_over 19 = .ok (.invokevirtual 44, 3) := by decide +kernel
theorem dX0_over_22 : decode cX0_over 22 = .ok (.isub, 1) := by decide +kernel
theorem dX0_over_23 : decode cX0_over 23 = .ok (.istore_n 3, 1) := by decide +kernel
theorem dX0_over_24 : decode cX0_over 24 = .ok (.iload_n 3, 1) := by decide +kernel
theorem dX0_over_25 : decode cX0_over 25 = .ok (.iconst 1, 1) := by decide +kernel
theorem dX0_over_26 : decode cX0_over 26 = .ok (.if_icmp .gt 8, 3) := by decide +kernel
theorem dX0_over_29 : decode cX0_over 29 = .ok (.iload_n 3, 1) := by decide +kernel
theorem dX0_over_30 : decode cX0_over 30 = .ok (.iconst (-1), 1) := by decide +kernel
theorem dX0_over_31 : decode cX0_over 31 = .ok (.if_icmp .ge 5, 3) := by decide +kernel
theorem dX0_over_34 : decode cX0_over 34 = .ok (.iconst (-1), 1) := by decide +kernel
theorem dX0_over_35 : decode cX0_over 35 = .ok (.ireturn, 1) := by decide +kernel
theorem dX0_over_36 : decode cX0_over 36 = .ok (.iload_n 3, 1) := by decide +kernel
theorem dX0_over_37 : decode cX0_over 37 = .ok (.iconst 1, 1) := by decide +kernel
theorem dX0_over_38 : decode cX0_over 38 = .ok (.if_icmp .ne 6, 3) := by decide +kernel
theorem dX0_over_41 : decode cX0_over 41 = .ok (.iinc 1 1, 3) := by decide +kernel
theorem dX0_over_44 : decode cX0_over 44 = .ok (.iinc 2 1, 3) := by decide +kernel
theorem dX0_over_47 : decode cX0_over 47 = .ok (.goto (-43), 3) := by decide +kernel
theorem dX0_over_50 : decode cX0_over 50 = .ok (.iload_n 1, 1) := by decide +kernel
theorem dX0_over_51 : decode cX0_over 51 = .ok (.ireturn, 1) := by decide +kernel
abbrev cX0_rounds : ByteArray := prog_1_method_16_code
def yX0_rounds : MethodName := ⟨RX0, "rounds", "()J"⟩
theorem dX0_rounds_0 : decode cX0_rounds 0 = .ok (.aload_n 0, 1) := by decide +kernel
theorem dX0_rounds_1 : decode cX0_rounds 1 = .ok (.getfield 34, 3) := by decide +kernel
theorem dX0_rounds_4 : decode cX0_rounds 4 = .ok (.ifCond .eq 17, 3) := by decide +kernel
theorem dX0_rounds_7 : decode cX0_rounds 7 = .ok (.aload_n 0, 1) := by decide +kernel
theorem dX0_rounds_8 : decode cX0_rounds 8 = .ok (.invokevirtual 58, 3) := by decide +kernel
theorem dX0_rounds_11 : decode cX0_rounds 11 = .ok (.ifCond .ne 10, 3) := by decide +kernel
theorem dX0_rounds_14 : decode cX0_rounds 14 = .ok (.aload_n 0, 1) := by decide +kernel
theorem dX0_rounds_15 : decode cX0_rounds 15 = .ok (.invokevirtual 54, 3) := by decide +kernel
theorem dX0_rounds_18 : decode cX0_rounds 18 = .ok (.ifCond .ne 5, 3) := by decide +kernel
theorem dX0_rounds_21 : decode cX0_rounds 21 = .ok (.lconst 0, 1) := by decide +kernel
theorem dX0_rounds_22 : decode cX0_rounds 22 = .ok (.lreturn, 1) := by decide +kernel
theorem dX0_rounds_23 : decode cX0_rounds 23 = .ok (.aload_n 0, 1) := by decide +kernel
theorem dX0_rounds_24 : decode cX0_rounds 24 = .ok (.getfield 13, 3) := by decide +kernel
theorem dX0_rounds_27 : decode cX0_rounds 27 = .ok (.iconst 0, 1) := by decide +kernel
theorem dX0_rounds_28 : decode cX0_rounds 28 = .ok (.iaload, 1) := by decide +kernel
theorem dX0_rounds_29 : decode cX0_rounds 29 = .ok (.istore_n 1, 1) := by decide +kernel
theorem dX0_rounds_30 : decode cX0_rounds 30 = .ok (.iconst 0, 1) := by decide +kernel
theorem dX0_rounds_31 : decode cX0_rounds 31 = .ok (.istore_n 2, 1) := by decide +kernel
theorem dX0_rounds_32 : decode cX0_rounds 32 = .ok (.iconst 0, 1) := by decide +kernel
theorem dX0_rounds_33 : decode cX0_rounds 33 = .ok (.istore_n 3, 1) := by decide +kernel
theorem dX0_rounds_34 : decode cX0_rounds 34 = .ok (.iload_n 3, 1) := by decide +kernel
theorem dX0_rounds_35 : decode cX0_rounds 35 = .ok (.aload_n 0, 1) := by decide +kernel
theorem dX0_rounds_36 : decode cX0_rounds 36 = .ok (.getfield 7, 3) := by decide +kernel
theorem dX0_rounds_39 : decode cX0_rounds 39 = .ok (.if_icmp .ge 35, 3) := by decide +kernel
theorem dX0_rounds_42 : decode cX0_rounds 42 = .ok (.iload_n 3, 1) := by decide +kernel
theorem dX0_rounds_43 : decode cX0_rounds 43 = .ok (.iload_n 1, 1) := by decide +kernel
theorem dX0_rounds_44 : decode cX0_rounds 44 = .ok (.if_icmp .eq 24, 3) := by decide +kernel
theorem dX0_rounds_47 : decode cX0_rounds 47 = .ok (.aload_n 0, 1) := by decide +kernel
theorem dX0_rounds_48 : decode cX0_rounds 48 = .ok (.iload_n 3, 1) := by decide +kernel
theorem dX0_rounds_49 : decode cX0_rounds 49 = .ok (.invokevirtual 41, 3) := by decide +kernel
theorem dX0_rounds_52 : decode cX0_rounds 52 = .ok (.ifCond .ne 6, 3) := by decide +kernel
theorem dX0_rounds_55 : decode cX0_rounds 55 = .ok (.goto 13, 3) := by decide +kernel
theorem dX0_rounds_58 : decode cX0_rounds 58 = .ok (.aload_n 0, 1) := by decide +kernel
theorem dX0_rounds_59 : decode cX0_rounds 59 = .ok (.getfield 23, 3) := by decide +kernel
theorem dX0_rounds_62 : decode cX0_rounds 62 = .ok (.iload_n 2, 1) := by decide +kernel
theorem dX0_rounds_63 : decode cX0_rounds 63 = .ok (.iload_n 3, 1) := by decide +kernel
theorem dX0_rounds_64 : decode cX0_rounds 64 = .ok (.iastore, 1) := by decide +kernel
theorem dX0_rounds_65 : decode cX0_rounds 65 = .ok (.iinc 2 1, 3) := by decide +kernel
theorem dX0_rounds_68 : decode cX0_rounds 68 = .ok (.iinc 3 1, 3) := by decide +kernel
theorem dX0_rounds_71 : decode cX0_rounds 71 = .ok (.goto (-37), 3) := by decide +kernel
theorem dX0_rounds_74 : decode cX0_rounds 74 = .ok (.iconst 0, 1) := by decide +kernel
theorem dX0_rounds_75 : decode cX0_rounds 75 = .ok (.istore_n 3, 1) := by decide +kernel
theorem dX0_rounds_76 : decode cX0_rounds 76 = .ok (.iload_n 3, 1) := by decide +kernel
theorem dX0_rounds_77 : decode cX0_rounds 77 = .ok (.iload_n 2, 1) := by decide +kernel
theorem dX0_rounds_78 : decode cX0_rounds 78 = .ok (.if_icmp .ge 140, 3) := by decide +kernel
theorem dX0_rounds_81 : decode cX0_rounds 81 = .ok (.aload_n 0, 1) := by decide +kernel
theorem dX0_rounds_82 : decode cX0_rounds 82 = .ok (.getfield 28, 3) := by decide +kernel
theorem dX0_rounds_85 : decode cX0_rounds 85 = .ok (.iload_n 3, 1) := by decide +kernel
theorem dX0_rounds_86 : decode cX0_rounds 86 = .ok (.aaload, 1) := by decide +kernel
theorem dX0_rounds_87 : decode cX0_rounds 87 = .ok (.lconst 0, 1) := by decide +kernel
theorem dX0_rounds_88 : decode cX0_rounds 88 = .ok (.invokestatic 61, 3) := by decide +kernel
theorem dX0_rounds_91 : decode cX0_rounds 91 = .ok (.iconst 0, 1) := by decide +kernel
theorem dX0_rounds_92 : decode cX0_rounds 92 = .ok (.istore 4, 2) := by decide +kernel
theorem dX0_rounds_94 : decode cX0_rounds 94 = .ok (.iload 4, 2) := by decide +kernel
theorem dX0_rounds_96 : decode cX0_rounds 96 = .ok (.iload_n 2, 1) := by decide +kernel
theorem dX0_rounds_97 : decode cX0_rounds 97 = .ok (.if_icmp .ge 115, 3) := by decide +kernel
theorem dX0_rounds_100 : decode cX0_rounds 100 = .ok (.iconst 0, 1) := by decide +kernel
theorem dX0_rounds_101 : decode cX0_rounds 101 = .ok (.istore 5, 2) := by decide +kernel
theorem dX0_rounds_103 : decode cX0_rounds 103 = .ok (.iload 5, 2) := by decide +kernel
theorem dX0_rounds_105 : decode cX0_rounds 105 = .ok (.aload_n 0, 1) := by decide +kernel
theorem dX0_rounds_106 : decode cX0_rounds 106 = .ok (.getfield 34, 3) := by decide +kernel
theorem dX0_rounds_109 : decode cX0_rounds 109 = .ok (.if_icmp .ge 97, 3) := by decide +kernel
theorem dX0_rounds_112 : decode cX0_rounds 112 = .ok (.aload_n 0, 1) := by decide +kernel
theorem dX0_rounds_113 : decode cX0_rounds 113 = .ok (.getfield 13, 3) := by decide +kernel
theorem dX0_rounds_116 : decode cX0_rounds 116 = .ok (.iload 5, 2) := by decide +kernel
theorem dX0_rounds_118 : decode cX0_rounds 118 = .ok (.iaload, 1) := by decide +kernel
theorem dX0_rounds_119 : decode cX0_rounds 119 = .ok (.aload_n 0, 1) := by decide +kernel
theorem dX0_rounds_120 : decode cX0_rounds 120 = .ok (.getfield 23, 3) := by decide +kernel
theorem dX0_rounds_123 : decode cX0_rounds 123 = .ok (.iload_n 3, 1) := by decide +kernel
theorem dX0_rounds_124 : decode cX0_rounds 124 = .ok (.iaload, 1) := by decide +kernel
theorem dX0_rounds_125 : decode cX0_rounds 125 = .ok (.if_icmp .ne 75, 3) := by decide +kernel
theorem dX0_rounds_128 : decode cX0_rounds 128 = .ok (.aload_n 0, 1) := by decide +kernel
theorem dX0_rounds_129 : decode cX0_rounds 129 = .ok (.getfield 13, 3) := by decide +kernel
theorem dX0_rounds_132 : decode cX0_rounds 132 = .ok (.iload 5, 2) := by decide +kernel
theorem dX0_rounds_134 : decode cX0_rounds 134 = .ok (.iaload, 1) := by decide +kernel
theorem dX0_rounds_135 : decode cX0_rounds 135 = .ok (.aload_n 0, 1) := by decide +kernel
theorem dX0_rounds_136 : decode cX0_rounds 136 = .ok (.getfield 17, 3) := by decide +kernel
theorem dX0_rounds_139 : decode cX0_rounds 139 = .ok (.iload 5, 2) := by decide +kernel
theorem dX0_rounds_141 : decode cX0_rounds 141 = .ok (.iaload, 1) := by decide +kernel
theorem dX0_rounds_142 : decode cX0_rounds 142 = .ok (.if_icmp .ne 6, 3) := by decide +kernel
theorem dX0_rounds_145 : decode cX0_rounds 145 = .ok (.goto 55, 3) := by decide +kernel
theorem dX0_rounds_148 : decode cX0_rounds 148 = .ok (.iload_n 3, 1) := by decide +kernel
theorem dX0_rounds_149 : decode cX0_rounds 149 = .ok (.iload 4, 2) := by decide +kernel
theorem dX0_rounds_151 : decode cX0_rounds 151 = .ok (.if_icmp .ne 19, 3) := by decide +kernel
theorem dX0_rounds_154 : decode cX0_rounds 154 = .ok (.aload_n 0, 1) := by decide +kernel
theorem dX0_rounds_155 : decode cX0_rounds 155 = .ok (.getfield 28, 3) := by decide +kernel
theorem dX0_rounds_158 : decode cX0_rounds 158 = .ok (.iload_n 3, 1) := by decide +kernel
theorem dX0_rounds_159 : decode cX0_rounds 159 = .ok (.aaload, 1) := by decide +kernel
theorem dX0_rounds_160 : decode cX0_rounds 160 = .ok (.iload 4, 2) := by decide +kernel
theorem dX0_rounds_162 : decode cX0_rounds 162 = .ok (.dup2, 1) := by decide +kernel
theorem dX0_rounds_163 : decode cX0_rounds 163 = .ok (.laload, 1) := by decide +kernel
theorem dX0_rounds_164 : decode cX0_rounds 164 = .ok (.lconst 1, 1) := by decide +kernel
theorem dX0_rounds_165 : decode cX0_rounds 165 = .ok (.ladd, 1) := by decide +kernel
theorem dX0_rounds_166 : decode cX0_rounds 166 = .ok (.lastore, 1) := by decide +kernel
theorem dX0_rounds_167 : decode cX0_rounds 167 = .ok (.goto 33, 3) := by decide +kernel
theorem dX0_rounds_170 : decode cX0_rounds 170 = .ok (.aload_n 0, 1) := by decide +kernel
theorem dX0_rounds_171 : decode cX0_rounds 171 = .ok (.getfield 17, 3) := by decide +kernel
theorem dX0_rounds_174 : decode cX0_rounds 174 = .ok (.iload 5, 2) := by decide +kernel
theorem dX0_rounds_176 : decode cX0_rounds 176 = .ok (.iaload, 1) := by decide +kernel
theorem dX0_rounds_177 : decode cX0_rounds 177 = .ok (.aload_n 0, 1) := by decide +kernel
theorem dX0_rounds_178 : decode cX0_rounds 178 = .ok (.getfield 23, 3) := by decide +kernel
theorem dX0_rounds_181 : decode cX0_rounds 181 = .ok (.iload 4, 2) := by decide +kernel
theorem dX0_rounds_183 : decode cX0_rounds 183 = .ok (.iaload, 1) := by decide +kernel
theorem dX0_rounds_184 : decode cX0_rounds 184 = .ok (.if_icmp .ne 16, 3) := by decide +kernel
theorem dX0_rounds_187 : decode cX0_rounds 187 = .ok (.aload_n 0, 1) := by decide +kernel
theorem dX0_rounds_188 : decode cX0_rounds 188 = .ok (.getfield 28, 3) := by decide +kernel
theorem dX0_rounds_191 : decode cX0_rounds 191 = .ok (.iload_n 3, 1) := by decide +kernel
theorem dX0_rounds_192 : decode cX0_rounds 192 = .ok (.aaload, 1) := by decide +kernel
theorem dX0_rounds_193 : decode cX0_rounds 193 = .ok (.iload 4, 2) := by decide +kernel
theorem dX0_rounds_195 : decode cX0_rounds 195 = .ok (.dup2, 1) := by decide +kernel
theorem dX0_rounds_196 : decode cX0_rounds 196 = .ok (.laload, 1) := by decide +kernel
theorem dX0_rounds_197 : decode cX0_rounds 197 = .ok (.lconst 1, 1) := by decide +kernel
theorem dX0_rounds_198 : decode cX0_rounds 198 = .ok (.lsub, 1) := by decide +kernel
theorem dX0_rounds_199 : decode cX0_rounds 199 = .ok (.lastore, 1) := by decide +kernel
theorem dX0_rounds_200 : decode cX0_rounds 200 = .ok (.iinc 5 1, 3) := by decide +kernel
theorem dX0_rounds_203 : decode cX0_rounds 203 = .ok (.goto (-100), 3) := by decide +kernel
theorem dX0_rounds_206 : decode cX0_rounds 206 = .ok (.iinc 4 1, 3) := by decide +kernel
theorem dX0_rounds_209 : decode cX0_rounds 209 = .ok (.goto (-115), 3) := by decide +kernel
theorem dX0_rounds_212 : decode cX0_rounds 212 = .ok (.iinc 3 1, 3) := by decide +kernel
theorem dX0_rounds_215 : decode cX0_rounds 215 = .ok (.goto (-139), 3) := by decide +kernel
theorem dX0_rounds_218 : decode cX0_rounds 218 = .ok (.aload_n 0, 1) := by decide +kernel
theorem dX0_rounds_219 : decode cX0_rounds 219 = .ok (.iload_n 2, 1) := by decide +kernel
theorem dX0_rounds_220 : decode cX0_rounds 220 = .ok (.invokevirtual 67, 3) := by decide +kernel
theorem dX0_rounds_223 : decode cX0_rounds 223 = .ok (.lstore_n 3, 1) := by decide +kernel
theorem dX0_rounds_224 : decode cX0_rounds 224 = .ok (.iconst 0, 1) := by decide +kernel
theorem dX0_rounds_225 : decode cX0_rounds 225 = .ok (.istore 5, 2) := by decide +kernel
theorem dX0_rounds_227 : decode cX0_rounds 227 = .ok (.iload 5, 2) := by decide +kernel
theorem dX0_rounds_229 : decode cX0_rounds 229 = .ok (.aload_n 0, 1) := by decide +kernel
theorem dX0_rounds_230 : decode cX0_rounds 230 = .ok (.getfield 7, 3) := by decide +kernel
theorem dX0_rounds_233 : decode cX0_rounds 233 = .ok (.if_icmp .ge 37, 3) := by decide +kernel
theorem dX0_rounds_236 : decode cX0_rounds 236 = .ok (.aload_n 0, 1) := by decide +kernel
theorem dX0_rounds_237 : decode cX0_rounds 237 = .ok (.iload 5, 2) := by decide +kernel
theorem dX0_rounds_239 : decode cX0_rounds 239 = .ok (.invokevirtual 41, 3) := by decide +kernel
theorem dX0_rounds_242 : decode cX0_rounds 242 = .ok (.iconst 1, 1) := by decide +kernel
theorem dX0_rounds_243 : decode cX0_rounds 243 = .ok (.isub, 1) := by decide +kernel
theorem dX0_rounds_244 : decode cX0_rounds 244 = .ok (.istore 6, 2) := by decide +kernel
theorem dX0_rounds_246 : decode cX0_rounds 246 = .ok (.iload 6, 2) := by decide +kernel
theorem dX0_rounds_248 : decode cX0_rounds 248 = .ok (.iconst 1, 1) := by decide +kernel
theorem dX0_rounds_249 : decode cX0_rounds 249 = .ok (.if_icmp .le 15, 3) := by decide +kernel
theorem dX0_rounds_252 : decode cX0_rounds 252 = .ok (.lload_n 3, 1) := by decide +kernel
theorem dX0_rounds_253 : decode cX0_rounds 253 = .ok (.iload 6, 2) := by decide +kernel
theorem dX0_rounds_255 : decode cX0_rounds 255 = .ok (.i2l, 1) := by decide +kernel
theorem dX0_rounds_256 : decode cX0_rounds 256 = .ok (.lmul, 1) := by decide +kernel
theorem dX0_rounds_257 : decode cX0_rounds 257 = .ok (.lstore_n 3, 1) := by decide +kernel
theorem dX0_rounds_258 : decode cX0_rounds 258 = .ok (.iinc 6 (-1), 3) := by decide +kernel
theorem dX0_rounds_261 : decode cX0_rounds 261 = .ok (.goto (-15), 3) := by decide +kernel
theorem dX0_rounds_264 : decode cX0_rounds 264 = .ok (.iinc 5 1, 3) := by decide +kernel
theorem dX0_rounds_267 : decode cX0_rounds 267 = .ok (.goto (-40), 3) := by decide +kernel
theorem dX0_rounds_270 : decode cX0_rounds 270 = .ok (.lload_n 3, 1) := by decide +kernel
theorem dX0_rounds_271 : decode cX0_rounds 271 = .ok (.lreturn, 1) := by decide +kernel
abbrev cX0_determinant : ByteArray := prog_1_method_17_code
def yX0_determinant : MethodName := ⟨RX0, "determinant", "(I)J"⟩
theorem dX0_determinant_0 : decode cX0_determinant 0 = .ok (.lconst 1, 1) := by decide +kernel
theorem dX0_determinant_1 : decode cX0_determinant 1 = .ok (.lstore_n 2, 1) := by decide +kernel
theorem dX0_determinant_2 : decode cX0_determinant 2 = .ok (.iconst 0, 1) := by decide +kernel
theorem dX0_determinant_3 : decode cX0_determinant 3 = .ok (.istore 4, 2) := by decide +kernel
theorem dX0_determinant_5 : decode cX0_determinant 5 = .ok (.iconst 0, 1) := by decide +kernel
theorem dX0_determinant_6 : decode cX0_determinant 6 = .ok (.istore 5, 2) := by decide +kernel
theorem dX0_determinant_8 : decode cX0_determinant 8 = .ok (.iload 5, 2) := by decide +kernel
theorem dX0_determinant_10 : decode cX0_determinant 10 = .ok (.iload_n 1, 1) := by decide +kernel
theorem dX0_determinant_11 : decode cX0_determinant 11 = .ok (.if_icmp .ge 201, 3) := by decide +kernel
theorem dX0_determinant_14 : decode cX0_determinant 14 = .ok (.iload 5, 2) := by decide +kernel
theorem dX0_determinant_16 : decode cX0_determinant 16 = .ok (.istore 6, 2) := by decide +kernel
theorem dX0_determinant_18 : decode cX0_determinant 18 = .ok (.iload 6, 2) := by decide +kernel
theorem dX0_determinant_20 : decode cX0_determinant 20 = .ok (.iload_n 1, 1) := by decide +kernel
theorem dX0_determinant_21 : decode cX0_determinant 21 = .ok (.if_icmp .ge 24, 3) := by decide +kernel
theorem dX0_determinant_24 : decode cX0_determinant 24 = .ok (.aload_n 0, 1) := by decide +kernel
theorem dX0_determinant_25 : decode cX0_determinant 25 = .ok (.getfield 28, 3) := by decide +kernel
theorem dX0_determinant_28 : decode cX0_determinant 28 = .ok (.iload 6, 2) := by decide +kernel
theorem dX0_determinant_30 : decode cX0_determinant 30 = .ok (.aaload, 1) := by decide +kernel
theorem dX0_determinant_31 : decode cX0_determinant 31 = .ok (.iload 5, 2) := by decide +kernel
theorem dX0_determinant_33 : decode cX0_determinant 33 = .ok (.laload, 1) := by decide +kernel
theorem dX0_determinant_34 : decode cX0_determinant 34 = .ok (.lconst 0, 1) := by decide +kernel
theorem dX0_determinant_35 : decode cX0_determinant 35 = .ok (.lcmp, 1) := by decide +kernel
theorem dX0_determinant_36 : decode cX0_determinant 36 = .ok (.ifCond .ne 9, 3) := by decide +kernel
theorem dX0_determinant_39 : decode cX0_determinant 39 = .ok (.iinc 6 1, 3) := by decide +kernel
theorem dX0_determinant_42 : decode cX0_determinant 42 = .ok (.goto (-24), 3) := by decide +kernel
theorem dX0_determinant_45 : decode cX0_determinant 45 = .ok (.iload 6, 2) := by decide +kernel
theorem dX0_determinant_47 : decode cX0_determinant 47 = .ok (.iload_n 1, 1) := by decide +kernel
theorem dX0_determinant_48 : decode cX0_determinant 48 = .ok (.if_icmp .ne 5, 3) := by decide +kernel
theorem dX0_determinant_51 : decode cX0_determinant 51 = .ok (.lconst 0, 1) := by decide +kernel
theorem dX0_determinant_52 : decode cX0_determinant 52 = .ok (.lreturn, 1) := by decide +kernel
theorem dX0_determinant_53 : decode cX0_determinant 53 = .ok (.iload 6, 2) := by decide +kernel
theorem dX0_determinant_55 : decode cX0_determinant 55 = .ok (.iload 5, 2) := by decide +kernel
theorem dX0_determinant_57 : decode cX0_determinant 57 = .ok (.if_icmp .eq 47, 3) := by decide +kernel
theorem dX0_determinant_60 : decode cX0_determinant 60 = .ok (.aload_n 0, 1) := by decide +kernel
theorem dX0_determinant_61 : decode cX0_determinant 61 = .ok (.getfield 28, 3) := by decide +kernel
theorem dX0_determinant_64 : decode cX0_determinant 64 = .ok (.iload 6, 2) := by decide +kernel
theorem dX0_determinant_66 : decode cX0_determinant 66 = .ok (.aaload, 1) := by decide +kernel
theorem dX0_determinant_67 : decode cX0_determinant 67 = .ok (.astore 7, 2) := by decide +kernel
theorem dX0_determinant_69 : decode cX0_determinant 69 = .ok (.aload_n 0, 1) := by decide +kernel
theorem dX0_determinant_70 : decode cX0_determinant 70 = .ok (.getfield 28, 3) := by decide +kernel
theorem dX0_determinant_73 : decode cX0_determinant 73 = .ok (.iload 6, 2) := by decide +kernel
theorem dX0_determinant_75 : decode cX0_determinant 75 = .ok (.aload_n 0, 1) := by decide +kernel
theorem dX0_determinant_76 : decode cX0_determinant 76 = .ok (.getfield 28, 3) := by decide +kernel
theorem dX0_determinant_79 : decode cX0_determinant 79 = .ok (.iload 5, 2) := by decide +kernel
theorem dX0_determinant_81 : decode cX0_determinant 81 = .ok (.aaload, 1) := by decide +kernel
theorem dX0_determinant_82 : decode cX0_determinant 82 = .ok (.aastore, 1) := by decide +kernel
theorem dX0_determinant_83 : decode cX0_determinant 83 = .ok (.aload_n 0, 1) := by decide +kernel
theorem dX0_determinant_84 : decode cX0_determinant 84 = .ok (.getfield 28, 3) := by decide +kernel
theorem dX0_determinant_87 : decode cX0_determinant 87 = .ok (.iload 5, 2) := by decide +kernel
theorem dX0_determinant_89 : decode cX0_determinant 89 = .ok (.aload 7, 2) := by decide +kernel
theorem dX0_determinant_91 : decode cX0_determinant 91 = .ok (.aastore, 1) := by decide +kernel
theorem dX0_determinant_92 : decode cX0_determinant 92 = .ok (.iload 4, 2) := by decide +kernel
theorem dX0_determinant_94 : decode cX0_determinant 94 = .ok (.ifCond .ne 7, 3) := by decide +kernel
theorem dX0_determinant_97 : decode cX0_determinant 97 = .ok (.iconst 1, 1) := by decide +kernel
theorem dX0_determinant_98 : decode cX0_determinant 98 = .ok (.goto 4, 3) := by decide +kernel
theorem dX0_determinant_101 : decode cX0_determinant 101 = .ok (.iconst 0, 1) := by decide +kernel
theorem dX0_determinant_102 : decode cX0_determinant 102 = .ok (.istore 4, 2) := by decide +kernel
theorem dX0_determinant_104 : decode cX0_determinant 104 = .ok (.iload 5, 2) := by decide +kernel
theorem dX0_determinant_106 : decode cX0_determinant 106 = .ok (.iconst 1, 1) := by decide +kernel
theorem dX0_determinant_107 : decode cX0_determinant 107 = .ok (.iadd, 1) := by decide +kernel
theorem dX0_determinant_108 : decode cX0_determinant 108 = .ok (.istore 7, 2) := by decide +kernel
theorem dX0_determinant_110 : decode cX0_determinant 110 = .ok (.iload 7, 2) := by decide +kernel
theorem dX0_determinant_112 : decode cX0_determinant 112 = .ok (.iload_n 1, 1) := by decide +kernel
theorem dX0_determinant_113 : decode cX0_determinant 113 = .ok (.if_icmp .ge 82, 3) := by decide +kernel
theorem dX0_determinant_116 : decode cX0_determinant 116 = .ok (.iload 5, 2) := by decide +kernel
theorem dX0_determinant_118 : decode cX0_determinant 118 = .ok (.iconst 1, 1) := by decide +kernel
theorem dX0_determinant_119 : decode cX0_determinant 119 = .ok (.iadd, 1) := by decide +kernel
theorem dX0_determinant_120 : decode cX0_determinant 120 = .ok (.istore 8, 2) := by decide +kernel
theorem dX0_determinant_122 : decode cX0_determinant 122 = .ok (.iload 8, 2) := by decide +kernel
theorem dX0_determinant_124 : decode cX0_determinant 124 = .ok (.iload_n 1, 1) := by decide +kernel
theorem dX0_determinant_125 : decode cX0_determinant 125 = .ok (.if_icmp .ge 64, 3) := by decide +kernel
theorem dX0_determinant_128 : decode cX0_determinant 128 = .ok (.aload_n 0, 1) := by decide +kernel
theorem dX0_determinant_129 : decode cX0_determinant 129 = .ok (.getfield 28, 3) := by decide +kernel
theorem dX0_determinant_132 : decode cX0_determinant 132 = .ok (.iload 7, 2) := by decide +kernel
theorem dX0_determinant_134 : decode cX0_determinant 134 = .ok (.aaload, 1) := by decide +kernel
theorem dX0_determinant_135 : decode cX0_determinant 135 = .ok (.iload 8, 2) := by decide +kernel
theorem dX0_determinant_137 : decode cX0_determinant 137 = .ok (.aload_n 0, 1) := by decide +kernel
theorem dX0_determinant_138 : decode cX0_determinant 138 = .ok (.getfield 28, 3) := by decide +kernel
theorem dX0_determinant_141 : decode cX0_determinant 141 = .ok (.iload 7, 2) := by decide +kernel
theorem dX0_determinant_143 : decode cX0_determinant 143 = .ok (.aaload, 1) := by decide +kernel
theorem dX0_determinant_144 : decode cX0_determinant 144 = .ok (.iload 8, 2) := by decide +kernel
theorem dX0_determinant_146 : decode cX0_determinant 146 = .ok (.laload, 1) := by decide +kernel
theorem dX0_determinant_147 : decode cX0_determinant 147 = .ok (.aload_n 0, 1) := by decide +kernel
theorem dX0_determinant_148 : decode cX0_determinant 148 = .ok (.getfield 28, 3) := by decide +kernel
theorem dX0_determinant_151 : decode cX0_determinant 151 = .ok (.iload 5, 2) := by decide +kernel
theorem dX0_determinant_153 : decode cX0_determinant 153 = .ok (.aaload, 1) := by decide +kernel
theorem dX0_determinant_154 : decode cX0_determinant 154 = .ok (.iload 5, 2) := by decide +kernel
theorem dX0_determinant_156 : decode cX0_determinant 156 = .ok (.laload, 1) := by decide +kernel
theorem dX0_determinant_157 : decode cX0_determinant 157 = .ok (.lmul, 1) := by decide +kernel
theorem dX0_determinant_158 : decode cX0_determinant 158 = .ok (.aload_n 0, 1) := by decide +kernel
theorem dX0_determinant_159 : decode cX0_determinant 159 = .ok (.getfield 28, 3) := by decide +kernel
theorem dX0_determinant_162 : decode cX0_determinant 162 = .ok (.iload 7, 2) := by decide +kernel
theorem dX0_determinant_164 : decode cX0_determinant 164 = .ok (.aaload, 1) := by decide +kernel
theorem dX0_determinant_165 : decode cX0_determinant 165 = .ok (.iload 5, 2) := by decide +kernel
theorem dX0_determinant_167 : decode cX0_determinant 167 = .ok (.laload, 1) := by decide +kernel
theorem dX0_determinant_168 : decode cX0_determinant 168 = .ok (.aload_n 0, 1) := by decide +kernel
theorem dX0_determinant_169 : decode cX0_determinant 169 = .ok (.getfield 28, 3) := by decide +kernel
theorem dX0_determinant_172 : decode cX0_determinant 172 = .ok (.iload 5, 2) := by decide +kernel
theorem dX0_determinant_174 : decode cX0_determinant 174 = .ok (.aaload, 1) := by decide +kernel
theorem dX0_determinant_175 : decode cX0_determinant 175 = .ok (.iload 8, 2) := by decide +kernel
theorem dX0_determinant_177 : decode cX0_determinant 177 = .ok (.laload, 1) := by decide +kernel
theorem dX0_determinant_178 : decode cX0_determinant 178 = .ok (.lmul, 1) := by decide +kernel
theorem dX0_determinant_179 : decode cX0_determinant 179 = .ok (.lsub, 1) := by decide +kernel
theorem dX0_determinant_180 : decode cX0_determinant 180 = .ok (.lload_n 2, 1) := by decide +kernel
theorem dX0_determinant_181 : decode cX0_determinant 181 = .ok (.ldiv, 1) := by decide +kernel
theorem dX0_determinant_182 : decode cX0_determinant 182 = .ok (.lastore, 1) := by decide +kernel
theorem dX0_determinant_183 : decode cX0_determinant 183 = .ok (.iinc 8 1, 3) := by decide +kernel
theorem dX0_determinant_186 : decode cX0_determinant 186 = .ok (.goto (-64), 3) := by decide +kernel
theorem dX0_determinant_189 : decode cX0_determinant 189 = .ok (.iinc 7 1, 3) := by decide +kernel
theorem dX0_determinant_192 : decode cX0_determinant 192 = .ok (.goto (-82), 3) := by decide +kernel
theorem dX0_determinant_195 : decode cX0_determinant 195 = .ok (.aload_n 0, 1) := by decide +kernel
theorem dX0_determinant_196 : decode cX0_determinant 196 = .ok (.getfield 28, 3) := by decide +kernel
theorem dX0_determinant_199 : decode cX0_determinant 199 = .ok (.iload 5, 2) := by decide +kernel
theorem dX0_determinant_201 : decode cX0_determinant 201 = .ok (.aaload, 1) := by decide +kernel
theorem dX0_determinant_202 : decode cX0_determinant 202 = .ok (.iload 5, 2) := by decide +kernel
theorem dX0_determinant_204 : decode cX0_determinant 204 = .ok (.laload, 1) := by decide +kernel
theorem dX0_determinant_205 : decode cX0_determinant 205 = .ok (.lstore_n 2, 1) := by decide +kernel
theorem dX0_determinant_206 : decode cX0_determinant 206 = .ok (.iinc 5 1, 3) := by decide +kernel
theorem dX0_determinant_209 : decode cX0_determinant 209 = .ok (.goto (-201), 3) := by decide +kernel
theorem dX0_determinant_212 : decode cX0_determinant 212 = .ok (.iload 4, 2) := by decide +kernel
theorem dX0_determinant_214 : decode cX0_determinant 214 = .ok (.ifCond .eq 8, 3) := by decide +kernel
theorem dX0_determinant_217 : decode cX0_determinant 217 = .ok (.lload_n 2, 1) := by decide +kernel
theorem dX0_determinant_218 : decode cX0_determinant 218 = .ok (.lneg, 1) := by decide +kernel
theorem dX0_determinant_219 : decode cX0_determinant 219 = .ok (.goto 4, 3) := by decide +kernel
theorem dX0_determinant_222 : decode cX0_determinant 222 = .ok (.lload_n 2, 1) := by decide +kernel
theorem dX0_determinant_223 : decode cX0_determinant 223 = .ok (.lreturn, 1) := by decide +kernel
theorem q10 : (Jvm.Cond.initialized "TrailDesk") ∈ lw_all := lw_g (lw_at lw_m0 1 rfl) rfl
theorem q14 : (Jvm.Cond.instantiable "TrailDesk" (7 : Nat)) ∈ lw_all := lw_g (lw_at lw_m0 5 rfl) rfl
theorem q16 : (Jvm.Cond.instanceMethod ({ cls := "TrailDesk", name := "<init>", desc := "()V" } : Jvm.MethodName)) ∈ lw_all := lw_g (lw_at lw_m0 7 rfl) rfl
theorem q17 : (Jvm.Cond.code ({ cls := "TrailDesk", name := "<init>", desc := "()V" } : Jvm.MethodName) prog_1_method_1_code (1 : Nat) (Option.none : Option Jvm.ClassFile.FieldType)) ∈ lw_all := lw_g (lw_at lw_m0 8 rfl) rfl
theorem q18 : (Jvm.Cond.methodLink "TrailDesk" (1 : Nat) ({ cls := "java/lang/Object", name := "<init>", desc := "()V" } : Jvm.MethodName)) ∈ lw_all := lw_g (lw_at lw_m0 9 rfl) rfl
theorem q21 : (Jvm.Cond.classLink "TrailDesk" (26 : Nat) "[[J") ∈ lw_all := lw_g (lw_at lw_m0 12 rfl) rfl
theorem q23 : (Jvm.Cond.fieldLink "TrailDesk" (7 : Nat) "TrailDesk" "n" "I") ∈ lw_all := lw_g (lw_at lw_m0 14 rfl) rfl
theorem q24 : (Jvm.Cond.fieldLink "TrailDesk" (34 : Nat) "TrailDesk" "many" "I") ∈ lw_all := lw_g (lw_at lw_m0 15 rfl) rfl
theorem q25 : (Jvm.Cond.fieldLink "TrailDesk" (13 : Nat) "TrailDesk" "first" "[I") ∈ lw_all := lw_g (lw_at lw_m0 16 rfl) rfl
theorem q26 : (Jvm.Cond.fieldLink "TrailDesk" (17 : Nat) "TrailDesk" "second" "[I") ∈ lw_all := lw_g (lw_at lw_m0 17 rfl) rfl
theorem q27 : (Jvm.Cond.fieldLink "TrailDesk" (20 : Nat) "TrailDesk" "root" "[I") ∈ lw_all := lw_g (lw_at lw_m0 18 rfl) rfl
theorem q28 : (Jvm.Cond.fieldLink "TrailDesk" (23 : Nat) "TrailDesk" "used" "[I") ∈ lw_all := lw_g (lw_at lw_m0 19 rfl) rfl
theorem q29 : (Jvm.Cond.fieldLink "TrailDesk" (28 : Nat) "TrailDesk" "table" "[[J") ∈ lw_all := lw_g (lw_at lw_m0 20 rfl) rfl
theorem q30 : (Jvm.Cond.lays "TrailDesk" "TrailDesk" "n" "I") ∈ lw_all := lw_g (lw_at lw_m0 21 rfl) rfl
theorem q31 : (Jvm.Cond.soleField "TrailDesk" "n") ∈ lw_all := lw_g (lw_at lw_m0 22 rfl) rfl
theorem q32 : (Jvm.Cond.lays "TrailDesk" "TrailDesk" "many" "I") ∈ lw_all := lw_g (lw_at lw_m0 23 rfl) rfl
theorem q33 : (Jvm.Cond.soleField "TrailDesk" "many") ∈ lw_all := lw_g (lw_at lw_m0 24 rfl) rfl
theorem q34 : (Jvm.Cond.laysFinal "TrailDesk" "TrailDesk" "first" "[I") ∈ lw_all := lw_g (lw_at lw_m0 25 rfl) rfl
theorem q35 : (Jvm.Cond.soleField "TrailDesk" "first") ∈ lw_all := lw_g (lw_at lw_m0 26 rfl) rfl
theorem q36 : (Jvm.Cond.laysFinal "TrailDesk" "TrailDesk" "second" "[I") ∈ lw_all := lw_g (lw_at lw_m0 27 rfl) rfl
theorem q37 : (Jvm.Cond.soleField "TrailDesk" "second") ∈ lw_all := lw_g (lw_at lw_m0 28 rfl) rfl
theorem q38 : (Jvm.Cond.laysFinal "TrailDesk" "TrailDesk" "root" "[I") ∈ lw_all := lw_g (lw_at lw_m0 29 rfl) rfl
theorem q39 : (Jvm.Cond.soleField "TrailDesk" "root") ∈ lw_all := lw_g (lw_at lw_m0 30 rfl) rfl
theorem q40 : (Jvm.Cond.laysFinal "TrailDesk" "TrailDesk" "used" "[I") ∈ lw_all := lw_g (lw_at lw_m0 31 rfl) rfl
theorem q41 : (Jvm.Cond.soleField "TrailDesk" "used") ∈ lw_all := lw_g (lw_at lw_m0 32 rfl) rfl
theorem q42 : (Jvm.Cond.laysFinal "TrailDesk" "TrailDesk" "table" "[[J") ∈ lw_all := lw_g (lw_at lw_m0 33 rfl) rfl
theorem q43 : (Jvm.Cond.soleField "TrailDesk" "table") ∈ lw_all := lw_g (lw_at lw_m0 34 rfl) rfl
theorem q44 : (Jvm.Cond.superclass "TrailDesk" "java/lang/Object") ∈ lw_all := lw_g (lw_at lw_m0 35 rfl) rfl
theorem q48 : (Jvm.Cond.instanceMethod ({ cls := "TrailDesk", name := "places", desc := "(I)V" } : Jvm.MethodName)) ∈ lw_all := lw_g (lw_at lw_m0 39 rfl) rfl
theorem q49 : (Jvm.Cond.selects "TrailDesk" ({ cls := "TrailDesk", name := "places", desc := "(I)V" } : Jvm.MethodName) ({ cls := "TrailDesk", name := "places", desc := "(I)V" } : Jvm.MethodName)) ∈ lw_all := lw_g (lw_at lw_m0 40 rfl) rfl
theorem q50 : (Jvm.Cond.code ({ cls := "TrailDesk", name := "places", desc := "(I)V" } : Jvm.MethodName) prog_1_method_3_code (2 : Nat) (Option.none : Option Jvm.ClassFile.FieldType)) ∈ lw_all := lw_g (lw_at lw_m0 41 rfl) rfl
theorem q51 : (Jvm.Cond.constant "TrailDesk" (33 : Nat) (2147483647 : Int32)) ∈ lw_all := lw_g (lw_at lw_m0 42 rfl) rfl
theorem q53 : (Jvm.Cond.instanceMethod ({ cls := "TrailDesk", name := "edge", desc := "(II)Z" } : Jvm.MethodName)) ∈ lw_all := lw_g (lw_at lw_m0 44 rfl) rfl
theorem q54 : (Jvm.Cond.selects "TrailDesk" ({ cls := "TrailDesk", name := "edge", desc := "(II)Z" } : Jvm.MethodName) ({ cls := "TrailDesk", name := "edge", desc := "(II)Z" } : Jvm.MethodName)) ∈ lw_all := lw_g (lw_at lw_m0 45 rfl) rfl
theorem q55 : (Jvm.Cond.code ({ cls := "TrailDesk", name := "edge", desc := "(II)Z" } : Jvm.MethodName) prog_1_method_4_code (3 : Nat) (Option.some Jvm.ClassFile.FieldType.boolean)) ∈ lw_all := lw_g (lw_at lw_m0 46 rfl) rfl
theorem q56 : (Jvm.Cond.methodLink "TrailDesk" (37 : Nat) ({ cls := "TrailDesk", name := "place", desc := "(I)I" } : Jvm.MethodName)) ∈ lw_all := lw_g (lw_at lw_m0 47 rfl) rfl
theorem q57 : (Jvm.Cond.privateMethod ({ cls := "TrailDesk", name := "place", desc := "(I)I" } : Jvm.MethodName)) ∈ lw_tbl := lw_at lw_m0 48 rfl
theorem q58 : (Jvm.Cond.instanceMethod ({ cls := "TrailDesk", name := "place", desc := "(I)I" } : Jvm.MethodName)) ∈ lw_all := lw_g (lw_at lw_m0 49 rfl) rfl
theorem q59 : (Jvm.Cond.code ({ cls := "TrailDesk", name := "place", desc := "(I)I" } : Jvm.MethodName) prog_1_method_2_code (2 : Nat) (Option.some Jvm.ClassFile.FieldType.int)) ∈ lw_all := lw_g (lw_at lw_m0 50 rfl) rfl
theorem q61 : (Jvm.Cond.instanceMethod ({ cls := "TrailDesk", name := "drop", desc := "()Z" } : Jvm.MethodName)) ∈ lw_all := lw_g (lw_at lw_m0 52 rfl) rfl
theorem q62 : (Jvm.Cond.selects "TrailDesk" ({ cls := "TrailDesk", name := "drop", desc := "()Z" } : Jvm.MethodName) ({ cls := "TrailDesk", name := "drop", desc := "()Z" } : Jvm.MethodName)) ∈ lw_all := lw_g (lw_at lw_m0 53 rfl) rfl
theorem q63 : (Jvm.Cond.code ({ cls := "TrailDesk", name := "drop", desc := "()Z" } : Jvm.MethodName) prog_1_method_5_code (1 : Nat) (Option.some Jvm.ClassFile.FieldType.boolean)) ∈ lw_all := lw_g (lw_at lw_m0 54 rfl) rfl
theorem q65 : (Jvm.Cond.instanceMethod ({ cls := "TrailDesk", name := "ends", desc := "(I)I" } : Jvm.MethodName)) ∈ lw_all := lw_g (lw_at lw_m0 56 rfl) rfl
theorem q66 : (Jvm.Cond.selects "TrailDesk" ({ cls := "TrailDesk", name := "ends", desc := "(I)I" } : Jvm.MethodName) ({ cls := "TrailDesk", name := "ends", desc := "(I)I" } : Jvm.MethodName)) ∈ lw_all := lw_g (lw_at lw_m0 57 rfl) rfl
theorem q67 : (Jvm.Cond.code ({ cls := "TrailDesk", name := "ends", desc := "(I)I" } : Jvm.MethodName) prog_1_method_8_code (2 : Nat) (Option.some Jvm.ClassFile.FieldType.int)) ∈ lw_all := lw_g (lw_at lw_m0 58 rfl) rfl
theorem q68 : (Jvm.Cond.methodLink "TrailDesk" (41 : Nat) ({ cls := "TrailDesk", name := "leaving", desc := "(I)I" } : Jvm.MethodName)) ∈ lw_all := lw_g (lw_at lw_m0 59 rfl) rfl
theorem q69 : (Jvm.Cond.privateMethod ({ cls := "TrailDesk", name := "leaving", desc := "(I)I" } : Jvm.MethodName)) ∈ lw_tbl := lw_at lw_m0 60 rfl
theorem q70 : (Jvm.Cond.instanceMethod ({ cls := "TrailDesk", name := "leaving", desc := "(I)I" } : Jvm.MethodName)) ∈ lw_all := lw_g (lw_at lw_m0 61 rfl) rfl
theorem q71 : (Jvm.Cond.code ({ cls := "TrailDesk", name := "leaving", desc := "(I)I" } : Jvm.MethodName) prog_1_method_6_code (4 : Nat) (Option.some Jvm.ClassFile.FieldType.int)) ∈ lw_all := lw_g (lw_at lw_m0 62 rfl) rfl
theorem q72 : (Jvm.Cond.methodLink "TrailDesk" (44 : Nat) ({ cls := "TrailDesk", name := "coming", desc := "(I)I" } : Jvm.MethodName)) ∈ lw_all := lw_g (lw_at lw_m0 63 rfl) rfl
theorem q73 : (Jvm.Cond.privateMethod ({ cls := "TrailDesk", name := "coming", desc := "(I)I" } : Jvm.MethodName)) ∈ lw_tbl := lw_at lw_m0 64 rfl
theorem q74 : (Jvm.Cond.instanceMethod ({ cls := "TrailDesk", name := "coming", desc := "(I)I" } : Jvm.MethodName)) ∈ lw_all := lw_g (lw_at lw_m0 65 rfl) rfl
theorem q75 : (Jvm.Cond.code ({ cls := "TrailDesk", name := "coming", desc := "(I)I" } : Jvm.MethodName) prog_1_method_7_code (4 : Nat) (Option.some Jvm.ClassFile.FieldType.int)) ∈ lw_all := lw_g (lw_at lw_m0 66 rfl) rfl
theorem q77 : (Jvm.Cond.instanceMethod ({ cls := "TrailDesk", name := "open", desc := "()Z" } : Jvm.MethodName)) ∈ lw_all := lw_g (lw_at lw_m0 68 rfl) rfl
theorem q78 : (Jvm.Cond.selects "TrailDesk" ({ cls := "TrailDesk", name := "open", desc := "()Z" } : Jvm.MethodName) ({ cls := "TrailDesk", name := "open", desc := "()Z" } : Jvm.MethodName)) ∈ lw_all := lw_g (lw_at lw_m0 69 rfl) rfl
theorem q79 : (Jvm.Cond.code ({ cls := "TrailDesk", name := "open", desc := "()Z" } : Jvm.MethodName) prog_1_method_12_code (1 : Nat) (Option.some Jvm.ClassFile.FieldType.boolean)) ∈ lw_all := lw_g (lw_at lw_m0 70 rfl) rfl
theorem q80 : (Jvm.Cond.methodLink "TrailDesk" (50 : Nat) ({ cls := "TrailDesk", name := "odd", desc := "()I" } : Jvm.MethodName)) ∈ lw_all := lw_g (lw_at lw_m0 71 rfl) rfl
theorem q81 : (Jvm.Cond.privateMethod ({ cls := "TrailDesk", name := "odd", desc := "()I" } : Jvm.MethodName)) ∈ lw_tbl := lw_at lw_m0 72 rfl
theorem q82 : (Jvm.Cond.instanceMethod ({ cls := "TrailDesk", name := "odd", desc := "()I" } : Jvm.MethodName)) ∈ lw_all := lw_g (lw_at lw_m0 73 rfl) rfl
theorem q83 : (Jvm.Cond.code ({ cls := "TrailDesk", name := "odd", desc := "()I" } : Jvm.MethodName) prog_1_method_11_code (3 : Nat) (Option.some Jvm.ClassFile.FieldType.int)) ∈ lw_all := lw_g (lw_at lw_m0 74 rfl) rfl
theorem q84 : (Jvm.Cond.methodLink "TrailDesk" (54 : Nat) ({ cls := "TrailDesk", name := "isOne", desc := "()Z" } : Jvm.MethodName)) ∈ lw_all := lw_g (lw_at lw_m0 75 rfl) rfl
theorem q85 : (Jvm.Cond.privateMethod ({ cls := "TrailDesk", name := "isOne", desc := "()Z" } : Jvm.MethodName)) ∈ lw_tbl := lw_at lw_m0 76 rfl
theorem q86 : (Jvm.Cond.instanceMethod ({ cls := "TrailDesk", name := "isOne", desc := "()Z" } : Jvm.MethodName)) ∈ lw_all := lw_g (lw_at lw_m0 77 rfl) rfl
theorem q87 : (Jvm.Cond.code ({ cls := "TrailDesk", name := "isOne", desc := "()Z" } : Jvm.MethodName) prog_1_method_10_code (2 : Nat) (Option.some Jvm.ClassFile.FieldType.boolean)) ∈ lw_all := lw_g (lw_at lw_m0 78 rfl) rfl
theorem q88 : (Jvm.Cond.methodLink "TrailDesk" (47 : Nat) ({ cls := "TrailDesk", name := "rootOf", desc := "(I)I" } : Jvm.MethodName)) ∈ lw_all := lw_g (lw_at lw_m0 79 rfl) rfl
theorem q89 : (Jvm.Cond.privateMethod ({ cls := "TrailDesk", name := "rootOf", desc := "(I)I" } : Jvm.MethodName)) ∈ lw_tbl := lw_at lw_m0 80 rfl
theorem q90 : (Jvm.Cond.instanceMethod ({ cls := "TrailDesk", name := "rootOf", desc := "(I)I" } : Jvm.MethodName)) ∈ lw_all := lw_g (lw_at lw_m0 81 rfl) rfl
theorem q91 : (Jvm.Cond.code ({ cls := "TrailDesk", name := "rootOf", desc := "(I)I" } : Jvm.MethodName) prog_1_method_9_code (3 : Nat) (Option.some Jvm.ClassFile.FieldType.int)) ∈ lw_all := lw_g (lw_at lw_m0 82 rfl) rfl
theorem q93 : (Jvm.Cond.instanceMethod ({ cls := "TrailDesk", name := "closed", desc := "()Z" } : Jvm.MethodName)) ∈ lw_all := lw_g (lw_at lw_m0 84 rfl) rfl
theorem q94 : (Jvm.Cond.selects "TrailDesk" ({ cls := "TrailDesk", name := "closed", desc := "()Z" } : Jvm.MethodName) ({ cls := "TrailDesk", name := "closed", desc := "()Z" } : Jvm.MethodName)) ∈ lw_all := lw_g (lw_at lw_m0 85 rfl) rfl
theorem q95 : (Jvm.Cond.code ({ cls := "TrailDesk", name := "closed", desc := "()Z" } : Jvm.MethodName) prog_1_method_13_code (1 : Nat) (Option.some Jvm.ClassFile.FieldType.boolean)) ∈ lw_all := lw_g (lw_at lw_m0 86 rfl) rfl
theorem q97 : (Jvm.Cond.instanceMethod ({ cls := "TrailDesk", name := "arrows", desc := "()Z" } : Jvm.MethodName)) ∈ lw_all := lw_g (lw_at lw_m0 88 rfl) rfl
theorem q98 : (Jvm.Cond.selects "TrailDesk" ({ cls := "TrailDesk", name := "arrows", desc := "()Z" } : Jvm.MethodName) ({ cls := "TrailDesk", name := "arrows", desc := "()Z" } : Jvm.MethodName)) ∈ lw_all := lw_g (lw_at lw_m0 89 rfl) rfl
theorem q99 : (Jvm.Cond.code ({ cls := "TrailDesk", name := "arrows", desc := "()Z" } : Jvm.MethodName) prog_1_method_15_code (2 : Nat) (Option.some Jvm.ClassFile.FieldType.boolean)) ∈ lw_all := lw_g (lw_at lw_m0 90 rfl) rfl
theorem q100 : (Jvm.Cond.methodLink "TrailDesk" (58 : Nat) ({ cls := "TrailDesk", name := "over", desc := "()I" } : Jvm.MethodName)) ∈ lw_all := lw_g (lw_at lw_m0 91 rfl) rfl
theorem q101 : (Jvm.Cond.privateMethod ({ cls := "TrailDesk", name := "over", desc := "()I" } : Jvm.MethodName)) ∈ lw_tbl := lw_at lw_m0 92 rfl
theorem q102 : (Jvm.Cond.instanceMethod ({ cls := "TrailDesk", name := "over", desc := "()I" } : Jvm.MethodName)) ∈ lw_all := lw_g (lw_at lw_m0 93 rfl) rfl
theorem q103 : (Jvm.Cond.code ({ cls := "TrailDesk", name := "over", desc := "()I" } : Jvm.MethodName) prog_1_method_14_code (4 : Nat) (Option.some Jvm.ClassFile.FieldType.int)) ∈ lw_all := lw_g (lw_at lw_m0 94 rfl) rfl
theorem q105 : (Jvm.Cond.instanceMethod ({ cls := "TrailDesk", name := "rounds", desc := "()J" } : Jvm.MethodName)) ∈ lw_all := lw_g (lw_at lw_m0 96 rfl) rfl
theorem q106 : (Jvm.Cond.selects "TrailDesk" ({ cls := "TrailDesk", name := "rounds", desc := "()J" } : Jvm.MethodName) ({ cls := "TrailDesk", name := "rounds", desc := "()J" } : Jvm.MethodName)) ∈ lw_all := lw_g (lw_at lw_m0 97 rfl) rfl
theorem q107 : (Jvm.Cond.code ({ cls := "TrailDesk", name := "rounds", desc := "()J" } : Jvm.MethodName) prog_1_method_16_code (7 : Nat) (Option.some Jvm.ClassFile.FieldType.long)) ∈ lw_all := lw_g (lw_at lw_m0 98 rfl) rfl
theorem q108 : (Jvm.Cond.methodLink "TrailDesk" (61 : Nat) ({ cls := "java/util/Arrays", name := "fill", desc := "([JJ)V" } : Jvm.MethodName)) ∈ lw_all := lw_g (lw_at lw_m0 99 rfl) rfl
theorem q111 : (Jvm.Cond.methodLink "TrailDesk" (67 : Nat) ({ cls := "TrailDesk", name := "determinant", desc := "(I)J" } : Jvm.MethodName)) ∈ lw_all := lw_g (lw_at lw_m0 102 rfl) rfl
theorem q112 : (Jvm.Cond.privateMethod ({ cls := "TrailDesk", name := "determinant", desc := "(I)J" } : Jvm.MethodName)) ∈ lw_tbl := lw_at lw_m0 103 rfl
theorem q113 : (Jvm.Cond.instanceMethod ({ cls := "TrailDesk", name := "determinant", desc := "(I)J" } : Jvm.MethodName)) ∈ lw_all := lw_g (lw_at lw_m0 104 rfl) rfl
theorem q114 : (Jvm.Cond.code ({ cls := "TrailDesk", name := "determinant", desc := "(I)J" } : Jvm.MethodName) prog_1_method_17_code (9 : Nat) (Option.some Jvm.ClassFile.FieldType.long)) ∈ lw_all := lw_g (lw_at lw_m0 105 rfl) rfl
theorem in_X0 : ∀ w ∈ wsX00, w ∈ lw_all := lw_in wsX00 [30, 32, 34, 36, 38, 40, 42] (by decide +kernel) (by decide +kernel)
end
section
/-! TrailDeskModel -/
set_option maxRecDepth 100000
def RX1 : String := "TrailDeskModel"
def TX1 : u_T := fun k => match k with
  | 0 => ("TrailDeskModel", "a", "[I", true)
  | 1 => ("TrailDeskModel", "b", "[I", true)
  | 2 => ("TrailDeskModel", "edges", "I", false)
  | 3 => ("TrailDeskModel", "n", "I", false)
  | 4 => ("TrailDeskModel", "known", "Z", false)
  | 5 => ("TrailDeskModel", "can", "[Z", true)
  | 6 => ("TrailDeskModel", "ways", "[J", true)
  | 7 => ("TrailDeskModel", "open", "Z", false)
  | 8 => ("TrailDeskModel", "closed", "Z", false)
  | 9 => ("TrailDeskModel", "openArrows", "Z", false)
  | _ => ("TrailDeskModel", "rounds", "J", false)
def tyX1 : Nat → FieldType := fun k => match k with
  | 0 => .array .int
  | 1 => .array .int
  | 2 => .int
  | 3 => .int
  | 4 => .boolean
  | 5 => .array .boolean
  | 6 => .array .long
  | 7 => .boolean
  | 8 => .boolean
  | 9 => .boolean
  | _ => .long
abbrev wsX10 : List Cond := u_ws RX1 TX1 11
theorem nmX1 : ∀ a, a < 11 → ∀ b, b < 11 → a ≠ b → (TX1 a).2.1 ≠ (TX1 b).2.1 := by decide +kernel
theorem tyX1_ok : ∀ k, k < 11 → parseFieldDescriptor (TX1 k).2.2.1 = some (tyX1 k) := by decide +kernel
abbrev cX1_init : ByteArray := prog_3_method_1_code
def yX1_init : MethodName := ⟨RX1, "<init>", "()V"⟩
theorem dX1_init_0 : decode cX1_init 0 = .ok (.aload_n 0, 1) := by decide +kernel
theorem dX1_init_1 : decode cX1_init 1 = .ok (.invokespecial 1, 3) := by decide +kernel
theorem dX1_init_4 : decode cX1_init 4 = .ok (.aload_n 0, 1) := by decide +kernel
theorem dX1_init_5 : decode cX1_init 5 = .ok (.bipush 10, 2) := by decide +kernel
theorem dX1_init_7 : decode cX1_init 7 = .ok (.newarray .int, 2) := by decide +kernel
theorem dX1_init_9 : decode cX1_init 9 = .ok (.putfield 7, 3) := by decide +kernel
theorem dX1_init_12 : decode cX1_init 12 = .ok (.aload_n 0, 1) := by decide +kernel
theorem dX1_init_13 : decode cX1_init 13 = .ok (.bipush 10, 2) := by decide +kernel
theorem dX1_init_15 : decode cX1_init 15 = .ok (.newarray .int, 2) := by decide +kernel
theorem dX1_init_17 : decode cX1_init 17 = .ok (.putfield 13, 3) := by decide +kernel
theorem dX1_init_20 : decode cX1_init 20 = .ok (.aload_n 0, 1) := by decide +kernel
theorem dX1_init_21 : decode cX1_init 21 = .ok (.iconst 3, 1) := by decide +kernel
theorem dX1_init_22 : decode cX1_init 22 = .ok (.putfield 16, 3) := by decide +kernel
theorem dX1_init_25 : decode cX1_init 25 = .ok (.aload_n 0, 1) := by decide +kernel
theorem dX1_init_26 : decode cX1_init 26 = .ok (.sipush 5120, 3) := by decide +kernel
theorem dX1_init_29 : decode cX1_init 29 = .ok (.newarray .boolean, 2) := by decide +kernel
theorem dX1_init_31 : decode cX1_init 31 = .ok (.putfield 20, 3) := by decide +kernel
theorem dX1_init_34 : decode cX1_init 34 = .ok (.aload_n 0, 1) := by decide +kernel
theorem dX1_init_35 : decode cX1_init 35 = .ok (.sipush 5120, 3) := by decide +kernel
theorem dX1_init_38 : decode cX1_init 38 = .ok (.newarray .long, 2) := by decide +kernel
theorem dX1_init_40 : decode cX1_init 40 = .ok (.putfield 24, 3) := by decide +kernel
theorem dX1_init_43 : decode cX1_init 43 = .ok (.return_, 1) := by decide +kernel
abbrev cX1_places : ByteArray := prog_3_method_2_code
def yX1_places : MethodName := ⟨RX1, "places", "(I)V"⟩
theorem dX1_places_0 : decode cX1_places 0 = .ok (.aload_n 0, 1) := by decide +kernel
theorem dX1_places_1 : decode cX1_places 1 = .ok (.iconst 1, 1) := by decide +kernel
theorem dX1_places_2 : decode cX1_places 2 = .ok (.iload_n 1, 1) := by decide +kernel
theorem dX1_places_3 : decode cX1_places 3 = .ok (.ldc 28, 2) := by decide +kernel
theorem dX1_places_5 : decode cX1_places 5 = .ok (.iand, 1) := by decide +kernel
theorem dX1_places_6 : decode cX1_places 6 = .ok (.iconst 5, 1) := by decide +kernel
theorem dX1_places_7 : decode cX1_places 7 = .ok (.irem, 1) := by decide +kernel
theorem dX1_places_8 : decode cX1_places 8 = .ok (.iadd, 1) := by decide +kernel
theorem dX1_places_9 : decode cX1_places 9 = .ok (.putfield 16, 3) := by decide +kernel
theorem dX1_places_12 : decode cX1_places 12 = .ok (.aload_n 0, 1) := by decide +kernel
theorem dX1_places_13 : decode cX1_places 13 = .ok (.iconst 0, 1) := by decide +kernel
theorem dX1_places_14 : decode cX1_places 14 = .ok (.putfield 29, 3) := by decide +kernel
theorem dX1_places_17 : decode cX1_places 17 = .ok (.aload_n 0, 1) := by decide +kernel
theorem dX1_places_18 : decode cX1_places 18 = .ok (.iconst 0, 1) := by decide +kernel
theorem dX1_places_19 : decode cX1_places 19 = .ok (.putfield 32, 3) := by decide +kernel
theorem dX1_places_22 : decode cX1_places 22 = .ok (.return_, 1) := by decide +kernel
abbrev cX1_edge : ByteArray := prog_3_method_3_code
def yX1_edge : MethodName := ⟨RX1, "edge", "(II)Z"⟩
theorem dX1_edge_0 : decode cX1_edge 0 = .ok (.aload_n 0, 1) := by decide +kernel
theorem dX1_edge_1 : decode cX1_edge 1 = .ok (.getfield 29, 3) := by decide +kernel
theorem dX1_edge_4 : decode cX1_edge 4 = .ok (.bipush 10, 2) := by decide +kernel
theorem dX1_edge_6 : decode cX1_edge 6 = .ok (.if_icmp .ne 5, 3) := by decide +kernel
theorem dX1_edge_9 : decode cX1_edge 9 = .ok (.iconst 0, 1) := by decide +kernel
theorem dX1_edge_10 : decode cX1_edge 10 = .ok (.ireturn, 1) := by decide +kernel
theorem dX1_edge_11 : decode cX1_edge 11 = .ok (.aload_n 0, 1) := by decide +kernel
theorem dX1_edge_12 : decode cX1_edge 12 = .ok (.getfield 7, 3) := by decide +kernel
theorem dX1_edge_15 : decode cX1_edge 15 = .ok (.aload_n 0, 1) := by decide +kernel
theorem dX1_edge_16 : decode cX1_edge 16 = .ok (.getfield 29, 3) := by decide +kernel
theorem dX1_edge_19 : decode cX1_edge 19 = .ok (.iload_n 1, 1) := by decide +kernel
theorem dX1_edge_20 : decode cX1_edge 20 = .ok (.ldc 28, 2) := by decide +kernel
theorem dX1_edge_22 : decode cX1_edge 22 = .ok (.iand, 1) := by decide +kernel
theorem dX1_edge_23 : decode cX1_edge 23 = .ok (.aload_n 0, 1) := by decide +kernel
theorem dX1_edge_24 : decode cX1_edge 24 = .ok (.getfield 16, 3) := by decide +kernel
theorem dX1_edge_27 : decode cX1_edge 27 = .ok (.irem, 1) := by decide +kernel
theorem dX1_edge_28 : decode cX1_edge 28 = .ok (.iastore, 1) := by decide +kernel
theorem dX1_edge_29 : decode cX1_edge 29 = .ok (.aload_n 0, 1) := by decide +kernel
theorem dX1_edge_30 : decode cX1_edge 30 = .ok (.getfield 13, 3) := by decide +kernel
theorem dX1_edge_33 : decode cX1_edge 33 = .ok (.aload_n 0, 1) := by decide +kernel
theorem dX1_edge_34 : decode cX1_edge 34 = .ok (.getfield 29, 3) := by decide +kernel
theorem dX1_edge_37 : decode cX1_edge 37 = .ok (.iload_n 2, 1) := by decide +kernel
theorem dX1_edge_38 : decode cX1_edge 38 = .ok (.ldc 28, 2) := by decide +kernel
theorem dX1_edge_40 : decode cX1_edge 40 = .ok (.iand, 1) := by decide +kernel
theorem dX1_edge_41 : decode cX1_edge 41 = .ok (.aload_n 0, 1) := by decide +kernel
theorem dX1_edge_42 : decode cX1_edge 42 = .ok (.getfield 16, 3) := by decide +kernel
theorem dX1_edge_45 : decode cX1_edge 45 = .ok (.irem, 1) := by decide +kernel
theorem dX1_edge_46 : decode cX1_edge 46 = .ok (.iastore, 1) := by decide +kernel
theorem dX1_edge_47 : decode cX1_edge 47 = .ok (.aload_n 0, 1) := by decide +kernel
theorem dX1_edge_48 : decode cX1_edge 48 = .ok (.aload_n 0, 1) := by decide +kernel
theorem dX1_edge_49 : decode cX1_edge 49 = .ok (.getfield 29, 3) := by decide +kernel
theorem dX1_edge_52 : decode cX1_edge 52 = .ok (.iconst 1, 1) := by decide +kernel
theorem dX1_edge_53 : decode cX1_edge 53 = .ok (.iadd, 1) := by decide +kernel
theorem dX1_edge_54 : decode cX1_edge 54 = .ok (.putfield 29, 3) := by decide +kernel
theorem dX1_edge_57 : decode cX1_edge 57 = .ok (.aload_n 0, 1) := by decide +kernel
theorem dX1_edge_58 : decode cX1_edge 58 = .ok (.iconst 0, 1) := by decide +kernel
theorem dX1_edge_59 : decode cX1_edge 59 = .ok (.putfield 32, 3) := by decide +kernel
theorem dX1_edge_62 : decode cX1_edge 62 = .ok (.iconst 1, 1) := by decide +kernel
theorem dX1_edge_63 : decode cX1_edge 63 = .ok (.ireturn, 1) := by decide +kernel
abbrev cX1_drop : ByteArray := prog_3_method_4_code
def yX1_drop : MethodName := ⟨RX1, "drop", "()Z"⟩
theorem dX1_drop_0 : decode cX1_drop 0 = .ok (.aload_n 0, 1) := by decide +kernel
theorem dX1_drop_1 : decode cX1_drop 1 = .ok (.getfield 29, 3) := by decide +kernel
theorem dX1_drop_4 : decode cX1_drop 4 = .ok (.ifCond .ne 5, 3) := by decide +kernel
theorem dX1_drop_7 : decode cX1_drop 7 = .ok (.iconst 0, 1) := by decide +kernel
theorem dX1_drop_8 : decode cX1_drop 8 = .ok (.ireturn, 1) := by decide +kernel
theorem dX1_drop_9 : decode cX1_drop 9 = .ok (.aload_n 0, 1) := by decide +kernel
theorem dX1_drop_10 : decode cX1_drop 10 = .ok (.aload_n 0, 1) := by decide +kernel
theorem dX1_drop_11 : decode cX1_drop 11 = .ok (.getfield 29, 3) := by decide +kernel
theorem dX1_drop_14 : decode cX1_drop 14 = .ok (.iconst 1, 1) := by decide +kernel
theorem dX1_drop_15 : decode cX1_drop 15 = .ok (.isub, 1) := by decide +kernel
theorem dX1_drop_16 : decode cX1_drop 16 = .ok (.putfield 29, 3) := by decide +kernel
theorem dX1_drop_19 : decode cX1_drop 19 = .ok (.aload_n 0, 1) := by decide +kernel
theorem dX1_drop_20 : decode cX1_drop 20 = .ok (.iconst 0, 1) := by decide +kernel
theorem dX1_drop_21 : decode cX1_drop 21 = .ok (.putfield 32, 3) := by decide +kernel
theorem dX1_drop_24 : decode cX1_drop 24 = .ok (.iconst 1, 1) := by decide +kernel
theorem dX1_drop_25 : decode cX1_drop 25 = .ok (.ireturn, 1) := by decide +kernel
abbrev cX1_open : ByteArray := prog_3_method_6_code
def yX1_open : MethodName := ⟨RX1, "open", "()Z"⟩
theorem dX1_open_0 : decode cX1_open 0 = .ok (.aload_n 0, 1) := by decide +kernel
theorem dX1_open_1 : decode cX1_open 1 = .ok (.invokevirtual 49, 3) := by decide +kernel
theorem dX1_open_4 : decode cX1_open 4 = .ok (.aload_n 0, 1) := by decide +kernel
theorem dX1_open_5 : decode cX1_open 5 = .ok (.getfield 36, 3) := by decide +kernel
theorem dX1_open_8 : decode cX1_open 8 = .ok (.ireturn, 1) := by decide +kernel
abbrev cX1_reckon : ByteArray := prog_3_method_5_code
def yX1_reckon : MethodName := ⟨RX1, "reckon", "()V"⟩
theorem dX1_reckon_0 : decode cX1_reckon 0 = .ok (.aload_n 0, 1) := by decide +kernel
theorem dX1_reckon_1 : decode cX1_reckon 1 = .ok (.getfield 32, 3) := by decide +kernel
theorem dX1_reckon_4 : decode cX1_reckon 4 = .ok (.ifCond .eq 4, 3) := by decide +kernel
theorem dX1_reckon_7 : decode cX1_reckon 7 = .ok (.return_, 1) := by decide +kernel
theorem dX1_reckon_8 : decode cX1_reckon 8 = .ok (.aload_n 0, 1) := by decide +kernel
theorem dX1_reckon_9 : decode cX1_reckon 9 = .ok (.iconst 1, 1) := by decide +kernel
theorem dX1_reckon_10 : decode cX1_reckon 10 = .ok (.putfield 32, 3) := by decide +kernel
theorem dX1_reckon_13 : decode cX1_reckon 13 = .ok (.aload_n 0, 1) := by decide +kernel
theorem dX1_reckon_14 : decode cX1_reckon 14 = .ok (.iconst 0, 1) := by decide +kernel
theorem dX1_reckon_15 : decode cX1_reckon 15 = .ok (.putfield 36, 3) := by decide +kernel
theorem dX1_reckon_18 : decode cX1_reckon 18 = .ok (.aload_n 0, 1) := by decide +kernel
theorem dX1_reckon_19 : decode cX1_reckon 19 = .ok (.iconst 0, 1) := by decide +kernel
theorem dX1_reckon_20 : decode cX1_reckon 20 = .ok (.putfield 39, 3) := by decide +kernel
theorem dX1_reckon_23 : decode cX1_reckon 23 = .ok (.aload_n 0, 1) := by decide +kernel
theorem dX1_reckon_24 : decode cX1_reckon 24 = .ok (.iconst 0, 1) := by decide +kernel
theorem dX1_reckon_25 : decode cX1_reckon 25 = .ok (.putfield 42, 3) := by decide +kernel
theorem dX1_reckon_28 : decode cX1_reckon 28 = .ok (.aload_n 0, 1) := by decide +kernel
theorem dX1_reckon_29 : decode cX1_reckon 29 = .ok (.lconst 0, 1) := by decide +kernel
theorem dX1_reckon_30 : decode cX1_reckon 30 = .ok (.putfield 45, 3) := by decide +kernel
theorem dX1_reckon_33 : decode cX1_reckon 33 = .ok (.iconst 1, 1) := by decide +kernel
theorem dX1_reckon_34 : decode cX1_reckon 34 = .ok (.aload_n 0, 1) := by decide +kernel
theorem dX1_reckon_35 : decode cX1_reckon 35 = .ok (.getfield 29, 3) := by decide +kernel
theorem dX1_reckon_38 : decode cX1_reckon 38 = .ok (.ishl, 1) := by decide +kernel
theorem dX1_reckon_39 : decode cX1_reckon 39 = .ok (.iconst 1, 1) := by decide +kernel
theorem dX1_reckon_40 : decode cX1_reckon 40 = .ok (.isub, 1) := by decide +kernel
theorem dX1_reckon_41 : decode cX1_reckon 41 = .ok (.istore_n 1, 1) := by decide +kernel
theorem dX1_reckon_42 : decode cX1_reckon 42 = .ok (.iconst 0, 1) := by decide +kernel
theorem dX1_reckon_43 : decode cX1_reckon 43 = .ok (.istore_n 2, 1) := by decide +kernel
theorem dX1_reckon_44 : decode cX1_reckon 44 = .ok (.iload_n 2, 1) := by decide +kernel
theorem dX1_reckon_45 : decode cX1_reckon 45 = .ok (.aload_n 0, 1) := by decide +kernel
theorem dX1_reckon_46 : decode cX1_reckon 46 = .ok (.getfield 16, 3) := by decide +kernel
theorem dX1_reckon_49 : decode cX1_reckon 49 = .ok (.if_icmp .ge 277, 3) := by decide +kernel
theorem dX1_reckon_52 : decode cX1_reckon 52 = .ok (.iconst 0, 1) := by decide +kernel
theorem dX1_reckon_53 : decode cX1_reckon 53 = .ok (.istore_n 3, 1) := by decide +kernel
theorem dX1_reckon_54 : decode cX1_reckon 54 = .ok (.iload_n 3, 1) := by decide +kernel
theorem dX1_reckon_55 : decode cX1_reckon 55 = .ok (.iconst 2, 1) := by decide +kernel
theorem dX1_reckon_56 : decode cX1_reckon 56 = .ok (.if_icmp .ge 264, 3) := by decide +kernel
theorem dX1_reckon_59 : decode cX1_reckon 59 = .ok (.iconst 0, 1) := by decide +kernel
theorem dX1_reckon_60 : decode cX1_reckon 60 = .ok (.istore 4, 2) := by decide +kernel
theorem dX1_reckon_62 : decode cX1_reckon 62 = .ok (.iload 4, 2) := by decide +kernel
theorem dX1_reckon_64 : decode cX1_reckon 64 = .ok (.iconst 5, 1) := by decide +kernel
theorem dX1_reckon_65 : decode cX1_reckon 65 = .ok (.iload_n 1, 1) := by decide +kernel
theorem dX1_reckon_66 : decode cX1_reckon 66 = .ok (.iconst 1, 1) := by decide +kernel
theorem dX1_reckon_67 : decode cX1_reckon 67 = .ok (.iadd, 1) := by decide +kernel
theorem dX1_reckon_68 : decode cX1_reckon 68 = .ok (.imul, 1) := by decide +kernel
theorem dX1_reckon_69 : decode cX1_reckon 69 = .ok (.if_icmp .ge 17, 3) := by decide +kernel
theorem dX1_reckon_72 : decode cX1_reckon 72 = .ok (.aload_n 0, 1) := by decide +kernel
theorem dX1_reckon_73 : decode cX1_reckon 73 = .ok (.getfield 20, 3) := by decide +kernel
theorem dX1_reckon_76 : decode cX1_reckon 76 = .ok (.iload 4, 2) := by decide +kernel
theorem dX1_reckon_78 : decode cX1_reckon 78 = .ok (.iconst 0, 1) := by decide +kernel
theorem dX1_reckon_79 : decode cX1_reckon 79 = .ok (.bastore, 1) := by decide +kernel
theorem dX1_reckon_80 : decode cX1_reckon 80 = .ok (.iinc 4 1, 3) := by decide +kernel
theorem dX1_reckon_83 : decode cX1_reckon 83 = .ok (.goto (-21), 3) := by decide +kernel
theorem dX1_reckon_86 : decode cX1_reckon 86 = .ok (.aload_n 0, 1) := by decide +kernel
theorem dX1_reckon_87 : decode cX1_reckon 87 = .ok (.getfield 20, 3) := by decide +kernel
theorem dX1_reckon_90 : decode cX1_reckon 90 = .ok (.iload_n 2, 1) := by decide +kernel
theorem dX1_reckon_91 : decode cX1_reckon 91 = .ok (.iconst 1, 1) := by decide +kernel
theorem dX1_reckon_92 : decode cX1_reckon 92 = .ok (.bastore, 1) := by decide +kernel
theorem dX1_reckon_93 : decode cX1_reckon 93 = .ok (.iconst 0, 1) := by decide +kernel
theorem dX1_reckon_94 : decode cX1_reckon 94 = .ok (.istore 4, 2) := by decide +kernel
theorem dX1_reckon_96 : decode cX1_reckon 96 = .ok (.iload 4, 2) := by decide +kernel
theorem dX1_reckon_98 : decode cX1_reckon 98 = .ok (.iload_n 1, 1) := by decide +kernel
theorem dX1_reckon_99 : decode cX1_reckon 99 = .ok (.if_icmp .gt 144, 3) := by decide +kernel
theorem dX1_reckon_102 : decode cX1_reckon 102 = .ok (.iconst 0, 1) := by decide +kernel
theorem dX1_reckon_103 : decode cX1_reckon 103 = .ok (.istore 5, 2) := by decide +kernel
theorem dX1_reckon_105 : decode cX1_reckon 105 = .ok (.iload 5, 2) := by decide +kernel
theorem dX1_reckon_107 : decode cX1_reckon 107 = .ok (.aload_n 0, 1) := by decide +kernel
theorem dX1_reckon_108 : decode cX1_reckon 108 = .ok (.getfield 16, 3) := by decide +kernel
theorem dX1_reckon_111 : decode cX1_reckon 111 = .ok (.if_icmp .ge 126, 3) := by decide +kernel
theorem dX1_reckon_114 : decode cX1_reckon 114 = .ok (.aload_n 0, 1) := by decide +kernel
theorem dX1_reckon_115 : decode cX1_reckon 115 = .ok (.getfield 20, 3) := by decide +kernel
theorem dX1_reckon_118 : decode cX1_reckon 118 = .ok (.iconst 5, 1) := by decide +kernel
theorem dX1_reckon_119 : decode cX1_reckon 119 = .ok (.iload 4, 2) := by decide +kernel
theorem dX1_reckon_121 : decode cX1_reckon 121 = .ok (.imul, 1) := by decide +kernel
theorem dX1_reckon_122 : decode cX1_reckon 122 = .ok (.iload 5, 2) := by decide +kernel
theorem dX1_reckon_124 : decode cX1_reckon 124 = .ok (.iadd, 1) := by decide +kernel
theorem dX1_reckon_125 : decode cX1_reckon 125 = .ok (.baload, 1) := by decide +kernel
theorem dX1_reckon_126 : decode cX1_reckon 126 = .ok (.ifCond .eq 105, 3) := by decide +kernel
theorem dX1_reckon_129 : decode cX1_reckon 129 = .ok (.iconst 0, 1) := by decide +kernel
theorem dX1_reckon_130 : decode cX1_reckon 130 = .ok (.istore 6, 2) := by decide +kernel
theorem dX1_reckon_132 : decode cX1_reckon 132 = .ok (.iload 6, 2) := by decide +kernel
theorem dX1_reckon_134 : decode cX1_reckon 134 = .ok (.aload_n 0, 1) := by decide +kernel
theorem dX1_reckon_135 : decode cX1_reckon 135 = .ok (.getfield 29, 3) := by decide +kernel
theorem dX1_reckon_138 : decode cX1_reckon 138 = .ok (.if_icmp .ge 93, 3) := by decide +kernel
theorem dX1_reckon_141 : decode cX1_reckon 141 = .ok (.iload 4, 2) := by decide +kernel
theorem dX1_reckon_143 : decode cX1_reckon 143 = .ok (.iload 6, 2) := by decide +kernel
theorem dX1_reckon_145 : decode cX1_reckon 145 = .ok (.ishr, 1) := by decide +kernel
theorem dX1_reckon_146 : decode cX1_reckon 146 = .ok (.iconst 1, 1) := by decide +kernel
theorem dX1_reckon_147 : decode cX1_reckon 147 = .ok (.iand, 1) := by decide +kernel
theorem dX1_reckon_148 : decode cX1_reckon 148 = .ok (.ifCond .ne 77, 3) := by decide +kernel
theorem dX1_reckon_151 : decode cX1_reckon 151 = .ok (.aload_n 0, 1) := by decide +kernel
theorem dX1_reckon_152 : decode cX1_reckon 152 = .ok (.getfield 7, 3) := by decide +kernel
theorem dX1_reckon_155 : decode cX1_reckon 155 = .ok (.iload 6, 2) := by decide +kernel
theorem dX1_reckon_157 : decode cX1_reckon 157 = .ok (.iaload, 1) := by decide +kernel
theorem dX1_reckon_158 : decode cX1_reckon 158 = .ok (.iload 5, 2) := by decide +kernel
theorem dX1_reckon_160 : decode cX1_reckon 160 = .ok (.if_icmp .ne 26, 3) := by decide +kernel
theorem dX1_reckon_163 : decode cX1_reckon 163 = .ok (.aload_n 0, 1) := by decide +kernel
theorem dX1_reckon_164 : decode cX1_reckon 164 = .ok (.getfield 20, 3) := by decide +kernel
theorem dX1_reckon_167 : decode cX1_reckon 167 = .ok (.iconst 5, 1) := by decide +kernel
theorem dX1_reckon_168 : decode cX1_reckon 168 = .ok (.iload 4, 2) := by decide +kernel
theorem dX1_reckon_170 : decode cX1_reckon 170 = .ok (.iconst 1, 1) := by decide +kernel
theorem dX1_reckon_171 : decode cX1_reckon 171 = .ok (.iload 6, 2) := by decide +kernel
theorem dX1_reckon_173 : decode cX1_reckon 173 = .ok (.ishl, 1) := by decide +kernel
theorem dX1_reckon_174 : decode cX1_reckon 174 = .ok (.ior, 1) := by decide +kernel
theorem dX1_reckon_175 : decode cX1_reckon 175 = .ok (.imul, 1) := by decide +kernel
theorem dX1_reckon_176 : decode cX1_reckon 176 = .ok (.aload_n 0, 1) := by decide +kernel
theorem dX1_reckon_177 : decode cX1_reckon 177 = .ok (.getfield 13, 3) := by decide +kernel
theorem dX1_reckon_180 : decode cX1_reckon 180 = .ok (.iload 6, 2) := by decide +kernel
theorem dX1_reckon_182 : decode cX1_reckon 182 = .ok (.iaload, 1) := by decide +kernel
theorem dX1_reckon_183 : decode cX1_reckon 183 = .ok (.iadd, 1) := by decide +kernel
theorem dX1_reckon_184 : decode cX1_reckon 184 = .ok (.iconst 1, 1) := by decide +kernel
theorem dX1_reckon_185 : decode cX1_reckon 185 = .ok (.bastore, 1) := by decide +kernel
theorem dX1_reckon_186 : decode cX1_reckon 186 = .ok (.iload_n 3, 1) := by decide +kernel
theorem dX1_reckon_187 : decode cX1_reckon 187 = .ok (.ifCond .ne 38, 3) := by decide +kernel
theorem dX1_reckon_190 : decode cX1_reckon 190 = .ok (.aload_n 0, 1) := by decide +kernel
theorem dX1_reckon_191 : decode cX1_reckon 191 = .ok (.getfield 13, 3) := by decide +kernel
theorem dX1_reckon_194 : decode cX1_reckon 194 = .ok (.iload 6, 2) := by decide +kernel
theorem dX1_reckon_196 : decode cX1_reckon 196 = .ok (.iaload, 1) := by decide +kernel
theorem dX1_reckon_197 : decode cX1_reckon 197 = .ok (.iload 5, 2) := by decide +kernel
theorem dX1_reckon_199 : decode cX1_reckon 199 = .ok (.if_icmp .ne 26, 3) := by decide +kernel
theorem dX1_reckon_202 : decode cX1_reckon 202 = .ok (.aload_n 0, 1) := by decide +kernel
theorem dX1_reckon_203 : decode cX1_reckon 203 = .ok (.getfield 20, 3) := by decide +kernel
theorem dX1_reckon_206 : decode cX1_reckon 206 = .ok (.iconst 5, 1) := by decide +kernel
theorem dX1_reckon_207 : decode cX1_reckon 207 = .ok (.iload 4, 2) := by decide +kernel
theorem dX1_reckon_209 : decode cX1_reckon 209 = .ok (.iconst 1, 1) := by decide +kernel
theorem dX1_reckon_210 : decode cX1_reckon 210 = .ok (.iload 6, 2) := by decide +kernel
theorem dX1_reckon_212 : decode cX1_reckon 212 = .ok (.ishl, 1) := by decide +kernel
theorem dX1_reckon_213 : decode cX1_reckon 213 = .ok (.ior, 1) := by decide +kernel
theorem dX1_reckon_214 : decode cX1_reckon 214 = .ok (.imul, 1) := by decide +kernel
theorem dX1_reckon_215 : decode cX1_reckon 215 = .ok (.aload_n 0, 1) := by decide +kernel
theorem dX1_reckon_216 : decode cX1_reckon 216 = .ok (.getfield 7, 3) := by decide +kernel
theorem dX1_reckon_219 : decode cX1_reckon 219 = .ok (.iload 6, 2) := by decide +kernel
theorem dX1_reckon_221 : decode cX1_reckon 221 = .ok (.iaload, 1) := by decide +kernel
theorem dX1_reckon_222 : decode cX1_reckon 222 = .ok (.iadd, 1) := by decide +kernel
theorem dX1_reckon_223 : decode cX1_reckon 223 = .ok (.iconst 1, 1) := by decide +kernel
theorem dX1_reckon_224 : decode cX1_reckon 224 = .ok (.bastore, 1) := by decide +kernel
theorem dX1_reckon_225 : decode cX1_reckon 225 = .ok (.iinc 6 1, 3) := by decide +kernel
theorem dX1_reckon_228 : decode cX1_reckon 228 = .ok (.goto (-96), 3) := by decide +kernel
theorem dX1_reckon_231 : decode cX1_reckon 231 = .ok (.iinc 5 1, 3) := by decide +kernel
theorem dX1_reckon_234 : decode cX1_reckon 234 = .ok (.goto (-129), 3) := by decide +kernel
theorem dX1_reckon_237 : decode cX1_reckon 237 = .ok (.iinc 4 1, 3) := by decide +kernel
theorem dX1_reckon_240 : decode cX1_reckon 240 = .ok (.goto (-144), 3) := by decide +kernel
theorem dX1_reckon_243 : decode cX1_reckon 243 = .ok (.iconst 0, 1) := by decide +kernel
theorem dX1_reckon_244 : decode cX1_reckon 244 = .ok (.istore 4, 2) := by decide +kernel
theorem dX1_reckon_246 : decode cX1_reckon 246 = .ok (.iload 4, 2) := by decide +kernel
theorem dX1_reckon_248 : decode cX1_reckon 248 = .ok (.aload_n 0, 1) := by decide +kernel
theorem dX1_reckon_249 : decode cX1_reckon 249 = .ok (.getfield 16, 3) := by decide +kernel
theorem dX1_reckon_252 : decode cX1_reckon 252 = .ok (.if_icmp .ge 62, 3) := by decide +kernel
theorem dX1_reckon_255 : decode cX1_reckon 255 = .ok (.aload_n 0, 1) := by decide +kernel
theorem dX1_reckon_256 : decode cX1_reckon 256 = .ok (.getfield 20, 3) := by decide +kernel
theorem dX1_reckon_259 : decode cX1_reckon 259 = .ok (.iconst 5, 1) := by decide +kernel
theorem dX1_reckon_260 : decode cX1_reckon 260 = .ok (.iload_n 1, 1) := by decide +kernel
theorem dX1_reckon_261 : decode cX1_reckon 261 = .ok (.imul, 1) := by decide +kernel
theorem dX1_reckon_262 : decode cX1_reckon 262 = .ok (.iload 4, 2) := by decide +kernel
theorem dX1_reckon_264 : decode cX1_reckon 264 = .ok (.iadd, 1) := by decide +kernel
theorem dX1_reckon_265 : decode cX1_reckon 265 = .ok (.baload, 1) := by decide +kernel
theorem dX1_reckon_266 : decode cX1_reckon 266 = .ok (.ifCond .eq 42, 3) := by decide +kernel
theorem dX1_reckon_269 : decode cX1_reckon 269 = .ok (.iload_n 3, 1) := by decide +kernel
theorem dX1_reckon_270 : decode cX1_reckon 270 = .ok (.ifCond .ne 33, 3) := by decide +kernel
theorem dX1_reckon_273 : decode cX1_reckon 273 = .ok (.aload_n 0, 1) := by decide +kernel
theorem dX1_reckon_274 : decode cX1_reckon 274 = .ok (.iconst 1, 1) := by decide +kernel
theorem dX1_reckon_275 : decode cX1_reckon 275 = .ok (.putfield 36, 3) := by decide +kernel
theorem dX1_reckon_278 : decode cX1_reckon 278 = .ok (.aload_n 0, 1) := by decide +kernel
theorem dX1_reckon_279 : decode cX1_reckon 279 = .ok (.aload_n 0, 1) := by decide +kernel
theorem dX1_reckon_280 : decode cX1_reckon 280 = .ok (.getfield 39, 3) := by decide +kernel
theorem dX1_reckon_283 : decode cX1_reckon 283 = .ok (.ifCond .ne 9, 3) := by decide +kernel
theorem dX1_reckon_286 : decode cX1_reckon 286 = .ok (.iload 4, 2) := by decide +kernel
theorem dX1_reckon_288 : decode cX1_reckon 288 = .ok (.iload_n 2, 1) := by decide +kernel
theorem dX1_reckon_289 : decode cX1_reckon 289 = .ok (.if_icmp .ne 7, 3) := by decide +kernel
theorem dX1_reckon_292 : decode cX1_reckon 292 = .ok (.iconst 1, 1) := by decide +kernel
theorem dX1_reckon_293 : decode cX1_reckon 293 = .ok (.goto 4, 3) := by decide +kernel
theorem dX1_reckon_296 : decode cX1_reckon 296 = .ok (.iconst 0, 1) := by decide +kernel
theorem dX1_reckon_297 : decode cX1_reckon 297 = .ok (.putfield 39, 3) := by decide +kernel
theorem dX1_reckon_300 : decode cX1_reckon 300 = .ok (.goto 8, 3) := by decide +kernel
theorem dX1_reckon_303 : decode cX1_reckon 303 = .ok (.aload_n 0, 1) := by decide +kernel
theorem dX1_reckon_304 : decode cX1_reckon 304 = .ok (.iconst 1, 1) := by decide +kernel
theorem dX1_reckon_305 : decode cX1_reckon 305 = .ok (.putfield 42, 3) := by decide +kernel
theorem dX1_reckon_308 : decode cX1_reckon 308 = .ok (.iinc 4 1, 3) := by decide +kernel
theorem dX1_reckon_311 : decode cX1_reckon 311 = .ok (.goto (-65), 3) := by decide +kernel
theorem dX1_reckon_314 : decode cX1_reckon 314 = .ok (.iinc 3 1, 3) := by decide +kernel
theorem dX1_reckon_317 : decode cX1_reckon 317 = .ok (.goto (-263), 3) := by decide +kernel
theorem dX1_reckon_320 : decode cX1_reckon 320 = .ok (.iinc 2 1, 3) := by decide +kernel
theorem dX1_reckon_323 : decode cX1_reckon 323 = .ok (.goto (-279), 3) := by decide +kernel
theorem dX1_reckon_326 : decode cX1_reckon 326 = .ok (.aload_n 0, 1) := by decide +kernel
theorem dX1_reckon_327 : decode cX1_reckon 327 = .ok (.getfield 29, 3) := by decide +kernel
theorem dX1_reckon_330 : decode cX1_reckon 330 = .ok (.ifCond .le 192, 3) := by decide +kernel
theorem dX1_reckon_333 : decode cX1_reckon 333 = .ok (.iconst 0, 1) := by decide +kernel
theorem dX1_reckon_334 : decode cX1_reckon 334 = .ok (.istore_n 2, 1) := by decide +kernel
theorem dX1_reckon_335 : decode cX1_reckon 335 = .ok (.iload_n 2, 1) := by decide +kernel
theorem dX1_reckon_336 : decode cX1_reckon 336 = .ok (.iconst 5, 1) := by decide +kernel
theorem dX1_reckon_337 : decode cX1_reckon 337 = .ok (.iload_n 1, 1) := by decide +kernel
theorem dX1_reckon_338 : decode cX1_reckon 338 = .ok (.iconst 1, 1) := by decide +kernel
theorem dX1_reckon_339 : decode cX1_reckon 339 = .ok (.iadd, 1) := by decide +kernel
theorem dX1_reckon_340 : decode cX1_reckon 340 = .ok (.imul, 1) := by decide +kernel
theorem dX1_reckon_341 : decode cX1_reckon 341 = .ok (.if_icmp .ge 16, 3) := by decide +kernel
theorem dX1_reckon_344 : decode cX1_reckon 344 = .ok (.aload_n 0, 1) := by decide +kernel
theorem dX1_reckon_345 : decode cX1_reckon 345 = .ok (.getfield 24, 3) := by decide +kernel
theorem dX1_reckon_348 : decode cX1_reckon 348 = .ok (.iload_n 2, 1) := by decide +kernel
theorem dX1_reckon_349 : decode cX1_reckon 349 = .ok (.lconst 0, 1) := by decide +kernel
theorem dX1_reckon_350 : decode cX1_reckon 350 = .ok (.lastore, 1) := by decide +kernel
theorem dX1_reckon_351 : decode cX1_reckon 351 = .ok (.iinc 2 1, 3) := by decide +kernel
theorem dX1_reckon_354 : decode cX1_reckon 354 = .ok (.goto (-19), 3) := by decide +kernel
theorem dX1_reckon_357 : decode cX1_reckon 357 = .ok (.aload_n 0, 1) := by decide +kernel
theorem dX1_reckon_358 : decode cX1_reckon 358 = .ok (.getfield 24, 3) := by decide +kernel
theorem dX1_reckon_361 : decode cX1_reckon 361 = .ok (.iconst 5, 1) := by decide +kernel
theorem dX1_reckon_362 : decode cX1_reckon 362 = .ok (.aload_n 0, 1) := by decide +kernel
theorem dX1_reckon_363 : decode cX1_reckon 363 = .ok (.getfield 13, 3) := by decide +kernel
theorem dX1_reckon_366 : decode cX1_reckon 366 = .ok (.iconst 0, 1) := by decide +kernel
theorem dX1_reckon_367 : decode cX1_reckon 367 = .ok (.iaload, 1) := by decide +kernel
theorem dX1_reckon_368 : decode cX1_reckon 368 = .ok (.iadd, 1) := by decide +kernel
theorem dX1_reckon_369 : decode cX1_reckon 369 = .ok (.lconst 1, 1) := by decide +kernel
theorem dX1_reckon_370 : decode cX1_reckon 370 = .ok (.lastore, 1) := by decide +kernel
theorem dX1_reckon_371 : decode cX1_reckon 371 = .ok (.iconst 1, 1) := by decide +kernel
theorem dX1_reckon_372 : decode cX1_reckon 372 = .ok (.istore_n 2, 1) := by decide +kernel
theorem dX1_reckon_373 : decode cX1_reckon 373 = .ok (.iload_n 2, 1) := by decide +kernel
theorem dX1_reckon_374 : decode cX1_reckon 374 = .ok (.iload_n 1, 1) := by decide +kernel
theorem dX1_reckon_375 : decode cX1_reckon 375 = .ok (.if_icmp .gt 128, 3) := by decide +kernel
theorem dX1_reckon_378 : decode cX1_reckon 378 = .ok (.iconst 0, 1) := by decide +kernel
theorem dX1_reckon_379 : decode cX1_reckon 379 = .ok (.istore_n 3, 1) := by decide +kernel
theorem dX1_reckon_380 : decode cX1_reckon 380 = .ok (.iload_n 3, 1) := by decide +kernel
theorem dX1_reckon_381 : decode cX1_reckon 381 = .ok (.aload_n 0, 1) := by decide +kernel
theorem dX1_reckon_382 : decode cX1_reckon 382 = .ok (.getfield 16, 3) := by decide +kernel
theorem dX1_reckon_385 : decode cX1_reckon 385 = .ok (.if_icmp .ge 111, 3) := by decide +kernel
theorem dX1_reckon_388 : decode cX1_reckon 388 = .ok (.aload_n 0, 1) := by decide +kernel
theorem dX1_reckon_389 : decode cX1_reckon 389 = .ok (.getfield 24, 3) := by decide +kernel
theorem dX1_reckon_392 : decode cX1_reckon 392 = .ok (.iconst 5, 1) := by decide +kernel
theorem dX1_reckon_393 : decode cX1_reckon 393 = .ok (.iload_n 2, 1) := by decide +kernel
theorem dX1_reckon_394 : decode cX1_reckon 394 = .ok (.imul, 1) := by decide +kernel
theorem dX1_reckon_395 : decode cX1_reckon 395 = .ok (.iload_n 3, 1) := by decide +kernel
theorem dX1_reckon_396 : decode cX1_reckon 396 = .ok (.iadd, 1) := by decide +kernel
theorem dX1_reckon_397 : decode cX1_reckon 397 = .ok (.laload, 1) := by decide +kernel
theorem dX1_reckon_398 : decode cX1_reckon 398 = .ok (.lstore 4, 2) := by decide +kernel
theorem dX1_reckon_400 : decode cX1_reckon 400 = .ok (.lload 4, 2) := by decide +kernel
theorem dX1_reckon_402 : decode cX1_reckon 402 = .ok (.lconst 0, 1) := by decide +kernel
theorem dX1_reckon_403 : decode cX1_reckon 403 = .ok (.lcmp, 1) := by decide +kernel
theorem dX1_reckon_404 : decode cX1_reckon 404 = .ok (.ifCond .le 86, 3) := by decide +kernel
theorem dX1_reckon_407 : decode cX1_reckon 407 = .ok (.iconst 1, 1) := by decide +kernel
theorem dX1_reckon_408 : decode cX1_reckon 408 = .ok (.istore 6, 2) := by decide +kernel
theorem dX1_reckon_410 : decode cX1_reckon 410 = .ok (.iload 6, 2) := by decide +kernel
theorem dX1_reckon_412 : decode cX1_reckon 412 = .ok (.aload_n 0, 1) := by decide +kernel
theorem dX1_reckon_413 : decode cX1_reckon 413 = .ok (.getfield 29, 3) := by decide +kernel
theorem dX1_reckon_416 : decode cX1_reckon 416 = .ok (.if_icmp .ge 74, 3) := by decide +kernel
theorem dX1_reckon_419 : decode cX1_reckon 419 = .ok (.iload_n 2, 1) := by decide +kernel
theorem dX1_reckon_420 : decode cX1_reckon 420 = .ok (.iload 6, 2) := by decide +kernel
theorem dX1_reckon_422 : decode cX1_reckon 422 = .ok (.ishr, 1) := by decide +kernel
theorem dX1_reckon_423 : decode cX1_reckon 423 = .ok (.iconst 1, 1) := by decide +kernel
theorem dX1_reckon_424 : decode cX1_reckon 424 = .ok (.iand, 1) := by decide +kernel
theorem dX1_reckon_425 : decode cX1_reckon 425 = .ok (.ifCond .ne 59, 3) := by decide +kernel
theorem dX1_reckon_428 : decode cX1_reckon 428 = .ok (.aload_n 0, 1) := by decide +kernel
theorem dX1_reckon_429 : decode cX1_reckon 429 = .ok (.getfield 7, 3) := by decide +kernel
theorem dX1_reckon_432 : decode cX1_reckon 432 = .ok (.iload 6, 2) := by decide +kernel
theorem dX1_reckon_434 : decode cX1_reckon 434 = .ok (.iaload, 1) := by decide +kernel
theorem dX1_reckon_435 : decode cX1_reckon 435 = .ok (.iload_n 3, 1) := by decide +kernel
theorem dX1_reckon_436 : decode cX1_reckon 436 = .ok (.if_icmp .ne 48, 3) := by decide +kernel
theorem dX1_reckon_439 : decode cX1_reckon 439 = .ok (.aload_n 0, 1) := by decide +kernel
theorem dX1_reckon_440 : decode cX1_reckon 440 = .ok (.getfield 24, 3) := by decide +kernel
theorem dX1_reckon_443 : decode cX1_reckon 443 = .ok (.iconst 5, 1) := by decide +kernel
theorem dX1_reckon_444 : decode cX1_reckon 444 = .ok (.iload_n 2, 1) := by decide +kernel
theorem dX1_reckon_445 : decode cX1_reckon 445 = .ok (.iconst 1, 1) := by decide +kernel
theorem dX1_reckon_446 : decode cX1_reckon 446 = .ok (.iload 6, 2) := by decide +kernel
theorem dX1_reckon_448 : decode cX1_reckon 448 = .ok (.ishl, 1) := by decide +kernel
theorem dX1_reckon_449 : decode cX1_reckon 449 = .ok (.ior, 1) := by decide +kernel
theorem dX1_reckon_450 : decode cX1_reckon 450 = .ok (.imul, 1) := by decide +kernel
theorem dX1_reckon_451 : decode cX1_reckon 451 = .ok (.aload_n 0, 1) := by decide +kernel
theorem dX1_reckon_452 : decode cX1_reckon 452 = .ok (.getfield 13, 3) := by decide +kernel
theorem dX1_reckon_455 : decode cX1_reckon 455 = .ok (.iload 6, 2) := by decide +kernel
theorem dX1_reckon_457 : decode cX1_reckon 457 = .ok (.iaload, 1) := by decide +kernel
theorem dX1_reckon_458 : decode cX1_reckon 458 = .ok (.iadd, 1) := by decide +kernel
theorem dX1_reckon_459 : decode cX1_reckon 459 = .ok (.aload_n 0, 1) := by decide +kernel
theorem dX1_reckon_460 : decode cX1_reckon 460 = .ok (.getfield 24, 3) := by decide +kernel
theorem dX1_reckon_463 : decode cX1_reckon 463 = .ok (.iconst 5, 1) := by decide +kernel
theorem dX1_reckon_464 : decode cX1_reckon 464 = .ok (.iload_n 2, 1) := by decide +kernel
theorem dX1_reckon_465 : decode cX1_reckon 465 = .ok (.iconst 1, 1) := by decide +kernel
theorem dX1_reckon_466 : decode cX1_reckon 466 = .ok (.iload 6, 2) := by decide +kernel
theorem dX1_reckon_468 : decode cX1_reckon 468 = .ok (.ishl, 1) := by decide +kernel
theorem dX1_reckon_469 : decode cX1_reckon 469 = .ok (.ior, 1) := by decide +kernel
theorem dX1_reckon_470 : decode cX1_reckon 470 = .ok (.imul, 1) := by decide +kernel
theorem dX1_reckon_471 : decode cX1_reckon 471 = .ok (.aload_n 0, 1) := by decide +kernel
theorem dX1_reckon_472 : decode cX1_reckon 472 = .ok (.getfield 13, 3) := by decide +kernel
theorem dX1_reckon_475 : decode cX1_reckon 475 = .ok (.iload 6, 2) := by decide +kernel
theorem dX1_reckon_477 : decode cX1_reckon 477 = .ok (.iaload, 1) := by decide +kernel
theorem dX1_reckon_478 : decode cX1_reckon 478 = .ok (.iadd, 1) := by decide +kernel
theorem dX1_reckon_479 : decode cX1_reckon 479 = .ok (.laload, 1) := by decide +kernel
theorem dX1_reckon_480 : decode cX1_reckon 480 = .ok (.lload 4, 2) := by decide +kernel
theorem dX1_reckon_482 : decode cX1_reckon 482 = .ok (.ladd, 1) := by decide +kernel
theorem dX1_reckon_483 : decode cX1_reckon 483 = .ok (.lastore, 1) := by decide +kernel
theorem dX1_reckon_484 : decode cX1_reckon 484 = .ok (.iinc 6 1, 3) := by decide +kernel
theorem dX1_reckon_487 : decode cX1_reckon 487 = .ok (.goto (-77), 3) := by decide +kernel
theorem dX1_reckon_490 : decode cX1_reckon 490 = .ok (.iinc 3 1, 3) := by decide +kernel
theorem dX1_reckon_493 : decode cX1_reckon 493 = .ok (.goto (-113), 3) := by decide +kernel
theorem dX1_reckon_496 : decode cX1_reckon 496 = .ok (.iload_n 2, 1) := by decide +kernel
theorem dX1_reckon_497 : decode cX1_reckon 497 = .ok (.iconst 2, 1) := by decide +kernel
theorem dX1_reckon_498 : decode cX1_reckon 498 = .ok (.iadd, 1) := by decide +kernel
theorem dX1_reckon_499 : decode cX1_reckon 499 = .ok (.istore_n 2, 1) := by decide +kernel
theorem dX1_reckon_500 : decode cX1_reckon 500 = .ok (.goto (-127), 3) := by decide +kernel
theorem dX1_reckon_503 : decode cX1_reckon 503 = .ok (.aload_n 0, 1) := by decide +kernel
theorem dX1_reckon_504 : decode cX1_reckon 504 = .ok (.aload_n 0, 1) := by decide +kernel
theorem dX1_reckon_505 : decode cX1_reckon 505 = .ok (.getfield 24, 3) := by decide +kernel
theorem dX1_reckon_508 : decode cX1_reckon 508 = .ok (.iconst 5, 1) := by decide +kernel
theorem dX1_reckon_509 : decode cX1_reckon 509 = .ok (.iload_n 1, 1) := by decide +kernel
theorem dX1_reckon_510 : decode cX1_reckon 510 = .ok (.imul, 1) := by decide +kernel
theorem dX1_reckon_511 : decode cX1_reckon 511 = .ok (.aload_n 0, 1) := by decide +kernel
theorem dX1_reckon_512 : decode cX1_reckon 512 = .ok (.getfield 7, 3) := by decide +kernel
theorem dX1_reckon_515 : decode cX1_reckon 515 = .ok (.iconst 0, 1) := by decide +kernel
theorem dX1_reckon_516 : decode cX1_reckon 516 = .ok (.iaload, 1) := by decide +kernel
theorem dX1_reckon_517 : decode cX1_reckon 517 = .ok (.iadd, 1) := by decide +kernel
theorem dX1_reckon_518 : decode cX1_reckon 518 = .ok (.laload, 1) := by decide +kernel
theorem dX1_reckon_519 : decode cX1_reckon 519 = .ok (.putfield 45, 3) := by decide +kernel
theorem dX1_reckon_522 : decode cX1_reckon 522 = .ok (.return_, 1) := by decide +kernel
abbrev cX1_closed : ByteArray := prog_3_method_7_code
def yX1_closed : MethodName := ⟨RX1, "closed", "()Z"⟩
theorem dX1_closed_0 : decode cX1_closed 0 = .ok (.aload_n 0, 1) := by decide +kernel
theorem dX1_closed_1 : decode cX1_closed 1 = .ok (.invokevirtual 49, 3) := by decide +kernel
theorem dX1_closed_4 : decode cX1_closed 4 = .ok (.aload_n 0, 1) := by decide +kernel
theorem dX1_closed_5 : decode cX1_closed 5 = .ok (.getfield 39, 3) := by decide +kernel
theorem dX1_closed_8 : decode cX1_closed 8 = .ok (.ireturn, 1) := by decide +kernel
abbrev cX1_arrows : ByteArray := prog_3_method_8_code
def yX1_arrows : MethodName := ⟨RX1, "arrows", "()Z"⟩
theorem dX1_arrows_0 : decode cX1_arrows 0 = .ok (.aload_n 0, 1) := by decide +kernel
theorem dX1_arrows_1 : decode cX1_arrows 1 = .ok (.invokevirtual 49, 3) := by decide +kernel
theorem dX1_arrows_4 : decode cX1_arrows 4 = .ok (.aload_n 0, 1) := by decide +kernel
theorem dX1_arrows_5 : decode cX1_arrows 5 = .ok (.getfield 42, 3) := by decide +kernel
theorem dX1_arrows_8 : decode cX1_arrows 8 = .ok (.ireturn, 1) := by decide +kernel
abbrev cX1_rounds : ByteArray := prog_3_method_9_code
def yX1_rounds : MethodName := ⟨RX1, "rounds", "()J"⟩
theorem dX1_rounds_0 : decode cX1_rounds 0 = .ok (.aload_n 0, 1) := by decide +kernel
theorem dX1_rounds_1 : decode cX1_rounds 1 = .ok (.invokevirtual 49, 3) := by decide +kernel
theorem dX1_rounds_4 : decode cX1_rounds 4 = .ok (.aload_n 0, 1) := by decide +kernel
theorem dX1_rounds_5 : decode cX1_rounds 5 = .ok (.getfield 45, 3) := by decide +kernel
theorem dX1_rounds_8 : decode cX1_rounds 8 = .ok (.lreturn, 1) := by decide +kernel
abbrev cX1_ends : ByteArray := prog_3_method_10_code
def yX1_ends : MethodName := ⟨RX1, "ends", "(I)I"⟩
theorem dX1_ends_0 : decode cX1_ends 0 = .ok (.iload_n 1, 1) := by decide +kernel
theorem dX1_ends_1 : decode cX1_ends 1 = .ok (.ldc 28, 2) := by decide +kernel
theorem dX1_ends_3 : decode cX1_ends 3 = .ok (.iand, 1) := by decide +kernel
theorem dX1_ends_4 : decode cX1_ends 4 = .ok (.aload_n 0, 1) := by decide +kernel
theorem dX1_ends_5 : decode cX1_ends 5 = .ok (.getfield 16, 3) := by decide +kernel
theorem dX1_ends_8 : decode cX1_ends 8 = .ok (.irem, 1) := by decide +kernel
theorem dX1_ends_9 : decode cX1_ends 9 = .ok (.istore_n 2, 1) := by decide +kernel
theorem dX1_ends_10 : decode cX1_ends 10 = .ok (.iconst 0, 1) := by decide +kernel
theorem dX1_ends_11 : decode cX1_ends 11 = .ok (.istore_n 3, 1) := by decide +kernel
theorem dX1_ends_12 : decode cX1_ends 12 = .ok (.iconst 0, 1) := by decide +kernel
theorem dX1_ends_13 : decode cX1_ends 13 = .ok (.istore 4, 2) := by decide +kernel
theorem dX1_ends_15 : decode cX1_ends 15 = .ok (.iload 4, 2) := by decide +kernel
theorem dX1_ends_17 : decode cX1_ends 17 = .ok (.aload_n 0, 1) := by decide +kernel
theorem dX1_ends_18 : decode cX1_ends 18 = .ok (.getfield 29, 3) := by decide +kernel
theorem dX1_ends_21 : decode cX1_ends 21 = .ok (.if_icmp .ge 45, 3) := by decide +kernel
theorem dX1_ends_24 : decode cX1_ends 24 = .ok (.iload_n 3, 1) := by decide +kernel
theorem dX1_ends_25 : decode cX1_ends 25 = .ok (.aload_n 0, 1) := by decide +kernel
theorem dX1_ends_26 : decode cX1_ends 26 = .ok (.getfield 7, 3) := by decide +kernel
theorem dX1_ends_29 : decode cX1_ends 29 = .ok (.iload 4, 2) := by decide +kernel
theorem dX1_ends_31 : decode cX1_ends 31 = .ok (.iaload, 1) := by decide +kernel
theorem dX1_ends_32 : decode cX1_ends 32 = .ok (.iload_n 2, 1) := by decide +kernel
theorem dX1_ends_33 : decode cX1_ends 33 = .ok (.if_icmp .ne 7, 3) := by decide +kernel
theorem dX1_ends_36 : decode cX1_ends 36 = .ok (.iconst 1, 1) := by decide +kernel
theorem dX1_ends_37 : decode cX1_ends 37 = .ok (.goto 4, 3) := by decide +kernel
theorem dX1_ends_40 : decode cX1_ends 40 = .ok (.iconst 0, 1) := by decide +kernel
theorem dX1_ends_41 : decode cX1_ends 41 = .ok (.iadd, 1) := by decide +kernel
theorem dX1_ends_42 : decode cX1_ends 42 = .ok (.aload_n 0, 1) := by decide +kernel
theorem dX1_ends_43 : decode cX1_ends 43 = .ok (.getfield 13, 3) := by decide +kernel
theorem dX1_ends_46 : decode cX1_ends 46 = .ok (.iload 4, 2) := by decide +kernel
theorem dX1_ends_48 : decode cX1_ends 48 = .ok (.iaload, 1) := by decide +kernel
theorem dX1_ends_49 : decode cX1_ends 49 = .ok (.iload_n 2, 1) := by decide +kernel
theorem dX1_ends_50 : decode cX1_ends 50 = .ok (.if_icmp .ne 7, 3) := by decide +kernel
theorem dX1_ends_53 : decode cX1_ends 53 = .ok (.iconst 1, 1) := by decide +kernel
theorem dX1_ends_54 : decode cX1_ends 54 = .ok (.goto 4, 3) := by decide +kernel
theorem dX1_ends_57 : decode cX1_ends 57 = .ok (.iconst 0, 1) := by decide +kernel
theorem dX1_ends_58 : decode cX1_ends 58 = .ok (.iadd, 1) := by decide +kernel
theorem dX1_ends_59 : decode cX1_ends 59 = .ok (.istore_n 3, 1) := by decide +kernel
theorem dX1_ends_60 : decode cX1_ends 60 = .ok (.iinc 4 1, 3) := by decide +kernel
theorem dX1_ends_63 : decode cX1_ends 63 = .ok (.goto (-48), 3) := by decide +kernel
theorem dX1_ends_66 : decode cX1_ends 66 = .ok (.iload_n 3, 1) := by decide +kernel
theorem dX1_ends_67 : decode cX1_ends 67 = .ok (.ireturn, 1) := by decide +kernel
theorem q11 : (Jvm.Cond.initialized "TrailDeskModel") ∈ lw_all := lw_g (lw_at lw_m0 2 rfl) rfl
theorem q116 : (Jvm.Cond.instantiable "TrailDeskModel" (11 : Nat)) ∈ lw_all := lw_g (lw_at lw_m0 107 rfl) rfl
theorem q118 : (Jvm.Cond.instanceMethod ({ cls := "TrailDeskModel", name := "<init>", desc := "()V" } : Jvm.MethodName)) ∈ lw_all := lw_g (lw_at lw_m0 109 rfl) rfl
theorem q119 : (Jvm.Cond.code ({ cls := "TrailDeskModel", name := "<init>", desc := "()V" } : Jvm.MethodName) prog_3_method_1_code (1 : Nat) (Option.none : Option Jvm.ClassFile.FieldType)) ∈ lw_all := lw_g (lw_at lw_m0 110 rfl) rfl
theorem q120 : (Jvm.Cond.methodLink "TrailDeskModel" (1 : Nat) ({ cls := "java/lang/Object", name := "<init>", desc := "()V" } : Jvm.MethodName)) ∈ lw_all := lw_g (lw_at lw_m0 111 rfl) rfl
theorem q121 : (Jvm.Cond.fieldLink "TrailDeskModel" (7 : Nat) "TrailDeskModel" "a" "[I") ∈ lw_all := lw_g (lw_at lw_m0 112 rfl) rfl
theorem q122 : (Jvm.Cond.fieldLink "TrailDeskModel" (13 : Nat) "TrailDeskModel" "b" "[I") ∈ lw_all := lw_g (lw_at lw_m0 113 rfl) rfl
theorem q123 : (Jvm.Cond.fieldLink "TrailDeskModel" (29 : Nat) "TrailDeskModel" "edges" "I") ∈ lw_all := lw_g (lw_at lw_m0 114 rfl) rfl
theorem q124 : (Jvm.Cond.fieldLink "TrailDeskModel" (16 : Nat) "TrailDeskModel" "n" "I") ∈ lw_all := lw_g (lw_at lw_m0 115 rfl) rfl
theorem q125 : (Jvm.Cond.fieldLink "TrailDeskModel" (32 : Nat) "TrailDeskModel" "known" "Z") ∈ lw_all := lw_g (lw_at lw_m0 116 rfl) rfl
theorem q126 : (Jvm.Cond.fieldLink "TrailDeskModel" (20 : Nat) "TrailDeskModel" "can" "[Z") ∈ lw_all := lw_g (lw_at lw_m0 117 rfl) rfl
theorem q127 : (Jvm.Cond.fieldLink "TrailDeskModel" (24 : Nat) "TrailDeskModel" "ways" "[J") ∈ lw_all := lw_g (lw_at lw_m0 118 rfl) rfl
theorem q128 : (Jvm.Cond.fieldLink "TrailDeskModel" (36 : Nat) "TrailDeskModel" "open" "Z") ∈ lw_all := lw_g (lw_at lw_m0 119 rfl) rfl
theorem q129 : (Jvm.Cond.fieldLink "TrailDeskModel" (39 : Nat) "TrailDeskModel" "closed" "Z") ∈ lw_all := lw_g (lw_at lw_m0 120 rfl) rfl
theorem q130 : (Jvm.Cond.fieldLink "TrailDeskModel" (42 : Nat) "TrailDeskModel" "openArrows" "Z") ∈ lw_all := lw_g (lw_at lw_m0 121 rfl) rfl
theorem q131 : (Jvm.Cond.fieldLink "TrailDeskModel" (45 : Nat) "TrailDeskModel" "rounds" "J") ∈ lw_all := lw_g (lw_at lw_m0 122 rfl) rfl
theorem q132 : (Jvm.Cond.laysFinal "TrailDeskModel" "TrailDeskModel" "a" "[I") ∈ lw_all := lw_g (lw_at lw_m0 123 rfl) rfl
theorem q133 : (Jvm.Cond.soleField "TrailDeskModel" "a") ∈ lw_all := lw_g (lw_at lw_m0 124 rfl) rfl
theorem q134 : (Jvm.Cond.laysFinal "TrailDeskModel" "TrailDeskModel" "b" "[I") ∈ lw_all := lw_g (lw_at lw_m0 125 rfl) rfl
theorem q135 : (Jvm.Cond.soleField "TrailDeskModel" "b") ∈ lw_all := lw_g (lw_at lw_m0 126 rfl) rfl
theorem q136 : (Jvm.Cond.lays "TrailDeskModel" "TrailDeskModel" "edges" "I") ∈ lw_all := lw_g (lw_at lw_m0 127 rfl) rfl
theorem q137 : (Jvm.Cond.soleField "TrailDeskModel" "edges") ∈ lw_all := lw_g (lw_at lw_m0 128 rfl) rfl
theorem q138 : (Jvm.Cond.lays "TrailDeskModel" "TrailDeskModel" "n" "I") ∈ lw_all := lw_g (lw_at lw_m0 129 rfl) rfl
theorem q139 : (Jvm.Cond.soleField "TrailDeskModel" "n") ∈ lw_all := lw_g (lw_at lw_m0 130 rfl) rfl
theorem q140 : (Jvm.Cond.lays "TrailDeskModel" "TrailDeskModel" "known" "Z") ∈ lw_all := lw_g (lw_at lw_m0 131 rfl) rfl
theorem q141 : (Jvm.Cond.soleField "TrailDeskModel" "known") ∈ lw_all := lw_g (lw_at lw_m0 132 rfl) rfl
theorem q142 : (Jvm.Cond.laysFinal "TrailDeskModel" "TrailDeskModel" "can" "[Z") ∈ lw_all := lw_g (lw_at lw_m0 133 rfl) rfl
theorem q143 : (Jvm.Cond.soleField "TrailDeskModel" "can") ∈ lw_all := lw_g (lw_at lw_m0 134 rfl) rfl
theorem q144 : (Jvm.Cond.laysFinal "TrailDeskModel" "TrailDeskModel" "ways" "[J") ∈ lw_all := lw_g (lw_at lw_m0 135 rfl) rfl
theorem q145 : (Jvm.Cond.soleField "TrailDeskModel" "ways") ∈ lw_all := lw_g (lw_at lw_m0 136 rfl) rfl
theorem q146 : (Jvm.Cond.lays "TrailDeskModel" "TrailDeskModel" "open" "Z") ∈ lw_all := lw_g (lw_at lw_m0 137 rfl) rfl
theorem q147 : (Jvm.Cond.soleField "TrailDeskModel" "open") ∈ lw_all := lw_g (lw_at lw_m0 138 rfl) rfl
theorem q148 : (Jvm.Cond.lays "TrailDeskModel" "TrailDeskModel" "closed" "Z") ∈ lw_all := lw_g (lw_at lw_m0 139 rfl) rfl
theorem q149 : (Jvm.Cond.soleField "TrailDeskModel" "closed") ∈ lw_all := lw_g (lw_at lw_m0 140 rfl) rfl
theorem q150 : (Jvm.Cond.lays "TrailDeskModel" "TrailDeskModel" "openArrows" "Z") ∈ lw_all := lw_g (lw_at lw_m0 141 rfl) rfl
theorem q151 : (Jvm.Cond.soleField "TrailDeskModel" "openArrows") ∈ lw_all := lw_g (lw_at lw_m0 142 rfl) rfl
theorem q152 : (Jvm.Cond.lays "TrailDeskModel" "TrailDeskModel" "rounds" "J") ∈ lw_all := lw_g (lw_at lw_m0 143 rfl) rfl
theorem q153 : (Jvm.Cond.soleField "TrailDeskModel" "rounds") ∈ lw_all := lw_g (lw_at lw_m0 144 rfl) rfl
theorem q154 : (Jvm.Cond.superclass "TrailDeskModel" "java/lang/Object") ∈ lw_all := lw_g (lw_at lw_m0 145 rfl) rfl
theorem q157 : (Jvm.Cond.instanceMethod ({ cls := "TrailDeskModel", name := "places", desc := "(I)V" } : Jvm.MethodName)) ∈ lw_all := lw_g (lw_at lw_m0 148 rfl) rfl
theorem q158 : (Jvm.Cond.selects "TrailDeskModel" ({ cls := "TrailDeskModel", name := "places", desc := "(I)V" } : Jvm.MethodName) ({ cls := "TrailDeskModel", name := "places", desc := "(I)V" } : Jvm.MethodName)) ∈ lw_all := lw_g (lw_at lw_m0 149 rfl) rfl
theorem q159 : (Jvm.Cond.code ({ cls := "TrailDeskModel", name := "places", desc := "(I)V" } : Jvm.MethodName) prog_3_method_2_code (2 : Nat) (Option.none : Option Jvm.ClassFile.FieldType)) ∈ lw_all := lw_g (lw_at lw_m0 150 rfl) rfl
theorem q160 : (Jvm.Cond.constant "TrailDeskModel" (28 : Nat) (2147483647 : Int32)) ∈ lw_all := lw_g (lw_at lw_m0 151 rfl) rfl
theorem q162 : (Jvm.Cond.instanceMethod ({ cls := "TrailDeskModel", name := "edge", desc := "(II)Z" } : Jvm.MethodName)) ∈ lw_all := lw_g (lw_at lw_m0 153 rfl) rfl
theorem q163 : (Jvm.Cond.selects "TrailDeskModel" ({ cls := "TrailDeskModel", name := "edge", desc := "(II)Z" } : Jvm.MethodName) ({ cls := "TrailDeskModel", name := "edge", desc := "(II)Z" } : Jvm.MethodName)) ∈ lw_all := lw_g (lw_at lw_m0 154 rfl) rfl
theorem q164 : (Jvm.Cond.code ({ cls := "TrailDeskModel", name := "edge", desc := "(II)Z" } : Jvm.MethodName) prog_3_method_3_code (3 : Nat) (Option.some Jvm.ClassFile.FieldType.boolean)) ∈ lw_all := lw_g (lw_at lw_m0 155 rfl) rfl
theorem q166 : (Jvm.Cond.instanceMethod ({ cls := "TrailDeskModel", name := "drop", desc := "()Z" } : Jvm.MethodName)) ∈ lw_all := lw_g (lw_at lw_m0 157 rfl) rfl
theorem q167 : (Jvm.Cond.selects "TrailDeskModel" ({ cls := "TrailDeskModel", name := "drop", desc := "()Z" } : Jvm.MethodName) ({ cls := "TrailDeskModel", name := "drop", desc := "()Z" } : Jvm.MethodName)) ∈ lw_all := lw_g (lw_at lw_m0 158 rfl) rfl
theorem q168 : (Jvm.Cond.code ({ cls := "TrailDeskModel", name := "drop", desc := "()Z" } : Jvm.MethodName) prog_3_method_4_code (1 : Nat) (Option.some Jvm.ClassFile.FieldType.boolean)) ∈ lw_all := lw_g (lw_at lw_m0 159 rfl) rfl
theorem q170 : (Jvm.Cond.instanceMethod ({ cls := "TrailDeskModel", name := "open", desc := "()Z" } : Jvm.MethodName)) ∈ lw_all := lw_g (lw_at lw_m0 161 rfl) rfl
theorem q171 : (Jvm.Cond.selects "TrailDeskModel" ({ cls := "TrailDeskModel", name := "open", desc := "()Z" } : Jvm.MethodName) ({ cls := "TrailDeskModel", name := "open", desc := "()Z" } : Jvm.MethodName)) ∈ lw_all := lw_g (lw_at lw_m0 162 rfl) rfl
theorem q172 : (Jvm.Cond.code ({ cls := "TrailDeskModel", name := "open", desc := "()Z" } : Jvm.MethodName) prog_3_method_6_code (1 : Nat) (Option.some Jvm.ClassFile.FieldType.boolean)) ∈ lw_all := lw_g (lw_at lw_m0 163 rfl) rfl
theorem q173 : (Jvm.Cond.methodLink "TrailDeskModel" (49 : Nat) ({ cls := "TrailDeskModel", name := "reckon", desc := "()V" } : Jvm.MethodName)) ∈ lw_all := lw_g (lw_at lw_m0 164 rfl) rfl
theorem q174 : (Jvm.Cond.privateMethod ({ cls := "TrailDeskModel", name := "reckon", desc := "()V" } : Jvm.MethodName)) ∈ lw_tbl := lw_at lw_m0 165 rfl
theorem q175 : (Jvm.Cond.instanceMethod ({ cls := "TrailDeskModel", name := "reckon", desc := "()V" } : Jvm.MethodName)) ∈ lw_all := lw_g (lw_at lw_m0 166 rfl) rfl
theorem q176 : (Jvm.Cond.code ({ cls := "TrailDeskModel", name := "reckon", desc := "()V" } : Jvm.MethodName) prog_3_method_5_code (7 : Nat) (Option.none : Option Jvm.ClassFile.FieldType)) ∈ lw_all := lw_g (lw_at lw_m0 167 rfl) rfl
theorem q178 : (Jvm.Cond.instanceMethod ({ cls := "TrailDeskModel", name := "closed", desc := "()Z" } : Jvm.MethodName)) ∈ lw_all := lw_g (lw_at lw_m0 169 rfl) rfl
theorem q179 : (Jvm.Cond.selects "TrailDeskModel" ({ cls := "TrailDeskModel", name := "closed", desc := "()Z" } : Jvm.MethodName) ({ cls := "TrailDeskModel", name := "closed", desc := "()Z" } : Jvm.MethodName)) ∈ lw_all := lw_g (lw_at lw_m0 170 rfl) rfl
theorem q180 : (Jvm.Cond.code ({ cls := "TrailDeskModel", name := "closed", desc := "()Z" } : Jvm.MethodName) prog_3_method_7_code (1 : Nat) (Option.some Jvm.ClassFile.FieldType.boolean)) ∈ lw_all := lw_g (lw_at lw_m0 171 rfl) rfl
theorem q182 : (Jvm.Cond.instanceMethod ({ cls := "TrailDeskModel", name := "arrows", desc := "()Z" } : Jvm.MethodName)) ∈ lw_all := lw_g (lw_at lw_m0 173 rfl) rfl
theorem q183 : (Jvm.Cond.selects "TrailDeskModel" ({ cls := "TrailDeskModel", name := "arrows", desc := "()Z" } : Jvm.MethodName) ({ cls := "TrailDeskModel", name := "arrows", desc := "()Z" } : Jvm.MethodName)) ∈ lw_all := lw_g (lw_at lw_m0 174 rfl) rfl
theorem q184 : (Jvm.Cond.code ({ cls := "TrailDeskModel", name := "arrows", desc := "()Z" } : Jvm.MethodName) prog_3_method_8_code (1 : Nat) (Option.some Jvm.ClassFile.FieldType.boolean)) ∈ lw_all := lw_g (lw_at lw_m0 175 rfl) rfl
theorem q186 : (Jvm.Cond.instanceMethod ({ cls := "TrailDeskModel", name := "rounds", desc := "()J" } : Jvm.MethodName)) ∈ lw_all := lw_g (lw_at lw_m0 177 rfl) rfl
theorem q187 : (Jvm.Cond.selects "TrailDeskModel" ({ cls := "TrailDeskModel", name := "rounds", desc := "()J" } : Jvm.MethodName) ({ cls := "TrailDeskModel", name := "rounds", desc := "()J" } : Jvm.MethodName)) ∈ lw_all := lw_g (lw_at lw_m0 178 rfl) rfl
theorem q188 : (Jvm.Cond.code ({ cls := "TrailDeskModel", name := "rounds", desc := "()J" } : Jvm.MethodName) prog_3_method_9_code (1 : Nat) (Option.some Jvm.ClassFile.FieldType.long)) ∈ lw_all := lw_g (lw_at lw_m0 179 rfl) rfl
theorem q190 : (Jvm.Cond.instanceMethod ({ cls := "TrailDeskModel", name := "ends", desc := "(I)I" } : Jvm.MethodName)) ∈ lw_all := lw_g (lw_at lw_m0 181 rfl) rfl
theorem q191 : (Jvm.Cond.selects "TrailDeskModel" ({ cls := "TrailDeskModel", name := "ends", desc := "(I)I" } : Jvm.MethodName) ({ cls := "TrailDeskModel", name := "ends", desc := "(I)I" } : Jvm.MethodName)) ∈ lw_all := lw_g (lw_at lw_m0 182 rfl) rfl
theorem q192 : (Jvm.Cond.code ({ cls := "TrailDeskModel", name := "ends", desc := "(I)I" } : Jvm.MethodName) prog_3_method_10_code (5 : Nat) (Option.some Jvm.ClassFile.FieldType.int)) ∈ lw_all := lw_g (lw_at lw_m0 183 rfl) rfl
theorem in_X1 : ∀ w ∈ wsX10, w ∈ lw_all := lw_in wsX10 [132, 134, 136, 138, 140, 142, 144, 146, 148, 150, 152] (by decide +kernel) (by decide +kernel)
theorem q22 : (Jvm.Cond.arrayOver (Jvm.ClassFile.FieldType.array Jvm.ClassFile.FieldType.long)) ∈ lw_tbl := lw_at lw_m0 13 rfl
set_option maxRecDepth 100000
theorem q45 : (Jvm.Cond.arrayClass Jvm.ClassFile.FieldType.int) ∈ lw_all := lw_g (lw_at lw_m0 36 rfl) rfl
theorem q46 : (Jvm.Cond.arrayClass Jvm.ClassFile.FieldType.long) ∈ lw_all := lw_g (lw_at lw_m0 37 rfl) rfl
theorem q155 : (Jvm.Cond.arrayClass Jvm.ClassFile.FieldType.boolean) ∈ lw_all := lw_g (lw_at lw_m0 146 rfl) rfl
theorem q9 : (Jvm.Cond.initialized "TrailDeskLaw") ∈ lw_all := lw_g (lw_at lw_m0 0 rfl) rfl
set_option maxRecDepth 100000
theorem q13 : (Jvm.Cond.classLink "TrailDeskLaw" (7 : Nat) "TrailDesk") ∈ lw_all := lw_g (lw_at lw_m0 4 rfl) rfl
theorem q15 : (Jvm.Cond.methodLink "TrailDeskLaw" (9 : Nat) ({ cls := "TrailDesk", name := "<init>", desc := "()V" } : Jvm.MethodName)) ∈ lw_all := lw_g (lw_at lw_m0 6 rfl) rfl
theorem q47 : (Jvm.Cond.methodLink "TrailDeskLaw" (13 : Nat) ({ cls := "TrailDesk", name := "places", desc := "(I)V" } : Jvm.MethodName)) ∈ lw_all := lw_g (lw_at lw_m0 38 rfl) rfl
theorem q52 : (Jvm.Cond.methodLink "TrailDeskLaw" (18 : Nat) ({ cls := "TrailDesk", name := "edge", desc := "(II)Z" } : Jvm.MethodName)) ∈ lw_all := lw_g (lw_at lw_m0 43 rfl) rfl
theorem q60 : (Jvm.Cond.methodLink "TrailDeskLaw" (23 : Nat) ({ cls := "TrailDesk", name := "drop", desc := "()Z" } : Jvm.MethodName)) ∈ lw_all := lw_g (lw_at lw_m0 51 rfl) rfl
theorem q64 : (Jvm.Cond.methodLink "TrailDeskLaw" (45 : Nat) ({ cls := "TrailDesk", name := "ends", desc := "(I)I" } : Jvm.MethodName)) ∈ lw_all := lw_g (lw_at lw_m0 55 rfl) rfl
theorem q76 : (Jvm.Cond.methodLink "TrailDeskLaw" (28 : Nat) ({ cls := "TrailDesk", name := "open", desc := "()Z" } : Jvm.MethodName)) ∈ lw_all := lw_g (lw_at lw_m0 67 rfl) rfl
theorem q92 : (Jvm.Cond.methodLink "TrailDeskLaw" (32 : Nat) ({ cls := "TrailDesk", name := "closed", desc := "()Z" } : Jvm.MethodName)) ∈ lw_all := lw_g (lw_at lw_m0 83 rfl) rfl
theorem q96 : (Jvm.Cond.methodLink "TrailDeskLaw" (36 : Nat) ({ cls := "TrailDesk", name := "arrows", desc := "()Z" } : Jvm.MethodName)) ∈ lw_all := lw_g (lw_at lw_m0 87 rfl) rfl
theorem q104 : (Jvm.Cond.methodLink "TrailDeskLaw" (40 : Nat) ({ cls := "TrailDesk", name := "rounds", desc := "()J" } : Jvm.MethodName)) ∈ lw_all := lw_g (lw_at lw_m0 95 rfl) rfl
theorem q115 : (Jvm.Cond.classLink "TrailDeskLaw" (10 : Nat) "TrailDeskModel") ∈ lw_all := lw_g (lw_at lw_m0 106 rfl) rfl
theorem q117 : (Jvm.Cond.methodLink "TrailDeskLaw" (12 : Nat) ({ cls := "TrailDeskModel", name := "<init>", desc := "()V" } : Jvm.MethodName)) ∈ lw_all := lw_g (lw_at lw_m0 108 rfl) rfl
theorem q156 : (Jvm.Cond.methodLink "TrailDeskLaw" (17 : Nat) ({ cls := "TrailDeskModel", name := "places", desc := "(I)V" } : Jvm.MethodName)) ∈ lw_all := lw_g (lw_at lw_m0 147 rfl) rfl
theorem q161 : (Jvm.Cond.methodLink "TrailDeskLaw" (22 : Nat) ({ cls := "TrailDeskModel", name := "edge", desc := "(II)Z" } : Jvm.MethodName)) ∈ lw_all := lw_g (lw_at lw_m0 152 rfl) rfl
theorem q165 : (Jvm.Cond.methodLink "TrailDeskLaw" (27 : Nat) ({ cls := "TrailDeskModel", name := "drop", desc := "()Z" } : Jvm.MethodName)) ∈ lw_all := lw_g (lw_at lw_m0 156 rfl) rfl
theorem q169 : (Jvm.Cond.methodLink "TrailDeskLaw" (31 : Nat) ({ cls := "TrailDeskModel", name := "open", desc := "()Z" } : Jvm.MethodName)) ∈ lw_all := lw_g (lw_at lw_m0 160 rfl) rfl
theorem q177 : (Jvm.Cond.methodLink "TrailDeskLaw" (35 : Nat) ({ cls := "TrailDeskModel", name := "closed", desc := "()Z" } : Jvm.MethodName)) ∈ lw_all := lw_g (lw_at lw_m0 168 rfl) rfl
theorem q181 : (Jvm.Cond.methodLink "TrailDeskLaw" (39 : Nat) ({ cls := "TrailDeskModel", name := "arrows", desc := "()Z" } : Jvm.MethodName)) ∈ lw_all := lw_g (lw_at lw_m0 172 rfl) rfl
theorem q185 : (Jvm.Cond.methodLink "TrailDeskLaw" (44 : Nat) ({ cls := "TrailDeskModel", name := "rounds", desc := "()J" } : Jvm.MethodName)) ∈ lw_all := lw_g (lw_at lw_m0 176 rfl) rfl
theorem q189 : (Jvm.Cond.methodLink "TrailDeskLaw" (49 : Nat) ({ cls := "TrailDeskModel", name := "ends", desc := "(I)I" } : Jvm.MethodName)) ∈ lw_all := lw_g (lw_at lw_m0 180 rfl) rfl
/-! the law's own entry -/
set_option maxRecDepth 100000
abbrev cL_law : ByteArray := code
theorem dL_law_0 : decode cL_law 0 = .ok (.new 7, 3) := by decide +kernel
theorem dL_law_3 : decode cL_law 3 = .ok (.dup, 1) := by decide +kernel
theorem dL_law_4 : decode cL_law 4 = .ok (.invokespecial 9, 3) := by decide +kernel
theorem dL_law_7 : decode cL_law 7 = .ok (.astore_n 1, 1) := by decide +kernel
theorem dL_law_8 : decode cL_law 8 = .ok (.new 10, 3) := by decide +kernel
theorem dL_law_11 : decode cL_law 11 = .ok (.dup, 1) := by decide +kernel
theorem dL_law_12 : decode cL_law 12 = .ok (.invokespecial 12, 3) := by decide +kernel
theorem dL_law_15 : decode cL_law 15 = .ok (.astore_n 2, 1) := by decide +kernel
theorem dL_law_16 : decode cL_law 16 = .ok (.iconst 0, 1) := by decide +kernel
theorem dL_law_17 : decode cL_law 17 = .ok (.istore_n 3, 1) := by decide +kernel
theorem dL_law_18 : decode cL_law 18 = .ok (.iload_n 3, 1) := by decide +kernel
theorem dL_law_19 : decode cL_law 19 = .ok (.aload_n 0, 1) := by decide +kernel
theorem dL_law_20 : decode cL_law 20 = .ok (.arraylength, 1) := by decide +kernel
theorem dL_law_21 : decode cL_law 21 = .ok (.iconst 3, 1) := by decide +kernel
theorem dL_law_22 : decode cL_law 22 = .ok (.isub, 1) := by decide +kernel
theorem dL_law_23 : decode cL_law 23 = .ok (.if_icmp .gt 206, 3) := by decide +kernel
theorem dL_law_26 : decode cL_law 26 = .ok (.aload_n 0, 1) := by decide +kernel
theorem dL_law_27 : decode cL_law 27 = .ok (.iload_n 3, 1) := by decide +kernel
theorem dL_law_28 : decode cL_law 28 = .ok (.iaload, 1) := by decide +kernel
theorem dL_law_29 : decode cL_law 29 = .ok (.bipush 7, 2) := by decide +kernel
theorem dL_law_31 : decode cL_law 31 = .ok (.iand, 1) := by decide +kernel
theorem dL_law_32 : decode cL_law 32 = .ok (.tableswitch 191 0 7 #[48, 69, 102, 115, 128, 141, 154, 168], 48) := by decide +kernel
theorem dL_law_80 : decode cL_law 80 = .ok (.aload_n 1, 1) := by decide +kernel
theorem dL_law_81 : decode cL_law 81 = .ok (.aload_n 0, 1) := by decide +kernel
theorem dL_law_82 : decode cL_law 82 = .ok (.iload_n 3, 1) := by decide +kernel
theorem dL_law_83 : decode cL_law 83 = .ok (.iconst 1, 1) := by decide +kernel
theorem dL_law_84 : decode cL_law 84 = .ok (.iadd, 1) := by decide +kernel
theorem dL_law_85 : decode cL_law 85 = .ok (.iaload, 1) := by decide +kernel
theorem dL_law_86 : decode cL_law 86 = .ok (.invokevirtual 13, 3) := by decide +kernel
theorem dL_law_89 : decode cL_law 89 = .ok (.aload_n 2, 1) := by decide +kernel
theorem dL_law_90 : decode cL_law 90 = .ok (.aload_n 0, 1) := by decide +kernel
theorem dL_law_91 : decode cL_law 91 = .ok (.iload_n 3, 1) := by decide +kernel
theorem dL_law_92 : decode cL_law 92 = .ok (.iconst 1, 1) := by decide +kernel
theorem dL_law_93 : decode cL_law 93 = .ok (.iadd, 1) := by decide +kernel
theorem dL_law_94 : decode cL_law 94 = .ok (.iaload, 1) := by decide +kernel
theorem dL_law_95 : decode cL_law 95 = .ok (.invokevirtual 17, 3) := by decide +kernel
theorem dL_law_98 : decode cL_law 98 = .ok (.goto 125, 3) := by decide +kernel
theorem dL_law_101 : decode cL_law 101 = .ok (.aload_n 1, 1) := by decide +kernel
theorem dL_law_102 : decode cL_law 102 = .ok (.aload_n 0, 1) := by decide +kernel
theorem dL_law_103 : decode cL_law 103 = .ok (.iload_n 3, 1) := by decide +kernel
theorem dL_law_104 : decode cL_law 104 = .ok (.iconst 1, 1) := by decide +kernel
theorem dL_law_105 : decode cL_law 105 = .ok (.iadd, 1) := by decide +kernel
theorem dL_law_106 : decode cL_law 106 = .ok (.iaload, 1) := by decide +kernel
theorem dL_law_107 : decode cL_law 107 = .ok (.aload_n 0, 1) := by decide +kernel
theorem dL_law_108 : decode cL_law 108 = .ok (.iload_n 3, 1) := by decide +kernel
theorem dL_law_109 : decode cL_law 109 = .ok (.iconst 2, 1) := by decide +kernel
theorem dL_law_110 : decode cL_law 110 = .ok (.iadd, 1) := by decide +kernel
theorem dL_law_111 : decode cL_law 111 = .ok (.iaload, 1) := by decide +kernel
theorem dL_law_112 : decode cL_law 112 = .ok (.invokevirtual 18, 3) := by decide +kernel
theorem dL_law_115 : decode cL_law 115 = .ok (.aload_n 2, 1) := by decide +kernel
theorem dL_law_116 : decode cL_law 116 = .ok (.aload_n 0, 1) := by decide +kernel
theorem dL_law_117 : decode cL_law 117 = .ok (.iload_n 3, 1) := by decide +kernel
theorem dL_law_118 : decode cL_law 118 = .ok (.iconst 1, 1) := by decide +kernel
theorem dL_law_119 : decode cL_law 119 = .ok (.iadd, 1) := by decide +kernel
theorem dL_law_120 : decode cL_law 120 = .ok (.iaload, 1) := by decide +kernel
theorem dL_law_121 : decode cL_law 121 = .ok (.aload_n 0, 1) := by decide +kernel
theorem dL_law_122 : decode cL_law 122 = .ok (.iload_n 3, 1) := by decide +kernel
theorem dL_law_123 : decode cL_law 123 = .ok (.iconst 2, 1) := by decide +kernel
theorem dL_law_124 : decode cL_law 124 = .ok (.iadd, 1) := by decide +kernel
theorem dL_law_125 : decode cL_law 125 = .ok (.iaload, 1) := by decide +kernel
theorem dL_law_126 : decode cL_law 126 = .ok (.invokevirtual 22, 3) := by decide +kernel
theorem dL_law_129 : decode cL_law 129 = .ok (.if_icmp .eq 94, 3) := by decide +kernel
theorem dL_law_132 : decode cL_law 132 = .ok (.iconst 0, 1) := by decide +kernel
theorem dL_law_133 : decode cL_law 133 = .ok (.ireturn, 1) := by decide +kernel
theorem dL_law_134 : decode cL_law 134 = .ok (.aload_n 1, 1) := by decide +kernel
theorem dL_law_135 : decode cL_law 135 = .ok (.invokevirtual 23, 3) := by decide +kernel
theorem dL_law_138 : decode cL_law 138 = .ok (.aload_n 2, 1) := by decide +kernel
theorem dL_law_139 : decode cL_law 139 = .ok (.invokevirtual 27, 3) := by decide +kernel
theorem dL_law_142 : decode cL_law 142 = .ok (.if_icmp .eq 81, 3) := by decide +kernel
theorem dL_law_145 : decode cL_law 145 = .ok (.iconst 0, 1) := by decide +kernel
theorem dL_law_146 : decode cL_law 146 = .ok (.ireturn, 1) := by decide +kernel
theorem dL_law_147 : decode cL_law 147 = .ok (.aload_n 1, 1) := by decide +kernel
theorem dL_law_148 : decode cL_law 148 = .ok (.invokevirtual 28, 3) := by decide +kernel
theorem dL_law_151 : decode cL_law 151 = .ok (.aload_n 2, 1) := by decide +kernel
theorem dL_law_152 : decode cL_law 152 = .ok (.invokevirtual 31, 3) := by decide +kernel
theorem dL_law_155 : decode cL_law 155 = .ok (.if_icmp .eq 68, 3) := by decide +kernel
theorem dL_law_158 : decode cL_law 158 = .ok (.iconst 0, 1) := by decide +kernel
theorem dL_law_159 : decode cL_law 159 = .ok (.ireturn, 1) := by decide +kernel
theorem dL_law_160 : decode cL_law 160 = .ok (.aload_n 1, 1) := by decide +kernel
theorem dL_law_161 : decode cL_law 161 = .ok (.invokevirtual 32, 3) := by decide +kernel
theorem dL_law_164 : decode cL_law 164 = .ok (.aload_n 2, 1) := by decide +kernel
theorem dL_law_165 : decode cL_law 165 = .ok (.invokevirtual 35, 3) := by decide +kernel
theorem dL_law_168 : decode cL_law 168 = .ok (.if_icmp .eq 55, 3) := by decide +kernel
theorem dL_law_171 : decode cL_law 171 = .ok (.iconst 0, 1) := by decide +kernel
theorem dL_law_172 : decode cL_law 172 = .ok (.ireturn, 1) := by decide +kernel
theorem dL_law_173 : decode cL_law 173 = .ok (.aload_n 1, 1) := by decide +kernel
theorem dL_law_174 : decode cL_law 174 = .ok (.invokevirtual 36, 3) := by decide +kernel
theorem dL_law_177 : decode cL_law 177 = .ok (.aload_n 2, 1) := by decide +kernel
theorem dL_law_178 : decode cL_law 178 = .ok (.invokevirtual 39, 3) := by decide +kernel
theorem dL_law_181 : decode cL_law 181 = .ok (.if_icmp .eq 42, 3) := by decide +kernel
theorem dL_law_184 : decode cL_law 184 = .ok (.iconst 0, 1) := by decide +kernel
theorem dL_law_185 : decode cL_law 185 = .ok (.ireturn, 1) := by decide +kernel
theorem dL_law_186 : decode cL_law 186 = .ok (.aload_n 1, 1) := by decide +kernel
theorem dL_law_187 : decode cL_law 187 = .ok (.invokevirtual 40, 3) := by decide +kernel
theorem dL_law_190 : decode cL_law 190 = .ok (.aload_n 2, 1) := by decide +kernel
theorem dL_law_191 : decode cL_law 191 = .ok (.invokevirtual 44, 3) := by decide +kernel
theorem dL_law_194 : decode cL_law 194 = .ok (.lcmp, 1) := by decide +kernel
theorem dL_law_195 : decode cL_law 195 = .ok (.ifCond .eq 28, 3) := by decide +kernel
theorem dL_law_198 : decode cL_law 198 = .ok (.iconst 0, 1) := by decide +kernel
theorem dL_law_199 : decode cL_law 199 = .ok (.ireturn, 1) := by decide +kernel
theorem dL_law_200 : decode cL_law 200 = .ok (.aload_n 1, 1) := by decide +kernel
theorem dL_law_201 : decode cL_law 201 = .ok (.aload_n 0, 1) := by decide +kernel
theorem dL_law_202 : decode cL_law 202 = .ok (.iload_n 3, 1) := by decide +kernel
theorem dL_law_203 : decode cL_law 203 = .ok (.iconst 1, 1) := by decide +kernel
theorem dL_law_204 : decode cL_law 204 = .ok (.iadd, 1) := by decide +kernel
theorem dL_law_205 : decode cL_law 205 = .ok (.iaload, 1) := by decide +kernel
theorem dL_law_206 : decode cL_law 206 = .ok (.invokevirtual 45, 3) := by decide +kernel
theorem dL_law_209 : decode cL_law 209 = .ok (.aload_n 2, 1) := by decide +kernel
theorem dL_law_210 : decode cL_law 210 = .ok (.aload_n 0, 1) := by decide +kernel
theorem dL_law_211 : decode cL_law 211 = .ok (.iload_n 3, 1) := by decide +kernel
theorem dL_law_212 : decode cL_law 212 = .ok (.iconst 1, 1) := by decide +kernel
theorem dL_law_213 : decode cL_law 213 = .ok (.iadd, 1) := by decide +kernel
theorem dL_law_214 : decode cL_law 214 = .ok (.iaload, 1) := by decide +kernel
theorem dL_law_215 : decode cL_law 215 = .ok (.invokevirtual 49, 3) := by decide +kernel
theorem dL_law_218 : decode cL_law 218 = .ok (.if_icmp .eq 5, 3) := by decide +kernel
theorem dL_law_221 : decode cL_law 221 = .ok (.iconst 0, 1) := by decide +kernel
theorem dL_law_222 : decode cL_law 222 = .ok (.ireturn, 1) := by decide +kernel
theorem dL_law_223 : decode cL_law 223 = .ok (.iinc 3 3, 3) := by decide +kernel
theorem dL_law_226 : decode cL_law 226 = .ok (.goto (-208), 3) := by decide +kernel
theorem dL_law_229 : decode cL_law 229 = .ok (.iconst 1, 1) := by decide +kernel
theorem dL_law_230 : decode cL_law 230 = .ok (.ireturn, 1) := by decide +kernel
end
section
/-! THE WORLDS: the desk's cells (places 0 .. 5), any others, the rows of its table; the model's cells (places 0 .. 4), any others -/
abbrev vwCl : List vw_C := [(RX0, TX0, 7), (RX1, TX1, 11)]
abbrev gTY (kI kL kG kZ : ClassId) : List (ClassId × FieldType) := [(kI, .int), (kL, .long), (kG, .array .long), (kZ, .boolean)]
abbrev gX6 (ad : Nat → Nat) (kI kG : ClassId) (n mm : Nat) (fa fb rt us : Nat → Int32) (g : Nat → Option Nat) : va_W := [(ad 0, .inr (0, [.int (nI n), .int (nI mm), .ref (ad 1), .ref (ad 2), .ref (ad 3), .ref (ad 4), .ref (ad 5)])), (ad 1, .inl (kI, 10, .inl fa)), (ad 2, .inl (kI, 10, .inl fb)), (ad 3, .inl (kI, 5, .inl rt)), (ad 4, .inl (kI, 5, .inl us)), (ad 5, .inl (kG, 5, .inr (.inr (.inr (.inr g)))))]
abbrev gWX (ad : Nat → Nat) (kI kL kG : ClassId) (mw : va_W) (LP : List Nat) (n mm : Nat) (fa fb rt us : Nat → Int32) (g : Nat → Option Nat) (pr : Nat → Nat → Int64) : va_W := (gX6 ad kI kG n mm fa fb rt us g ++ mw) ++ gm_pool kL 5 LP pr
abbrev gM5 (bd : Nat → Nat) (kI kL kZ : ClassId) (ma mb : Nat → Int32) (en nn : Nat) (kn : Int32) (can : Nat → Int32) (ways : Nat → Int64) (fo fc fr : Int32) (ro : Int64) : va_W := [(bd 0, .inr (1, [.ref (bd 1), .ref (bd 2), .int (nI en), .int (nI nn), .int kn, .ref (bd 3), .ref (bd 4), .int fo, .int fc, .int fr, .long ro])), (bd 1, .inl (kI, 10, .inl ma)), (bd 2, .inl (kI, 10, .inl mb)), (bd 3, .inl (kZ, 5120, .inl can)), (bd 4, .inl (kL, 5120, .inr (.inl ways)))]
abbrev gWM (bd : Nat → Nat) (kI kL kZ : ClassId) (zw : va_W) (ma mb : Nat → Int32) (en nn : Nat) (kn : Int32) (can : Nat → Int32) (ways : Nat → Int64) (fo fc fr : Int32) (ro : Int64) : va_W := gM5 bd kI kL kZ ma mb en nn kn can ways fo fc fr ro ++ zw
/-- the first m places of f hold the naturals h, each below n -/
def gm_hold (n m : Nat) (f : Nat → Int32) (h : Nat → Nat) : Prop := ∀ e, e < m → f e = nI (h e) ∧ h e < n
end
section
/-! THE DESK's reads: place, leaving, coming, ends -/
abbrev wsX0_place : List Cond := ws_ yX0_place cX0_place 2 (some .int)
set_option maxHeartbeats 4000000 in
set_option maxRecDepth 100000 in
/-- place(k): k's place among n -/
theorem metX0_place (l : Launch) (dC : Nat → ClassId) (dI : Nat → Nat → Nat) (kI kL kG kZ : ClassId) (ad : Nat → Nat) (mw : va_W) (LP : List Nat) (n mm : Nat) (fa fb rt us : Nat → Int32) (g : Nat → Option Nat) (pr : Nat → Nat → Int64) (p0 : Int32) (hn : 1 ≤ n ∧ n ≤ 5) : Met l yX0_place wsX0_place ({ frames := 0, cells := 0, slots := 0, locals := 0 }) (va_Pc [.ref (ad 0), .int p0] (fun U => va_P (dC, dI) vwCl (gWX ad kI kL kG mw LP n mm fa fb rt us g pr) U.heap ∧ va_K (dC, dI) vwCl (gTY kI kL kG kZ) U)) (vp_Si (fun r => r = nI (gm_pl p0 n))) 0 0 (fun _ => False) := by
  refine Met.ofW (cc := cX0_place) (maxL := 2) (ret := (some .int)) (by decide) rfl ?_
  intro p e s m args below meth c s₁ B hml hv
  obtain ⟨rfl, hP, hK⟩ := hv
  have hx := B.exec
  have hb := B.bytes
  have hr := B.returns
  have hts := atoms_spec (ws := wsX0_place) B.pre
  have hts : ∀ w ∈ lw_all, w.before _ s = true := fun w h => hts w (List.mem_cons_of_mem _ h)
  have hown : s.vm.findClass RX0 = some m.cls := findClass_of_methodNamed B.named
  have hlocks := B.notSynchronized
  have hl := lv_entry ([.ref (ad 0), .int p0]) (n := 2) (Nat.le_of_ble_eq_true rfl)
  rw [lg_entry_eq]
  generalize (lg_sl ([.ref (ad 0), .int p0]) ++ List.replicate (2 - (lg_sl ([.ref (ad 0), .int p0])).length) Slot.unset).toArray = ls at hl ⊢
  have hl : lv_has ls 2 [(0, .ref (ad 0)), (1, .int p0)] := hl
  refine lv_iload_n hx hb dX0_place_0 rfl (lv_at hl 1 rfl) ?_
  refine lv_ldc hx hb hown (hts _ q51) dX0_place_1 ?_
  refine lv_iand hx hb dX0_place_3 ?_
  refine gm_tpi (gm_and31 p0) ?_
  refine lv_aload_n hx hb dX0_place_4 rfl (lv_at hl 0 rfl) ?_
  refine va_get (D := (dC, dI)) (ci := 0) (v := .int (nI n)) (C := RX0) (T := TX0) (N := 7) hx hb hts in_X0 hown hK hP 0 rfl rfl 0 (by decide) (hts _ q23) (fun _ h9 => h9) rfl dX0_place_5 ?_
  refine lv_irem hx hb dX0_place_8 (nI_ne0 (by omega) (by omega)) ?_
  refine gm_tpi (gm_rem p0 (by omega) (by omega)) ?_
  exact W.iret (v := nI (gm_pl p0 n)) hx hb hr (fun t ht hW => ⟨_, rfl, rfl, ht⟩) (fun q hq => by cases hq) dX0_place_9
abbrev wsX0_leaving : List Cond := ws_ yX0_leaving cX0_leaving 4 (some .int)
set_option maxHeartbeats 4000000 in
set_option maxRecDepth 100000 in
/-- leaving(p): how many of the edges have p there -/
theorem metX0_leaving (l : Launch) (dC : Nat → ClassId) (dI : Nat → Nat → Nat) (kI kL kG kZ : ClassId) (ad : Nat → Nat) (mw : va_W) (LP : List Nat) (n mm : Nat) (fa fb rt us : Nat → Int32) (g : Nat → Option Nat) (pr : Nat → Nat → Int64) (q : Nat) (a : Nat → Nat) (hq : q < 2 ^ 31) (hm : mm ≤ 10) (hn : n ≤ 5) (hh : gm_hold n mm fa a) : Met l yX0_leaving wsX0_leaving ({ frames := 0, cells := 0, slots := 0, locals := 0 }) (va_Pc [.ref (ad 0), .int (nI q)] (fun U => va_P (dC, dI) vwCl (gWX ad kI kL kG mw LP n mm fa fb rt us g pr) U.heap ∧ va_K (dC, dI) vwCl (gTY kI kL kG kZ) U)) (vp_Si (fun r => r = nI (gm_ct a q mm))) 0 0 (fun _ => False) := by
  refine Met.ofW (cc := cX0_leaving) (maxL := 4) (ret := (some .int)) (by decide) rfl ?_
  intro p e s m args below meth c s₁ B hml hv
  obtain ⟨rfl, hP, hK⟩ := hv
  have hx := B.exec
  have hb := B.bytes
  have hr := B.returns
  have hts := atoms_spec (ws := wsX0_leaving) B.pre
  have hts : ∀ w ∈ lw_all, w.before _ s = true := fun w h => hts w (List.mem_cons_of_mem _ h)
  have hown : s.vm.findClass RX0 = some m.cls := findClass_of_methodNamed B.named
  have hlocks := B.notSynchronized
  have hl := lv_entry ([.ref (ad 0), .int (nI q)]) (n := 4) (Nat.le_of_ble_eq_true rfl)
  rw [lg_entry_eq]
  generalize (lg_sl ([.ref (ad 0), .int (nI q)]) ++ List.replicate (4 - (lg_sl ([.ref (ad 0), .int (nI q)])).length) Slot.unset).toArray = ls at hl ⊢
  have hl : lv_has ls 4 [(0, .ref (ad 0)), (1, .int (nI q))] := hl
  refine lv_iconst (v := nI 0) hx hb dX0_leaving_0 (by decide) ?_
  refine lv_istore_n (lv' := [(2, .int (nI 0)), (0, .ref (ad 0)), (1, .int (nI q))]) hx hb dX0_leaving_1 rfl hl (by decide) rfl (fun ls hl => ?_)
  refine lv_iconst (v := nI 0) hx hb dX0_leaving_2 (by decide) ?_
  refine lv_istore_n (lv' := [(3, .int (nI 0)), (2, .int (nI 0)), (0, .ref (ad 0)), (1, .int (nI q))]) hx hb dX0_leaving_3 rfl hl (by decide) rfl (fun ls hl => ?_)
  have loop : ∀ (k i : Nat), i ≤ mm → mm < i + k → ∀ ls, lv_has ls 4 [(3, .int (nI i)), (2, .int (nI (gm_ct a q i))), (0, .ref (ad 0)), (1, .int (nI q))] → W p l e (headSpec wsX0_leaving ({ frames := 0, cells := 0, slots := 0, locals := 0 })).room s m ([.ref (ad 0), .int (nI q)] : List Value).toArray below meth c s.heap [] 0 0 (MQ below (vp_Si (fun r => r = nI (gm_ct a q mm))) ([.ref (ad 0), .int (nI q)] : List Value).toArray s 0 0 (fun _ => False)) (F0 m 4 ls []) := by
    intro k
    induction k with
    | zero => intro i h1 h2; exact absurd h2 (by omega)
    | succ k ih =>
      intro i h1 h2 ls hl
      have hcl := gm_ct_le a q i
      refine lv_iload_n hx hb dX0_leaving_4 rfl (lv_at hl 0 rfl) ?_
      refine lv_aload_n hx hb dX0_leaving_5 rfl (lv_at hl 2 rfl) ?_
      refine va_get (D := (dC, dI)) (ci := 0) (v := .int (nI mm)) (C := RX0) (T := TX0) (N := 7) hx hb hts in_X0 hown hK hP 0 rfl rfl 1 (by decide) (hts _ q24) (fun _ h9 => h9) rfl dX0_leaving_6 ?_
      refine gm_bge (tgt := 31) hx hb dX0_leaving_9 (by decide) (by omega) (by omega) (fun hc => ?_) (fun hc => ?_)
      · have e1 : i = mm := by omega
        refine lv_iload_n hx hb dX0_leaving_31 rfl (lv_at hl 1 rfl) ?_
        exact W.iret (v := nI (gm_ct a q i)) hx hb hr (fun t ht hW => ⟨_, rfl, by rw [e1], ht⟩) (fun q hq => by cases hq) dX0_leaving_32
      · obtain ⟨e1, e2⟩ := hh i hc
        refine lv_aload_n hx hb dX0_leaving_12 rfl (lv_at hl 2 rfl) ?_
        refine va_get (D := (dC, dI)) (ci := 0) (v := .ref (ad 1)) (C := RX0) (T := TX0) (N := 7) hx hb hts in_X0 hown hK hP 0 rfl rfl 2 (by decide) (hts _ q25) (fun _ h9 => h9) rfl dX0_leaving_13 ?_
        refine lv_iload_n hx hb dX0_leaving_16 rfl (lv_at hl 0 rfl) ?_
        refine gm_iald (v := nI (a i)) hx hb hK hP 1 0 rfl rfl (k := i) (by omega) (by decide) e1 dX0_leaving_17 ?_
        refine lv_iload_n hx hb dX0_leaving_18 rfl (lv_at hl 3 rfl) ?_
        refine gm_bne (tgt := 25) hx hb dX0_leaving_19 (by decide) (by omega) (by omega) (fun hc2 => ?_) (fun hc2 => ?_)
        · have e3 : gm_ct a q (i + 1) = gm_ct a q i := by rw [gm_ct, if_neg hc2]; omega
          refine lv_iinc (v := nI (i + 1)) (lv' := [(3, .int (nI (i + 1))), (2, .int (nI (gm_ct a q i))), (0, .ref (ad 0)), (1, .int (nI q))]) hx hb dX0_leaving_25 hl (k := 0) rfl (nI_1 i) (by decide) rfl (fun ls hl => ?_)
          refine lv_goto (tgt := 4) hx hb dX0_leaving_28 (by decide) ?_
          exact ih (i + 1) (by omega) (by omega) ls (by rw [e3]; exact lv_sub hl [0, 1, 2, 3] rfl)
        · have e3 : gm_ct a q (i + 1) = gm_ct a q i + 1 := by rw [gm_ct, if_pos hc2]
          refine lv_iinc (v := nI (gm_ct a q i + 1)) (lv' := [(2, .int (nI (gm_ct a q i + 1))), (3, .int (nI i)), (0, .ref (ad 0)), (1, .int (nI q))]) hx hb dX0_leaving_22 hl (k := 1) rfl (nI_1 (gm_ct a q i)) (by decide) rfl (fun ls hl => ?_)
          refine lv_iinc (v := nI (i + 1)) (lv' := [(3, .int (nI (i + 1))), (2, .int (nI (gm_ct a q i + 1))), (0, .ref (ad 0)), (1, .int (nI q))]) hx hb dX0_leaving_25 hl (k := 1) rfl (nI_1 i) (by decide) rfl (fun ls hl => ?_)
          refine lv_goto (tgt := 4) hx hb dX0_leaving_28 (by decide) ?_
          exact ih (i + 1) (by omega) (by omega) ls (by rw [e3]; exact lv_sub hl [0, 1, 2, 3] rfl)
  exact loop (mm + 1) 0 (by omega) (by omega) ls hl
abbrev wsX0_coming : List Cond := ws_ yX0_coming cX0_coming 4 (some .int)
set_option maxHeartbeats 4000000 in
set_option maxRecDepth 100000 in
/-- coming(p): how many of the edges have p there -/
theorem metX0_coming (l : Launch) (dC : Nat → ClassId) (dI : Nat → Nat → Nat) (kI kL kG kZ : ClassId) (ad : Nat → Nat) (mw : va_W) (LP : List Nat) (n mm : Nat) (fa fb rt us : Nat → Int32) (g : Nat → Option Nat) (pr : Nat → Nat → Int64) (q : Nat) (b : Nat → Nat) (hq : q < 2 ^ 31) (hm : mm ≤ 10) (hn : n ≤ 5) (hh : gm_hold n mm fb b) : Met l yX0_coming wsX0_coming ({ frames := 0, cells := 0, slots := 0, locals := 0 }) (va_Pc [.ref (ad 0), .int (nI q)] (fun U => va_P (dC, dI) vwCl (gWX ad kI kL kG mw LP n mm fa fb rt us g pr) U.heap ∧ va_K (dC, dI) vwCl (gTY kI kL kG kZ) U)) (vp_Si (fun r => r = nI (gm_ct b q mm))) 0 0 (fun _ => False) := by
  refine Met.ofW (cc := cX0_coming) (maxL := 4) (ret := (some .int)) (by decide) rfl ?_
  intro p e s m args below meth c s₁ B hml hv
  obtain ⟨rfl, hP, hK⟩ := hv
  have hx := B.exec
  have hb := B.bytes
  have hr := B.returns
  have hts := atoms_spec (ws := wsX0_coming) B.pre
  have hts : ∀ w ∈ lw_all, w.before _ s = true := fun w h => hts w (List.mem_cons_of_mem _ h)
  have hown : s.vm.findClass RX0 = some m.cls := findClass_of_methodNamed B.named
  have hlocks := B.notSynchronized
  have hl := lv_entry ([.ref (ad 0), .int (nI q)]) (n := 4) (Nat.le_of_ble_eq_true rfl)
  rw [lg_entry_eq]
  generalize (lg_sl ([.ref (ad 0), .int (nI q)]) ++ List.replicate (4 - (lg_sl ([.ref (ad 0), .int (nI q)])).length) Slot.unset).toArray = ls at hl ⊢
  have hl : lv_has ls 4 [(0, .ref (ad 0)), (1, .int (nI q))] := hl
  refine lv_iconst (v := nI 0) hx hb dX0_coming_0 (by decide) ?_
  refine lv_istore_n (lv' := [(2, .int (nI 0)), (0, .ref (ad 0)), (1, .int (nI q))]) hx hb dX0_coming_1 rfl hl (by decide) rfl (fun ls hl => ?_)
  refine lv_iconst (v := nI 0) hx hb dX0_coming_2 (by decide) ?_
  refine lv_istore_n (lv' := [(3, .int (nI 0)), (2, .int (nI 0)), (0, .ref (ad 0)), (1, .int (nI q))]) hx hb dX0_coming_3 rfl hl (by decide) rfl (fun ls hl => ?_)
  have loop : ∀ (k i : Nat), i ≤ mm → mm < i + k → ∀ ls, lv_has ls 4 [(3, .int (nI i)), (2, .int (nI (gm_ct b q i))), (0, .ref (ad 0)), (1, .int (nI q))] → W p l e (headSpec wsX0_coming ({ frames := 0, cells := 0, slots := 0, locals := 0 })).room s m ([.ref (ad 0), .int (nI q)] : List Value).toArray below meth c s.heap [] 0 0 (MQ below (vp_Si (fun r => r = nI (gm_ct b q mm))) ([.ref (ad 0), .int (nI q)] : List Value).toArray s 0 0 (fun _ => False)) (F0 m 4 ls []) := by
    intro k
    induction k with
    | zero => intro i h1 h2; exact absurd h2 (by omega)
    | succ k ih =>
      intro i h1 h2 ls hl
      have hcl := gm_ct_le b q i
      refine lv_iload_n hx hb dX0_coming_4 rfl (lv_at hl 0 rfl) ?_
      refine lv_aload_n hx hb dX0_coming_5 rfl (lv_at hl 2 rfl) ?_
      refine va_get (D := (dC, dI)) (ci := 0) (v := .int (nI mm)) (C := RX0) (T := TX0) (N := 7) hx hb hts in_X0 hown hK hP 0 rfl rfl 1 (by decide) (hts _ q24) (fun _ h9 => h9) rfl dX0_coming_6 ?_
      refine gm_bge (tgt := 31) hx hb dX0_coming_9 (by decide) (by omega) (by omega) (fun hc => ?_) (fun hc => ?_)
      · have e1 : i = mm := by omega
        refine lv_iload_n hx hb dX0_coming_31 rfl (lv_at hl 1 rfl) ?_
        exact W.iret (v := nI (gm_ct b q i)) hx hb hr (fun t ht hW => ⟨_, rfl, by rw [e1], ht⟩) (fun q hq => by cases hq) dX0_coming_32
      · obtain ⟨e1, e2⟩ := hh i hc
        refine lv_aload_n hx hb dX0_coming_12 rfl (lv_at hl 2 rfl) ?_
        refine va_get (D := (dC, dI)) (ci := 0) (v := .ref (ad 2)) (C := RX0) (T := TX0) (N := 7) hx hb hts in_X0 hown hK hP 0 rfl rfl 3 (by decide) (hts _ q26) (fun _ h9 => h9) rfl dX0_coming_13 ?_
        refine lv_iload_n hx hb dX0_coming_16 rfl (lv_at hl 0 rfl) ?_
        refine gm_iald (v := nI (b i)) hx hb hK hP 2 0 rfl rfl (k := i) (by omega) (by decide) e1 dX0_coming_17 ?_
        refine lv_iload_n hx hb dX0_coming_18 rfl (lv_at hl 3 rfl) ?_
        refine gm_bne (tgt := 25) hx hb dX0_coming_19 (by decide) (by omega) (by omega) (fun hc2 => ?_) (fun hc2 => ?_)
        · have e3 : gm_ct b q (i + 1) = gm_ct b q i := by rw [gm_ct, if_neg hc2]; omega
          refine lv_iinc (v := nI (i + 1)) (lv' := [(3, .int (nI (i + 1))), (2, .int (nI (gm_ct b q i))), (0, .ref (ad 0)), (1, .int (nI q))]) hx hb dX0_coming_25 hl (k := 0) rfl (nI_1 i) (by decide) rfl (fun ls hl => ?_)
          refine lv_goto (tgt := 4) hx hb dX0_coming_28 (by decide) ?_
          exact ih (i + 1) (by omega) (by omega) ls (by rw [e3]; exact lv_sub hl [0, 1, 2, 3] rfl)
        · have e3 : gm_ct b q (i + 1) = gm_ct b q i + 1 := by rw [gm_ct, if_pos hc2]
          refine lv_iinc (v := nI (gm_ct b q i + 1)) (lv' := [(2, .int (nI (gm_ct b q i + 1))), (3, .int (nI i)), (0, .ref (ad 0)), (1, .int (nI q))]) hx hb dX0_coming_22 hl (k := 1) rfl (nI_1 (gm_ct b q i)) (by decide) rfl (fun ls hl => ?_)
          refine lv_iinc (v := nI (i + 1)) (lv' := [(3, .int (nI (i + 1))), (2, .int (nI (gm_ct b q i + 1))), (0, .ref (ad 0)), (1, .int (nI q))]) hx hb dX0_coming_25 hl (k := 1) rfl (nI_1 i) (by decide) rfl (fun ls hl => ?_)
          refine lv_goto (tgt := 4) hx hb dX0_coming_28 (by decide) ?_
          exact ih (i + 1) (by omega) (by omega) ls (by rw [e3]; exact lv_sub hl [0, 1, 2, 3] rfl)
  exact loop (mm + 1) 0 (by omega) (by omega) ls hl
abbrev wsX0_ends : List Cond := ws_ yX0_ends cX0_ends 2 (some .int)
set_option maxHeartbeats 4000000 in
set_option maxRecDepth 100000 in
/-- ends(k): the ends at k's place -/
theorem metX0_ends (l : Launch) (dC : Nat → ClassId) (dI : Nat → Nat → Nat) (kI kL kG kZ : ClassId) (ad : Nat → Nat) (mw : va_W) (LP : List Nat) (n mm : Nat) (fa fb rt us : Nat → Int32) (g : Nat → Option Nat) (pr : Nat → Nat → Int64) (p0 : Int32) (a b : Nat → Nat) (hn : 1 ≤ n ∧ n ≤ 5) (hm : mm ≤ 10) (ha : gm_hold n mm fa a) (hb2 : gm_hold n mm fb b) : Met l yX0_ends wsX0_ends ({ frames := 1, cells := 0, slots := 0, locals := 35 }) (va_Pc [.ref (ad 0), .int p0] (fun U => va_P (dC, dI) vwCl (gWX ad kI kL kG mw LP n mm fa fb rt us g pr) U.heap ∧ va_K (dC, dI) vwCl (gTY kI kL kG kZ) U)) (vp_Si (fun r => r = nI (gm_ct a (gm_pl p0 n) mm + gm_ct b (gm_pl p0 n) mm))) 0 0 (fun _ => False) := by
  refine Met.ofW (cc := cX0_ends) (maxL := 2) (ret := (some .int)) (by decide) rfl ?_
  intro p e s m args below meth c s₁ B hml hv
  obtain ⟨rfl, hP, hK⟩ := hv
  have hx := B.exec
  have hb := B.bytes
  have hr := B.returns
  have hts := atoms_spec (ws := wsX0_ends) B.pre
  have hts : ∀ w ∈ lw_all, w.before _ s = true := fun w h => hts w (List.mem_cons_of_mem _ h)
  have hown : s.vm.findClass RX0 = some m.cls := findClass_of_methodNamed B.named
  have hlocks := B.notSynchronized
  have hl := lv_entry ([.ref (ad 0), .int p0]) (n := 2) (Nat.le_of_ble_eq_true rfl)
  rw [lg_entry_eq]
  generalize (lg_sl ([.ref (ad 0), .int p0]) ++ List.replicate (2 - (lg_sl ([.ref (ad 0), .int p0])).length) Slot.unset).toArray = ls at hl ⊢
  have hl : lv_has ls 2 [(0, .ref (ad 0)), (1, .int p0)] := hl
  have hq := gm_pl_lt p0 (show 0 < n by omega)
  refine lv_aload_n hx hb dX0_ends_0 rfl (lv_at hl 0 rfl) ?_
  refine lv_aload_n hx hb dX0_ends_1 rfl (lv_at hl 0 rfl) ?_
  refine lv_iload_n hx hb dX0_ends_2 rfl (lv_at hl 1 rfl) ?_
  refine vp_callSi (W.runV (As := [.int p0]) (rest := [.ref (ad 0)]) ⟨hx, hb, hml, hown, hts⟩ (metX0_place l dC dI kI kL kG kZ ad mw LP n mm fa fb rt us g pr p0 hn) (cwV 1 hts (lw_V q56 q58 qs0 q10 q59) rfl rfl rfl (by decide +kernel) ⟨Nat.le_of_ble_eq_true rfl, Nat.le_of_ble_eq_true rfl⟩) ⟨fun a U g mk q => by obtain ⟨q0, qP, qK⟩ := q; exact ⟨q0, qP, va_K.moved (u := U) (U := U.calling g mk a) (Vm.Alike.refl U.vm) qK⟩, va_recv hK hP (ci := 0) (q0 := 0) rfl rfl, fun U hU hW => ⟨rfl, by rw [hU]; exact hP, va_K.moved hW.alike hK⟩⟩ rfl rfl hl.1 rfl (lv_room (Nat.le_of_ble_eq_true rfl)) dX0_ends_3 ⟨Nat.le_refl _, Nat.le_refl _⟩) (fun r hr1 => ?_)
  subst hr1
  refine vp_callSi (W.runV (As := [.int (nI (gm_pl p0 n))]) (rest := []) ⟨hx, hb, hml, hown, hts⟩ (metX0_leaving l dC dI kI kL kG kZ ad mw LP n mm fa fb rt us g pr (gm_pl p0 n) a (by omega) hm hn.2 ha) (cwV 1 hts (lw_V q68 q70 qs1 q10 q71) rfl rfl rfl (by decide +kernel) ⟨Nat.le_of_ble_eq_true rfl, Nat.le_of_ble_eq_true rfl⟩) ⟨fun a U g mk q => by obtain ⟨q0, qP, qK⟩ := q; exact ⟨q0, qP, va_K.moved (u := U) (U := U.calling g mk a) (Vm.Alike.refl U.vm) qK⟩, va_recv hK hP (ci := 0) (q0 := 0) rfl rfl, fun U hU hW => ⟨rfl, by rw [hU]; exact hP, va_K.moved hW.alike hK⟩⟩ rfl rfl hl.1 rfl (lv_room (Nat.le_of_ble_eq_true rfl)) dX0_ends_6 ⟨Nat.le_refl _, Nat.le_refl _⟩) (fun r hr1 => ?_)
  subst hr1
  refine lv_aload_n hx hb dX0_ends_9 rfl (lv_at hl 0 rfl) ?_
  refine lv_aload_n hx hb dX0_ends_10 rfl (lv_at hl 0 rfl) ?_
  refine lv_iload_n hx hb dX0_ends_11 rfl (lv_at hl 1 rfl) ?_
  refine vp_callSi (W.runV (As := [.int p0]) (rest := [.ref (ad 0), .int (nI (gm_ct a (gm_pl p0 n) mm))]) ⟨hx, hb, hml, hown, hts⟩ (metX0_place l dC dI kI kL kG kZ ad mw LP n mm fa fb rt us g pr p0 hn) (cwV 1 hts (lw_V q56 q58 qs0 q10 q59) rfl rfl rfl (by decide +kernel) ⟨Nat.le_of_ble_eq_true rfl, Nat.le_of_ble_eq_true rfl⟩) ⟨fun a U g mk q => by obtain ⟨q0, qP, qK⟩ := q; exact ⟨q0, qP, va_K.moved (u := U) (U := U.calling g mk a) (Vm.Alike.refl U.vm) qK⟩, va_recv hK hP (ci := 0) (q0 := 0) rfl rfl, fun U hU hW => ⟨rfl, by rw [hU]; exact hP, va_K.moved hW.alike hK⟩⟩ rfl rfl hl.1 rfl (lv_room (Nat.le_of_ble_eq_true rfl)) dX0_ends_12 ⟨Nat.le_refl _, Nat.le_refl _⟩) (fun r hr1 => ?_)
  subst hr1
  refine vp_callSi (W.runV (As := [.int (nI (gm_pl p0 n))]) (rest := [.int (nI (gm_ct a (gm_pl p0 n) mm))]) ⟨hx, hb, hml, hown, hts⟩ (metX0_coming l dC dI kI kL kG kZ ad mw LP n mm fa fb rt us g pr (gm_pl p0 n) b (by omega) hm hn.2 hb2) (cwV 1 hts (lw_V q72 q74 qs2 q10 q75) rfl rfl rfl (by decide +kernel) ⟨Nat.le_of_ble_eq_true rfl, Nat.le_of_ble_eq_true rfl⟩) ⟨fun a U g mk q => by obtain ⟨q0, qP, qK⟩ := q; exact ⟨q0, qP, va_K.moved (u := U) (U := U.calling g mk a) (Vm.Alike.refl U.vm) qK⟩, va_recv hK hP (ci := 0) (q0 := 0) rfl rfl, fun U hU hW => ⟨rfl, by rw [hU]; exact hP, va_K.moved hW.alike hK⟩⟩ rfl rfl hl.1 rfl (lv_room (Nat.le_of_ble_eq_true rfl)) dX0_ends_15 ⟨Nat.le_refl _, Nat.le_refl _⟩) (fun r hr1 => ?_)
  subst hr1
  refine lv_iadd hx hb dX0_ends_18 ?_
  refine gm_tpi (nI_add (gm_ct a (gm_pl p0 n) mm) (gm_ct b (gm_pl p0 n) mm)) ?_
  exact W.iret (v := nI (gm_ct a (gm_pl p0 n) mm + (gm_ct b (gm_pl p0 n) mm))) hx hb hr (fun t ht hW => ⟨_, rfl, rfl, ht⟩) (fun q hq => by cases hq) dX0_ends_19
end
section
/-! THE DESK: rootOf, isOne, odd, over -/
theorem gm_hold_up {n : Nat} {rt : Nat → Int32} {h : Nat → Nat} (H : gm_hold n n rt h) {i v : Nat} (hv : v < n) : gm_hold n n (upd rt i (nI v)) (gm_uph h i v) := fun e he => by
  by_cases h1 : e = i
  · rw [h1, pk_us, show gm_uph h i v i = v from if_pos rfl]; exact ⟨rfl, hv⟩
  · rw [pk_un h1, show gm_uph h i v e = h e from if_neg h1]; exact H e he
abbrev wsX0_rootOf : List Cond := ws_ yX0_rootOf cX0_rootOf 3 (some .int)
set_option maxHeartbeats 4000000 in
set_option maxRecDepth 100000 in
/-- rootOf(p): the root f of p -/
theorem metX0_rootOf (l : Launch) (dC : Nat → ClassId) (dI : Nat → Nat → Nat) (kI kL kG kZ : ClassId) (ad : Nat → Nat) (mw : va_W) (LP : List Nat) (n mm : Nat) (fa fb rt us : Nat → Int32) (g : Nat → Option Nat) (pr : Nat → Nat → Int64) (q f k0 : Nat) (h : Nat → Nat) (hn : n ≤ 5) (hq : q < n) (hh : gm_hold n n rt h) (hk0 : gm_it h k0 q = f) (hf : h f = f) : Met l yX0_rootOf wsX0_rootOf ({ frames := 0, cells := 0, slots := 0, locals := 0 }) (va_Pc [.ref (ad 0), .int (nI q)] (fun U => va_P (dC, dI) vwCl (gWX ad kI kL kG mw LP n mm fa fb rt us g pr) U.heap ∧ va_K (dC, dI) vwCl (gTY kI kL kG kZ) U)) (vp_Si (fun r => r = nI f)) 0 0 (fun _ => False) := by
  refine Met.ofW (cc := cX0_rootOf) (maxL := 3) (ret := (some .int)) (by decide) rfl ?_
  intro p e s m args below meth c s₁ B hml hv
  obtain ⟨rfl, hP, hK⟩ := hv
  have hx := B.exec
  have hb := B.bytes
  have hr := B.returns
  have hts := atoms_spec (ws := wsX0_rootOf) B.pre
  have hts : ∀ w ∈ lw_all, w.before _ s = true := fun w h => hts w (List.mem_cons_of_mem _ h)
  have hown : s.vm.findClass RX0 = some m.cls := findClass_of_methodNamed B.named
  have hlocks := B.notSynchronized
  have hl := lv_entry ([.ref (ad 0), .int (nI q)]) (n := 3) (Nat.le_of_ble_eq_true rfl)
  rw [lg_entry_eq]
  generalize (lg_sl ([.ref (ad 0), .int (nI q)]) ++ List.replicate (3 - (lg_sl ([.ref (ad 0), .int (nI q)])).length) Slot.unset).toArray = ls at hl ⊢
  have hl : lv_has ls 3 [(0, .ref (ad 0)), (1, .int (nI q))] := hl
  refine lv_iload_n hx hb dX0_rootOf_0 rfl (lv_at hl 1 rfl) ?_
  refine lv_istore_n (lv' := [(2, .int (nI q)), (0, .ref (ad 0)), (1, .int (nI q))]) hx hb dX0_rootOf_1 rfl hl (by decide) rfl (fun ls hl => ?_)
  have loop : ∀ (k i : Nat), i < n → gm_it h k i = f → ∀ ls, lv_has ls 3 [(2, .int (nI i)), (0, .ref (ad 0)), (1, .int (nI q))] → W p l e (headSpec wsX0_rootOf ({ frames := 0, cells := 0, slots := 0, locals := 0 })).room s m ([.ref (ad 0), .int (nI q)] : List Value).toArray below meth c s.heap [] 0 0 (MQ below (vp_Si (fun r => r = nI f)) ([.ref (ad 0), .int (nI q)] : List Value).toArray s 0 0 (fun _ => False)) (F0 m 2 ls []) := by
    intro k
    induction k with
    | zero =>
      intro i h1 h2 ls hl
      obtain ⟨e1, e2⟩ := hh i h1
      refine lv_aload_n hx hb dX0_rootOf_2 rfl (lv_at hl 1 rfl) ?_
      refine va_get (D := (dC, dI)) (ci := 0) (v := .ref (ad 3)) (C := RX0) (T := TX0) (N := 7) hx hb hts in_X0 hown hK hP 0 rfl rfl 4 (by decide) (hts _ q27) (fun _ h9 => h9) rfl dX0_rootOf_3 ?_
      refine lv_iload_n hx hb dX0_rootOf_6 rfl (lv_at hl 0 rfl) ?_
      refine gm_iald (v := nI (h i)) hx hb hK hP 3 0 rfl rfl (k := i) (by omega) (by decide) e1 dX0_rootOf_7 ?_
      refine lv_iload_n hx hb dX0_rootOf_8 rfl (lv_at hl 0 rfl) ?_
      refine gm_beq (tgt := 22) hx hb dX0_rootOf_9 (by decide) (by omega) (by omega) (fun hc => ?_) (fun hc => ?_)
      · have e3 : i = f := by rw [gm_it_fix hc] at h2; exact h2
        refine lv_iload_n hx hb dX0_rootOf_22 rfl (lv_at hl 0 rfl) ?_
        exact W.iret (v := nI i) hx hb hr (fun t ht hW => ⟨_, rfl, by rw [e3], ht⟩) (fun q hq => by cases hq) dX0_rootOf_23
      · exact absurd (by have h3 : i = f := h2; rw [h3]; exact hf) hc
    | succ k ih =>
      intro i h1 h2 ls hl
      obtain ⟨e1, e2⟩ := hh i h1
      refine lv_aload_n hx hb dX0_rootOf_2 rfl (lv_at hl 1 rfl) ?_
      refine va_get (D := (dC, dI)) (ci := 0) (v := .ref (ad 3)) (C := RX0) (T := TX0) (N := 7) hx hb hts in_X0 hown hK hP 0 rfl rfl 4 (by decide) (hts _ q27) (fun _ h9 => h9) rfl dX0_rootOf_3 ?_
      refine lv_iload_n hx hb dX0_rootOf_6 rfl (lv_at hl 0 rfl) ?_
      refine gm_iald (v := nI (h i)) hx hb hK hP 3 0 rfl rfl (k := i) (by omega) (by decide) e1 dX0_rootOf_7 ?_
      refine lv_iload_n hx hb dX0_rootOf_8 rfl (lv_at hl 0 rfl) ?_
      refine gm_beq (tgt := 22) hx hb dX0_rootOf_9 (by decide) (by omega) (by omega) (fun hc => ?_) (fun hc => ?_)
      · have e3 : i = f := by rw [gm_it_fix hc] at h2; exact h2
        refine lv_iload_n hx hb dX0_rootOf_22 rfl (lv_at hl 0 rfl) ?_
        exact W.iret (v := nI i) hx hb hr (fun t ht hW => ⟨_, rfl, by rw [e3], ht⟩) (fun q hq => by cases hq) dX0_rootOf_23
      · skip
        refine lv_aload_n hx hb dX0_rootOf_12 rfl (lv_at hl 1 rfl) ?_
        refine va_get (D := (dC, dI)) (ci := 0) (v := .ref (ad 3)) (C := RX0) (T := TX0) (N := 7) hx hb hts in_X0 hown hK hP 0 rfl rfl 4 (by decide) (hts _ q27) (fun _ h9 => h9) rfl dX0_rootOf_13 ?_
        refine lv_iload_n hx hb dX0_rootOf_16 rfl (lv_at hl 0 rfl) ?_
        refine gm_iald (v := nI (h i)) hx hb hK hP 3 0 rfl rfl (k := i) (by omega) (by decide) e1 dX0_rootOf_17 ?_
        refine lv_istore_n (lv' := [(2, .int (nI (h i))), (0, .ref (ad 0)), (1, .int (nI q))]) hx hb dX0_rootOf_18 rfl hl (by decide) rfl (fun ls hl => ?_)
        refine lv_goto (tgt := 2) hx hb dX0_rootOf_19 (by decide) ?_
        exact ih (h i) e2 h2 ls (lv_sub hl [0, 1, 2] rfl)
  exact loop k0 q hq hk0 ls (lv_sub hl [0, 1, 2] rfl)
abbrev wsX0_isOne : List Cond := ws_ yX0_isOne cX0_isOne 2 (some .boolean)
set_option maxHeartbeats 4000000 in
set_option maxRecDepth 100000 in
/-- isOne(): whether all edges hang together -/
theorem metX0_isOne (l : Launch) (dC : Nat → ClassId) (dI : Nat → Nat → Nat) (kI kL kG kZ : ClassId) (ad : Nat → Nat) (mw : va_W) (LP : List Nat) (sz : Nat) (n mm : Nat) (fa fb rt us : Nat → Int32) (g : Nat → Option Nat) (pr : Nat → Nat → Int64) (a b : Nat → Nat) (hn : 1 ≤ n ∧ n ≤ 5) (hm : mm ≤ 10) (ha : gm_hold n mm fa a) (hb2 : gm_hold n mm fb b) : Met l yX0_isOne wsX0_isOne ({ frames := 1, cells := 0, slots := 0, locals := 22 }) (va_Pc [.ref (ad 0)] (fun U => U.heap.size = sz ∧ va_P (dC, dI) vwCl (gWX ad kI kL kG mw LP n mm fa fb rt us g pr) U.heap ∧ va_K (dC, dI) vwCl (gTY kI kL kG kZ) U ∧ va_D (fun _ => True) (gWX ad kI kL kG mw LP n mm fa fb rt us g pr))) (va_Qi (fun (r : Int32) (u : Nat → Int32) => r = gm_b (gm_conn mm a b)) (fun (u : Nat → Int32) (t : State) => va_P (dC, dI) vwCl (gWX ad kI kL kG mw LP n mm fa fb u us g pr) t.heap ∧ va_K (dC, dI) vwCl (gTY kI kL kG kZ) t ∧ va_D (va_A (gWX ad kI kL kG mw LP n mm fa fb rt us g pr) sz) (gWX ad kI kL kG mw LP n mm fa fb u us g pr)) (va_A (gWX ad kI kL kG mw LP n mm fa fb rt us g pr) sz)) 0 0 (va_A (gWX ad kI kL kG mw LP n mm fa fb rt us g pr) sz) := by
  refine Met.ofW (cc := cX0_isOne) (maxL := 2) (ret := (some .boolean)) (by decide) rfl ?_
  intro p e s m args below meth c s₁ B hml hv
  obtain ⟨rfl, hsz, hP, hK, hD0⟩ := hv
  have hx := B.exec
  have hb := B.bytes
  have hr := B.returns
  have hts := atoms_spec (ws := wsX0_isOne) B.pre
  have hts : ∀ w ∈ lw_all, w.before _ s = true := fun w h => hts w (List.mem_cons_of_mem _ h)
  have hown : s.vm.findClass RX0 = some m.cls := findClass_of_methodNamed B.named
  have hlocks := B.notSynchronized
  subst hsz
  have hD := hD0.self (sz := s.heap.size)
  generalize hAe : va_A (gWX ad kI kL kG mw LP n mm fa fb rt us g pr) s.heap.size = A at hD ⊢
  have hA : ∀ q : Nat, s.heap.size ≤ q → A q := fun q h => by rw [← hAe]; exact Or.inr h
  have hS : va_S A s.heap s.heap [] := va_S.rf
  have hl := lv_entry ([.ref (ad 0)]) (n := 2) (Nat.le_of_ble_eq_true rfl)
  rw [lg_entry_eq]
  generalize (lg_sl ([.ref (ad 0)]) ++ List.replicate (2 - (lg_sl ([.ref (ad 0)])).length) Slot.unset).toArray = ls at hl ⊢
  have hl : lv_has ls 2 [(0, .ref (ad 0))] := hl
  obtain ⟨H, hH⟩ : ∃ H : Heap, H = s.heap := ⟨_, rfl⟩
  obtain ⟨locs, hlo⟩ : ∃ q : List Loc, q = [] := ⟨_, rfl⟩
  have hP : va_P (dC, dI) vwCl (gWX ad kI kL kG mw LP n mm fa fb rt us g pr) H := by rw [hH]; exact hP
  have hS : va_S A s.heap H locs := by rw [hH, hlo]; exact hS
  suffices goal : W p l e (headSpec wsX0_isOne ({ frames := 1, cells := 0, slots := 0, locals := 22 })).room s m ([.ref (ad 0)] : List Value).toArray below meth c H locs 0 0 (MQ below (va_Qi (fun (r : Int32) (u : Nat → Int32) => r = gm_b (gm_conn mm a b)) (fun (u : Nat → Int32) (t : State) => va_P (dC, dI) vwCl (gWX ad kI kL kG mw LP n mm fa fb u us g pr) t.heap ∧ va_K (dC, dI) vwCl (gTY kI kL kG kZ) t ∧ va_D A (gWX ad kI kL kG mw LP n mm fa fb u us g pr)) A) ([.ref (ad 0)] : List Value).toArray s 0 0 A) (F0 m 0 ls []) by rw [hH, hlo] at goal; exact goal
  clear hH hlo hAe
  have hab : ∀ e, e < mm → a e < n ∧ b e < n := fun e he => ⟨(ha e he).2, (hb2 e he).2⟩
  have loop3 : ∀ (k i : Nat) (rt : Nat → Int32) (h F : Nat → Nat) (H : Heap) (locs : List Loc) (ls : Array Slot), 1 ≤ i → i ≤ 11 → 11 < i + k → gm_U n mm a b h F → gm_hold n n rt h → (∀ e, 1 ≤ e → e < i → e < mm → F (a e) = F (a 0)) → va_P (dC, dI) vwCl (gWX ad kI kL kG mw LP n mm fa fb rt us g pr) H → va_D A (gWX ad kI kL kG mw LP n mm fa fb rt us g pr) → va_S A s.heap H locs → lv_has ls 2 [(1, .int (nI i)), (0, .ref (ad 0))] → W p l e (headSpec wsX0_isOne ({ frames := 1, cells := 0, slots := 0, locals := 22 })).room s m ([.ref (ad 0)] : List Value).toArray below meth c H locs 0 0 (MQ below (va_Qi (fun (r : Int32) (u : Nat → Int32) => r = gm_b (gm_conn mm a b)) (fun (u : Nat → Int32) (t : State) => va_P (dC, dI) vwCl (gWX ad kI kL kG mw LP n mm fa fb u us g pr) t.heap ∧ va_K (dC, dI) vwCl (gTY kI kL kG kZ) t ∧ va_D A (gWX ad kI kL kG mw LP n mm fa fb u us g pr)) A) ([.ref (ad 0)] : List Value).toArray s 0 0 A) (F0 m 66 ls []) := by
    intro k
    induction k with
    | zero => intro i rt h F H locs ls h1 h2 h3; exact absurd h3 (by omega)
    | succ k ih =>
      intro i rt h F H locs ls h1 h2 h3 hU hh hpre hP hD hS hl
      refine lv_iload_n hx hb dX0_isOne_66 rfl (lv_at hl 0 rfl) ?_
      refine lv_aload_n hx hb dX0_isOne_67 rfl (lv_at hl 1 rfl) ?_
      refine va_get (D := (dC, dI)) (ci := 0) (v := .int (nI mm)) (C := RX0) (T := TX0) (N := 7) hx hb hts in_X0 hown hK hP 0 rfl rfl 1 (by decide) (hts _ q24) (fun _ h9 => h9) rfl dX0_isOne_68 ?_
      refine gm_bge (tgt := 105) hx hb dX0_isOne_71 (by decide) (by omega) (by omega) (fun hc => ?_) (fun hc => ?_)
      · have hcn : gm_conn mm a b := (gm_U_end hU hab).mp (fun e h4 h5 => hpre e h4 (by omega) h5)
        refine lv_iconst (v := nI 1) hx hb dX0_isOne_105 (by decide) ?_
        exact W.zret (v := nI 1) hx hb hr rfl (fun t ht hW => ⟨⟨nI 1, rt, rfl, (gm_b_t hcn).symm, by rw [ht]; exact hP, va_K.moved hW.alike hK, hD⟩, hS.F ht⟩) hS.2.2 dX0_isOne_106
      · obtain ⟨e1, e2⟩ := ha i hc
        obtain ⟨e3, e4⟩ := ha 0 (by omega)
        obtain ⟨-, hFi, hri, ki, hki⟩ := hU.1 (a i) e2
        obtain ⟨-, hF0, hr0, k0, hk0⟩ := hU.1 (a 0) e4
        refine lv_aload_n hx hb dX0_isOne_74 rfl (lv_at hl 1 rfl) ?_
        refine lv_aload_n hx hb dX0_isOne_75 rfl (lv_at hl 1 rfl) ?_
        refine va_get (D := (dC, dI)) (ci := 0) (v := .ref (ad 1)) (C := RX0) (T := TX0) (N := 7) hx hb hts in_X0 hown hK hP 0 rfl rfl 2 (by decide) (hts _ q25) (fun _ h9 => h9) rfl dX0_isOne_76 ?_
        refine lv_iload_n hx hb dX0_isOne_79 rfl (lv_at hl 0 rfl) ?_
        refine gm_iald (v := nI (a i)) hx hb hK hP 1 0 rfl rfl (k := i) (by omega) (by decide) e1 dX0_isOne_80 ?_
        refine vp_callSi (W.runV (As := [.int (nI (a i))]) (rest := []) ⟨hx, hb, hml, hown, hts⟩ (metX0_rootOf l dC dI kI kL kG kZ ad mw LP n mm fa fb rt us g pr (a i) (F (a i)) ki h hn.2 e2 hh hki hri) (cwV 1 hts (lw_V q88 q90 qs5 q10 q91) rfl rfl rfl (by decide +kernel) ⟨Nat.le_of_ble_eq_true rfl, Nat.le_of_ble_eq_true rfl⟩) ⟨fun a U g mk q => by obtain ⟨q0, qP, qK⟩ := q; exact ⟨q0, qP, va_K.moved (u := U) (U := U.calling g mk a) (Vm.Alike.refl U.vm) qK⟩, va_recv hK hP (ci := 0) (q0 := 0) rfl rfl, fun U hU hW => ⟨rfl, by rw [hU]; exact hP, va_K.moved hW.alike hK⟩⟩ rfl rfl hl.1 rfl (lv_room (Nat.le_of_ble_eq_true rfl)) dX0_isOne_81 ⟨Nat.le_refl _, Nat.le_refl _⟩) (fun r hr1 => ?_)
        subst hr1
        refine lv_aload_n hx hb dX0_isOne_84 rfl (lv_at hl 1 rfl) ?_
        refine lv_aload_n hx hb dX0_isOne_85 rfl (lv_at hl 1 rfl) ?_
        refine va_get (D := (dC, dI)) (ci := 0) (v := .ref (ad 1)) (C := RX0) (T := TX0) (N := 7) hx hb hts in_X0 hown hK hP 0 rfl rfl 2 (by decide) (hts _ q25) (fun _ h9 => h9) rfl dX0_isOne_86 ?_
        refine lv_iconst (v := nI 0) hx hb dX0_isOne_89 (by decide) ?_
        refine gm_iald (v := nI (a 0)) hx hb hK hP 1 0 rfl rfl (k := 0) (by omega) (by decide) e3 dX0_isOne_90 ?_
        refine vp_callSi (W.runV (As := [.int (nI (a 0))]) (rest := [.int (nI (F (a i)))]) ⟨hx, hb, hml, hown, hts⟩ (metX0_rootOf l dC dI kI kL kG kZ ad mw LP n mm fa fb rt us g pr (a 0) (F (a 0)) k0 h hn.2 e4 hh hk0 hr0) (cwV 1 hts (lw_V q88 q90 qs5 q10 q91) rfl rfl rfl (by decide +kernel) ⟨Nat.le_of_ble_eq_true rfl, Nat.le_of_ble_eq_true rfl⟩) ⟨fun a U g mk q => by obtain ⟨q0, qP, qK⟩ := q; exact ⟨q0, qP, va_K.moved (u := U) (U := U.calling g mk a) (Vm.Alike.refl U.vm) qK⟩, va_recv hK hP (ci := 0) (q0 := 0) rfl rfl, fun U hU hW => ⟨rfl, by rw [hU]; exact hP, va_K.moved hW.alike hK⟩⟩ rfl rfl hl.1 rfl (lv_room (Nat.le_of_ble_eq_true rfl)) dX0_isOne_91 ⟨Nat.le_refl _, Nat.le_refl _⟩) (fun r hr1 => ?_)
        subst hr1
        refine gm_beq (tgt := 99) hx hb dX0_isOne_94 (by decide) (by omega) (by omega) (fun hc2 => ?_) (fun hc2 => ?_)
        · skip
          refine lv_iinc (v := nI (i + 1)) (lv' := [(1, .int (nI (i + 1))), (0, .ref (ad 0))]) hx hb dX0_isOne_99 hl (k := 0) rfl (nI_1 i) (by decide) rfl (fun ls hl => ?_)
          refine lv_goto (tgt := 66) hx hb dX0_isOne_102 (by decide) ?_
          exact ih (i + 1) rt h F H locs ls (by omega) (by omega) (by omega) hU hh (fun e h4 h5 h6 => by
            by_cases h7 : e = i
            · rw [h7]; exact hc2
            · exact hpre e h4 (by omega) h6) hP hD hS (lv_sub hl [0, 1] rfl)
        · have hcn : ¬ gm_conn mm a b := fun hx2 => hc2 ((gm_U_end hU hab).mpr hx2 i h1 hc)
          refine lv_iconst (v := nI 0) hx hb dX0_isOne_97 (by decide) ?_
          exact W.zret (v := nI 0) hx hb hr rfl (fun t ht hW => ⟨⟨nI 0, rt, rfl, (gm_b_f hcn).symm, by rw [ht]; exact hP, va_K.moved hW.alike hK, hD⟩, hS.F ht⟩) hS.2.2 dX0_isOne_98
  have loop2 : ∀ (k i : Nat) (rt : Nat → Int32) (h F : Nat → Nat) (H : Heap) (locs : List Loc) (ls : Array Slot), i ≤ mm → mm < i + k → gm_U n i a b h F → gm_hold n n rt h → va_P (dC, dI) vwCl (gWX ad kI kL kG mw LP n mm fa fb rt us g pr) H → va_D A (gWX ad kI kL kG mw LP n mm fa fb rt us g pr) → va_S A s.heap H locs → lv_has ls 2 [(1, .int (nI i)), (0, .ref (ad 0))] → W p l e (headSpec wsX0_isOne ({ frames := 1, cells := 0, slots := 0, locals := 22 })).room s m ([.ref (ad 0)] : List Value).toArray below meth c H locs 0 0 (MQ below (va_Qi (fun (r : Int32) (u : Nat → Int32) => r = gm_b (gm_conn mm a b)) (fun (u : Nat → Int32) (t : State) => va_P (dC, dI) vwCl (gWX ad kI kL kG mw LP n mm fa fb u us g pr) t.heap ∧ va_K (dC, dI) vwCl (gTY kI kL kG kZ) t ∧ va_D A (gWX ad kI kL kG mw LP n mm fa fb u us g pr)) A) ([.ref (ad 0)] : List Value).toArray s 0 0 A) (F0 m 25 ls []) := by
    intro k
    induction k with
    | zero => intro i rt h F H locs ls h1 h2; exact absurd h2 (by omega)
    | succ k ih =>
      intro i rt h F H locs ls h1 h2 hU hh hP hD hS hl
      refine lv_iload_n hx hb dX0_isOne_25 rfl (lv_at hl 0 rfl) ?_
      refine lv_aload_n hx hb dX0_isOne_26 rfl (lv_at hl 1 rfl) ?_
      refine va_get (D := (dC, dI)) (ci := 0) (v := .int (nI mm)) (C := RX0) (T := TX0) (N := 7) hx hb hts in_X0 hown hK hP 0 rfl rfl 1 (by decide) (hts _ q24) (fun _ h9 => h9) rfl dX0_isOne_27 ?_
      refine gm_bge (tgt := 64) hx hb dX0_isOne_30 (by decide) (by omega) (by omega) (fun hc => ?_) (fun hc => ?_)
      · have e1 : i = mm := by omega
        subst e1
        refine lv_iconst (v := nI 1) hx hb dX0_isOne_64 (by decide) ?_
        refine lv_istore_n (lv' := [(1, .int (nI 1)), (0, .ref (ad 0))]) hx hb dX0_isOne_65 rfl hl (by decide) rfl (fun ls hl => ?_)
        exact loop3 11 1 rt h F H locs ls (by omega) (by omega) (by omega) hU hh (fun e h4 h5 => absurd h4 (by omega)) hP hD hS (lv_sub hl [0, 1] rfl)
      · obtain ⟨e1, e2⟩ := ha i hc
        obtain ⟨e3, e4⟩ := hb2 i hc
        obtain ⟨-, hFa, hra, ka, hka⟩ := hU.1 (a i) e2
        obtain ⟨-, hFb, hrb, kb, hkb⟩ := hU.1 (b i) e4
        refine lv_aload_n hx hb dX0_isOne_33 rfl (lv_at hl 1 rfl) ?_
        refine va_get (D := (dC, dI)) (ci := 0) (v := .ref (ad 3)) (C := RX0) (T := TX0) (N := 7) hx hb hts in_X0 hown hK hP 0 rfl rfl 4 (by decide) (hts _ q27) (fun _ h9 => h9) rfl dX0_isOne_34 ?_
        refine lv_aload_n hx hb dX0_isOne_37 rfl (lv_at hl 1 rfl) ?_
        refine lv_aload_n hx hb dX0_isOne_38 rfl (lv_at hl 1 rfl) ?_
        refine va_get (D := (dC, dI)) (ci := 0) (v := .ref (ad 1)) (C := RX0) (T := TX0) (N := 7) hx hb hts in_X0 hown hK hP 0 rfl rfl 2 (by decide) (hts _ q25) (fun _ h9 => h9) rfl dX0_isOne_39 ?_
        refine lv_iload_n hx hb dX0_isOne_42 rfl (lv_at hl 0 rfl) ?_
        refine gm_iald (v := nI (a i)) hx hb hK hP 1 0 rfl rfl (k := i) (by omega) (by decide) e1 dX0_isOne_43 ?_
        refine vp_callSi (W.runV (As := [.int (nI (a i))]) (rest := [.ref (ad 3)]) ⟨hx, hb, hml, hown, hts⟩ (metX0_rootOf l dC dI kI kL kG kZ ad mw LP n mm fa fb rt us g pr (a i) (F (a i)) ka h hn.2 e2 hh hka hra) (cwV 1 hts (lw_V q88 q90 qs5 q10 q91) rfl rfl rfl (by decide +kernel) ⟨Nat.le_of_ble_eq_true rfl, Nat.le_of_ble_eq_true rfl⟩) ⟨fun a U g mk q => by obtain ⟨q0, qP, qK⟩ := q; exact ⟨q0, qP, va_K.moved (u := U) (U := U.calling g mk a) (Vm.Alike.refl U.vm) qK⟩, va_recv hK hP (ci := 0) (q0 := 0) rfl rfl, fun U hU hW => ⟨rfl, by rw [hU]; exact hP, va_K.moved hW.alike hK⟩⟩ rfl rfl hl.1 rfl (lv_room (Nat.le_of_ble_eq_true rfl)) dX0_isOne_44 ⟨Nat.le_refl _, Nat.le_refl _⟩) (fun r hr1 => ?_)
        subst hr1
        refine lv_aload_n hx hb dX0_isOne_47 rfl (lv_at hl 1 rfl) ?_
        refine lv_aload_n hx hb dX0_isOne_48 rfl (lv_at hl 1 rfl) ?_
        refine va_get (D := (dC, dI)) (ci := 0) (v := .ref (ad 2)) (C := RX0) (T := TX0) (N := 7) hx hb hts in_X0 hown hK hP 0 rfl rfl 3 (by decide) (hts _ q26) (fun _ h9 => h9) rfl dX0_isOne_49 ?_
        refine lv_iload_n hx hb dX0_isOne_52 rfl (lv_at hl 0 rfl) ?_
        refine gm_iald (v := nI (b i)) hx hb hK hP 2 0 rfl rfl (k := i) (by omega) (by decide) e3 dX0_isOne_53 ?_
        refine vp_callSi (W.runV (As := [.int (nI (b i))]) (rest := [.int (nI (F (a i))), .ref (ad 3)]) ⟨hx, hb, hml, hown, hts⟩ (metX0_rootOf l dC dI kI kL kG kZ ad mw LP n mm fa fb rt us g pr (b i) (F (b i)) kb h hn.2 e4 hh hkb hrb) (cwV 1 hts (lw_V q88 q90 qs5 q10 q91) rfl rfl rfl (by decide +kernel) ⟨Nat.le_of_ble_eq_true rfl, Nat.le_of_ble_eq_true rfl⟩) ⟨fun a U g mk q => by obtain ⟨q0, qP, qK⟩ := q; exact ⟨q0, qP, va_K.moved (u := U) (U := U.calling g mk a) (Vm.Alike.refl U.vm) qK⟩, va_recv hK hP (ci := 0) (q0 := 0) rfl rfl, fun U hU hW => ⟨rfl, by rw [hU]; exact hP, va_K.moved hW.alike hK⟩⟩ rfl rfl hl.1 rfl (lv_room (Nat.le_of_ble_eq_true rfl)) dX0_isOne_54 ⟨Nat.le_refl _, Nat.le_refl _⟩) (fun r hr1 => ?_)
        subst hr1
        refine gm_iast hx hb hK hP hD hS 3 0 rfl rfl (k := (F (a i))) (by omega) (by decide) dX0_isOne_57 (fun H locs hP hD hS => ?_)
        have hP : va_P (dC, dI) vwCl (gWX ad kI kL kG mw LP n mm fa fb (upd rt (F (a i)) (nI (F (b i)))) us g pr) H := hP
        have hD : va_D A (gWX ad kI kL kG mw LP n mm fa fb (upd rt (F (a i)) (nI (F (b i)))) us g pr) := hD
        refine lv_iinc (v := nI (i + 1)) (lv' := [(1, .int (nI (i + 1))), (0, .ref (ad 0))]) hx hb dX0_isOne_58 hl (k := 0) rfl (nI_1 i) (by decide) rfl (fun ls hl => ?_)
        refine lv_goto (tgt := 25) hx hb dX0_isOne_61 (by decide) ?_
        exact ih (i + 1) _ _ _ H locs ls (by omega) (by omega) (gm_U_step hU e2 e4) (gm_hold_up hh hFb) hP hD hS (lv_sub hl [0, 1] rfl)
  have loop1 : ∀ (k i : Nat) (rt : Nat → Int32) (H : Heap) (locs : List Loc) (ls : Array Slot), i ≤ n → n < i + k → (∀ j, j < i → rt j = nI j) → va_P (dC, dI) vwCl (gWX ad kI kL kG mw LP n mm fa fb rt us g pr) H → va_D A (gWX ad kI kL kG mw LP n mm fa fb rt us g pr) → va_S A s.heap H locs → lv_has ls 2 [(1, .int (nI i)), (0, .ref (ad 0))] → W p l e (headSpec wsX0_isOne ({ frames := 1, cells := 0, slots := 0, locals := 22 })).room s m ([.ref (ad 0)] : List Value).toArray below meth c H locs 0 0 (MQ below (va_Qi (fun (r : Int32) (u : Nat → Int32) => r = gm_b (gm_conn mm a b)) (fun (u : Nat → Int32) (t : State) => va_P (dC, dI) vwCl (gWX ad kI kL kG mw LP n mm fa fb u us g pr) t.heap ∧ va_K (dC, dI) vwCl (gTY kI kL kG kZ) t ∧ va_D A (gWX ad kI kL kG mw LP n mm fa fb u us g pr)) A) ([.ref (ad 0)] : List Value).toArray s 0 0 A) (F0 m 2 ls []) := by
    intro k
    induction k with
    | zero => intro i rt H locs ls h1 h2; exact absurd h2 (by omega)
    | succ k ih =>
      intro i rt H locs ls h1 h2 hpre hP hD hS hl
      refine lv_iload_n hx hb dX0_isOne_2 rfl (lv_at hl 0 rfl) ?_
      refine lv_aload_n hx hb dX0_isOne_3 rfl (lv_at hl 1 rfl) ?_
      refine va_get (D := (dC, dI)) (ci := 0) (v := .int (nI n)) (C := RX0) (T := TX0) (N := 7) hx hb hts in_X0 hown hK hP 0 rfl rfl 0 (by decide) (hts _ q23) (fun _ h9 => h9) rfl dX0_isOne_4 ?_
      refine gm_bge (tgt := 23) hx hb dX0_isOne_7 (by decide) (by omega) (by omega) (fun hc => ?_) (fun hc => ?_)
      · have e1 : i = n := by omega
        subst e1
        refine lv_iconst (v := nI 0) hx hb dX0_isOne_23 (by decide) ?_
        refine lv_istore_n (lv' := [(1, .int (nI 0)), (0, .ref (ad 0))]) hx hb dX0_isOne_24 rfl hl (by decide) rfl (fun ls hl => ?_)
        exact loop2 (mm + 1) 0 rt (fun q => q) (fun q => q) H locs ls (by omega) (by omega) (gm_U_0 _ a b) (fun e he => ⟨hpre e he, he⟩) hP hD hS (lv_sub hl [0, 1] rfl)
      · skip
        refine lv_aload_n hx hb dX0_isOne_10 rfl (lv_at hl 1 rfl) ?_
        refine va_get (D := (dC, dI)) (ci := 0) (v := .ref (ad 3)) (C := RX0) (T := TX0) (N := 7) hx hb hts in_X0 hown hK hP 0 rfl rfl 4 (by decide) (hts _ q27) (fun _ h9 => h9) rfl dX0_isOne_11 ?_
        refine lv_iload_n hx hb dX0_isOne_14 rfl (lv_at hl 0 rfl) ?_
        refine lv_iload_n hx hb dX0_isOne_15 rfl (lv_at hl 0 rfl) ?_
        refine gm_iast hx hb hK hP hD hS 3 0 rfl rfl (k := i) (by omega) (by decide) dX0_isOne_16 (fun H locs hP hD hS => ?_)
        have hP : va_P (dC, dI) vwCl (gWX ad kI kL kG mw LP n mm fa fb (upd rt i (nI i)) us g pr) H := hP
        have hD : va_D A (gWX ad kI kL kG mw LP n mm fa fb (upd rt i (nI i)) us g pr) := hD
        refine lv_iinc (v := nI (i + 1)) (lv' := [(1, .int (nI (i + 1))), (0, .ref (ad 0))]) hx hb dX0_isOne_17 hl (k := 0) rfl (nI_1 i) (by decide) rfl (fun ls hl => ?_)
        refine lv_goto (tgt := 2) hx hb dX0_isOne_20 (by decide) ?_
        exact ih (i + 1) _ H locs ls (by omega) (by omega) (fun j hj => by
          by_cases h7 : j = i
          · rw [h7]; exact pk_us
          · rw [pk_un h7]; exact hpre j (by omega)) hP hD hS (lv_sub hl [0, 1] rfl)
  refine lv_iconst (v := nI 0) hx hb dX0_isOne_0 (by decide) ?_
  refine lv_istore_n (lv' := [(1, .int (nI 0)), (0, .ref (ad 0))]) hx hb dX0_isOne_1 rfl hl (by decide) rfl (fun ls hl => ?_)
  exact loop1 (n + 1) 0 rt H locs ls (by omega) (by omega) (fun j hj => absurd hj (by omega)) hP hD hS (lv_sub hl [0, 1] rfl)
abbrev wsX0_odd : List Cond := ws_ yX0_odd cX0_odd 3 (some .int)
set_option maxHeartbeats 4000000 in
set_option maxRecDepth 100000 in
/-- odd(): how many places have an odd number of ends -/
theorem metX0_odd (l : Launch) (dC : Nat → ClassId) (dI : Nat → Nat → Nat) (kI kL kG kZ : ClassId) (ad : Nat → Nat) (mw : va_W) (LP : List Nat) (n mm : Nat) (fa fb rt us : Nat → Int32) (g : Nat → Option Nat) (pr : Nat → Nat → Int64) (a b : Nat → Nat) (hn : 1 ≤ n ∧ n ≤ 5) (hm : mm ≤ 10) (ha : gm_hold n mm fa a) (hb2 : gm_hold n mm fb b) : Met l yX0_odd wsX0_odd ({ frames := 1, cells := 0, slots := 0, locals := 23 }) (va_Pc [.ref (ad 0)] (fun U => va_P (dC, dI) vwCl (gWX ad kI kL kG mw LP n mm fa fb rt us g pr) U.heap ∧ va_K (dC, dI) vwCl (gTY kI kL kG kZ) U)) (vp_Si (fun r => r = nI (gm_od mm a b n))) 0 0 (fun _ => False) := by
  refine Met.ofW (cc := cX0_odd) (maxL := 3) (ret := (some .int)) (by decide) rfl ?_
  intro p e s m args below meth c s₁ B hml hv
  obtain ⟨rfl, hP, hK⟩ := hv
  have hx := B.exec
  have hb := B.bytes
  have hr := B.returns
  have hts := atoms_spec (ws := wsX0_odd) B.pre
  have hts : ∀ w ∈ lw_all, w.before _ s = true := fun w h => hts w (List.mem_cons_of_mem _ h)
  have hown : s.vm.findClass RX0 = some m.cls := findClass_of_methodNamed B.named
  have hlocks := B.notSynchronized
  have hl := lv_entry ([.ref (ad 0)]) (n := 3) (Nat.le_of_ble_eq_true rfl)
  rw [lg_entry_eq]
  generalize (lg_sl ([.ref (ad 0)]) ++ List.replicate (3 - (lg_sl ([.ref (ad 0)])).length) Slot.unset).toArray = ls at hl ⊢
  have hl : lv_has ls 3 [(0, .ref (ad 0))] := hl
  refine lv_iconst (v := nI 0) hx hb dX0_odd_0 (by decide) ?_
  refine lv_istore_n (lv' := [(1, .int (nI 0)), (0, .ref (ad 0))]) hx hb dX0_odd_1 rfl hl (by decide) rfl (fun ls hl => ?_)
  refine lv_iconst (v := nI 0) hx hb dX0_odd_2 (by decide) ?_
  refine lv_istore_n (lv' := [(2, .int (nI 0)), (1, .int (nI 0)), (0, .ref (ad 0))]) hx hb dX0_odd_3 rfl hl (by decide) rfl (fun ls hl => ?_)
  have loop : ∀ (k i : Nat), i ≤ n → n < i + k → ∀ ls, lv_has ls 3 [(2, .int (nI i)), (1, .int (nI (gm_od mm a b i))), (0, .ref (ad 0))] → W p l e (headSpec wsX0_odd ({ frames := 1, cells := 0, slots := 0, locals := 23 })).room s m ([.ref (ad 0)] : List Value).toArray below meth c s.heap [] 0 0 (MQ below (vp_Si (fun r => r = nI (gm_od mm a b n))) ([.ref (ad 0)] : List Value).toArray s 0 0 (fun _ => False)) (F0 m 4 ls []) := by
    intro k
    induction k with
    | zero => intro i h1 h2; exact absurd h2 (by omega)
    | succ k ih =>
      intro i h1 h2 ls hl
      refine lv_iload_n hx hb dX0_odd_4 rfl (lv_at hl 0 rfl) ?_
      refine lv_aload_n hx hb dX0_odd_5 rfl (lv_at hl 2 rfl) ?_
      refine va_get (D := (dC, dI)) (ci := 0) (v := .int (nI n)) (C := RX0) (T := TX0) (N := 7) hx hb hts in_X0 hown hK hP 0 rfl rfl 0 (by decide) (hts _ q23) (fun _ h9 => h9) rfl dX0_odd_6 ?_
      refine gm_bge (tgt := 34) hx hb dX0_odd_9 (by decide) (by omega) (by omega) (fun hc => ?_) (fun hc => ?_)
      · have e1 : i = n := by omega
        refine lv_iload_n hx hb dX0_odd_34 rfl (lv_at hl 1 rfl) ?_
        exact W.iret (v := nI (gm_od mm a b i)) hx hb hr (fun t ht hW => ⟨_, rfl, by rw [e1], ht⟩) (fun q hq => by cases hq) dX0_odd_35
      · have c1 := gm_ct_le a i mm
        have c2 := gm_ct_le b i mm
        refine lv_iload_n hx hb dX0_odd_12 rfl (lv_at hl 1 rfl) ?_
        refine lv_aload_n hx hb dX0_odd_13 rfl (lv_at hl 2 rfl) ?_
        refine lv_iload_n hx hb dX0_odd_14 rfl (lv_at hl 0 rfl) ?_
        refine vp_callSi (W.runV (As := [.int (nI i)]) (rest := [.int (nI (gm_od mm a b i))]) ⟨hx, hb, hml, hown, hts⟩ (metX0_leaving l dC dI kI kL kG kZ ad mw LP n mm fa fb rt us g pr i a (by omega) hm hn.2 ha) (cwV 1 hts (lw_V q68 q70 qs1 q10 q71) rfl rfl rfl (by decide +kernel) ⟨Nat.le_of_ble_eq_true rfl, Nat.le_of_ble_eq_true rfl⟩) ⟨fun a U g mk q => by obtain ⟨q0, qP, qK⟩ := q; exact ⟨q0, qP, va_K.moved (u := U) (U := U.calling g mk a) (Vm.Alike.refl U.vm) qK⟩, va_recv hK hP (ci := 0) (q0 := 0) rfl rfl, fun U hU hW => ⟨rfl, by rw [hU]; exact hP, va_K.moved hW.alike hK⟩⟩ rfl rfl hl.1 rfl (lv_room (Nat.le_of_ble_eq_true rfl)) dX0_odd_15 ⟨Nat.le_refl _, Nat.le_refl _⟩) (fun r hr1 => ?_)
        subst hr1
        refine lv_aload_n hx hb dX0_odd_18 rfl (lv_at hl 2 rfl) ?_
        refine lv_iload_n hx hb dX0_odd_19 rfl (lv_at hl 0 rfl) ?_
        refine vp_callSi (W.runV (As := [.int (nI i)]) (rest := [.int (nI (gm_ct a i mm)), .int (nI (gm_od mm a b i))]) ⟨hx, hb, hml, hown, hts⟩ (metX0_coming l dC dI kI kL kG kZ ad mw LP n mm fa fb rt us g pr i b (by omega) hm hn.2 hb2) (cwV 1 hts (lw_V q72 q74 qs2 q10 q75) rfl rfl rfl (by decide +kernel) ⟨Nat.le_of_ble_eq_true rfl, Nat.le_of_ble_eq_true rfl⟩) ⟨fun a U g mk q => by obtain ⟨q0, qP, qK⟩ := q; exact ⟨q0, qP, va_K.moved (u := U) (U := U.calling g mk a) (Vm.Alike.refl U.vm) qK⟩, va_recv hK hP (ci := 0) (q0 := 0) rfl rfl, fun U hU hW => ⟨rfl, by rw [hU]; exact hP, va_K.moved hW.alike hK⟩⟩ rfl rfl hl.1 rfl (lv_room (Nat.le_of_ble_eq_true rfl)) dX0_odd_20 ⟨Nat.le_refl _, Nat.le_refl _⟩) (fun r hr1 => ?_)
        subst hr1
        refine lv_iadd hx hb dX0_odd_23 ?_
        refine gm_tpi (nI_add (gm_ct a i mm) (gm_ct b i mm)) ?_
        refine lv_iconst (v := nI 1) hx hb dX0_odd_24 (by decide) ?_
        refine lv_iand hx hb dX0_odd_25 ?_
        refine gm_tpi (gm_and1 (by omega)) ?_
        refine lv_iadd hx hb dX0_odd_26 ?_
        refine gm_tpi (nI_add (gm_od mm a b i) ((gm_ct a i mm + gm_ct b i mm) % 2)) ?_
        refine lv_istore_n (lv' := [(1, .int (nI (gm_od mm a b i + ((gm_ct a i mm + gm_ct b i mm) % 2)))), (2, .int (nI i)), (0, .ref (ad 0))]) hx hb dX0_odd_27 rfl hl (by decide) rfl (fun ls hl => ?_)
        refine lv_iinc (v := nI (i + 1)) (lv' := [(2, .int (nI (i + 1))), (1, .int (nI (gm_od mm a b i + ((gm_ct a i mm + gm_ct b i mm) % 2)))), (0, .ref (ad 0))]) hx hb dX0_odd_28 hl (k := 1) rfl (nI_1 i) (by decide) rfl (fun ls hl => ?_)
        refine lv_goto (tgt := 4) hx hb dX0_odd_31 (by decide) ?_
        exact ih (i + 1) (by omega) (by omega) ls (lv_sub hl [0, 1, 2] rfl)
  exact loop (n + 1) 0 (by omega) (by omega) ls hl
abbrev wsX0_over : List Cond := ws_ yX0_over cX0_over 4 (some .int)
set_option maxHeartbeats 4000000 in
set_option maxRecDepth 100000 in
/-- over(): how many places have one more leaving; -1 if a place has more than one too many -/
theorem metX0_over (l : Launch) (dC : Nat → ClassId) (dI : Nat → Nat → Nat) (kI kL kG kZ : ClassId) (ad : Nat → Nat) (mw : va_W) (LP : List Nat) (n mm : Nat) (fa fb rt us : Nat → Int32) (g : Nat → Option Nat) (pr : Nat → Nat → Int64) (a b : Nat → Nat) (hn : 1 ≤ n ∧ n ≤ 5) (hm : mm ≤ 10) (ha : gm_hold n mm fa a) (hb2 : gm_hold n mm fb b) : Met l yX0_over wsX0_over ({ frames := 1, cells := 0, slots := 0, locals := 23 }) (va_Pc [.ref (ad 0)] (fun U => va_P (dC, dI) vwCl (gWX ad kI kL kG mw LP n mm fa fb rt us g pr) U.heap ∧ va_K (dC, dI) vwCl (gTY kI kL kG kZ) U)) (vp_Si (fun r => (gm_good mm a b n ∧ r = nI (gm_oc mm a b n)) ∨ (¬ gm_good mm a b n ∧ r = -1))) 0 0 (fun _ => False) := by
  refine Met.ofW (cc := cX0_over) (maxL := 4) (ret := (some .int)) (by decide) rfl ?_
  intro p e s m args below meth c s₁ B hml hv
  obtain ⟨rfl, hP, hK⟩ := hv
  have hx := B.exec
  have hb := B.bytes
  have hr := B.returns
  have hts := atoms_spec (ws := wsX0_over) B.pre
  have hts : ∀ w ∈ lw_all, w.before _ s = true := fun w h => hts w (List.mem_cons_of_mem _ h)
  have hown : s.vm.findClass RX0 = some m.cls := findClass_of_methodNamed B.named
  have hlocks := B.notSynchronized
  have hl := lv_entry ([.ref (ad 0)]) (n := 4) (Nat.le_of_ble_eq_true rfl)
  rw [lg_entry_eq]
  generalize (lg_sl ([.ref (ad 0)]) ++ List.replicate (4 - (lg_sl ([.ref (ad 0)])).length) Slot.unset).toArray = ls at hl ⊢
  have hl : lv_has ls 4 [(0, .ref (ad 0))] := hl
  refine lv_iconst (v := nI 0) hx hb dX0_over_0 (by decide) ?_
  refine lv_istore_n (lv' := [(1, .int (nI 0)), (0, .ref (ad 0))]) hx hb dX0_over_1 rfl hl (by decide) rfl (fun ls hl => ?_)
  refine lv_iconst (v := nI 0) hx hb dX0_over_2 (by decide) ?_
  refine lv_istore_n (lv' := [(2, .int (nI 0)), (1, .int (nI 0)), (0, .ref (ad 0))]) hx hb dX0_over_3 rfl hl (by decide) rfl (fun ls hl => ?_)
  have loop : ∀ (k i : Nat), i ≤ n → n < i + k → gm_good mm a b i → ∀ ls, lv_has ls 4 [(2, .int (nI i)), (1, .int (nI (gm_oc mm a b i))), (0, .ref (ad 0))] → W p l e (headSpec wsX0_over ({ frames := 1, cells := 0, slots := 0, locals := 23 })).room s m ([.ref (ad 0)] : List Value).toArray below meth c s.heap [] 0 0 (MQ below (vp_Si (fun r => (gm_good mm a b n ∧ r = nI (gm_oc mm a b n)) ∨ (¬ gm_good mm a b n ∧ r = -1))) ([.ref (ad 0)] : List Value).toArray s 0 0 (fun _ => False)) (F0 m 4 ls []) := by
    intro k
    induction k with
    | zero => intro i h1 h2; exact absurd h2 (by omega)
    | succ k ih =>
      intro i h1 h2 hgd ls hl
      refine lv_iload_n hx hb dX0_over_4 rfl (lv_at hl 0 rfl) ?_
      refine lv_aload_n hx hb dX0_over_5 rfl (lv_at hl 2 rfl) ?_
      refine va_get (D := (dC, dI)) (ci := 0) (v := .int (nI n)) (C := RX0) (T := TX0) (N := 7) hx hb hts in_X0 hown hK hP 0 rfl rfl 0 (by decide) (hts _ q23) (fun _ h9 => h9) rfl dX0_over_6 ?_
      refine gm_bge (tgt := 50) hx hb dX0_over_9 (by decide) (by omega) (by omega) (fun hc => ?_) (fun hc => ?_)
      · have e1 : i = n := by omega
        refine lv_iload_n hx hb dX0_over_50 rfl (lv_at hl 1 rfl) ?_
        exact W.iret (v := nI (gm_oc mm a b i)) hx hb hr (fun t ht hW => ⟨_, rfl, Or.inl ⟨by rw [← e1]; exact hgd, by rw [e1]⟩, ht⟩) (fun q hq => by cases hq) dX0_over_51
      · have c1 := gm_ct_le a i mm
        have c2 := gm_ct_le b i mm
        have hdc := gm_d_ct mm a b i
        refine lv_aload_n hx hb dX0_over_12 rfl (lv_at hl 2 rfl) ?_
        refine lv_iload_n hx hb dX0_over_13 rfl (lv_at hl 0 rfl) ?_
        refine vp_callSi (W.runV (As := [.int (nI i)]) (rest := []) ⟨hx, hb, hml, hown, hts⟩ (metX0_leaving l dC dI kI kL kG kZ ad mw LP n mm fa fb rt us g pr i a (by omega) hm hn.2 ha) (cwV 1 hts (lw_V q68 q70 qs1 q10 q71) rfl rfl rfl (by decide +kernel) ⟨Nat.le_of_ble_eq_true rfl, Nat.le_of_ble_eq_true rfl⟩) ⟨fun a U g mk q => by obtain ⟨q0, qP, qK⟩ := q; exact ⟨q0, qP, va_K.moved (u := U) (U := U.calling g mk a) (Vm.Alike.refl U.vm) qK⟩, va_recv hK hP (ci := 0) (q0 := 0) rfl rfl, fun U hU hW => ⟨rfl, by rw [hU]; exact hP, va_K.moved hW.alike hK⟩⟩ rfl rfl hl.1 rfl (lv_room (Nat.le_of_ble_eq_true rfl)) dX0_over_14 ⟨Nat.le_refl _, Nat.le_refl _⟩) (fun r hr1 => ?_)
        subst hr1
        refine lv_aload_n hx hb dX0_over_17 rfl (lv_at hl 2 rfl) ?_
        refine lv_iload_n hx hb dX0_over_18 rfl (lv_at hl 0 rfl) ?_
        refine vp_callSi (W.runV (As := [.int (nI i)]) (rest := [.int (nI (gm_ct a i mm))]) ⟨hx, hb, hml, hown, hts⟩ (metX0_coming l dC dI kI kL kG kZ ad mw LP n mm fa fb rt us g pr i b (by omega) hm hn.2 hb2) (cwV 1 hts (lw_V q72 q74 qs2 q10 q75) rfl rfl rfl (by decide +kernel) ⟨Nat.le_of_ble_eq_true rfl, Nat.le_of_ble_eq_true rfl⟩) ⟨fun a U g mk q => by obtain ⟨q0, qP, qK⟩ := q; exact ⟨q0, qP, va_K.moved (u := U) (U := U.calling g mk a) (Vm.Alike.refl U.vm) qK⟩, va_recv hK hP (ci := 0) (q0 := 0) rfl rfl, fun U hU hW => ⟨rfl, by rw [hU]; exact hP, va_K.moved hW.alike hK⟩⟩ rfl rfl hl.1 rfl (lv_room (Nat.le_of_ble_eq_true rfl)) dX0_over_19 ⟨Nat.le_refl _, Nat.le_refl _⟩) (fun r hr1 => ?_)
        subst hr1
        refine lv_isub hx hb dX0_over_22 ?_
        refine lv_istore_n (lv' := [(3, .int ((nI (gm_ct a i mm)) - (nI (gm_ct b i mm)))), (2, .int (nI i)), (1, .int (nI (gm_oc mm a b i))), (0, .ref (ad 0))]) hx hb dX0_over_23 rfl hl (by decide) rfl (fun ls hl => ?_)
        refine lv_iload_n hx hb dX0_over_24 rfl (lv_at hl 0 rfl) ?_
        refine lv_iconst (v := nI 1) hx hb dX0_over_25 (by decide) ?_
        refine lv_icmp_gt (tgt := 34) hx hb dX0_over_26 (by decide) (fun hc2 => ?_) (fun hc2 => ?_)
        · have e3 : ¬ gm_good mm a b n := fun hx2 => by
            have h3 := (hx2 i hc).2
            have hc2 := (gm_df_gt (by omega) (by omega)).mp hc2
            omega
          refine lv_iconst (v := -1) hx hb dX0_over_34 (by decide) ?_
          exact W.iret (v := -1) hx hb hr (fun t ht hW => ⟨_, rfl, Or.inr ⟨e3, rfl⟩, ht⟩) (fun q hq => by cases hq) dX0_over_35
        · have hc2 : ¬ (1 : Int) < (gm_ct a i mm : Int) - (gm_ct b i mm : Int) := fun hx2 => hc2 ((gm_df_gt (by omega) (by omega)).mpr hx2)
          refine lv_iload_n hx hb dX0_over_29 rfl (lv_at hl 0 rfl) ?_
          refine lv_iconst (v := -1) hx hb dX0_over_30 (by decide) ?_
          refine lv_icmp_ge (tgt := 36) hx hb dX0_over_31 (by decide) (fun hc3 => ?_) (fun hc3 => ?_)
          · rw [gm_df_ge (by omega) (by omega)] at hc3
            have e4 : gm_good mm a b (i + 1) := fun v hv => by
              by_cases h7 : v = i
              · rw [h7, hdc]; omega
              · exact hgd v (by omega)
            refine lv_iload_n hx hb dX0_over_36 rfl (lv_at hl 0 rfl) ?_
            refine lv_iconst (v := nI 1) hx hb dX0_over_37 (by decide) ?_
            refine lv_icmp_ne (tgt := 44) hx hb dX0_over_38 (by decide) (fun hc4 => ?_) (fun hc4 => ?_)
            · have e3 : gm_oc mm a b (i + 1) = gm_oc mm a b i := by
                rw [gm_oc, if_neg (fun hx2 => hc4 ((gm_df_eq (by omega) (by omega)).mpr (by omega)))]; omega
              refine lv_iinc (v := nI (i + 1)) (lv' := [(2, .int (nI (i + 1))), (3, .int ((nI (gm_ct a i mm)) - (nI (gm_ct b i mm)))), (1, .int (nI (gm_oc mm a b i))), (0, .ref (ad 0))]) hx hb dX0_over_44 hl (k := 1) rfl (nI_1 i) (by decide) rfl (fun ls hl => ?_)
              refine lv_goto (tgt := 4) hx hb dX0_over_47 (by decide) ?_
              exact ih (i + 1) (by omega) (by omega) e4 ls (by rw [e3]; exact lv_sub hl [0, 2, 3] rfl)
            · have e3 : gm_oc mm a b (i + 1) = gm_oc mm a b i + 1 := by
                have h8 := (gm_df_eq (by omega) (by omega)).mp hc4
                rw [gm_oc, if_pos (by omega)]
              refine lv_iinc (v := nI (gm_oc mm a b i + 1)) (lv' := [(1, .int (nI (gm_oc mm a b i + 1))), (3, .int ((nI (gm_ct a i mm)) - (nI (gm_ct b i mm)))), (2, .int (nI i)), (0, .ref (ad 0))]) hx hb dX0_over_41 hl (k := 2) rfl (nI_1 (gm_oc mm a b i)) (by decide) rfl (fun ls hl => ?_)
              refine lv_iinc (v := nI (i + 1)) (lv' := [(2, .int (nI (i + 1))), (1, .int (nI (gm_oc mm a b i + 1))), (3, .int ((nI (gm_ct a i mm)) - (nI (gm_ct b i mm)))), (0, .ref (ad 0))]) hx hb dX0_over_44 hl (k := 2) rfl (nI_1 i) (by decide) rfl (fun ls hl => ?_)
              refine lv_goto (tgt := 4) hx hb dX0_over_47 (by decide) ?_
              exact ih (i + 1) (by omega) (by omega) e4 ls (by rw [e3]; exact lv_sub hl [0, 1, 3] rfl)
          · have e3 : ¬ gm_good mm a b n := fun hx2 => by
              have h3 := (hx2 i hc).1
              rw [gm_df_ge (by omega) (by omega)] at hc3
              omega
            refine lv_iconst (v := -1) hx hb dX0_over_34 (by decide) ?_
            exact W.iret (v := -1) hx hb hr (fun t ht hW => ⟨_, rfl, Or.inr ⟨e3, rfl⟩, ht⟩) (fun q hq => by cases hq) dX0_over_35
  exact loop (n + 1) 0 (by omega) (by omega) (fun v hv => absurd hv (by omega)) ls hl
end
section
/-! THE DESK: the tests of ways, and what changes it -/
abbrev wsX0_open : List Cond := ws_ yX0_open cX0_open 1 (some .boolean)
set_option maxHeartbeats 4000000 in
set_option maxRecDepth 100000 in
/-- whether a way goes through all edges -/
theorem metX0_open (l : Launch) (dC : Nat → ClassId) (dI : Nat → Nat → Nat) (kI kL kG kZ : ClassId) (ad : Nat → Nat) (mw : va_W) (LP : List Nat) (sz : Nat) (n mm : Nat) (fa fb rt us : Nat → Int32) (g : Nat → Option Nat) (pr : Nat → Nat → Int64) (a b : Nat → Nat) (hn : 1 ≤ n ∧ n ≤ 5) (hm : mm ≤ 10) (ha : gm_hold n mm fa a) (hb2 : gm_hold n mm fb b) : Met l yX0_open wsX0_open ({ frames := 2, cells := 0, slots := 0, locals := 46 }) (va_Pc [.ref (ad 0)] (fun U => U.heap.size = sz ∧ va_P (dC, dI) vwCl (gWX ad kI kL kG mw LP n mm fa fb rt us g pr) U.heap ∧ va_K (dC, dI) vwCl (gTY kI kL kG kZ) U ∧ va_D (fun _ => True) (gWX ad kI kL kG mw LP n mm fa fb rt us g pr))) (va_Qi (fun (r : Int32) (u : Nat → Int32) => r = gm_b (gm_odd n mm a b ≤ 2 ∧ gm_conn mm a b)) (fun (u : Nat → Int32) (t : State) => va_P (dC, dI) vwCl (gWX ad kI kL kG mw LP n mm fa fb u us g pr) t.heap ∧ va_K (dC, dI) vwCl (gTY kI kL kG kZ) t ∧ va_D (va_A (gWX ad kI kL kG mw LP n mm fa fb rt us g pr) sz) (gWX ad kI kL kG mw LP n mm fa fb u us g pr)) (va_A (gWX ad kI kL kG mw LP n mm fa fb rt us g pr) sz)) 0 0 (va_A (gWX ad kI kL kG mw LP n mm fa fb rt us g pr) sz) := by
  refine Met.ofW (cc := cX0_open) (maxL := 1) (ret := (some .boolean)) (by decide) rfl ?_
  intro p e s m args below meth c s₁ B hml hv
  obtain ⟨rfl, hsz, hP, hK, hD0⟩ := hv
  have hx := B.exec
  have hb := B.bytes
  have hr := B.returns
  have hts := atoms_spec (ws := wsX0_open) B.pre
  have hts : ∀ w ∈ lw_all, w.before _ s = true := fun w h => hts w (List.mem_cons_of_mem _ h)
  have hown : s.vm.findClass RX0 = some m.cls := findClass_of_methodNamed B.named
  have hlocks := B.notSynchronized
  subst hsz
  have hD := hD0.self (sz := s.heap.size)
  generalize hAe : va_A (gWX ad kI kL kG mw LP n mm fa fb rt us g pr) s.heap.size = A at hD ⊢
  have hA : ∀ q : Nat, s.heap.size ≤ q → A q := fun q h => by rw [← hAe]; exact Or.inr h
  have hS : va_S A s.heap s.heap [] := va_S.rf
  have hl := lv_entry ([.ref (ad 0)]) (n := 1) (Nat.le_of_ble_eq_true rfl)
  rw [lg_entry_eq]
  generalize (lg_sl ([.ref (ad 0)]) ++ List.replicate (1 - (lg_sl ([.ref (ad 0)])).length) Slot.unset).toArray = ls at hl ⊢
  have hl : lv_has ls 1 [(0, .ref (ad 0))] := hl
  obtain ⟨H, hH⟩ : ∃ H : Heap, H = s.heap := ⟨_, rfl⟩
  obtain ⟨locs, hlo⟩ : ∃ q : List Loc, q = [] := ⟨_, rfl⟩
  have hP : va_P (dC, dI) vwCl (gWX ad kI kL kG mw LP n mm fa fb rt us g pr) H := by rw [hH]; exact hP
  have hS : va_S A s.heap H locs := by rw [hH, hlo]; exact hS
  suffices goal : W p l e (headSpec wsX0_open ({ frames := 2, cells := 0, slots := 0, locals := 46 })).room s m ([.ref (ad 0)] : List Value).toArray below meth c H locs 0 0 (MQ below (va_Qi (fun (r : Int32) (u : Nat → Int32) => r = gm_b (gm_odd n mm a b ≤ 2 ∧ gm_conn mm a b)) (fun (u : Nat → Int32) (t : State) => va_P (dC, dI) vwCl (gWX ad kI kL kG mw LP n mm fa fb u us g pr) t.heap ∧ va_K (dC, dI) vwCl (gTY kI kL kG kZ) t ∧ va_D A (gWX ad kI kL kG mw LP n mm fa fb u us g pr)) A) ([.ref (ad 0)] : List Value).toArray s 0 0 A) (F0 m 0 ls []) by rw [hH, hlo] at goal; exact goal
  clear hH hlo hAe
  have hod := gm_od_le mm a b n
  have hoe := gm_od_eq mm a b n
  refine lv_aload_n hx hb dX0_open_0 rfl (lv_at hl 0 rfl) ?_
  refine vp_callSi (W.runV (As := []) (rest := []) ⟨hx, hb, hml, hown, hts⟩ (metX0_odd l dC dI kI kL kG kZ ad mw LP n mm fa fb rt us g pr a b hn hm ha hb2) (cwV 0 hts (lw_V q80 q82 qs3 q10 q83) rfl rfl rfl (by decide +kernel) ⟨Nat.le_of_ble_eq_true rfl, Nat.le_of_ble_eq_true rfl⟩) ⟨fun a U g mk q => by obtain ⟨q0, qP, qK⟩ := q; exact ⟨q0, qP, va_K.moved (u := U) (U := U.calling g mk a) (Vm.Alike.refl U.vm) qK⟩, va_recv hK hP (ci := 0) (q0 := 0) rfl rfl, fun U hU hW => ⟨rfl, by rw [hU]; exact hP, va_K.moved hW.alike hK⟩⟩ rfl rfl hl.1 rfl (lv_room (Nat.le_of_ble_eq_true rfl)) dX0_open_1 ⟨Nat.le_refl _, Nat.le_refl _⟩) (fun r hr1 => ?_)
  subst hr1
  refine lv_iconst (v := nI 2) hx hb dX0_open_4 (by decide) ?_
  refine gm_bgt (tgt := 19) hx hb dX0_open_5 (by decide) (by omega) (by omega) (fun hc => ?_) (fun hc => ?_)
  · skip
    refine lv_iconst (v := nI 0) hx hb dX0_open_19 (by decide) ?_
    exact W.zret (v := nI 0) hx hb hr rfl (fun t ht hW => ⟨⟨nI 0, rt, rfl, (gm_b_f (fun hx2 => by have h3 := hx2.1; omega)).symm, by rw [ht]; exact hP, va_K.moved hW.alike hK, hD⟩, hS.F ht⟩) hS.2.2 dX0_open_20
  · skip
    refine lv_aload_n hx hb dX0_open_8 rfl (lv_at hl 0 rfl) ?_
    have hFc := gm_free hD hS hA
    refine va_calli (va_runV (As := []) (rest := []) ⟨hx, hb, hml, hown, hts⟩ (metX0_isOne l dC dI kI kL kG kZ ad mw LP H.size n mm fa fb rt us g pr a b hn hm ha hb2) (cwV 0 hts (lw_V q84 q86 qs4 q10 q87) rfl rfl rfl (by decide +kernel) ⟨Nat.le_of_ble_eq_true rfl, Nat.le_of_ble_eq_true rfl⟩) ⟨fun a U g mk q => by obtain ⟨q0, q1, qP, qK, qD⟩ := q; exact ⟨q0, q1, qP, va_K.moved (u := U) (U := U.calling g mk a) (Vm.Alike.refl U.vm) qK, qD⟩, va_recv hK hP (ci := 0) (q0 := 0) rfl rfl, fun U hU hW => ⟨rfl, by rw [hU], by rw [hU]; exact hP, va_K.moved hW.alike hK, hD.weaken (fun _ _ _ _ => trivial)⟩⟩ rfl rfl hl.1 rfl (lv_room (Nat.le_of_ble_eq_true rfl)) dX0_open_9 ⟨Nat.le_refl _, Nat.le_refl _⟩) hS (fun q _ h => hFc q h) hFc (fun r rt1 t H1 locs ht hvm hr1 hB hz1 hk1 hS => ?_)
    obtain ⟨hP1, hK1, hD1⟩ := hB
    rw [ht] at hP1
    have hD1 := hD1.weaken (fun _ _ _ h => hFc _ h)
    clear hP hD hFc hk1 hz1 hK1 hvm ht
    generalize H1 = H at hP1 hS ⊢
    have hP : va_P (dC, dI) vwCl (gWX ad kI kL kG mw LP n mm fa fb rt1 us g pr) H := hP1
    have hD : va_D A (gWX ad kI kL kG mw LP n mm fa fb rt1 us g pr) := hD1
    refine lv_if_eq (tgt := 19) hx hb dX0_open_12 (by decide) (fun hc9 => ?_) (fun hc9 => ?_)
    · have e9 : ¬ gm_conn mm a b := gm_b_0.mp (by rw [← hr1]; exact hc9)
      refine lv_iconst (v := nI 0) hx hb dX0_open_19 (by decide) ?_
      exact W.zret (v := nI 0) hx hb hr rfl (fun t ht hW => ⟨⟨nI 0, rt1, rfl, (gm_b_f (fun hx2 => e9 hx2.2)).symm, by rw [ht]; exact hP, va_K.moved hW.alike hK, hD⟩, hS.F ht⟩) hS.2.2 dX0_open_20
    · have e9 : gm_conn mm a b := Classical.byContradiction (fun hx2 => hc9 (by rw [hr1]; exact gm_b_f hx2))
      refine lv_iconst (v := nI 1) hx hb dX0_open_15 (by decide) ?_
      refine lv_goto (tgt := 20) hx hb dX0_open_16 (by decide) ?_
      exact W.zret (v := nI 1) hx hb hr rfl (fun t ht hW => ⟨⟨nI 1, rt1, rfl, (gm_b_t ⟨by omega, e9⟩).symm, by rw [ht]; exact hP, va_K.moved hW.alike hK, hD⟩, hS.F ht⟩) hS.2.2 dX0_open_20
abbrev wsX0_closed : List Cond := ws_ yX0_closed cX0_closed 1 (some .boolean)
set_option maxHeartbeats 4000000 in
set_option maxRecDepth 100000 in
/-- whether a round goes through all edges -/
theorem metX0_closed (l : Launch) (dC : Nat → ClassId) (dI : Nat → Nat → Nat) (kI kL kG kZ : ClassId) (ad : Nat → Nat) (mw : va_W) (LP : List Nat) (sz : Nat) (n mm : Nat) (fa fb rt us : Nat → Int32) (g : Nat → Option Nat) (pr : Nat → Nat → Int64) (a b : Nat → Nat) (hn : 1 ≤ n ∧ n ≤ 5) (hm : mm ≤ 10) (ha : gm_hold n mm fa a) (hb2 : gm_hold n mm fb b) : Met l yX0_closed wsX0_closed ({ frames := 2, cells := 0, slots := 0, locals := 46 }) (va_Pc [.ref (ad 0)] (fun U => U.heap.size = sz ∧ va_P (dC, dI) vwCl (gWX ad kI kL kG mw LP n mm fa fb rt us g pr) U.heap ∧ va_K (dC, dI) vwCl (gTY kI kL kG kZ) U ∧ va_D (fun _ => True) (gWX ad kI kL kG mw LP n mm fa fb rt us g pr))) (va_Qi (fun (r : Int32) (u : Nat → Int32) => r = gm_b (gm_odd n mm a b = 0 ∧ gm_conn mm a b)) (fun (u : Nat → Int32) (t : State) => va_P (dC, dI) vwCl (gWX ad kI kL kG mw LP n mm fa fb u us g pr) t.heap ∧ va_K (dC, dI) vwCl (gTY kI kL kG kZ) t ∧ va_D (va_A (gWX ad kI kL kG mw LP n mm fa fb rt us g pr) sz) (gWX ad kI kL kG mw LP n mm fa fb u us g pr)) (va_A (gWX ad kI kL kG mw LP n mm fa fb rt us g pr) sz)) 0 0 (va_A (gWX ad kI kL kG mw LP n mm fa fb rt us g pr) sz) := by
  refine Met.ofW (cc := cX0_closed) (maxL := 1) (ret := (some .boolean)) (by decide) rfl ?_
  intro p e s m args below meth c s₁ B hml hv
  obtain ⟨rfl, hsz, hP, hK, hD0⟩ := hv
  have hx := B.exec
  have hb := B.bytes
  have hr := B.returns
  have hts := atoms_spec (ws := wsX0_closed) B.pre
  have hts : ∀ w ∈ lw_all, w.before _ s = true := fun w h => hts w (List.mem_cons_of_mem _ h)
  have hown : s.vm.findClass RX0 = some m.cls := findClass_of_methodNamed B.named
  have hlocks := B.notSynchronized
  subst hsz
  have hD := hD0.self (sz := s.heap.size)
  generalize hAe : va_A (gWX ad kI kL kG mw LP n mm fa fb rt us g pr) s.heap.size = A at hD ⊢
  have hA : ∀ q : Nat, s.heap.size ≤ q → A q := fun q h => by rw [← hAe]; exact Or.inr h
  have hS : va_S A s.heap s.heap [] := va_S.rf
  have hl := lv_entry ([.ref (ad 0)]) (n := 1) (Nat.le_of_ble_eq_true rfl)
  rw [lg_entry_eq]
  generalize (lg_sl ([.ref (ad 0)]) ++ List.replicate (1 - (lg_sl ([.ref (ad 0)])).length) Slot.unset).toArray = ls at hl ⊢
  have hl : lv_has ls 1 [(0, .ref (ad 0))] := hl
  obtain ⟨H, hH⟩ : ∃ H : Heap, H = s.heap := ⟨_, rfl⟩
  obtain ⟨locs, hlo⟩ : ∃ q : List Loc, q = [] := ⟨_, rfl⟩
  have hP : va_P (dC, dI) vwCl (gWX ad kI kL kG mw LP n mm fa fb rt us g pr) H := by rw [hH]; exact hP
  have hS : va_S A s.heap H locs := by rw [hH, hlo]; exact hS
  suffices goal : W p l e (headSpec wsX0_closed ({ frames := 2, cells := 0, slots := 0, locals := 46 })).room s m ([.ref (ad 0)] : List Value).toArray below meth c H locs 0 0 (MQ below (va_Qi (fun (r : Int32) (u : Nat → Int32) => r = gm_b (gm_odd n mm a b = 0 ∧ gm_conn mm a b)) (fun (u : Nat → Int32) (t : State) => va_P (dC, dI) vwCl (gWX ad kI kL kG mw LP n mm fa fb u us g pr) t.heap ∧ va_K (dC, dI) vwCl (gTY kI kL kG kZ) t ∧ va_D A (gWX ad kI kL kG mw LP n mm fa fb u us g pr)) A) ([.ref (ad 0)] : List Value).toArray s 0 0 A) (F0 m 0 ls []) by rw [hH, hlo] at goal; exact goal
  clear hH hlo hAe
  have hod := gm_od_le mm a b n
  have hoe := gm_od_eq mm a b n
  refine lv_aload_n hx hb dX0_closed_0 rfl (lv_at hl 0 rfl) ?_
  refine vp_callSi (W.runV (As := []) (rest := []) ⟨hx, hb, hml, hown, hts⟩ (metX0_odd l dC dI kI kL kG kZ ad mw LP n mm fa fb rt us g pr a b hn hm ha hb2) (cwV 0 hts (lw_V q80 q82 qs3 q10 q83) rfl rfl rfl (by decide +kernel) ⟨Nat.le_of_ble_eq_true rfl, Nat.le_of_ble_eq_true rfl⟩) ⟨fun a U g mk q => by obtain ⟨q0, qP, qK⟩ := q; exact ⟨q0, qP, va_K.moved (u := U) (U := U.calling g mk a) (Vm.Alike.refl U.vm) qK⟩, va_recv hK hP (ci := 0) (q0 := 0) rfl rfl, fun U hU hW => ⟨rfl, by rw [hU]; exact hP, va_K.moved hW.alike hK⟩⟩ rfl rfl hl.1 rfl (lv_room (Nat.le_of_ble_eq_true rfl)) dX0_closed_1 ⟨Nat.le_refl _, Nat.le_refl _⟩) (fun r hr1 => ?_)
  subst hr1
  refine gm_zne (tgt := 18) hx hb dX0_closed_4 (by decide) (by omega) (fun hc => ?_) (fun hc => ?_)
  · skip
    refine lv_iconst (v := nI 0) hx hb dX0_closed_18 (by decide) ?_
    exact W.zret (v := nI 0) hx hb hr rfl (fun t ht hW => ⟨⟨nI 0, rt, rfl, (gm_b_f (fun hx2 => by have h3 := hx2.1; omega)).symm, by rw [ht]; exact hP, va_K.moved hW.alike hK, hD⟩, hS.F ht⟩) hS.2.2 dX0_closed_19
  · skip
    refine lv_aload_n hx hb dX0_closed_7 rfl (lv_at hl 0 rfl) ?_
    have hFc := gm_free hD hS hA
    refine va_calli (va_runV (As := []) (rest := []) ⟨hx, hb, hml, hown, hts⟩ (metX0_isOne l dC dI kI kL kG kZ ad mw LP H.size n mm fa fb rt us g pr a b hn hm ha hb2) (cwV 0 hts (lw_V q84 q86 qs4 q10 q87) rfl rfl rfl (by decide +kernel) ⟨Nat.le_of_ble_eq_true rfl, Nat.le_of_ble_eq_true rfl⟩) ⟨fun a U g mk q => by obtain ⟨q0, q1, qP, qK, qD⟩ := q; exact ⟨q0, q1, qP, va_K.moved (u := U) (U := U.calling g mk a) (Vm.Alike.refl U.vm) qK, qD⟩, va_recv hK hP (ci := 0) (q0 := 0) rfl rfl, fun U hU hW => ⟨rfl, by rw [hU], by rw [hU]; exact hP, va_K.moved hW.alike hK, hD.weaken (fun _ _ _ _ => trivial)⟩⟩ rfl rfl hl.1 rfl (lv_room (Nat.le_of_ble_eq_true rfl)) dX0_closed_8 ⟨Nat.le_refl _, Nat.le_refl _⟩) hS (fun q _ h => hFc q h) hFc (fun r rt1 t H1 locs ht hvm hr1 hB hz1 hk1 hS => ?_)
    obtain ⟨hP1, hK1, hD1⟩ := hB
    rw [ht] at hP1
    have hD1 := hD1.weaken (fun _ _ _ h => hFc _ h)
    clear hP hD hFc hk1 hz1 hK1 hvm ht
    generalize H1 = H at hP1 hS ⊢
    have hP : va_P (dC, dI) vwCl (gWX ad kI kL kG mw LP n mm fa fb rt1 us g pr) H := hP1
    have hD : va_D A (gWX ad kI kL kG mw LP n mm fa fb rt1 us g pr) := hD1
    refine lv_if_eq (tgt := 18) hx hb dX0_closed_11 (by decide) (fun hc9 => ?_) (fun hc9 => ?_)
    · have e9 : ¬ gm_conn mm a b := gm_b_0.mp (by rw [← hr1]; exact hc9)
      refine lv_iconst (v := nI 0) hx hb dX0_closed_18 (by decide) ?_
      exact W.zret (v := nI 0) hx hb hr rfl (fun t ht hW => ⟨⟨nI 0, rt1, rfl, (gm_b_f (fun hx2 => e9 hx2.2)).symm, by rw [ht]; exact hP, va_K.moved hW.alike hK, hD⟩, hS.F ht⟩) hS.2.2 dX0_closed_19
    · have e9 : gm_conn mm a b := Classical.byContradiction (fun hx2 => hc9 (by rw [hr1]; exact gm_b_f hx2))
      refine lv_iconst (v := nI 1) hx hb dX0_closed_14 (by decide) ?_
      refine lv_goto (tgt := 19) hx hb dX0_closed_15 (by decide) ?_
      exact W.zret (v := nI 1) hx hb hr rfl (fun t ht hW => ⟨⟨nI 1, rt1, rfl, (gm_b_t ⟨by omega, e9⟩).symm, by rw [ht]; exact hP, va_K.moved hW.alike hK, hD⟩, hS.F ht⟩) hS.2.2 dX0_closed_19
abbrev wsX0_arrows : List Cond := ws_ yX0_arrows cX0_arrows 2 (some .boolean)
set_option maxHeartbeats 4000000 in
set_option maxRecDepth 100000 in
/-- whether a way goes along all arrows -/
theorem metX0_arrows (l : Launch) (dC : Nat → ClassId) (dI : Nat → Nat → Nat) (kI kL kG kZ : ClassId) (ad : Nat → Nat) (mw : va_W) (LP : List Nat) (sz : Nat) (n mm : Nat) (fa fb rt us : Nat → Int32) (g : Nat → Option Nat) (pr : Nat → Nat → Int64) (a b : Nat → Nat) (hn : 1 ≤ n ∧ n ≤ 5) (hm : mm ≤ 10) (ha : gm_hold n mm fa a) (hb2 : gm_hold n mm fb b) : Met l yX0_arrows wsX0_arrows ({ frames := 2, cells := 0, slots := 0, locals := 46 }) (va_Pc [.ref (ad 0)] (fun U => U.heap.size = sz ∧ va_P (dC, dI) vwCl (gWX ad kI kL kG mw LP n mm fa fb rt us g pr) U.heap ∧ va_K (dC, dI) vwCl (gTY kI kL kG kZ) U ∧ va_D (fun _ => True) (gWX ad kI kL kG mw LP n mm fa fb rt us g pr))) (va_Qi (fun (r : Int32) (u : Nat → Int32) => r = gm_b (gm_good mm a b n ∧ gm_ov n mm a b ≤ 1 ∧ gm_conn mm a b)) (fun (u : Nat → Int32) (t : State) => va_P (dC, dI) vwCl (gWX ad kI kL kG mw LP n mm fa fb u us g pr) t.heap ∧ va_K (dC, dI) vwCl (gTY kI kL kG kZ) t ∧ va_D (va_A (gWX ad kI kL kG mw LP n mm fa fb rt us g pr) sz) (gWX ad kI kL kG mw LP n mm fa fb u us g pr)) (va_A (gWX ad kI kL kG mw LP n mm fa fb rt us g pr) sz)) 0 0 (va_A (gWX ad kI kL kG mw LP n mm fa fb rt us g pr) sz) := by
  refine Met.ofW (cc := cX0_arrows) (maxL := 2) (ret := (some .boolean)) (by decide) rfl ?_
  intro p e s m args below meth c s₁ B hml hv
  obtain ⟨rfl, hsz, hP, hK, hD0⟩ := hv
  have hx := B.exec
  have hb := B.bytes
  have hr := B.returns
  have hts := atoms_spec (ws := wsX0_arrows) B.pre
  have hts : ∀ w ∈ lw_all, w.before _ s = true := fun w h => hts w (List.mem_cons_of_mem _ h)
  have hown : s.vm.findClass RX0 = some m.cls := findClass_of_methodNamed B.named
  have hlocks := B.notSynchronized
  subst hsz
  have hD := hD0.self (sz := s.heap.size)
  generalize hAe : va_A (gWX ad kI kL kG mw LP n mm fa fb rt us g pr) s.heap.size = A at hD ⊢
  have hA : ∀ q : Nat, s.heap.size ≤ q → A q := fun q h => by rw [← hAe]; exact Or.inr h
  have hS : va_S A s.heap s.heap [] := va_S.rf
  have hl := lv_entry ([.ref (ad 0)]) (n := 2) (Nat.le_of_ble_eq_true rfl)
  rw [lg_entry_eq]
  generalize (lg_sl ([.ref (ad 0)]) ++ List.replicate (2 - (lg_sl ([.ref (ad 0)])).length) Slot.unset).toArray = ls at hl ⊢
  have hl : lv_has ls 2 [(0, .ref (ad 0))] := hl
  obtain ⟨H, hH⟩ : ∃ H : Heap, H = s.heap := ⟨_, rfl⟩
  obtain ⟨locs, hlo⟩ : ∃ q : List Loc, q = [] := ⟨_, rfl⟩
  have hP : va_P (dC, dI) vwCl (gWX ad kI kL kG mw LP n mm fa fb rt us g pr) H := by rw [hH]; exact hP
  have hS : va_S A s.heap H locs := by rw [hH, hlo]; exact hS
  suffices goal : W p l e (headSpec wsX0_arrows ({ frames := 2, cells := 0, slots := 0, locals := 46 })).room s m ([.ref (ad 0)] : List Value).toArray below meth c H locs 0 0 (MQ below (va_Qi (fun (r : Int32) (u : Nat → Int32) => r = gm_b (gm_good mm a b n ∧ gm_ov n mm a b ≤ 1 ∧ gm_conn mm a b)) (fun (u : Nat → Int32) (t : State) => va_P (dC, dI) vwCl (gWX ad kI kL kG mw LP n mm fa fb u us g pr) t.heap ∧ va_K (dC, dI) vwCl (gTY kI kL kG kZ) t ∧ va_D A (gWX ad kI kL kG mw LP n mm fa fb u us g pr)) A) ([.ref (ad 0)] : List Value).toArray s 0 0 A) (F0 m 0 ls []) by rw [hH, hlo] at goal; exact goal
  clear hH hlo hAe
  have hod := gm_oc_le mm a b n
  have hoe := gm_oc_eq mm a b n
  refine lv_aload_n hx hb dX0_arrows_0 rfl (lv_at hl 0 rfl) ?_
  refine vp_callSi (W.runV (As := []) (rest := []) ⟨hx, hb, hml, hown, hts⟩ (metX0_over l dC dI kI kL kG kZ ad mw LP n mm fa fb rt us g pr a b hn hm ha hb2) (cwV 0 hts (lw_V q100 q102 qs6 q10 q103) rfl rfl rfl (by decide +kernel) ⟨Nat.le_of_ble_eq_true rfl, Nat.le_of_ble_eq_true rfl⟩) ⟨fun a U g mk q => by obtain ⟨q0, qP, qK⟩ := q; exact ⟨q0, qP, va_K.moved (u := U) (U := U.calling g mk a) (Vm.Alike.refl U.vm) qK⟩, va_recv hK hP (ci := 0) (q0 := 0) rfl rfl, fun U hU hW => ⟨rfl, by rw [hU]; exact hP, va_K.moved hW.alike hK⟩⟩ rfl rfl hl.1 rfl (lv_room (Nat.le_of_ble_eq_true rfl)) dX0_arrows_1 ⟨Nat.le_refl _, Nat.le_refl _⟩) (fun r hr1 => ?_)
  rcases hr1 with ⟨hg1, hr1⟩ | ⟨hg1, hr1⟩
  · subst hr1
    refine lv_istore_n (lv' := [(1, .int (nI (gm_oc mm a b n))), (0, .ref (ad 0))]) hx hb dX0_arrows_4 rfl hl (by decide) rfl (fun ls hl => ?_)
    refine lv_iload_n hx hb dX0_arrows_5 rfl (lv_at hl 0 rfl) ?_
    refine lv_if_lt (tgt := 25) hx hb dX0_arrows_6 (by decide) (fun hc => ?_) (fun hc => ?_)
    · exact absurd hc (nI_pos (by omega))
    · clear hc
      refine lv_iload_n hx hb dX0_arrows_9 rfl (lv_at hl 0 rfl) ?_
      refine lv_iconst (v := nI 1) hx hb dX0_arrows_10 (by decide) ?_
      refine gm_bgt (tgt := 25) hx hb dX0_arrows_11 (by decide) (by omega) (by omega) (fun hc2 => ?_) (fun hc2 => ?_)
      · skip
        refine lv_iconst (v := nI 0) hx hb dX0_arrows_25 (by decide) ?_
        exact W.zret (v := nI 0) hx hb hr rfl (fun t ht hW => ⟨⟨nI 0, rt, rfl, (gm_b_f (fun hx2 => by have h3 := hx2.2.1; omega)).symm, by rw [ht]; exact hP, va_K.moved hW.alike hK, hD⟩, hS.F ht⟩) hS.2.2 dX0_arrows_26
      · skip
        refine lv_aload_n hx hb dX0_arrows_14 rfl (lv_at hl 1 rfl) ?_
        have hFc := gm_free hD hS hA
        refine va_calli (va_runV (As := []) (rest := []) ⟨hx, hb, hml, hown, hts⟩ (metX0_isOne l dC dI kI kL kG kZ ad mw LP H.size n mm fa fb rt us g pr a b hn hm ha hb2) (cwV 0 hts (lw_V q84 q86 qs4 q10 q87) rfl rfl rfl (by decide +kernel) ⟨Nat.le_of_ble_eq_true rfl, Nat.le_of_ble_eq_true rfl⟩) ⟨fun a U g mk q => by obtain ⟨q0, q1, qP, qK, qD⟩ := q; exact ⟨q0, q1, qP, va_K.moved (u := U) (U := U.calling g mk a) (Vm.Alike.refl U.vm) qK, qD⟩, va_recv hK hP (ci := 0) (q0 := 0) rfl rfl, fun U hU hW => ⟨rfl, by rw [hU], by rw [hU]; exact hP, va_K.moved hW.alike hK, hD.weaken (fun _ _ _ _ => trivial)⟩⟩ rfl rfl hl.1 rfl (lv_room (Nat.le_of_ble_eq_true rfl)) dX0_arrows_15 ⟨Nat.le_refl _, Nat.le_refl _⟩) hS (fun q _ h => hFc q h) hFc (fun r rt1 t H1 locs ht hvm hr1 hB hz1 hk1 hS => ?_)
        obtain ⟨hP1, hK1, hD1⟩ := hB
        rw [ht] at hP1
        have hD1 := hD1.weaken (fun _ _ _ h => hFc _ h)
        clear hP hD hFc hk1 hz1 hK1 hvm ht
        generalize H1 = H at hP1 hS ⊢
        have hP : va_P (dC, dI) vwCl (gWX ad kI kL kG mw LP n mm fa fb rt1 us g pr) H := hP1
        have hD : va_D A (gWX ad kI kL kG mw LP n mm fa fb rt1 us g pr) := hD1
        refine lv_if_eq (tgt := 25) hx hb dX0_arrows_18 (by decide) (fun hc9 => ?_) (fun hc9 => ?_)
        · have e9 : ¬ gm_conn mm a b := gm_b_0.mp (by rw [← hr1]; exact hc9)
          refine lv_iconst (v := nI 0) hx hb dX0_arrows_25 (by decide) ?_
          exact W.zret (v := nI 0) hx hb hr rfl (fun t ht hW => ⟨⟨nI 0, rt1, rfl, (gm_b_f (fun hx2 => e9 hx2.2.2)).symm, by rw [ht]; exact hP, va_K.moved hW.alike hK, hD⟩, hS.F ht⟩) hS.2.2 dX0_arrows_26
        · have e9 : gm_conn mm a b := Classical.byContradiction (fun hx2 => hc9 (by rw [hr1]; exact gm_b_f hx2))
          refine lv_iconst (v := nI 1) hx hb dX0_arrows_21 (by decide) ?_
          refine lv_goto (tgt := 26) hx hb dX0_arrows_22 (by decide) ?_
          exact W.zret (v := nI 1) hx hb hr rfl (fun t ht hW => ⟨⟨nI 1, rt1, rfl, (gm_b_t ⟨hg1, by omega, e9⟩).symm, by rw [ht]; exact hP, va_K.moved hW.alike hK, hD⟩, hS.F ht⟩) hS.2.2 dX0_arrows_26
  · subst hr1
    refine lv_istore_n (lv' := [(1, .int (-1)), (0, .ref (ad 0))]) hx hb dX0_arrows_4 rfl hl (by decide) rfl (fun ls hl => ?_)
    refine lv_iload_n hx hb dX0_arrows_5 rfl (lv_at hl 0 rfl) ?_
    refine lv_if_lt (tgt := 25) hx hb dX0_arrows_6 (by decide) (fun hc => ?_) (fun hc => ?_)
    · skip
      refine lv_iconst (v := nI 0) hx hb dX0_arrows_25 (by decide) ?_
      exact W.zret (v := nI 0) hx hb hr rfl (fun t ht hW => ⟨⟨nI 0, rt, rfl, (gm_b_f (fun hx2 => hg1 hx2.1)).symm, by rw [ht]; exact hP, va_K.moved hW.alike hK, hD⟩, hS.F ht⟩) hS.2.2 dX0_arrows_26
    · exact absurd (by decide) hc
abbrev wsX0_places : List Cond := ws_ yX0_places cX0_places 2 none
set_option maxHeartbeats 4000000 in
set_option maxRecDepth 100000 in
/-- places(k) -/
theorem metX0_places (l : Launch) (dC : Nat → ClassId) (dI : Nat → Nat → Nat) (kI kL kG kZ : ClassId) (ad : Nat → Nat) (mw : va_W) (LP : List Nat) (sz : Nat) (n mm : Nat) (fa fb rt us : Nat → Int32) (g : Nat → Option Nat) (pr : Nat → Nat → Int64) (p0 : Int32) : Met l yX0_places wsX0_places ({ frames := 0, cells := 0, slots := 0, locals := 0 }) (va_Pc [.ref (ad 0), .int p0] (fun U => U.heap.size = sz ∧ va_P (dC, dI) vwCl (gWX ad kI kL kG mw LP n mm fa fb rt us g pr) U.heap ∧ va_K (dC, dI) vwCl (gTY kI kL kG kZ) U ∧ va_D (fun _ => True) (gWX ad kI kL kG mw LP n mm fa fb rt us g pr))) (va_Qv (fun (u : Unit) => True) (fun (u : Unit) (t : State) => va_P (dC, dI) vwCl (gWX ad kI kL kG mw LP (1 + gm_pl p0 5) 0 fa fb rt us g pr) t.heap ∧ va_K (dC, dI) vwCl (gTY kI kL kG kZ) t ∧ va_D (va_A (gWX ad kI kL kG mw LP n mm fa fb rt us g pr) sz) (gWX ad kI kL kG mw LP (1 + gm_pl p0 5) 0 fa fb rt us g pr)) (va_A (gWX ad kI kL kG mw LP n mm fa fb rt us g pr) sz)) 0 0 (va_A (gWX ad kI kL kG mw LP n mm fa fb rt us g pr) sz) := by
  refine Met.ofW (cc := cX0_places) (maxL := 2) (ret := none) (by decide) rfl ?_
  intro p e s m args below meth c s₁ B hml hv
  obtain ⟨rfl, hsz, hP, hK, hD0⟩ := hv
  have hx := B.exec
  have hb := B.bytes
  have hr := B.returns
  have hts := atoms_spec (ws := wsX0_places) B.pre
  have hts : ∀ w ∈ lw_all, w.before _ s = true := fun w h => hts w (List.mem_cons_of_mem _ h)
  have hown : s.vm.findClass RX0 = some m.cls := findClass_of_methodNamed B.named
  have hlocks := B.notSynchronized
  subst hsz
  have hD := hD0.self (sz := s.heap.size)
  generalize hAe : va_A (gWX ad kI kL kG mw LP n mm fa fb rt us g pr) s.heap.size = A at hD ⊢
  have hA : ∀ q : Nat, s.heap.size ≤ q → A q := fun q h => by rw [← hAe]; exact Or.inr h
  have hS : va_S A s.heap s.heap [] := va_S.rf
  have hl := lv_entry ([.ref (ad 0), .int p0]) (n := 2) (Nat.le_of_ble_eq_true rfl)
  rw [lg_entry_eq]
  generalize (lg_sl ([.ref (ad 0), .int p0]) ++ List.replicate (2 - (lg_sl ([.ref (ad 0), .int p0])).length) Slot.unset).toArray = ls at hl ⊢
  have hl : lv_has ls 2 [(0, .ref (ad 0)), (1, .int p0)] := hl
  obtain ⟨H, hH⟩ : ∃ H : Heap, H = s.heap := ⟨_, rfl⟩
  obtain ⟨locs, hlo⟩ : ∃ q : List Loc, q = [] := ⟨_, rfl⟩
  have hP : va_P (dC, dI) vwCl (gWX ad kI kL kG mw LP n mm fa fb rt us g pr) H := by rw [hH]; exact hP
  have hS : va_S A s.heap H locs := by rw [hH, hlo]; exact hS
  suffices goal : W p l e (headSpec wsX0_places ({ frames := 0, cells := 0, slots := 0, locals := 0 })).room s m ([.ref (ad 0), .int p0] : List Value).toArray below meth c H locs 0 0 (MQ below (va_Qv (fun (u : Unit) => True) (fun (u : Unit) (t : State) => va_P (dC, dI) vwCl (gWX ad kI kL kG mw LP (1 + gm_pl p0 5) 0 fa fb rt us g pr) t.heap ∧ va_K (dC, dI) vwCl (gTY kI kL kG kZ) t ∧ va_D A (gWX ad kI kL kG mw LP (1 + gm_pl p0 5) 0 fa fb rt us g pr)) A) ([.ref (ad 0), .int p0] : List Value).toArray s 0 0 A) (F0 m 0 ls []) by rw [hH, hlo] at goal; exact goal
  clear hH hlo hAe
  refine lv_aload_n hx hb dX0_places_0 rfl (lv_at hl 0 rfl) ?_
  refine lv_iconst (v := nI 1) hx hb dX0_places_1 (by decide) ?_
  refine lv_iload_n hx hb dX0_places_2 rfl (lv_at hl 1 rfl) ?_
  refine lv_ldc hx hb hown (hts _ q51) dX0_places_3 ?_
  refine lv_iand hx hb dX0_places_5 ?_
  refine gm_tpi (gm_and31 p0) ?_
  refine lv_iconst (v := nI 5) hx hb dX0_places_6 (by decide) ?_
  refine lv_irem hx hb dX0_places_7 (nI_ne0 (by decide) (by decide)) ?_
  refine gm_tpi (gm_rem p0 (by decide) (by decide)) ?_
  refine lv_iadd hx hb dX0_places_8 ?_
  refine gm_tpi (nI_add 1 (gm_pl p0 5)) ?_
  refine va_put (D := (dC, dI)) (ci := 0) (v := .int (nI (1 + (gm_pl p0 5)))) (ty := .int) (C := RX0) (T := TX0) (N := 7) hx hb hts in_X0 tyX0 tyX0_ok nmX0 hown hK hP hD hS 0 rfl rfl 0 (by decide) (hts _ q23) (fun _ h9 => h9) rfl (by decide +kernel) rfl rfl (Nat.le_of_ble_eq_true rfl) dX0_places_9 (fun H locs hP hD hS => ?_)
  have hP : va_P (dC, dI) vwCl (gWX ad kI kL kG mw LP (1 + (gm_pl p0 5)) mm fa fb rt us g pr) H := hP
  have hD : va_D A (gWX ad kI kL kG mw LP (1 + (gm_pl p0 5)) mm fa fb rt us g pr) := hD
  refine lv_aload_n hx hb dX0_places_12 rfl (lv_at hl 0 rfl) ?_
  refine lv_iconst (v := nI 0) hx hb dX0_places_13 (by decide) ?_
  refine va_put (D := (dC, dI)) (ci := 0) (v := .int (nI 0)) (ty := .int) (C := RX0) (T := TX0) (N := 7) hx hb hts in_X0 tyX0 tyX0_ok nmX0 hown hK hP hD hS 0 rfl rfl 1 (by decide) (hts _ q24) (fun _ h9 => h9) rfl (by decide +kernel) rfl rfl (Nat.le_of_ble_eq_true rfl) dX0_places_14 (fun H locs hP hD hS => ?_)
  have hP : va_P (dC, dI) vwCl (gWX ad kI kL kG mw LP (1 + (gm_pl p0 5)) 0 fa fb rt us g pr) H := hP
  have hD : va_D A (gWX ad kI kL kG mw LP (1 + (gm_pl p0 5)) 0 fa fb rt us g pr) := hD
  exact W.vret hx hb hr (fun t ht hW => ⟨⟨(), rfl, trivial, by rw [ht]; exact hP, va_K.moved hW.alike hK, hD⟩, hS.F ht⟩) hS.2.2 dX0_places_17
abbrev wsX0_edge : List Cond := ws_ yX0_edge cX0_edge 3 (some .boolean)
set_option maxHeartbeats 4000000 in
set_option maxRecDepth 100000 in
/-- edge(x, y) when there are ten -/
theorem metX0_edge_full (l : Launch) (dC : Nat → ClassId) (dI : Nat → Nat → Nat) (kI kL kG kZ : ClassId) (ad : Nat → Nat) (mw : va_W) (LP : List Nat) (sz : Nat) (n : Nat) (fa fb rt us : Nat → Int32) (g : Nat → Option Nat) (pr : Nat → Nat → Int64) (p0 p1 : Int32) : Met l yX0_edge wsX0_edge ({ frames := 1, cells := 0, slots := 0, locals := 21 }) (va_Pc [.ref (ad 0), .int p0, .int p1] (fun U => U.heap.size = sz ∧ va_P (dC, dI) vwCl (gWX ad kI kL kG mw LP n 10 fa fb rt us g pr) U.heap ∧ va_K (dC, dI) vwCl (gTY kI kL kG kZ) U ∧ va_D (fun _ => True) (gWX ad kI kL kG mw LP n 10 fa fb rt us g pr))) (va_Qi (fun (r : Int32) (u : Unit) => r = 0) (fun (u : Unit) (t : State) => va_P (dC, dI) vwCl (gWX ad kI kL kG mw LP n 10 fa fb rt us g pr) t.heap ∧ va_K (dC, dI) vwCl (gTY kI kL kG kZ) t ∧ va_D (va_A (gWX ad kI kL kG mw LP n 10 fa fb rt us g pr) sz) (gWX ad kI kL kG mw LP n 10 fa fb rt us g pr)) (va_A (gWX ad kI kL kG mw LP n 10 fa fb rt us g pr) sz)) 0 0 (va_A (gWX ad kI kL kG mw LP n 10 fa fb rt us g pr) sz) := by
  refine Met.ofW (cc := cX0_edge) (maxL := 3) (ret := (some .boolean)) (by decide) rfl ?_
  intro p e s m args below meth c s₁ B hml hv
  obtain ⟨rfl, hsz, hP, hK, hD0⟩ := hv
  have hx := B.exec
  have hb := B.bytes
  have hr := B.returns
  have hts := atoms_spec (ws := wsX0_edge) B.pre
  have hts : ∀ w ∈ lw_all, w.before _ s = true := fun w h => hts w (List.mem_cons_of_mem _ h)
  have hown : s.vm.findClass RX0 = some m.cls := findClass_of_methodNamed B.named
  have hlocks := B.notSynchronized
  subst hsz
  have hD := hD0.self (sz := s.heap.size)
  generalize hAe : va_A (gWX ad kI kL kG mw LP n 10 fa fb rt us g pr) s.heap.size = A at hD ⊢
  have hA : ∀ q : Nat, s.heap.size ≤ q → A q := fun q h => by rw [← hAe]; exact Or.inr h
  have hS : va_S A s.heap s.heap [] := va_S.rf
  have hl := lv_entry ([.ref (ad 0), .int p0, .int p1]) (n := 3) (Nat.le_of_ble_eq_true rfl)
  rw [lg_entry_eq]
  generalize (lg_sl ([.ref (ad 0), .int p0, .int p1]) ++ List.replicate (3 - (lg_sl ([.ref (ad 0), .int p0, .int p1])).length) Slot.unset).toArray = ls at hl ⊢
  have hl : lv_has ls 3 [(0, .ref (ad 0)), (1, .int p0), (2, .int p1)] := hl
  obtain ⟨H, hH⟩ : ∃ H : Heap, H = s.heap := ⟨_, rfl⟩
  obtain ⟨locs, hlo⟩ : ∃ q : List Loc, q = [] := ⟨_, rfl⟩
  have hP : va_P (dC, dI) vwCl (gWX ad kI kL kG mw LP n 10 fa fb rt us g pr) H := by rw [hH]; exact hP
  have hS : va_S A s.heap H locs := by rw [hH, hlo]; exact hS
  suffices goal : W p l e (headSpec wsX0_edge ({ frames := 1, cells := 0, slots := 0, locals := 21 })).room s m ([.ref (ad 0), .int p0, .int p1] : List Value).toArray below meth c H locs 0 0 (MQ below (va_Qi (fun (r : Int32) (u : Unit) => r = 0) (fun (u : Unit) (t : State) => va_P (dC, dI) vwCl (gWX ad kI kL kG mw LP n 10 fa fb rt us g pr) t.heap ∧ va_K (dC, dI) vwCl (gTY kI kL kG kZ) t ∧ va_D A (gWX ad kI kL kG mw LP n 10 fa fb rt us g pr)) A) ([.ref (ad 0), .int p0, .int p1] : List Value).toArray s 0 0 A) (F0 m 0 ls []) by rw [hH, hlo] at goal; exact goal
  clear hH hlo hAe
  refine lv_aload_n hx hb dX0_edge_0 rfl (lv_at hl 0 rfl) ?_
  refine va_get (D := (dC, dI)) (ci := 0) (v := .int (nI 10)) (C := RX0) (T := TX0) (N := 7) hx hb hts in_X0 hown hK hP 0 rfl rfl 1 (by decide) (hts _ q24) (fun _ h9 => h9) rfl dX0_edge_1 ?_
  refine lv_bipush (v := nI 10) hx hb dX0_edge_4 (by decide) ?_
  refine gm_bne (tgt := 11) hx hb dX0_edge_6 (by decide) (by omega) (by omega) (fun hc => ?_) (fun hc => ?_)
  · exact absurd rfl hc
  · skip
    refine lv_iconst (v := nI 0) hx hb dX0_edge_9 (by decide) ?_
    exact W.zret (v := nI 0) hx hb hr rfl (fun t ht hW => ⟨⟨nI 0, (), rfl, rfl, by rw [ht]; exact hP, va_K.moved hW.alike hK, hD⟩, hS.F ht⟩) hS.2.2 dX0_edge_10
set_option maxHeartbeats 4000000 in
set_option maxRecDepth 100000 in
/-- edge(x, y) when there are fewer -/
theorem metX0_edge (l : Launch) (dC : Nat → ClassId) (dI : Nat → Nat → Nat) (kI kL kG kZ : ClassId) (ad : Nat → Nat) (mw : va_W) (LP : List Nat) (sz : Nat) (n mm : Nat) (fa fb rt us : Nat → Int32) (g : Nat → Option Nat) (pr : Nat → Nat → Int64) (p0 p1 : Int32) (hn : 1 ≤ n ∧ n ≤ 5) (hm : mm < 10) : Met l yX0_edge wsX0_edge ({ frames := 1, cells := 0, slots := 0, locals := 21 }) (va_Pc [.ref (ad 0), .int p0, .int p1] (fun U => U.heap.size = sz ∧ va_P (dC, dI) vwCl (gWX ad kI kL kG mw LP n mm fa fb rt us g pr) U.heap ∧ va_K (dC, dI) vwCl (gTY kI kL kG kZ) U ∧ va_D (fun _ => True) (gWX ad kI kL kG mw LP n mm fa fb rt us g pr))) (va_Qi (fun (r : Int32) (u : Unit) => r = 1) (fun (u : Unit) (t : State) => va_P (dC, dI) vwCl (gWX ad kI kL kG mw LP n (mm + 1) (upd fa mm (nI (gm_pl p0 n))) (upd fb mm (nI (gm_pl p1 n))) rt us g pr) t.heap ∧ va_K (dC, dI) vwCl (gTY kI kL kG kZ) t ∧ va_D (va_A (gWX ad kI kL kG mw LP n mm fa fb rt us g pr) sz) (gWX ad kI kL kG mw LP n (mm + 1) (upd fa mm (nI (gm_pl p0 n))) (upd fb mm (nI (gm_pl p1 n))) rt us g pr)) (va_A (gWX ad kI kL kG mw LP n mm fa fb rt us g pr) sz)) 0 0 (va_A (gWX ad kI kL kG mw LP n mm fa fb rt us g pr) sz) := by
  refine Met.ofW (cc := cX0_edge) (maxL := 3) (ret := (some .boolean)) (by decide) rfl ?_
  intro p e s m args below meth c s₁ B hml hv
  obtain ⟨rfl, hsz, hP, hK, hD0⟩ := hv
  have hx := B.exec
  have hb := B.bytes
  have hr := B.returns
  have hts := atoms_spec (ws := wsX0_edge) B.pre
  have hts : ∀ w ∈ lw_all, w.before _ s = true := fun w h => hts w (List.mem_cons_of_mem _ h)
  have hown : s.vm.findClass RX0 = some m.cls := findClass_of_methodNamed B.named
  have hlocks := B.notSynchronized
  subst hsz
  have hD := hD0.self (sz := s.heap.size)
  generalize hAe : va_A (gWX ad kI kL kG mw LP n mm fa fb rt us g pr) s.heap.size = A at hD ⊢
  have hA : ∀ q : Nat, s.heap.size ≤ q → A q := fun q h => by rw [← hAe]; exact Or.inr h
  have hS : va_S A s.heap s.heap [] := va_S.rf
  have hl := lv_entry ([.ref (ad 0), .int p0, .int p1]) (n := 3) (Nat.le_of_ble_eq_true rfl)
  rw [lg_entry_eq]
  generalize (lg_sl ([.ref (ad 0), .int p0, .int p1]) ++ List.replicate (3 - (lg_sl ([.ref (ad 0), .int p0, .int p1])).length) Slot.unset).toArray = ls at hl ⊢
  have hl : lv_has ls 3 [(0, .ref (ad 0)), (1, .int p0), (2, .int p1)] := hl
  obtain ⟨H, hH⟩ : ∃ H : Heap, H = s.heap := ⟨_, rfl⟩
  obtain ⟨locs, hlo⟩ : ∃ q : List Loc, q = [] := ⟨_, rfl⟩
  have hP : va_P (dC, dI) vwCl (gWX ad kI kL kG mw LP n mm fa fb rt us g pr) H := by rw [hH]; exact hP
  have hS : va_S A s.heap H locs := by rw [hH, hlo]; exact hS
  suffices goal : W p l e (headSpec wsX0_edge ({ frames := 1, cells := 0, slots := 0, locals := 21 })).room s m ([.ref (ad 0), .int p0, .int p1] : List Value).toArray below meth c H locs 0 0 (MQ below (va_Qi (fun (r : Int32) (u : Unit) => r = 1) (fun (u : Unit) (t : State) => va_P (dC, dI) vwCl (gWX ad kI kL kG mw LP n (mm + 1) (upd fa mm (nI (gm_pl p0 n))) (upd fb mm (nI (gm_pl p1 n))) rt us g pr) t.heap ∧ va_K (dC, dI) vwCl (gTY kI kL kG kZ) t ∧ va_D A (gWX ad kI kL kG mw LP n (mm + 1) (upd fa mm (nI (gm_pl p0 n))) (upd fb mm (nI (gm_pl p1 n))) rt us g pr)) A) ([.ref (ad 0), .int p0, .int p1] : List Value).toArray s 0 0 A) (F0 m 0 ls []) by rw [hH, hlo] at goal; exact goal
  clear hH hlo hAe
  refine lv_aload_n hx hb dX0_edge_0 rfl (lv_at hl 0 rfl) ?_
  refine va_get (D := (dC, dI)) (ci := 0) (v := .int (nI mm)) (C := RX0) (T := TX0) (N := 7) hx hb hts in_X0 hown hK hP 0 rfl rfl 1 (by decide) (hts _ q24) (fun _ h9 => h9) rfl dX0_edge_1 ?_
  refine lv_bipush (v := nI 10) hx hb dX0_edge_4 (by decide) ?_
  refine gm_bne (tgt := 11) hx hb dX0_edge_6 (by decide) (by omega) (by omega) (fun hc => ?_) (fun hc => ?_)
  · skip
    refine lv_aload_n hx hb dX0_edge_11 rfl (lv_at hl 0 rfl) ?_
    refine va_get (D := (dC, dI)) (ci := 0) (v := .ref (ad 1)) (C := RX0) (T := TX0) (N := 7) hx hb hts in_X0 hown hK hP 0 rfl rfl 2 (by decide) (hts _ q25) (fun _ h9 => h9) rfl dX0_edge_12 ?_
    refine lv_aload_n hx hb dX0_edge_15 rfl (lv_at hl 0 rfl) ?_
    refine va_get (D := (dC, dI)) (ci := 0) (v := .int (nI mm)) (C := RX0) (T := TX0) (N := 7) hx hb hts in_X0 hown hK hP 0 rfl rfl 1 (by decide) (hts _ q24) (fun _ h9 => h9) rfl dX0_edge_16 ?_
    refine lv_aload_n hx hb dX0_edge_19 rfl (lv_at hl 0 rfl) ?_
    refine lv_iload_n hx hb dX0_edge_20 rfl (lv_at hl 1 rfl) ?_
    refine vp_callSi (W.runV (As := [.int p0]) (rest := [.int (nI mm), .ref (ad 1)]) ⟨hx, hb, hml, hown, hts⟩ (metX0_place l dC dI kI kL kG kZ ad mw LP n mm fa fb rt us g pr p0 hn) (cwV 1 hts (lw_V q56 q58 qs0 q10 q59) rfl rfl rfl (by decide +kernel) ⟨Nat.le_of_ble_eq_true rfl, Nat.le_of_ble_eq_true rfl⟩) ⟨fun a U g mk q => by obtain ⟨q0, qP, qK⟩ := q; exact ⟨q0, qP, va_K.moved (u := U) (U := U.calling g mk a) (Vm.Alike.refl U.vm) qK⟩, va_recv hK hP (ci := 0) (q0 := 0) rfl rfl, fun U hU hW => ⟨rfl, by rw [hU]; exact hP, va_K.moved hW.alike hK⟩⟩ rfl rfl hl.1 rfl (lv_room (Nat.le_of_ble_eq_true rfl)) dX0_edge_21 ⟨Nat.le_refl _, Nat.le_refl _⟩) (fun r hr1 => ?_)
    subst hr1
    refine gm_iast hx hb hK hP hD hS 1 0 rfl rfl (k := mm) (by omega) (by decide) dX0_edge_24 (fun H locs hP hD hS => ?_)
    have hP : va_P (dC, dI) vwCl (gWX ad kI kL kG mw LP n mm (upd fa mm (nI (gm_pl p0 n))) fb rt us g pr) H := hP
    have hD : va_D A (gWX ad kI kL kG mw LP n mm (upd fa mm (nI (gm_pl p0 n))) fb rt us g pr) := hD
    refine lv_aload_n hx hb dX0_edge_25 rfl (lv_at hl 0 rfl) ?_
    refine va_get (D := (dC, dI)) (ci := 0) (v := .ref (ad 2)) (C := RX0) (T := TX0) (N := 7) hx hb hts in_X0 hown hK hP 0 rfl rfl 3 (by decide) (hts _ q26) (fun _ h9 => h9) rfl dX0_edge_26 ?_
    refine lv_aload_n hx hb dX0_edge_29 rfl (lv_at hl 0 rfl) ?_
    refine va_get (D := (dC, dI)) (ci := 0) (v := .int (nI mm)) (C := RX0) (T := TX0) (N := 7) hx hb hts in_X0 hown hK hP 0 rfl rfl 1 (by decide) (hts _ q24) (fun _ h9 => h9) rfl dX0_edge_30 ?_
    refine lv_aload_n hx hb dX0_edge_33 rfl (lv_at hl 0 rfl) ?_
    refine lv_iload_n hx hb dX0_edge_34 rfl (lv_at hl 2 rfl) ?_
    refine vp_callSi (W.runV (As := [.int p1]) (rest := [.int (nI mm), .ref (ad 2)]) ⟨hx, hb, hml, hown, hts⟩ (metX0_place l dC dI kI kL kG kZ ad mw LP n mm (upd fa mm (nI (gm_pl p0 n))) fb rt us g pr p1 hn) (cwV 1 hts (lw_V q56 q58 qs0 q10 q59) rfl rfl rfl (by decide +kernel) ⟨Nat.le_of_ble_eq_true rfl, Nat.le_of_ble_eq_true rfl⟩) ⟨fun a U g mk q => by obtain ⟨q0, qP, qK⟩ := q; exact ⟨q0, qP, va_K.moved (u := U) (U := U.calling g mk a) (Vm.Alike.refl U.vm) qK⟩, va_recv hK hP (ci := 0) (q0 := 0) rfl rfl, fun U hU hW => ⟨rfl, by rw [hU]; exact hP, va_K.moved hW.alike hK⟩⟩ rfl rfl hl.1 rfl (lv_room (Nat.le_of_ble_eq_true rfl)) dX0_edge_35 ⟨Nat.le_refl _, Nat.le_refl _⟩) (fun r hr1 => ?_)
    subst hr1
    refine gm_iast hx hb hK hP hD hS 2 0 rfl rfl (k := mm) (by omega) (by decide) dX0_edge_38 (fun H locs hP hD hS => ?_)
    have hP : va_P (dC, dI) vwCl (gWX ad kI kL kG mw LP n mm (upd fa mm (nI (gm_pl p0 n))) (upd fb mm (nI (gm_pl p1 n))) rt us g pr) H := hP
    have hD : va_D A (gWX ad kI kL kG mw LP n mm (upd fa mm (nI (gm_pl p0 n))) (upd fb mm (nI (gm_pl p1 n))) rt us g pr) := hD
    refine lv_aload_n hx hb dX0_edge_39 rfl (lv_at hl 0 rfl) ?_
    refine lv_dup hx hb dX0_edge_40 rfl ?_
    refine va_get (D := (dC, dI)) (ci := 0) (v := .int (nI mm)) (C := RX0) (T := TX0) (N := 7) hx hb hts in_X0 hown hK hP 0 rfl rfl 1 (by decide) (hts _ q24) (fun _ h9 => h9) rfl dX0_edge_41 ?_
    refine lv_iconst (v := nI 1) hx hb dX0_edge_44 (by decide) ?_
    refine lv_iadd hx hb dX0_edge_45 ?_
    refine gm_tpi (nI_add mm 1) ?_
    refine va_put (D := (dC, dI)) (ci := 0) (v := .int (nI (mm + 1))) (ty := .int) (C := RX0) (T := TX0) (N := 7) hx hb hts in_X0 tyX0 tyX0_ok nmX0 hown hK hP hD hS 0 rfl rfl 1 (by decide) (hts _ q24) (fun _ h9 => h9) rfl (by decide +kernel) rfl rfl (Nat.le_of_ble_eq_true rfl) dX0_edge_46 (fun H locs hP hD hS => ?_)
    have hP : va_P (dC, dI) vwCl (gWX ad kI kL kG mw LP n (mm + 1) (upd fa mm (nI (gm_pl p0 n))) (upd fb mm (nI (gm_pl p1 n))) rt us g pr) H := hP
    have hD : va_D A (gWX ad kI kL kG mw LP n (mm + 1) (upd fa mm (nI (gm_pl p0 n))) (upd fb mm (nI (gm_pl p1 n))) rt us g pr) := hD
    refine lv_iconst (v := nI 1) hx hb dX0_edge_49 (by decide) ?_
    exact W.zret (v := nI 1) hx hb hr rfl (fun t ht hW => ⟨⟨nI 1, (), rfl, rfl, by rw [ht]; exact hP, va_K.moved hW.alike hK, hD⟩, hS.F ht⟩) hS.2.2 dX0_edge_50
  · exact absurd hc (by omega)
abbrev wsX0_drop : List Cond := ws_ yX0_drop cX0_drop 1 (some .boolean)
set_option maxHeartbeats 4000000 in
set_option maxRecDepth 100000 in
/-- drop() when there is none -/
theorem metX0_drop_none (l : Launch) (dC : Nat → ClassId) (dI : Nat → Nat → Nat) (kI kL kG kZ : ClassId) (ad : Nat → Nat) (mw : va_W) (LP : List Nat) (sz : Nat) (n : Nat) (fa fb rt us : Nat → Int32) (g : Nat → Option Nat) (pr : Nat → Nat → Int64) : Met l yX0_drop wsX0_drop ({ frames := 0, cells := 0, slots := 0, locals := 0 }) (va_Pc [.ref (ad 0)] (fun U => U.heap.size = sz ∧ va_P (dC, dI) vwCl (gWX ad kI kL kG mw LP n 0 fa fb rt us g pr) U.heap ∧ va_K (dC, dI) vwCl (gTY kI kL kG kZ) U ∧ va_D (fun _ => True) (gWX ad kI kL kG mw LP n 0 fa fb rt us g pr))) (va_Qi (fun (r : Int32) (u : Unit) => r = 0) (fun (u : Unit) (t : State) => va_P (dC, dI) vwCl (gWX ad kI kL kG mw LP n 0 fa fb rt us g pr) t.heap ∧ va_K (dC, dI) vwCl (gTY kI kL kG kZ) t ∧ va_D (va_A (gWX ad kI kL kG mw LP n 0 fa fb rt us g pr) sz) (gWX ad kI kL kG mw LP n 0 fa fb rt us g pr)) (va_A (gWX ad kI kL kG mw LP n 0 fa fb rt us g pr) sz)) 0 0 (va_A (gWX ad kI kL kG mw LP n 0 fa fb rt us g pr) sz) := by
  refine Met.ofW (cc := cX0_drop) (maxL := 1) (ret := (some .boolean)) (by decide) rfl ?_
  intro p e s m args below meth c s₁ B hml hv
  obtain ⟨rfl, hsz, hP, hK, hD0⟩ := hv
  have hx := B.exec
  have hb := B.bytes
  have hr := B.returns
  have hts := atoms_spec (ws := wsX0_drop) B.pre
  have hts : ∀ w ∈ lw_all, w.before _ s = true := fun w h => hts w (List.mem_cons_of_mem _ h)
  have hown : s.vm.findClass RX0 = some m.cls := findClass_of_methodNamed B.named
  have hlocks := B.notSynchronized
  subst hsz
  have hD := hD0.self (sz := s.heap.size)
  generalize hAe : va_A (gWX ad kI kL kG mw LP n 0 fa fb rt us g pr) s.heap.size = A at hD ⊢
  have hA : ∀ q : Nat, s.heap.size ≤ q → A q := fun q h => by rw [← hAe]; exact Or.inr h
  have hS : va_S A s.heap s.heap [] := va_S.rf
  have hl := lv_entry ([.ref (ad 0)]) (n := 1) (Nat.le_of_ble_eq_true rfl)
  rw [lg_entry_eq]
  generalize (lg_sl ([.ref (ad 0)]) ++ List.replicate (1 - (lg_sl ([.ref (ad 0)])).length) Slot.unset).toArray = ls at hl ⊢
  have hl : lv_has ls 1 [(0, .ref (ad 0))] := hl
  obtain ⟨H, hH⟩ : ∃ H : Heap, H = s.heap := ⟨_, rfl⟩
  obtain ⟨locs, hlo⟩ : ∃ q : List Loc, q = [] := ⟨_, rfl⟩
  have hP : va_P (dC, dI) vwCl (gWX ad kI kL kG mw LP n 0 fa fb rt us g pr) H := by rw [hH]; exact hP
  have hS : va_S A s.heap H locs := by rw [hH, hlo]; exact hS
  suffices goal : W p l e (headSpec wsX0_drop ({ frames := 0, cells := 0, slots := 0, locals := 0 })).room s m ([.ref (ad 0)] : List Value).toArray below meth c H locs 0 0 (MQ below (va_Qi (fun (r : Int32) (u : Unit) => r = 0) (fun (u : Unit) (t : State) => va_P (dC, dI) vwCl (gWX ad kI kL kG mw LP n 0 fa fb rt us g pr) t.heap ∧ va_K (dC, dI) vwCl (gTY kI kL kG kZ) t ∧ va_D A (gWX ad kI kL kG mw LP n 0 fa fb rt us g pr)) A) ([.ref (ad 0)] : List Value).toArray s 0 0 A) (F0 m 0 ls []) by rw [hH, hlo] at goal; exact goal
  clear hH hlo hAe
  refine lv_aload_n hx hb dX0_drop_0 rfl (lv_at hl 0 rfl) ?_
  refine va_get (D := (dC, dI)) (ci := 0) (v := .int (nI 0)) (C := RX0) (T := TX0) (N := 7) hx hb hts in_X0 hown hK hP 0 rfl rfl 1 (by decide) (hts _ q24) (fun _ h9 => h9) rfl dX0_drop_1 ?_
  refine gm_zne (tgt := 9) hx hb dX0_drop_4 (by decide) (by omega) (fun hc => ?_) (fun hc => ?_)
  · exact absurd rfl hc
  · skip
    refine lv_iconst (v := nI 0) hx hb dX0_drop_7 (by decide) ?_
    exact W.zret (v := nI 0) hx hb hr rfl (fun t ht hW => ⟨⟨nI 0, (), rfl, rfl, by rw [ht]; exact hP, va_K.moved hW.alike hK, hD⟩, hS.F ht⟩) hS.2.2 dX0_drop_8
set_option maxHeartbeats 4000000 in
set_option maxRecDepth 100000 in
/-- drop() when there is one -/
theorem metX0_drop (l : Launch) (dC : Nat → ClassId) (dI : Nat → Nat → Nat) (kI kL kG kZ : ClassId) (ad : Nat → Nat) (mw : va_W) (LP : List Nat) (sz : Nat) (n mm : Nat) (fa fb rt us : Nat → Int32) (g : Nat → Option Nat) (pr : Nat → Nat → Int64) (hm : mm < 10) : Met l yX0_drop wsX0_drop ({ frames := 0, cells := 0, slots := 0, locals := 0 }) (va_Pc [.ref (ad 0)] (fun U => U.heap.size = sz ∧ va_P (dC, dI) vwCl (gWX ad kI kL kG mw LP n (mm + 1) fa fb rt us g pr) U.heap ∧ va_K (dC, dI) vwCl (gTY kI kL kG kZ) U ∧ va_D (fun _ => True) (gWX ad kI kL kG mw LP n (mm + 1) fa fb rt us g pr))) (va_Qi (fun (r : Int32) (u : Unit) => r = 1) (fun (u : Unit) (t : State) => va_P (dC, dI) vwCl (gWX ad kI kL kG mw LP n mm fa fb rt us g pr) t.heap ∧ va_K (dC, dI) vwCl (gTY kI kL kG kZ) t ∧ va_D (va_A (gWX ad kI kL kG mw LP n (mm + 1) fa fb rt us g pr) sz) (gWX ad kI kL kG mw LP n mm fa fb rt us g pr)) (va_A (gWX ad kI kL kG mw LP n (mm + 1) fa fb rt us g pr) sz)) 0 0 (va_A (gWX ad kI kL kG mw LP n (mm + 1) fa fb rt us g pr) sz) := by
  refine Met.ofW (cc := cX0_drop) (maxL := 1) (ret := (some .boolean)) (by decide) rfl ?_
  intro p e s m args below meth c s₁ B hml hv
  obtain ⟨rfl, hsz, hP, hK, hD0⟩ := hv
  have hx := B.exec
  have hb := B.bytes
  have hr := B.returns
  have hts := atoms_spec (ws := wsX0_drop) B.pre
  have hts : ∀ w ∈ lw_all, w.before _ s = true := fun w h => hts w (List.mem_cons_of_mem _ h)
  have hown : s.vm.findClass RX0 = some m.cls := findClass_of_methodNamed B.named
  have hlocks := B.notSynchronized
  subst hsz
  have hD := hD0.self (sz := s.heap.size)
  generalize hAe : va_A (gWX ad kI kL kG mw LP n (mm + 1) fa fb rt us g pr) s.heap.size = A at hD ⊢
  have hA : ∀ q : Nat, s.heap.size ≤ q → A q := fun q h => by rw [← hAe]; exact Or.inr h
  have hS : va_S A s.heap s.heap [] := va_S.rf
  have hl := lv_entry ([.ref (ad 0)]) (n := 1) (Nat.le_of_ble_eq_true rfl)
  rw [lg_entry_eq]
  generalize (lg_sl ([.ref (ad 0)]) ++ List.replicate (1 - (lg_sl ([.ref (ad 0)])).length) Slot.unset).toArray = ls at hl ⊢
  have hl : lv_has ls 1 [(0, .ref (ad 0))] := hl
  obtain ⟨H, hH⟩ : ∃ H : Heap, H = s.heap := ⟨_, rfl⟩
  obtain ⟨locs, hlo⟩ : ∃ q : List Loc, q = [] := ⟨_, rfl⟩
  have hP : va_P (dC, dI) vwCl (gWX ad kI kL kG mw LP n (mm + 1) fa fb rt us g pr) H := by rw [hH]; exact hP
  have hS : va_S A s.heap H locs := by rw [hH, hlo]; exact hS
  suffices goal : W p l e (headSpec wsX0_drop ({ frames := 0, cells := 0, slots := 0, locals := 0 })).room s m ([.ref (ad 0)] : List Value).toArray below meth c H locs 0 0 (MQ below (va_Qi (fun (r : Int32) (u : Unit) => r = 1) (fun (u : Unit) (t : State) => va_P (dC, dI) vwCl (gWX ad kI kL kG mw LP n mm fa fb rt us g pr) t.heap ∧ va_K (dC, dI) vwCl (gTY kI kL kG kZ) t ∧ va_D A (gWX ad kI kL kG mw LP n mm fa fb rt us g pr)) A) ([.ref (ad 0)] : List Value).toArray s 0 0 A) (F0 m 0 ls []) by rw [hH, hlo] at goal; exact goal
  clear hH hlo hAe
  refine lv_aload_n hx hb dX0_drop_0 rfl (lv_at hl 0 rfl) ?_
  refine va_get (D := (dC, dI)) (ci := 0) (v := .int (nI (mm + 1))) (C := RX0) (T := TX0) (N := 7) hx hb hts in_X0 hown hK hP 0 rfl rfl 1 (by decide) (hts _ q24) (fun _ h9 => h9) rfl dX0_drop_1 ?_
  refine gm_zne (tgt := 9) hx hb dX0_drop_4 (by decide) (by omega) (fun hc => ?_) (fun hc => ?_)
  · skip
    refine lv_aload_n hx hb dX0_drop_9 rfl (lv_at hl 0 rfl) ?_
    refine lv_dup hx hb dX0_drop_10 rfl ?_
    refine va_get (D := (dC, dI)) (ci := 0) (v := .int (nI (mm + 1))) (C := RX0) (T := TX0) (N := 7) hx hb hts in_X0 hown hK hP 0 rfl rfl 1 (by decide) (hts _ q24) (fun _ h9 => h9) rfl dX0_drop_11 ?_
    refine lv_iconst (v := nI 1) hx hb dX0_drop_14 (by decide) ?_
    refine lv_isub hx hb dX0_drop_15 ?_
    refine gm_tpi (nI_pred mm) ?_
    refine va_put (D := (dC, dI)) (ci := 0) (v := .int (nI mm)) (ty := .int) (C := RX0) (T := TX0) (N := 7) hx hb hts in_X0 tyX0 tyX0_ok nmX0 hown hK hP hD hS 0 rfl rfl 1 (by decide) (hts _ q24) (fun _ h9 => h9) rfl (by decide +kernel) rfl rfl (Nat.le_of_ble_eq_true rfl) dX0_drop_16 (fun H locs hP hD hS => ?_)
    have hP : va_P (dC, dI) vwCl (gWX ad kI kL kG mw LP n mm fa fb rt us g pr) H := hP
    have hD : va_D A (gWX ad kI kL kG mw LP n mm fa fb rt us g pr) := hD
    refine lv_iconst (v := nI 1) hx hb dX0_drop_19 (by decide) ?_
    exact W.zret (v := nI 1) hx hb hr rfl (fun t ht hW => ⟨⟨nI 1, (), rfl, rfl, by rw [ht]; exact hP, va_K.moved hW.alike hK, hD⟩, hS.F ht⟩) hS.2.2 dX0_drop_20
  · exact absurd hc (by omega)
end
section
/-! THE MODEL: what changes it, and ends -/
abbrev wsX1_places : List Cond := ws_ yX1_places cX1_places 2 none
set_option maxHeartbeats 4000000 in
set_option maxRecDepth 100000 in
/-- places(k) -/
theorem metX1_places (l : Launch) (dC : Nat → ClassId) (dI : Nat → Nat → Nat) (kI kL kG kZ : ClassId) (bd : Nat → Nat) (zw : va_W) (sz : Nat) (ma mb : Nat → Int32) (en nn : Nat) (kn : Int32) (can : Nat → Int32) (ways : Nat → Int64) (fo fc fr : Int32) (ro : Int64) (p0 : Int32) : Met l yX1_places wsX1_places ({ frames := 0, cells := 0, slots := 0, locals := 0 }) (va_Pc [.ref (bd 0), .int p0] (fun U => U.heap.size = sz ∧ va_P (dC, dI) vwCl (gWM bd kI kL kZ zw ma mb en nn kn can ways fo fc fr ro) U.heap ∧ va_K (dC, dI) vwCl (gTY kI kL kG kZ) U ∧ va_D (fun _ => True) (gWM bd kI kL kZ zw ma mb en nn kn can ways fo fc fr ro))) (va_Qv (fun (u : Unit) => True) (fun (u : Unit) (t : State) => va_P (dC, dI) vwCl (gWM bd kI kL kZ zw ma mb 0 (1 + gm_pl p0 5) (nI 0) can ways fo fc fr ro) t.heap ∧ va_K (dC, dI) vwCl (gTY kI kL kG kZ) t ∧ va_D (va_A (gWM bd kI kL kZ zw ma mb en nn kn can ways fo fc fr ro) sz) (gWM bd kI kL kZ zw ma mb 0 (1 + gm_pl p0 5) (nI 0) can ways fo fc fr ro)) (va_A (gWM bd kI kL kZ zw ma mb en nn kn can ways fo fc fr ro) sz)) 0 0 (va_A (gWM bd kI kL kZ zw ma mb en nn kn can ways fo fc fr ro) sz) := by
  refine Met.ofW (cc := cX1_places) (maxL := 2) (ret := none) (by decide) rfl ?_
  intro p e s m args below meth c s₁ B hml hv
  obtain ⟨rfl, hsz, hP, hK, hD0⟩ := hv
  have hx := B.exec
  have hb := B.bytes
  have hr := B.returns
  have hts := atoms_spec (ws := wsX1_places) B.pre
  have hts : ∀ w ∈ lw_all, w.before _ s = true := fun w h => hts w (List.mem_cons_of_mem _ h)
  have hown : s.vm.findClass RX1 = some m.cls := findClass_of_methodNamed B.named
  have hlocks := B.notSynchronized
  subst hsz
  have hD := hD0.self (sz := s.heap.size)
  generalize hAe : va_A (gWM bd kI kL kZ zw ma mb en nn kn can ways fo fc fr ro) s.heap.size = A at hD ⊢
  have hA : ∀ q : Nat, s.heap.size ≤ q → A q := fun q h => by rw [← hAe]; exact Or.inr h
  have hS : va_S A s.heap s.heap [] := va_S.rf
  have hl := lv_entry ([.ref (bd 0), .int p0]) (n := 2) (Nat.le_of_ble_eq_true rfl)
  rw [lg_entry_eq]
  generalize (lg_sl ([.ref (bd 0), .int p0]) ++ List.replicate (2 - (lg_sl ([.ref (bd 0), .int p0])).length) Slot.unset).toArray = ls at hl ⊢
  have hl : lv_has ls 2 [(0, .ref (bd 0)), (1, .int p0)] := hl
  obtain ⟨H, hH⟩ : ∃ H : Heap, H = s.heap := ⟨_, rfl⟩
  obtain ⟨locs, hlo⟩ : ∃ q : List Loc, q = [] := ⟨_, rfl⟩
  have hP : va_P (dC, dI) vwCl (gWM bd kI kL kZ zw ma mb en nn kn can ways fo fc fr ro) H := by rw [hH]; exact hP
  have hS : va_S A s.heap H locs := by rw [hH, hlo]; exact hS
  suffices goal : W p l e (headSpec wsX1_places ({ frames := 0, cells := 0, slots := 0, locals := 0 })).room s m ([.ref (bd 0), .int p0] : List Value).toArray below meth c H locs 0 0 (MQ below (va_Qv (fun (u : Unit) => True) (fun (u : Unit) (t : State) => va_P (dC, dI) vwCl (gWM bd kI kL kZ zw ma mb 0 (1 + gm_pl p0 5) (nI 0) can ways fo fc fr ro) t.heap ∧ va_K (dC, dI) vwCl (gTY kI kL kG kZ) t ∧ va_D A (gWM bd kI kL kZ zw ma mb 0 (1 + gm_pl p0 5) (nI 0) can ways fo fc fr ro)) A) ([.ref (bd 0), .int p0] : List Value).toArray s 0 0 A) (F0 m 0 ls []) by rw [hH, hlo] at goal; exact goal
  clear hH hlo hAe
  refine lv_aload_n hx hb dX1_places_0 rfl (lv_at hl 0 rfl) ?_
  refine lv_iconst (v := nI 1) hx hb dX1_places_1 (by decide) ?_
  refine lv_iload_n hx hb dX1_places_2 rfl (lv_at hl 1 rfl) ?_
  refine lv_ldc hx hb hown (hts _ q160) dX1_places_3 ?_
  refine lv_iand hx hb dX1_places_5 ?_
  refine gm_tpi (gm_and31 p0) ?_
  refine lv_iconst (v := nI 5) hx hb dX1_places_6 (by decide) ?_
  refine lv_irem hx hb dX1_places_7 (nI_ne0 (by decide) (by decide)) ?_
  refine gm_tpi (gm_rem p0 (by decide) (by decide)) ?_
  refine lv_iadd hx hb dX1_places_8 ?_
  refine gm_tpi (nI_add 1 (gm_pl p0 5)) ?_
  refine va_put (D := (dC, dI)) (ci := 1) (v := .int (nI (1 + (gm_pl p0 5)))) (ty := .int) (C := RX1) (T := TX1) (N := 11) hx hb hts in_X1 tyX1 tyX1_ok nmX1 hown hK hP hD hS 0 rfl rfl 3 (by decide) (hts _ q124) (fun _ h9 => h9) rfl (by decide +kernel) rfl rfl (Nat.le_of_ble_eq_true rfl) dX1_places_9 (fun H locs hP hD hS => ?_)
  have hP : va_P (dC, dI) vwCl (gWM bd kI kL kZ zw ma mb en (1 + (gm_pl p0 5)) kn can ways fo fc fr ro) H := hP
  have hD : va_D A (gWM bd kI kL kZ zw ma mb en (1 + (gm_pl p0 5)) kn can ways fo fc fr ro) := hD
  refine lv_aload_n hx hb dX1_places_12 rfl (lv_at hl 0 rfl) ?_
  refine lv_iconst (v := nI 0) hx hb dX1_places_13 (by decide) ?_
  refine va_put (D := (dC, dI)) (ci := 1) (v := .int (nI 0)) (ty := .int) (C := RX1) (T := TX1) (N := 11) hx hb hts in_X1 tyX1 tyX1_ok nmX1 hown hK hP hD hS 0 rfl rfl 2 (by decide) (hts _ q123) (fun _ h9 => h9) rfl (by decide +kernel) rfl rfl (Nat.le_of_ble_eq_true rfl) dX1_places_14 (fun H locs hP hD hS => ?_)
  have hP : va_P (dC, dI) vwCl (gWM bd kI kL kZ zw ma mb 0 (1 + (gm_pl p0 5)) kn can ways fo fc fr ro) H := hP
  have hD : va_D A (gWM bd kI kL kZ zw ma mb 0 (1 + (gm_pl p0 5)) kn can ways fo fc fr ro) := hD
  refine lv_aload_n hx hb dX1_places_17 rfl (lv_at hl 0 rfl) ?_
  refine lv_iconst (v := nI 0) hx hb dX1_places_18 (by decide) ?_
  refine va_put (D := (dC, dI)) (ci := 1) (v := .int (nI 0)) (ty := .boolean) (C := RX1) (T := TX1) (N := 11) hx hb hts in_X1 tyX1 tyX1_ok nmX1 hown hK hP hD hS 0 rfl rfl 4 (by decide) (hts _ q125) (fun _ h9 => h9) rfl (by decide +kernel) rfl rfl (Nat.le_of_ble_eq_true rfl) dX1_places_19 (fun H locs hP hD hS => ?_)
  have hP : va_P (dC, dI) vwCl (gWM bd kI kL kZ zw ma mb 0 (1 + (gm_pl p0 5)) (nI 0) can ways fo fc fr ro) H := hP
  have hD : va_D A (gWM bd kI kL kZ zw ma mb 0 (1 + (gm_pl p0 5)) (nI 0) can ways fo fc fr ro) := hD
  exact W.vret hx hb hr (fun t ht hW => ⟨⟨(), rfl, trivial, by rw [ht]; exact hP, va_K.moved hW.alike hK, hD⟩, hS.F ht⟩) hS.2.2 dX1_places_22
abbrev wsX1_edge : List Cond := ws_ yX1_edge cX1_edge 3 (some .boolean)
set_option maxHeartbeats 4000000 in
set_option maxRecDepth 100000 in
/-- edge(x, y) when there are ten -/
theorem metX1_edge_full (l : Launch) (dC : Nat → ClassId) (dI : Nat → Nat → Nat) (kI kL kG kZ : ClassId) (bd : Nat → Nat) (zw : va_W) (sz : Nat) (ma mb : Nat → Int32) (nn : Nat) (kn : Int32) (can : Nat → Int32) (ways : Nat → Int64) (fo fc fr : Int32) (ro : Int64) (p0 p1 : Int32) : Met l yX1_edge wsX1_edge ({ frames := 0, cells := 0, slots := 0, locals := 0 }) (va_Pc [.ref (bd 0), .int p0, .int p1] (fun U => U.heap.size = sz ∧ va_P (dC, dI) vwCl (gWM bd kI kL kZ zw ma mb 10 nn kn can ways fo fc fr ro) U.heap ∧ va_K (dC, dI) vwCl (gTY kI kL kG kZ) U ∧ va_D (fun _ => True) (gWM bd kI kL kZ zw ma mb 10 nn kn can ways fo fc fr ro))) (va_Qi (fun (r : Int32) (u : Unit) => r = 0) (fun (u : Unit) (t : State) => va_P (dC, dI) vwCl (gWM bd kI kL kZ zw ma mb 10 nn kn can ways fo fc fr ro) t.heap ∧ va_K (dC, dI) vwCl (gTY kI kL kG kZ) t ∧ va_D (va_A (gWM bd kI kL kZ zw ma mb 10 nn kn can ways fo fc fr ro) sz) (gWM bd kI kL kZ zw ma mb 10 nn kn can ways fo fc fr ro)) (va_A (gWM bd kI kL kZ zw ma mb 10 nn kn can ways fo fc fr ro) sz)) 0 0 (va_A (gWM bd kI kL kZ zw ma mb 10 nn kn can ways fo fc fr ro) sz) := by
  refine Met.ofW (cc := cX1_edge) (maxL := 3) (ret := (some .boolean)) (by decide) rfl ?_
  intro p e s m args below meth c s₁ B hml hv
  obtain ⟨rfl, hsz, hP, hK, hD0⟩ := hv
  have hx := B.exec
  have hb := B.bytes
  have hr := B.returns
  have hts := atoms_spec (ws := wsX1_edge) B.pre
  have hts : ∀ w ∈ lw_all, w.before _ s = true := fun w h => hts w (List.mem_cons_of_mem _ h)
  have hown : s.vm.findClass RX1 = some m.cls := findClass_of_methodNamed B.named
  have hlocks := B.notSynchronized
  subst hsz
  have hD := hD0.self (sz := s.heap.size)
  generalize hAe : va_A (gWM bd kI kL kZ zw ma mb 10 nn kn can ways fo fc fr ro) s.heap.size = A at hD ⊢
  have hA : ∀ q : Nat, s.heap.size ≤ q → A q := fun q h => by rw [← hAe]; exact Or.inr h
  have hS : va_S A s.heap s.heap [] := va_S.rf
  have hl := lv_entry ([.ref (bd 0), .int p0, .int p1]) (n := 3) (Nat.le_of_ble_eq_true rfl)
  rw [lg_entry_eq]
  generalize (lg_sl ([.ref (bd 0), .int p0, .int p1]) ++ List.replicate (3 - (lg_sl ([.ref (bd 0), .int p0, .int p1])).length) Slot.unset).toArray = ls at hl ⊢
  have hl : lv_has ls 3 [(0, .ref (bd 0)), (1, .int p0), (2, .int p1)] := hl
  obtain ⟨H, hH⟩ : ∃ H : Heap, H = s.heap := ⟨_, rfl⟩
  obtain ⟨locs, hlo⟩ : ∃ q : List Loc, q = [] := ⟨_, rfl⟩
  have hP : va_P (dC, dI) vwCl (gWM bd kI kL kZ zw ma mb 10 nn kn can ways fo fc fr ro) H := by rw [hH]; exact hP
  have hS : va_S A s.heap H locs := by rw [hH, hlo]; exact hS
  suffices goal : W p l e (headSpec wsX1_edge ({ frames := 0, cells := 0, slots := 0, locals := 0 })).room s m ([.ref (bd 0), .int p0, .int p1] : List Value).toArray below meth c H locs 0 0 (MQ below (va_Qi (fun (r : Int32) (u : Unit) => r = 0) (fun (u : Unit) (t : State) => va_P (dC, dI) vwCl (gWM bd kI kL kZ zw ma mb 10 nn kn can ways fo fc fr ro) t.heap ∧ va_K (dC, dI) vwCl (gTY kI kL kG kZ) t ∧ va_D A (gWM bd kI kL kZ zw ma mb 10 nn kn can ways fo fc fr ro)) A) ([.ref (bd 0), .int p0, .int p1] : List Value).toArray s 0 0 A) (F0 m 0 ls []) by rw [hH, hlo] at goal; exact goal
  clear hH hlo hAe
  refine lv_aload_n hx hb dX1_edge_0 rfl (lv_at hl 0 rfl) ?_
  refine va_get (D := (dC, dI)) (ci := 1) (v := .int (nI 10)) (C := RX1) (T := TX1) (N := 11) hx hb hts in_X1 hown hK hP 0 rfl rfl 2 (by decide) (hts _ q123) (fun _ h9 => h9) rfl dX1_edge_1 ?_
  refine lv_bipush (v := nI 10) hx hb dX1_edge_4 (by decide) ?_
  refine gm_bne (tgt := 11) hx hb dX1_edge_6 (by decide) (by omega) (by omega) (fun hc => ?_) (fun hc => ?_)
  · exact absurd rfl hc
  · skip
    refine lv_iconst (v := nI 0) hx hb dX1_edge_9 (by decide) ?_
    exact W.zret (v := nI 0) hx hb hr rfl (fun t ht hW => ⟨⟨nI 0, (), rfl, rfl, by rw [ht]; exact hP, va_K.moved hW.alike hK, hD⟩, hS.F ht⟩) hS.2.2 dX1_edge_10
set_option maxHeartbeats 4000000 in
set_option maxRecDepth 100000 in
/-- edge(x, y) when there are fewer -/
theorem metX1_edge (l : Launch) (dC : Nat → ClassId) (dI : Nat → Nat → Nat) (kI kL kG kZ : ClassId) (bd : Nat → Nat) (zw : va_W) (sz : Nat) (ma mb : Nat → Int32) (en nn : Nat) (kn : Int32) (can : Nat → Int32) (ways : Nat → Int64) (fo fc fr : Int32) (ro : Int64) (p0 p1 : Int32) (hn : 1 ≤ nn ∧ nn ≤ 5) (hm : en < 10) : Met l yX1_edge wsX1_edge ({ frames := 0, cells := 0, slots := 0, locals := 0 }) (va_Pc [.ref (bd 0), .int p0, .int p1] (fun U => U.heap.size = sz ∧ va_P (dC, dI) vwCl (gWM bd kI kL kZ zw ma mb en nn kn can ways fo fc fr ro) U.heap ∧ va_K (dC, dI) vwCl (gTY kI kL kG kZ) U ∧ va_D (fun _ => True) (gWM bd kI kL kZ zw ma mb en nn kn can ways fo fc fr ro))) (va_Qi (fun (r : Int32) (u : Unit) => r = 1) (fun (u : Unit) (t : State) => va_P (dC, dI) vwCl (gWM bd kI kL kZ zw (upd ma en (nI (gm_pl p0 nn))) (upd mb en (nI (gm_pl p1 nn))) (en + 1) nn (nI 0) can ways fo fc fr ro) t.heap ∧ va_K (dC, dI) vwCl (gTY kI kL kG kZ) t ∧ va_D (va_A (gWM bd kI kL kZ zw ma mb en nn kn can ways fo fc fr ro) sz) (gWM bd kI kL kZ zw (upd ma en (nI (gm_pl p0 nn))) (upd mb en (nI (gm_pl p1 nn))) (en + 1) nn (nI 0) can ways fo fc fr ro)) (va_A (gWM bd kI kL kZ zw ma mb en nn kn can ways fo fc fr ro) sz)) 0 0 (va_A (gWM bd kI kL kZ zw ma mb en nn kn can ways fo fc fr ro) sz) := by
  refine Met.ofW (cc := cX1_edge) (maxL := 3) (ret := (some .boolean)) (by decide) rfl ?_
  intro p e s m args below meth c s₁ B hml hv
  obtain ⟨rfl, hsz, hP, hK, hD0⟩ := hv
  have hx := B.exec
  have hb := B.bytes
  have hr := B.returns
  have hts := atoms_spec (ws := wsX1_edge) B.pre
  have hts : ∀ w ∈ lw_all, w.before _ s = true := fun w h => hts w (List.mem_cons_of_mem _ h)
  have hown : s.vm.findClass RX1 = some m.cls := findClass_of_methodNamed B.named
  have hlocks := B.notSynchronized
  subst hsz
  have hD := hD0.self (sz := s.heap.size)
  generalize hAe : va_A (gWM bd kI kL kZ zw ma mb en nn kn can ways fo fc fr ro) s.heap.size = A at hD ⊢
  have hA : ∀ q : Nat, s.heap.size ≤ q → A q := fun q h => by rw [← hAe]; exact Or.inr h
  have hS : va_S A s.heap s.heap [] := va_S.rf
  have hl := lv_entry ([.ref (bd 0), .int p0, .int p1]) (n := 3) (Nat.le_of_ble_eq_true rfl)
  rw [lg_entry_eq]
  generalize (lg_sl ([.ref (bd 0), .int p0, .int p1]) ++ List.replicate (3 - (lg_sl ([.ref (bd 0), .int p0, .int p1])).length) Slot.unset).toArray = ls at hl ⊢
  have hl : lv_has ls 3 [(0, .ref (bd 0)), (1, .int p0), (2, .int p1)] := hl
  obtain ⟨H, hH⟩ : ∃ H : Heap, H = s.heap := ⟨_, rfl⟩
  obtain ⟨locs, hlo⟩ : ∃ q : List Loc, q = [] := ⟨_, rfl⟩
  have hP : va_P (dC, dI) vwCl (gWM bd kI kL kZ zw ma mb en nn kn can ways fo fc fr ro) H := by rw [hH]; exact hP
  have hS : va_S A s.heap H locs := by rw [hH, hlo]; exact hS
  suffices goal : W p l e (headSpec wsX1_edge ({ frames := 0, cells := 0, slots := 0, locals := 0 })).room s m ([.ref (bd 0), .int p0, .int p1] : List Value).toArray below meth c H locs 0 0 (MQ below (va_Qi (fun (r : Int32) (u : Unit) => r = 1) (fun (u : Unit) (t : State) => va_P (dC, dI) vwCl (gWM bd kI kL kZ zw (upd ma en (nI (gm_pl p0 nn))) (upd mb en (nI (gm_pl p1 nn))) (en + 1) nn (nI 0) can ways fo fc fr ro) t.heap ∧ va_K (dC, dI) vwCl (gTY kI kL kG kZ) t ∧ va_D A (gWM bd kI kL kZ zw (upd ma en (nI (gm_pl p0 nn))) (upd mb en (nI (gm_pl p1 nn))) (en + 1) nn (nI 0) can ways fo fc fr ro)) A) ([.ref (bd 0), .int p0, .int p1] : List Value).toArray s 0 0 A) (F0 m 0 ls []) by rw [hH, hlo] at goal; exact goal
  clear hH hlo hAe
  refine lv_aload_n hx hb dX1_edge_0 rfl (lv_at hl 0 rfl) ?_
  refine va_get (D := (dC, dI)) (ci := 1) (v := .int (nI en)) (C := RX1) (T := TX1) (N := 11) hx hb hts in_X1 hown hK hP 0 rfl rfl 2 (by decide) (hts _ q123) (fun _ h9 => h9) rfl dX1_edge_1 ?_
  refine lv_bipush (v := nI 10) hx hb dX1_edge_4 (by decide) ?_
  refine gm_bne (tgt := 11) hx hb dX1_edge_6 (by decide) (by omega) (by omega) (fun hc => ?_) (fun hc => ?_)
  · skip
    refine lv_aload_n hx hb dX1_edge_11 rfl (lv_at hl 0 rfl) ?_
    refine va_get (D := (dC, dI)) (ci := 1) (v := .ref (bd 1)) (C := RX1) (T := TX1) (N := 11) hx hb hts in_X1 hown hK hP 0 rfl rfl 0 (by decide) (hts _ q121) (fun _ h9 => h9) rfl dX1_edge_12 ?_
    refine lv_aload_n hx hb dX1_edge_15 rfl (lv_at hl 0 rfl) ?_
    refine va_get (D := (dC, dI)) (ci := 1) (v := .int (nI en)) (C := RX1) (T := TX1) (N := 11) hx hb hts in_X1 hown hK hP 0 rfl rfl 2 (by decide) (hts _ q123) (fun _ h9 => h9) rfl dX1_edge_16 ?_
    refine lv_iload_n hx hb dX1_edge_19 rfl (lv_at hl 1 rfl) ?_
    refine lv_ldc hx hb hown (hts _ q160) dX1_edge_20 ?_
    refine lv_iand hx hb dX1_edge_22 ?_
    refine gm_tpi (gm_and31 p0) ?_
    refine lv_aload_n hx hb dX1_edge_23 rfl (lv_at hl 0 rfl) ?_
    refine va_get (D := (dC, dI)) (ci := 1) (v := .int (nI nn)) (C := RX1) (T := TX1) (N := 11) hx hb hts in_X1 hown hK hP 0 rfl rfl 3 (by decide) (hts _ q124) (fun _ h9 => h9) rfl dX1_edge_24 ?_
    refine lv_irem hx hb dX1_edge_27 (nI_ne0 (by omega) (by omega)) ?_
    refine gm_tpi (gm_rem p0 (by omega) (by omega)) ?_
    refine gm_iast hx hb hK hP hD hS 1 0 rfl rfl (k := en) (by omega) (by decide) dX1_edge_28 (fun H locs hP hD hS => ?_)
    have hP : va_P (dC, dI) vwCl (gWM bd kI kL kZ zw (upd ma en (nI (gm_pl p0 nn))) mb en nn kn can ways fo fc fr ro) H := hP
    have hD : va_D A (gWM bd kI kL kZ zw (upd ma en (nI (gm_pl p0 nn))) mb en nn kn can ways fo fc fr ro) := hD
    refine lv_aload_n hx hb dX1_edge_29 rfl (lv_at hl 0 rfl) ?_
    refine va_get (D := (dC, dI)) (ci := 1) (v := .ref (bd 2)) (C := RX1) (T := TX1) (N := 11) hx hb hts in_X1 hown hK hP 0 rfl rfl 1 (by decide) (hts _ q122) (fun _ h9 => h9) rfl dX1_edge_30 ?_
    refine lv_aload_n hx hb dX1_edge_33 rfl (lv_at hl 0 rfl) ?_
    refine va_get (D := (dC, dI)) (ci := 1) (v := .int (nI en)) (C := RX1) (T := TX1) (N := 11) hx hb hts in_X1 hown hK hP 0 rfl rfl 2 (by decide) (hts _ q123) (fun _ h9 => h9) rfl dX1_edge_34 ?_
    refine lv_iload_n hx hb dX1_edge_37 rfl (lv_at hl 2 rfl) ?_
    refine lv_ldc hx hb hown (hts _ q160) dX1_edge_38 ?_
    refine lv_iand hx hb dX1_edge_40 ?_
    refine gm_tpi (gm_and31 p1) ?_
    refine lv_aload_n hx hb dX1_edge_41 rfl (lv_at hl 0 rfl) ?_
    refine va_get (D := (dC, dI)) (ci := 1) (v := .int (nI nn)) (C := RX1) (T := TX1) (N := 11) hx hb hts in_X1 hown hK hP 0 rfl rfl 3 (by decide) (hts _ q124) (fun _ h9 => h9) rfl dX1_edge_42 ?_
    refine lv_irem hx hb dX1_edge_45 (nI_ne0 (by omega) (by omega)) ?_
    refine gm_tpi (gm_rem p1 (by omega) (by omega)) ?_
    refine gm_iast hx hb hK hP hD hS 2 0 rfl rfl (k := en) (by omega) (by decide) dX1_edge_46 (fun H locs hP hD hS => ?_)
    have hP : va_P (dC, dI) vwCl (gWM bd kI kL kZ zw (upd ma en (nI (gm_pl p0 nn))) (upd mb en (nI (gm_pl p1 nn))) en nn kn can ways fo fc fr ro) H := hP
    have hD : va_D A (gWM bd kI kL kZ zw (upd ma en (nI (gm_pl p0 nn))) (upd mb en (nI (gm_pl p1 nn))) en nn kn can ways fo fc fr ro) := hD
    refine lv_aload_n hx hb dX1_edge_47 rfl (lv_at hl 0 rfl) ?_
    refine lv_aload_n hx hb dX1_edge_48 rfl (lv_at hl 0 rfl) ?_
    refine va_get (D := (dC, dI)) (ci := 1) (v := .int (nI en)) (C := RX1) (T := TX1) (N := 11) hx hb hts in_X1 hown hK hP 0 rfl rfl 2 (by decide) (hts _ q123) (fun _ h9 => h9) rfl dX1_edge_49 ?_
    refine lv_iconst (v := nI 1) hx hb dX1_edge_52 (by decide) ?_
    refine lv_iadd hx hb dX1_edge_53 ?_
    refine gm_tpi (nI_add en 1) ?_
    refine va_put (D := (dC, dI)) (ci := 1) (v := .int (nI (en + 1))) (ty := .int) (C := RX1) (T := TX1) (N := 11) hx hb hts in_X1 tyX1 tyX1_ok nmX1 hown hK hP hD hS 0 rfl rfl 2 (by decide) (hts _ q123) (fun _ h9 => h9) rfl (by decide +kernel) rfl rfl (Nat.le_of_ble_eq_true rfl) dX1_edge_54 (fun H locs hP hD hS => ?_)
    have hP : va_P (dC, dI) vwCl (gWM bd kI kL kZ zw (upd ma en (nI (gm_pl p0 nn))) (upd mb en (nI (gm_pl p1 nn))) (en + 1) nn kn can ways fo fc fr ro) H := hP
    have hD : va_D A (gWM bd kI kL kZ zw (upd ma en (nI (gm_pl p0 nn))) (upd mb en (nI (gm_pl p1 nn))) (en + 1) nn kn can ways fo fc fr ro) := hD
    refine lv_aload_n hx hb dX1_edge_57 rfl (lv_at hl 0 rfl) ?_
    refine lv_iconst (v := nI 0) hx hb dX1_edge_58 (by decide) ?_
    refine va_put (D := (dC, dI)) (ci := 1) (v := .int (nI 0)) (ty := .boolean) (C := RX1) (T := TX1) (N := 11) hx hb hts in_X1 tyX1 tyX1_ok nmX1 hown hK hP hD hS 0 rfl rfl 4 (by decide) (hts _ q125) (fun _ h9 => h9) rfl (by decide +kernel) rfl rfl (Nat.le_of_ble_eq_true rfl) dX1_edge_59 (fun H locs hP hD hS => ?_)
    have hP : va_P (dC, dI) vwCl (gWM bd kI kL kZ zw (upd ma en (nI (gm_pl p0 nn))) (upd mb en (nI (gm_pl p1 nn))) (en + 1) nn (nI 0) can ways fo fc fr ro) H := hP
    have hD : va_D A (gWM bd kI kL kZ zw (upd ma en (nI (gm_pl p0 nn))) (upd mb en (nI (gm_pl p1 nn))) (en + 1) nn (nI 0) can ways fo fc fr ro) := hD
    refine lv_iconst (v := nI 1) hx hb dX1_edge_62 (by decide) ?_
    exact W.zret (v := nI 1) hx hb hr rfl (fun t ht hW => ⟨⟨nI 1, (), rfl, rfl, by rw [ht]; exact hP, va_K.moved hW.alike hK, hD⟩, hS.F ht⟩) hS.2.2 dX1_edge_63
  · exact absurd hc (by omega)
abbrev wsX1_drop : List Cond := ws_ yX1_drop cX1_drop 1 (some .boolean)
set_option maxHeartbeats 4000000 in
set_option maxRecDepth 100000 in
/-- drop() when there is none -/
theorem metX1_drop_none (l : Launch) (dC : Nat → ClassId) (dI : Nat → Nat → Nat) (kI kL kG kZ : ClassId) (bd : Nat → Nat) (zw : va_W) (sz : Nat) (ma mb : Nat → Int32) (nn : Nat) (kn : Int32) (can : Nat → Int32) (ways : Nat → Int64) (fo fc fr : Int32) (ro : Int64) : Met l yX1_drop wsX1_drop ({ frames := 0, cells := 0, slots := 0, locals := 0 }) (va_Pc [.ref (bd 0)] (fun U => U.heap.size = sz ∧ va_P (dC, dI) vwCl (gWM bd kI kL kZ zw ma mb 0 nn kn can ways fo fc fr ro) U.heap ∧ va_K (dC, dI) vwCl (gTY kI kL kG kZ) U ∧ va_D (fun _ => True) (gWM bd kI kL kZ zw ma mb 0 nn kn can ways fo fc fr ro))) (va_Qi (fun (r : Int32) (u : Unit) => r = 0) (fun (u : Unit) (t : State) => va_P (dC, dI) vwCl (gWM bd kI kL kZ zw ma mb 0 nn kn can ways fo fc fr ro) t.heap ∧ va_K (dC, dI) vwCl (gTY kI kL kG kZ) t ∧ va_D (va_A (gWM bd kI kL kZ zw ma mb 0 nn kn can ways fo fc fr ro) sz) (gWM bd kI kL kZ zw ma mb 0 nn kn can ways fo fc fr ro)) (va_A (gWM bd kI kL kZ zw ma mb 0 nn kn can ways fo fc fr ro) sz)) 0 0 (va_A (gWM bd kI kL kZ zw ma mb 0 nn kn can ways fo fc fr ro) sz) := by
  refine Met.ofW (cc := cX1_drop) (maxL := 1) (ret := (some .boolean)) (by decide) rfl ?_
  intro p e s m args below meth c s₁ B hml hv
  obtain ⟨rfl, hsz, hP, hK, hD0⟩ := hv
  have hx := B.exec
  have hb := B.bytes
  have hr := B.returns
  have hts := atoms_spec (ws := wsX1_drop) B.pre
  have hts : ∀ w ∈ lw_all, w.before _ s = true := fun w h => hts w (List.mem_cons_of_mem _ h)
  have hown : s.vm.findClass RX1 = some m.cls := findClass_of_methodNamed B.named
  have hlocks := B.notSynchronized
  subst hsz
  have hD := hD0.self (sz := s.heap.size)
  generalize hAe : va_A (gWM bd kI kL kZ zw ma mb 0 nn kn can ways fo fc fr ro) s.heap.size = A at hD ⊢
  have hA : ∀ q : Nat, s.heap.size ≤ q → A q := fun q h => by rw [← hAe]; exact Or.inr h
  have hS : va_S A s.heap s.heap [] := va_S.rf
  have hl := lv_entry ([.ref (bd 0)]) (n := 1) (Nat.le_of_ble_eq_true rfl)
  rw [lg_entry_eq]
  generalize (lg_sl ([.ref (bd 0)]) ++ List.replicate (1 - (lg_sl ([.ref (bd 0)])).length) Slot.unset).toArray = ls at hl ⊢
  have hl : lv_has ls 1 [(0, .ref (bd 0))] := hl
  obtain ⟨H, hH⟩ : ∃ H : Heap, H = s.heap := ⟨_, rfl⟩
  obtain ⟨locs, hlo⟩ : ∃ q : List Loc, q = [] := ⟨_, rfl⟩
  have hP : va_P (dC, dI) vwCl (gWM bd kI kL kZ zw ma mb 0 nn kn can ways fo fc fr ro) H := by rw [hH]; exact hP
  have hS : va_S A s.heap H locs := by rw [hH, hlo]; exact hS
  suffices goal : W p l e (headSpec wsX1_drop ({ frames := 0, cells := 0, slots := 0, locals := 0 })).room s m ([.ref (bd 0)] : List Value).toArray below meth c H locs 0 0 (MQ below (va_Qi (fun (r : Int32) (u : Unit) => r = 0) (fun (u : Unit) (t : State) => va_P (dC, dI) vwCl (gWM bd kI kL kZ zw ma mb 0 nn kn can ways fo fc fr ro) t.heap ∧ va_K (dC, dI) vwCl (gTY kI kL kG kZ) t ∧ va_D A (gWM bd kI kL kZ zw ma mb 0 nn kn can ways fo fc fr ro)) A) ([.ref (bd 0)] : List Value).toArray s 0 0 A) (F0 m 0 ls []) by rw [hH, hlo] at goal; exact goal
  clear hH hlo hAe
  refine lv_aload_n hx hb dX1_drop_0 rfl (lv_at hl 0 rfl) ?_
  refine va_get (D := (dC, dI)) (ci := 1) (v := .int (nI 0)) (C := RX1) (T := TX1) (N := 11) hx hb hts in_X1 hown hK hP 0 rfl rfl 2 (by decide) (hts _ q123) (fun _ h9 => h9) rfl dX1_drop_1 ?_
  refine gm_zne (tgt := 9) hx hb dX1_drop_4 (by decide) (by omega) (fun hc => ?_) (fun hc => ?_)
  · exact absurd rfl hc
  · skip
    refine lv_iconst (v := nI 0) hx hb dX1_drop_7 (by decide) ?_
    exact W.zret (v := nI 0) hx hb hr rfl (fun t ht hW => ⟨⟨nI 0, (), rfl, rfl, by rw [ht]; exact hP, va_K.moved hW.alike hK, hD⟩, hS.F ht⟩) hS.2.2 dX1_drop_8
set_option maxHeartbeats 4000000 in
set_option maxRecDepth 100000 in
/-- drop() when there is one -/
theorem metX1_drop (l : Launch) (dC : Nat → ClassId) (dI : Nat → Nat → Nat) (kI kL kG kZ : ClassId) (bd : Nat → Nat) (zw : va_W) (sz : Nat) (ma mb : Nat → Int32) (en nn : Nat) (kn : Int32) (can : Nat → Int32) (ways : Nat → Int64) (fo fc fr : Int32) (ro : Int64) (hm : en < 10) : Met l yX1_drop wsX1_drop ({ frames := 0, cells := 0, slots := 0, locals := 0 }) (va_Pc [.ref (bd 0)] (fun U => U.heap.size = sz ∧ va_P (dC, dI) vwCl (gWM bd kI kL kZ zw ma mb (en + 1) nn kn can ways fo fc fr ro) U.heap ∧ va_K (dC, dI) vwCl (gTY kI kL kG kZ) U ∧ va_D (fun _ => True) (gWM bd kI kL kZ zw ma mb (en + 1) nn kn can ways fo fc fr ro))) (va_Qi (fun (r : Int32) (u : Unit) => r = 1) (fun (u : Unit) (t : State) => va_P (dC, dI) vwCl (gWM bd kI kL kZ zw ma mb en nn (nI 0) can ways fo fc fr ro) t.heap ∧ va_K (dC, dI) vwCl (gTY kI kL kG kZ) t ∧ va_D (va_A (gWM bd kI kL kZ zw ma mb (en + 1) nn kn can ways fo fc fr ro) sz) (gWM bd kI kL kZ zw ma mb en nn (nI 0) can ways fo fc fr ro)) (va_A (gWM bd kI kL kZ zw ma mb (en + 1) nn kn can ways fo fc fr ro) sz)) 0 0 (va_A (gWM bd kI kL kZ zw ma mb (en + 1) nn kn can ways fo fc fr ro) sz) := by
  refine Met.ofW (cc := cX1_drop) (maxL := 1) (ret := (some .boolean)) (by decide) rfl ?_
  intro p e s m args below meth c s₁ B hml hv
  obtain ⟨rfl, hsz, hP, hK, hD0⟩ := hv
  have hx := B.exec
  have hb := B.bytes
  have hr := B.returns
  have hts := atoms_spec (ws := wsX1_drop) B.pre
  have hts : ∀ w ∈ lw_all, w.before _ s = true := fun w h => hts w (List.mem_cons_of_mem _ h)
  have hown : s.vm.findClass RX1 = some m.cls := findClass_of_methodNamed B.named
  have hlocks := B.notSynchronized
  subst hsz
  have hD := hD0.self (sz := s.heap.size)
  generalize hAe : va_A (gWM bd kI kL kZ zw ma mb (en + 1) nn kn can ways fo fc fr ro) s.heap.size = A at hD ⊢
  have hA : ∀ q : Nat, s.heap.size ≤ q → A q := fun q h => by rw [← hAe]; exact Or.inr h
  have hS : va_S A s.heap s.heap [] := va_S.rf
  have hl := lv_entry ([.ref (bd 0)]) (n := 1) (Nat.le_of_ble_eq_true rfl)
  rw [lg_entry_eq]
  generalize (lg_sl ([.ref (bd 0)]) ++ List.replicate (1 - (lg_sl ([.ref (bd 0)])).length) Slot.unset).toArray = ls at hl ⊢
  have hl : lv_has ls 1 [(0, .ref (bd 0))] := hl
  obtain ⟨H, hH⟩ : ∃ H : Heap, H = s.heap := ⟨_, rfl⟩
  obtain ⟨locs, hlo⟩ : ∃ q : List Loc, q = [] := ⟨_, rfl⟩
  have hP : va_P (dC, dI) vwCl (gWM bd kI kL kZ zw ma mb (en + 1) nn kn can ways fo fc fr ro) H := by rw [hH]; exact hP
  have hS : va_S A s.heap H locs := by rw [hH, hlo]; exact hS
  suffices goal : W p l e (headSpec wsX1_drop ({ frames := 0, cells := 0, slots := 0, locals := 0 })).room s m ([.ref (bd 0)] : List Value).toArray below meth c H locs 0 0 (MQ below (va_Qi (fun (r : Int32) (u : Unit) => r = 1) (fun (u : Unit) (t : State) => va_P (dC, dI) vwCl (gWM bd kI kL kZ zw ma mb en nn (nI 0) can ways fo fc fr ro) t.heap ∧ va_K (dC, dI) vwCl (gTY kI kL kG kZ) t ∧ va_D A (gWM bd kI kL kZ zw ma mb en nn (nI 0) can ways fo fc fr ro)) A) ([.ref (bd 0)] : List Value).toArray s 0 0 A) (F0 m 0 ls []) by rw [hH, hlo] at goal; exact goal
  clear hH hlo hAe
  refine lv_aload_n hx hb dX1_drop_0 rfl (lv_at hl 0 rfl) ?_
  refine va_get (D := (dC, dI)) (ci := 1) (v := .int (nI (en + 1))) (C := RX1) (T := TX1) (N := 11) hx hb hts in_X1 hown hK hP 0 rfl rfl 2 (by decide) (hts _ q123) (fun _ h9 => h9) rfl dX1_drop_1 ?_
  refine gm_zne (tgt := 9) hx hb dX1_drop_4 (by decide) (by omega) (fun hc => ?_) (fun hc => ?_)
  · skip
    refine lv_aload_n hx hb dX1_drop_9 rfl (lv_at hl 0 rfl) ?_
    refine lv_aload_n hx hb dX1_drop_10 rfl (lv_at hl 0 rfl) ?_
    refine va_get (D := (dC, dI)) (ci := 1) (v := .int (nI (en + 1))) (C := RX1) (T := TX1) (N := 11) hx hb hts in_X1 hown hK hP 0 rfl rfl 2 (by decide) (hts _ q123) (fun _ h9 => h9) rfl dX1_drop_11 ?_
    refine lv_iconst (v := nI 1) hx hb dX1_drop_14 (by decide) ?_
    refine lv_isub hx hb dX1_drop_15 ?_
    refine gm_tpi (nI_pred en) ?_
    refine va_put (D := (dC, dI)) (ci := 1) (v := .int (nI en)) (ty := .int) (C := RX1) (T := TX1) (N := 11) hx hb hts in_X1 tyX1 tyX1_ok nmX1 hown hK hP hD hS 0 rfl rfl 2 (by decide) (hts _ q123) (fun _ h9 => h9) rfl (by decide +kernel) rfl rfl (Nat.le_of_ble_eq_true rfl) dX1_drop_16 (fun H locs hP hD hS => ?_)
    have hP : va_P (dC, dI) vwCl (gWM bd kI kL kZ zw ma mb en nn kn can ways fo fc fr ro) H := hP
    have hD : va_D A (gWM bd kI kL kZ zw ma mb en nn kn can ways fo fc fr ro) := hD
    refine lv_aload_n hx hb dX1_drop_19 rfl (lv_at hl 0 rfl) ?_
    refine lv_iconst (v := nI 0) hx hb dX1_drop_20 (by decide) ?_
    refine va_put (D := (dC, dI)) (ci := 1) (v := .int (nI 0)) (ty := .boolean) (C := RX1) (T := TX1) (N := 11) hx hb hts in_X1 tyX1 tyX1_ok nmX1 hown hK hP hD hS 0 rfl rfl 4 (by decide) (hts _ q125) (fun _ h9 => h9) rfl (by decide +kernel) rfl rfl (Nat.le_of_ble_eq_true rfl) dX1_drop_21 (fun H locs hP hD hS => ?_)
    have hP : va_P (dC, dI) vwCl (gWM bd kI kL kZ zw ma mb en nn (nI 0) can ways fo fc fr ro) H := hP
    have hD : va_D A (gWM bd kI kL kZ zw ma mb en nn (nI 0) can ways fo fc fr ro) := hD
    refine lv_iconst (v := nI 1) hx hb dX1_drop_24 (by decide) ?_
    exact W.zret (v := nI 1) hx hb hr rfl (fun t ht hW => ⟨⟨nI 1, (), rfl, rfl, by rw [ht]; exact hP, va_K.moved hW.alike hK, hD⟩, hS.F ht⟩) hS.2.2 dX1_drop_25
  · exact absurd hc (by omega)
abbrev wsX1_ends : List Cond := ws_ yX1_ends cX1_ends 5 (some .int)
set_option maxHeartbeats 4000000 in
set_option maxRecDepth 100000 in
/-- ends(k): the ends at k's place -/
theorem metX1_ends (l : Launch) (dC : Nat → ClassId) (dI : Nat → Nat → Nat) (kI kL kG kZ : ClassId) (bd : Nat → Nat) (zw : va_W) (ma mb : Nat → Int32) (en nn : Nat) (kn : Int32) (can : Nat → Int32) (ways : Nat → Int64) (fo fc fr : Int32) (ro : Int64) (p0 : Int32) (a b : Nat → Nat) (hn : 1 ≤ nn ∧ nn ≤ 5) (hm : en ≤ 10) (ha : gm_hold nn en ma a) (hb2 : gm_hold nn en mb b) : Met l yX1_ends wsX1_ends ({ frames := 0, cells := 0, slots := 0, locals := 0 }) (va_Pc [.ref (bd 0), .int p0] (fun U => va_P (dC, dI) vwCl (gWM bd kI kL kZ zw ma mb en nn kn can ways fo fc fr ro) U.heap ∧ va_K (dC, dI) vwCl (gTY kI kL kG kZ) U)) (vp_Si (fun r => r = nI (gm_ct a (gm_pl p0 nn) en + gm_ct b (gm_pl p0 nn) en))) 0 0 (fun _ => False) := by
  refine Met.ofW (cc := cX1_ends) (maxL := 5) (ret := (some .int)) (by decide) rfl ?_
  intro p e s m args below meth c s₁ B hml hv
  obtain ⟨rfl, hP, hK⟩ := hv
  have hx := B.exec
  have hb := B.bytes
  have hr := B.returns
  have hts := atoms_spec (ws := wsX1_ends) B.pre
  have hts : ∀ w ∈ lw_all, w.before _ s = true := fun w h => hts w (List.mem_cons_of_mem _ h)
  have hown : s.vm.findClass RX1 = some m.cls := findClass_of_methodNamed B.named
  have hlocks := B.notSynchronized
  have hl := lv_entry ([.ref (bd 0), .int p0]) (n := 5) (Nat.le_of_ble_eq_true rfl)
  rw [lg_entry_eq]
  generalize (lg_sl ([.ref (bd 0), .int p0]) ++ List.replicate (5 - (lg_sl ([.ref (bd 0), .int p0])).length) Slot.unset).toArray = ls at hl ⊢
  have hl : lv_has ls 5 [(0, .ref (bd 0)), (1, .int p0)] := hl
  have hq := gm_pl_lt p0 (show 0 < nn by omega)
  refine lv_iload_n hx hb dX1_ends_0 rfl (lv_at hl 1 rfl) ?_
  refine lv_ldc hx hb hown (hts _ q160) dX1_ends_1 ?_
  refine lv_iand hx hb dX1_ends_3 ?_
  refine gm_tpi (gm_and31 p0) ?_
  refine lv_aload_n hx hb dX1_ends_4 rfl (lv_at hl 0 rfl) ?_
  refine va_get (D := (dC, dI)) (ci := 1) (v := .int (nI nn)) (C := RX1) (T := TX1) (N := 11) hx hb hts in_X1 hown hK hP 0 rfl rfl 3 (by decide) (hts _ q124) (fun _ h9 => h9) rfl dX1_ends_5 ?_
  refine lv_irem hx hb dX1_ends_8 (nI_ne0 (by omega) (by omega)) ?_
  refine gm_tpi (gm_rem p0 (by omega) (by omega)) ?_
  refine lv_istore_n (lv' := [(2, .int (nI (gm_pl p0 nn))), (0, .ref (bd 0)), (1, .int p0)]) hx hb dX1_ends_9 rfl hl (by decide) rfl (fun ls hl => ?_)
  refine lv_iconst (v := nI 0) hx hb dX1_ends_10 (by decide) ?_
  refine lv_istore_n (lv' := [(3, .int (nI 0)), (2, .int (nI (gm_pl p0 nn))), (0, .ref (bd 0)), (1, .int p0)]) hx hb dX1_ends_11 rfl hl (by decide) rfl (fun ls hl => ?_)
  refine lv_iconst (v := nI 0) hx hb dX1_ends_12 (by decide) ?_
  refine lv_istore (lv' := [(4, .int (nI 0)), (3, .int (nI 0)), (2, .int (nI (gm_pl p0 nn))), (0, .ref (bd 0)), (1, .int p0)]) hx hb dX1_ends_13 hl (by decide) rfl (fun ls hl => ?_)
  have loop : ∀ (k i : Nat), i ≤ en → en < i + k → ∀ ls, lv_has ls 5 [(4, .int (nI i)), (3, .int (nI (gm_ct a (gm_pl p0 nn) i + gm_ct b (gm_pl p0 nn) i))), (2, .int (nI (gm_pl p0 nn))), (0, .ref (bd 0)), (1, .int p0)] → W p l e (headSpec wsX1_ends ({ frames := 0, cells := 0, slots := 0, locals := 0 })).room s m ([.ref (bd 0), .int p0] : List Value).toArray below meth c s.heap [] 0 0 (MQ below (vp_Si (fun r => r = nI (gm_ct a (gm_pl p0 nn) en + gm_ct b (gm_pl p0 nn) en))) ([.ref (bd 0), .int p0] : List Value).toArray s 0 0 (fun _ => False)) (F0 m 15 ls []) := by
    intro k
    induction k with
    | zero => intro i h1 h2; exact absurd h2 (by omega)
    | succ k ih =>
      intro i h1 h2 ls hl
      refine lv_iload hx hb dX1_ends_15 (lv_at hl 0 rfl) ?_
      refine lv_aload_n hx hb dX1_ends_17 rfl (lv_at hl 3 rfl) ?_
      refine va_get (D := (dC, dI)) (ci := 1) (v := .int (nI en)) (C := RX1) (T := TX1) (N := 11) hx hb hts in_X1 hown hK hP 0 rfl rfl 2 (by decide) (hts _ q123) (fun _ h9 => h9) rfl dX1_ends_18 ?_
      refine gm_bge (tgt := 66) hx hb dX1_ends_21 (by decide) (by omega) (by omega) (fun hc => ?_) (fun hc => ?_)
      · have e1 : i = en := by omega
        refine lv_iload_n hx hb dX1_ends_66 rfl (lv_at hl 1 rfl) ?_
        exact W.iret (v := nI (gm_ct a (gm_pl p0 nn) i + gm_ct b (gm_pl p0 nn) i)) hx hb hr (fun t ht hW => ⟨_, rfl, by rw [e1], ht⟩) (fun q hq => by cases hq) dX1_ends_67
      · obtain ⟨e1, e2⟩ := ha i hc
        obtain ⟨e3, e4⟩ := hb2 i hc
        refine lv_iload_n hx hb dX1_ends_24 rfl (lv_at hl 1 rfl) ?_
        refine lv_aload_n hx hb dX1_ends_25 rfl (lv_at hl 3 rfl) ?_
        refine va_get (D := (dC, dI)) (ci := 1) (v := .ref (bd 1)) (C := RX1) (T := TX1) (N := 11) hx hb hts in_X1 hown hK hP 0 rfl rfl 0 (by decide) (hts _ q121) (fun _ h9 => h9) rfl dX1_ends_26 ?_
        refine lv_iload hx hb dX1_ends_29 (lv_at hl 0 rfl) ?_
        refine gm_iald (v := nI (a i)) hx hb hK hP 1 0 rfl rfl (k := i) (by omega) (by decide) e1 dX1_ends_31 ?_
        refine lv_iload_n hx hb dX1_ends_32 rfl (lv_at hl 2 rfl) ?_
        refine gm_bne (tgt := 40) hx hb dX1_ends_33 (by decide) (by omega) (by omega) (fun hc2 => ?_) (fun hc2 => ?_)
        · have e5 : gm_ct a (gm_pl p0 nn) (i + 1) = gm_ct a (gm_pl p0 nn) i + 0 := by rw [gm_ct, if_neg hc2]
          refine lv_iconst (v := nI 0) hx hb dX1_ends_40 (by decide) ?_
          refine lv_iadd hx hb dX1_ends_41 ?_
          refine gm_tpi (nI_add (gm_ct a (gm_pl p0 nn) i + gm_ct b (gm_pl p0 nn) i) 0) ?_
          refine lv_aload_n hx hb dX1_ends_42 rfl (lv_at hl 3 rfl) ?_
          refine va_get (D := (dC, dI)) (ci := 1) (v := .ref (bd 2)) (C := RX1) (T := TX1) (N := 11) hx hb hts in_X1 hown hK hP 0 rfl rfl 1 (by decide) (hts _ q122) (fun _ h9 => h9) rfl dX1_ends_43 ?_
          refine lv_iload hx hb dX1_ends_46 (lv_at hl 0 rfl) ?_
          refine gm_iald (v := nI (b i)) hx hb hK hP 2 0 rfl rfl (k := i) (by omega) (by decide) e3 dX1_ends_48 ?_
          refine lv_iload_n hx hb dX1_ends_49 rfl (lv_at hl 2 rfl) ?_
          refine gm_bne (tgt := 57) hx hb dX1_ends_50 (by decide) (by omega) (by omega) (fun hc3 => ?_) (fun hc3 => ?_)
          · have e6 : gm_ct b (gm_pl p0 nn) (i + 1) = gm_ct b (gm_pl p0 nn) i + 0 := by rw [gm_ct, if_neg hc3]
            have e7 : gm_ct a (gm_pl p0 nn) (i + 1) + gm_ct b (gm_pl p0 nn) (i + 1) = gm_ct a (gm_pl p0 nn) i + gm_ct b (gm_pl p0 nn) i + 0 + 0 := by omega
            refine lv_iconst (v := nI 0) hx hb dX1_ends_57 (by decide) ?_
            refine lv_iadd hx hb dX1_ends_58 ?_
            refine gm_tpi (nI_add (gm_ct a (gm_pl p0 nn) i + gm_ct b (gm_pl p0 nn) i + 0) 0) ?_
            refine lv_istore_n (lv' := [(3, .int (nI (gm_ct a (gm_pl p0 nn) i + gm_ct b (gm_pl p0 nn) i + 0 + 0))), (4, .int (nI i)), (2, .int (nI (gm_pl p0 nn))), (0, .ref (bd 0)), (1, .int p0)]) hx hb dX1_ends_59 rfl hl (by decide) rfl (fun ls hl => ?_)
            refine lv_iinc (v := nI (i + 1)) (lv' := [(4, .int (nI (i + 1))), (3, .int (nI (gm_ct a (gm_pl p0 nn) i + gm_ct b (gm_pl p0 nn) i + 0 + 0))), (2, .int (nI (gm_pl p0 nn))), (0, .ref (bd 0)), (1, .int p0)]) hx hb dX1_ends_60 hl (k := 1) rfl (nI_1 i) (by decide) rfl (fun ls hl => ?_)
            refine lv_goto (tgt := 15) hx hb dX1_ends_63 (by decide) ?_
            exact ih (i + 1) (by omega) (by omega) ls (by rw [e7]; exact lv_sub hl [0, 1, 2, 3, 4] rfl)
          · have e6 : gm_ct b (gm_pl p0 nn) (i + 1) = gm_ct b (gm_pl p0 nn) i + 1 := by rw [gm_ct, if_pos hc3]
            have e7 : gm_ct a (gm_pl p0 nn) (i + 1) + gm_ct b (gm_pl p0 nn) (i + 1) = gm_ct a (gm_pl p0 nn) i + gm_ct b (gm_pl p0 nn) i + 0 + 1 := by omega
            refine lv_iconst (v := nI 1) hx hb dX1_ends_53 (by decide) ?_
            refine lv_goto (tgt := 58) hx hb dX1_ends_54 (by decide) ?_
            refine lv_iadd hx hb dX1_ends_58 ?_
            refine gm_tpi (nI_add (gm_ct a (gm_pl p0 nn) i + gm_ct b (gm_pl p0 nn) i + 0) 1) ?_
            refine lv_istore_n (lv' := [(3, .int (nI (gm_ct a (gm_pl p0 nn) i + gm_ct b (gm_pl p0 nn) i + 0 + 1))), (4, .int (nI i)), (2, .int (nI (gm_pl p0 nn))), (0, .ref (bd 0)), (1, .int p0)]) hx hb dX1_ends_59 rfl hl (by decide) rfl (fun ls hl => ?_)
            refine lv_iinc (v := nI (i + 1)) (lv' := [(4, .int (nI (i + 1))), (3, .int (nI (gm_ct a (gm_pl p0 nn) i + gm_ct b (gm_pl p0 nn) i + 0 + 1))), (2, .int (nI (gm_pl p0 nn))), (0, .ref (bd 0)), (1, .int p0)]) hx hb dX1_ends_60 hl (k := 1) rfl (nI_1 i) (by decide) rfl (fun ls hl => ?_)
            refine lv_goto (tgt := 15) hx hb dX1_ends_63 (by decide) ?_
            exact ih (i + 1) (by omega) (by omega) ls (by rw [e7]; exact lv_sub hl [0, 1, 2, 3, 4] rfl)
        · have e5 : gm_ct a (gm_pl p0 nn) (i + 1) = gm_ct a (gm_pl p0 nn) i + 1 := by rw [gm_ct, if_pos hc2]
          refine lv_iconst (v := nI 1) hx hb dX1_ends_36 (by decide) ?_
          refine lv_goto (tgt := 41) hx hb dX1_ends_37 (by decide) ?_
          refine lv_iadd hx hb dX1_ends_41 ?_
          refine gm_tpi (nI_add (gm_ct a (gm_pl p0 nn) i + gm_ct b (gm_pl p0 nn) i) 1) ?_
          refine lv_aload_n hx hb dX1_ends_42 rfl (lv_at hl 3 rfl) ?_
          refine va_get (D := (dC, dI)) (ci := 1) (v := .ref (bd 2)) (C := RX1) (T := TX1) (N := 11) hx hb hts in_X1 hown hK hP 0 rfl rfl 1 (by decide) (hts _ q122) (fun _ h9 => h9) rfl dX1_ends_43 ?_
          refine lv_iload hx hb dX1_ends_46 (lv_at hl 0 rfl) ?_
          refine gm_iald (v := nI (b i)) hx hb hK hP 2 0 rfl rfl (k := i) (by omega) (by decide) e3 dX1_ends_48 ?_
          refine lv_iload_n hx hb dX1_ends_49 rfl (lv_at hl 2 rfl) ?_
          refine gm_bne (tgt := 57) hx hb dX1_ends_50 (by decide) (by omega) (by omega) (fun hc3 => ?_) (fun hc3 => ?_)
          · have e6 : gm_ct b (gm_pl p0 nn) (i + 1) = gm_ct b (gm_pl p0 nn) i + 0 := by rw [gm_ct, if_neg hc3]
            have e7 : gm_ct a (gm_pl p0 nn) (i + 1) + gm_ct b (gm_pl p0 nn) (i + 1) = gm_ct a (gm_pl p0 nn) i + gm_ct b (gm_pl p0 nn) i + 1 + 0 := by omega
            refine lv_iconst (v := nI 0) hx hb dX1_ends_57 (by decide) ?_
            refine lv_iadd hx hb dX1_ends_58 ?_
            refine gm_tpi (nI_add (gm_ct a (gm_pl p0 nn) i + gm_ct b (gm_pl p0 nn) i + 1) 0) ?_
            refine lv_istore_n (lv' := [(3, .int (nI (gm_ct a (gm_pl p0 nn) i + gm_ct b (gm_pl p0 nn) i + 1 + 0))), (4, .int (nI i)), (2, .int (nI (gm_pl p0 nn))), (0, .ref (bd 0)), (1, .int p0)]) hx hb dX1_ends_59 rfl hl (by decide) rfl (fun ls hl => ?_)
            refine lv_iinc (v := nI (i + 1)) (lv' := [(4, .int (nI (i + 1))), (3, .int (nI (gm_ct a (gm_pl p0 nn) i + gm_ct b (gm_pl p0 nn) i + 1 + 0))), (2, .int (nI (gm_pl p0 nn))), (0, .ref (bd 0)), (1, .int p0)]) hx hb dX1_ends_60 hl (k := 1) rfl (nI_1 i) (by decide) rfl (fun ls hl => ?_)
            refine lv_goto (tgt := 15) hx hb dX1_ends_63 (by decide) ?_
            exact ih (i + 1) (by omega) (by omega) ls (by rw [e7]; exact lv_sub hl [0, 1, 2, 3, 4] rfl)
          · have e6 : gm_ct b (gm_pl p0 nn) (i + 1) = gm_ct b (gm_pl p0 nn) i + 1 := by rw [gm_ct, if_pos hc3]
            have e7 : gm_ct a (gm_pl p0 nn) (i + 1) + gm_ct b (gm_pl p0 nn) (i + 1) = gm_ct a (gm_pl p0 nn) i + gm_ct b (gm_pl p0 nn) i + 1 + 1 := by omega
            refine lv_iconst (v := nI 1) hx hb dX1_ends_53 (by decide) ?_
            refine lv_goto (tgt := 58) hx hb dX1_ends_54 (by decide) ?_
            refine lv_iadd hx hb dX1_ends_58 ?_
            refine gm_tpi (nI_add (gm_ct a (gm_pl p0 nn) i + gm_ct b (gm_pl p0 nn) i + 1) 1) ?_
            refine lv_istore_n (lv' := [(3, .int (nI (gm_ct a (gm_pl p0 nn) i + gm_ct b (gm_pl p0 nn) i + 1 + 1))), (4, .int (nI i)), (2, .int (nI (gm_pl p0 nn))), (0, .ref (bd 0)), (1, .int p0)]) hx hb dX1_ends_59 rfl hl (by decide) rfl (fun ls hl => ?_)
            refine lv_iinc (v := nI (i + 1)) (lv' := [(4, .int (nI (i + 1))), (3, .int (nI (gm_ct a (gm_pl p0 nn) i + gm_ct b (gm_pl p0 nn) i + 1 + 1))), (2, .int (nI (gm_pl p0 nn))), (0, .ref (bd 0)), (1, .int p0)]) hx hb dX1_ends_60 hl (k := 1) rfl (nI_1 i) (by decide) rfl (fun ls hl => ?_)
            refine lv_goto (tgt := 15) hx hb dX1_ends_63 (by decide) ?_
            exact ih (i + 1) (by omega) (by omega) ls (by rw [e7]; exact lv_sub hl [0, 1, 2, 3, 4] rfl)
  exact loop (en + 1) 0 (by omega) (by omega) ls (lv_sub hl [0, 1, 2, 3, 4] rfl)
end
section
/-! THE MODEL: reckon -/
theorem gm_p2 {m : Nat} (h : 0 < m) : (2 ^ m - 1) % 2 = 1 := by
  obtain ⟨k, rfl⟩ : ∃ k, m = k + 1 := ⟨m - 1, by omega⟩
  have h1 : 1 ≤ 2 ^ k := Nat.one_le_two_pow
  rw [Nat.pow_succ]
  omega
abbrev wsX1_reckon : List Cond := ws_ yX1_reckon cX1_reckon 7 none
set_option maxHeartbeats 4000000 in
set_option maxRecDepth 100000 in
/-- reckon() when it is known -/
theorem metX1_reckon_known (l : Launch) (dC : Nat → ClassId) (dI : Nat → Nat → Nat) (kI kL kG kZ : ClassId) (bd : Nat → Nat) (zw : va_W) (sz : Nat) (ma mb : Nat → Int32) (en nn : Nat) (can : Nat → Int32) (ways : Nat → Int64) (fo fc fr : Int32) (ro : Int64) : Met l yX1_reckon wsX1_reckon ({ frames := 0, cells := 0, slots := 0, locals := 0 }) (va_Pc [.ref (bd 0)] (fun U => U.heap.size = sz ∧ va_P (dC, dI) vwCl (gWM bd kI kL kZ zw ma mb en nn (nI 1) can ways fo fc fr ro) U.heap ∧ va_K (dC, dI) vwCl (gTY kI kL kG kZ) U ∧ va_D (fun _ => True) (gWM bd kI kL kZ zw ma mb en nn (nI 1) can ways fo fc fr ro))) (va_Qv (fun (u : Unit) => True) (fun (u : Unit) (t : State) => va_P (dC, dI) vwCl (gWM bd kI kL kZ zw ma mb en nn (nI 1) can ways fo fc fr ro) t.heap ∧ va_K (dC, dI) vwCl (gTY kI kL kG kZ) t ∧ va_D (va_A (gWM bd kI kL kZ zw ma mb en nn (nI 1) can ways fo fc fr ro) sz) (gWM bd kI kL kZ zw ma mb en nn (nI 1) can ways fo fc fr ro)) (va_A (gWM bd kI kL kZ zw ma mb en nn (nI 1) can ways fo fc fr ro) sz)) 0 0 (va_A (gWM bd kI kL kZ zw ma mb en nn (nI 1) can ways fo fc fr ro) sz) := by
  refine Met.ofW (cc := cX1_reckon) (maxL := 7) (ret := none) (by decide) rfl ?_
  intro p e s m args below meth c s₁ B hml hv
  obtain ⟨rfl, hsz, hP, hK, hD0⟩ := hv
  have hx := B.exec
  have hb := B.bytes
  have hr := B.returns
  have hts := atoms_spec (ws := wsX1_reckon) B.pre
  have hts : ∀ w ∈ lw_all, w.before _ s = true := fun w h => hts w (List.mem_cons_of_mem _ h)
  have hown : s.vm.findClass RX1 = some m.cls := findClass_of_methodNamed B.named
  have hlocks := B.notSynchronized
  subst hsz
  have hD := hD0.self (sz := s.heap.size)
  generalize hAe : va_A (gWM bd kI kL kZ zw ma mb en nn (nI 1) can ways fo fc fr ro) s.heap.size = A at hD ⊢
  have hA : ∀ q : Nat, s.heap.size ≤ q → A q := fun q h => by rw [← hAe]; exact Or.inr h
  have hS : va_S A s.heap s.heap [] := va_S.rf
  have hl := lv_entry ([.ref (bd 0)]) (n := 7) (Nat.le_of_ble_eq_true rfl)
  rw [lg_entry_eq]
  generalize (lg_sl ([.ref (bd 0)]) ++ List.replicate (7 - (lg_sl ([.ref (bd 0)])).length) Slot.unset).toArray = ls at hl ⊢
  have hl : lv_has ls 7 [(0, .ref (bd 0))] := hl
  obtain ⟨H, hH⟩ : ∃ H : Heap, H = s.heap := ⟨_, rfl⟩
  obtain ⟨locs, hlo⟩ : ∃ q : List Loc, q = [] := ⟨_, rfl⟩
  have hP : va_P (dC, dI) vwCl (gWM bd kI kL kZ zw ma mb en nn (nI 1) can ways fo fc fr ro) H := by rw [hH]; exact hP
  have hS : va_S A s.heap H locs := by rw [hH, hlo]; exact hS
  suffices goal : W p l e (headSpec wsX1_reckon ({ frames := 0, cells := 0, slots := 0, locals := 0 })).room s m ([.ref (bd 0)] : List Value).toArray below meth c H locs 0 0 (MQ below (va_Qv (fun (u : Unit) => True) (fun (u : Unit) (t : State) => va_P (dC, dI) vwCl (gWM bd kI kL kZ zw ma mb en nn (nI 1) can ways fo fc fr ro) t.heap ∧ va_K (dC, dI) vwCl (gTY kI kL kG kZ) t ∧ va_D A (gWM bd kI kL kZ zw ma mb en nn (nI 1) can ways fo fc fr ro)) A) ([.ref (bd 0)] : List Value).toArray s 0 0 A) (F0 m 0 ls []) by rw [hH, hlo] at goal; exact goal
  clear hH hlo hAe
  refine lv_aload_n hx hb dX1_reckon_0 rfl (lv_at hl 0 rfl) ?_
  refine va_get (D := (dC, dI)) (ci := 1) (v := .int (nI 1)) (C := RX1) (T := TX1) (N := 11) hx hb hts in_X1 hown hK hP 0 rfl rfl 4 (by decide) (hts _ q125) (fun _ h9 => h9) rfl dX1_reckon_1 ?_
  refine lv_if_eq (tgt := 8) hx hb dX1_reckon_4 (by decide) (fun hc => ?_) (fun hc => ?_)
  · exact absurd hc (by decide)
  · skip
    exact W.vret hx hb hr (fun t ht hW => ⟨⟨(), rfl, trivial, by rw [ht]; exact hP, va_K.moved hW.alike hK, hD⟩, hS.F ht⟩) hS.2.2 dX1_reckon_7
set_option maxHeartbeats 4000000 in
set_option maxRecDepth 100000 in
/-- reckon() -/
theorem metX1_reckon (l : Launch) (dC : Nat → ClassId) (dI : Nat → Nat → Nat) (kI kL kG kZ : ClassId) (bd : Nat → Nat) (zw : va_W) (sz : Nat) (ma mb : Nat → Int32) (en nn : Nat) (can : Nat → Int32) (ways : Nat → Int64) (fo fc fr : Int32) (ro : Int64) (a b : Nat → Nat) (hn : 1 ≤ nn ∧ nn ≤ 5) (hm : en ≤ 10) (ha : gm_hold nn en ma a) (hb2 : gm_hold nn en mb b) : Met l yX1_reckon wsX1_reckon ({ frames := 0, cells := 0, slots := 0, locals := 0 }) (va_Pc [.ref (bd 0)] (fun U => U.heap.size = sz ∧ va_P (dC, dI) vwCl (gWM bd kI kL kZ zw ma mb en nn (nI 0) can ways fo fc fr ro) U.heap ∧ va_K (dC, dI) vwCl (gTY kI kL kG kZ) U ∧ va_D (fun _ => True) (gWM bd kI kL kZ zw ma mb en nn (nI 0) can ways fo fc fr ro))) (va_Qv (fun (u : (Nat → Int32) × (Nat → Int64)) => True) (fun (u : (Nat → Int32) × (Nat → Int64)) (t : State) => va_P (dC, dI) vwCl (gWM bd kI kL kZ zw ma mb en nn (nI 1) u.1 u.2 (gm_b (gm_odd nn en a b ≤ 2 ∧ gm_conn en a b)) (gm_b (gm_odd nn en a b = 0 ∧ gm_conn en a b)) (gm_b (gm_good en a b nn ∧ gm_ov nn en a b ≤ 1 ∧ gm_conn en a b)) (gm_RO en a b)) t.heap ∧ va_K (dC, dI) vwCl (gTY kI kL kG kZ) t ∧ va_D (va_A (gWM bd kI kL kZ zw ma mb en nn (nI 0) can ways fo fc fr ro) sz) (gWM bd kI kL kZ zw ma mb en nn (nI 1) u.1 u.2 (gm_b (gm_odd nn en a b ≤ 2 ∧ gm_conn en a b)) (gm_b (gm_odd nn en a b = 0 ∧ gm_conn en a b)) (gm_b (gm_good en a b nn ∧ gm_ov nn en a b ≤ 1 ∧ gm_conn en a b)) (gm_RO en a b))) (va_A (gWM bd kI kL kZ zw ma mb en nn (nI 0) can ways fo fc fr ro) sz)) 0 0 (va_A (gWM bd kI kL kZ zw ma mb en nn (nI 0) can ways fo fc fr ro) sz) := by
  refine Met.ofW (cc := cX1_reckon) (maxL := 7) (ret := none) (by decide) rfl ?_
  intro p e s m args below meth c s₁ B hml hv
  obtain ⟨rfl, hsz, hP, hK, hD0⟩ := hv
  have hx := B.exec
  have hb := B.bytes
  have hr := B.returns
  have hts := atoms_spec (ws := wsX1_reckon) B.pre
  have hts : ∀ w ∈ lw_all, w.before _ s = true := fun w h => hts w (List.mem_cons_of_mem _ h)
  have hown : s.vm.findClass RX1 = some m.cls := findClass_of_methodNamed B.named
  have hlocks := B.notSynchronized
  subst hsz
  have hD := hD0.self (sz := s.heap.size)
  generalize hAe : va_A (gWM bd kI kL kZ zw ma mb en nn (nI 0) can ways fo fc fr ro) s.heap.size = A at hD ⊢
  have hA : ∀ q : Nat, s.heap.size ≤ q → A q := fun q h => by rw [← hAe]; exact Or.inr h
  have hS : va_S A s.heap s.heap [] := va_S.rf
  have hl := lv_entry ([.ref (bd 0)]) (n := 7) (Nat.le_of_ble_eq_true rfl)
  rw [lg_entry_eq]
  generalize (lg_sl ([.ref (bd 0)]) ++ List.replicate (7 - (lg_sl ([.ref (bd 0)])).length) Slot.unset).toArray = ls at hl ⊢
  have hl : lv_has ls 7 [(0, .ref (bd 0))] := hl
  obtain ⟨H, hH⟩ : ∃ H : Heap, H = s.heap := ⟨_, rfl⟩
  obtain ⟨locs, hlo⟩ : ∃ q : List Loc, q = [] := ⟨_, rfl⟩
  have hP : va_P (dC, dI) vwCl (gWM bd kI kL kZ zw ma mb en nn (nI 0) can ways fo fc fr ro) H := by rw [hH]; exact hP
  have hS : va_S A s.heap H locs := by rw [hH, hlo]; exact hS
  suffices goal : W p l e (headSpec wsX1_reckon ({ frames := 0, cells := 0, slots := 0, locals := 0 })).room s m ([.ref (bd 0)] : List Value).toArray below meth c H locs 0 0 (MQ below (va_Qv (fun (u : (Nat → Int32) × (Nat → Int64)) => True) (fun (u : (Nat → Int32) × (Nat → Int64)) (t : State) => va_P (dC, dI) vwCl (gWM bd kI kL kZ zw ma mb en nn (nI 1) u.1 u.2 (gm_b (gm_odd nn en a b ≤ 2 ∧ gm_conn en a b)) (gm_b (gm_odd nn en a b = 0 ∧ gm_conn en a b)) (gm_b (gm_good en a b nn ∧ gm_ov nn en a b ≤ 1 ∧ gm_conn en a b)) (gm_RO en a b)) t.heap ∧ va_K (dC, dI) vwCl (gTY kI kL kG kZ) t ∧ va_D A (gWM bd kI kL kZ zw ma mb en nn (nI 1) u.1 u.2 (gm_b (gm_odd nn en a b ≤ 2 ∧ gm_conn en a b)) (gm_b (gm_odd nn en a b = 0 ∧ gm_conn en a b)) (gm_b (gm_good en a b nn ∧ gm_ov nn en a b ≤ 1 ∧ gm_conn en a b)) (gm_RO en a b))) A) ([.ref (bd 0)] : List Value).toArray s 0 0 A) (F0 m 0 ls []) by rw [hH, hlo] at goal; exact goal
  clear hH hlo hAe
  have hab : ∀ j, j < en → a j < nn ∧ b j < nn := fun j hj => ⟨(ha j hj).2, (hb2 j hj).2⟩
  have hp := gm_p10 hm
  have kEnd : ∀ (can : Nat → Int32) (ways : Nat → Int64) (ro : Int64) (H : Heap) (locs : List Loc) (ls : Array Slot), ro = gm_RO en a b → va_P (dC, dI) vwCl (gWM bd kI kL kZ zw ma mb en nn (nI 1) can ways (gm_b (gm_odd nn en a b ≤ 2 ∧ gm_conn en a b)) (gm_b (gm_odd nn en a b = 0 ∧ gm_conn en a b)) (gm_b (gm_good en a b nn ∧ gm_ov nn en a b ≤ 1 ∧ gm_conn en a b)) ro) H → va_D A (gWM bd kI kL kZ zw ma mb en nn (nI 1) can ways (gm_b (gm_odd nn en a b ≤ 2 ∧ gm_conn en a b)) (gm_b (gm_odd nn en a b = 0 ∧ gm_conn en a b)) (gm_b (gm_good en a b nn ∧ gm_ov nn en a b ≤ 1 ∧ gm_conn en a b)) ro) → va_S A s.heap H locs → W p l e (headSpec wsX1_reckon ({ frames := 0, cells := 0, slots := 0, locals := 0 })).room s m ([.ref (bd 0)] : List Value).toArray below meth c H locs 0 0 (MQ below (va_Qv (fun (u : (Nat → Int32) × (Nat → Int64)) => True) (fun (u : (Nat → Int32) × (Nat → Int64)) (t : State) => va_P (dC, dI) vwCl (gWM bd kI kL kZ zw ma mb en nn (nI 1) u.1 u.2 (gm_b (gm_odd nn en a b ≤ 2 ∧ gm_conn en a b)) (gm_b (gm_odd nn en a b = 0 ∧ gm_conn en a b)) (gm_b (gm_good en a b nn ∧ gm_ov nn en a b ≤ 1 ∧ gm_conn en a b)) (gm_RO en a b)) t.heap ∧ va_K (dC, dI) vwCl (gTY kI kL kG kZ) t ∧ va_D A (gWM bd kI kL kZ zw ma mb en nn (nI 1) u.1 u.2 (gm_b (gm_odd nn en a b ≤ 2 ∧ gm_conn en a b)) (gm_b (gm_odd nn en a b = 0 ∧ gm_conn en a b)) (gm_b (gm_good en a b nn ∧ gm_ov nn en a b ≤ 1 ∧ gm_conn en a b)) (gm_RO en a b))) A) ([.ref (bd 0)] : List Value).toArray s 0 0 A) (F0 m 522 ls []) := by
    intro can ways ro H locs ls hro hP hD hS
    subst hro
    exact W.vret hx hb hr (fun t ht hW => ⟨⟨(can, ways), rfl, trivial, by rw [ht]; exact hP, va_K.moved hW.alike hK, hD⟩, hS.F ht⟩) hS.2.2 dX1_reckon_522
  have loopE : ∀ (can : Nat → Int32) (S v : Nat), S < 2 ^ en → S % 2 = 1 → v < nn → (∀ (ways : Nat → Int64) (H : Heap) (locs : List Loc) (ls : Array Slot), gm_WA en a b S (v + 1) 1 ways → va_P (dC, dI) vwCl (gWM bd kI kL kZ zw ma mb en nn (nI 1) can ways (gm_b (gm_odd nn en a b ≤ 2 ∧ gm_conn en a b)) (gm_b (gm_odd nn en a b = 0 ∧ gm_conn en a b)) (gm_b (gm_good en a b nn ∧ gm_ov nn en a b ≤ 1 ∧ gm_conn en a b)) 0) H → va_D A (gWM bd kI kL kZ zw ma mb en nn (nI 1) can ways (gm_b (gm_odd nn en a b ≤ 2 ∧ gm_conn en a b)) (gm_b (gm_odd nn en a b = 0 ∧ gm_conn en a b)) (gm_b (gm_good en a b nn ∧ gm_ov nn en a b ≤ 1 ∧ gm_conn en a b)) 0) → va_S A s.heap H locs → lv_has ls 7 [(3, .int (nI v)), (2, .int (nI S)), (0, .ref (bd 0)), (1, .int (nI (2 ^ en - 1)))] → W p l e (headSpec wsX1_reckon ({ frames := 0, cells := 0, slots := 0, locals := 0 })).room s m ([.ref (bd 0)] : List Value).toArray below meth c H locs 0 0 (MQ below (va_Qv (fun (u : (Nat → Int32) × (Nat → Int64)) => True) (fun (u : (Nat → Int32) × (Nat → Int64)) (t : State) => va_P (dC, dI) vwCl (gWM bd kI kL kZ zw ma mb en nn (nI 1) u.1 u.2 (gm_b (gm_odd nn en a b ≤ 2 ∧ gm_conn en a b)) (gm_b (gm_odd nn en a b = 0 ∧ gm_conn en a b)) (gm_b (gm_good en a b nn ∧ gm_ov nn en a b ≤ 1 ∧ gm_conn en a b)) (gm_RO en a b)) t.heap ∧ va_K (dC, dI) vwCl (gTY kI kL kG kZ) t ∧ va_D A (gWM bd kI kL kZ zw ma mb en nn (nI 1) u.1 u.2 (gm_b (gm_odd nn en a b ≤ 2 ∧ gm_conn en a b)) (gm_b (gm_odd nn en a b = 0 ∧ gm_conn en a b)) (gm_b (gm_good en a b nn ∧ gm_ov nn en a b ≤ 1 ∧ gm_conn en a b)) (gm_RO en a b))) A) ([.ref (bd 0)] : List Value).toArray s 0 0 A) (F0 m 490 ls [])) → ∀ (k j : Nat) (ways : Nat → Int64) (H : Heap) (locs : List Loc) (ls : Array Slot), 1 ≤ j → j ≤ en → en < j + k → gm_WA en a b S v j ways → va_P (dC, dI) vwCl (gWM bd kI kL kZ zw ma mb en nn (nI 1) can ways (gm_b (gm_odd nn en a b ≤ 2 ∧ gm_conn en a b)) (gm_b (gm_odd nn en a b = 0 ∧ gm_conn en a b)) (gm_b (gm_good en a b nn ∧ gm_ov nn en a b ≤ 1 ∧ gm_conn en a b)) 0) H → va_D A (gWM bd kI kL kZ zw ma mb en nn (nI 1) can ways (gm_b (gm_odd nn en a b ≤ 2 ∧ gm_conn en a b)) (gm_b (gm_odd nn en a b = 0 ∧ gm_conn en a b)) (gm_b (gm_good en a b nn ∧ gm_ov nn en a b ≤ 1 ∧ gm_conn en a b)) 0) → va_S A s.heap H locs → lv_has ls 7 [(6, .int (nI j)), (4, .long (Int64.ofInt (gm_W en a b S v))), (3, .int (nI v)), (2, .int (nI S)), (0, .ref (bd 0)), (1, .int (nI (2 ^ en - 1)))] → W p l e (headSpec wsX1_reckon ({ frames := 0, cells := 0, slots := 0, locals := 0 })).room s m ([.ref (bd 0)] : List Value).toArray below meth c H locs 0 0 (MQ below (va_Qv (fun (u : (Nat → Int32) × (Nat → Int64)) => True) (fun (u : (Nat → Int32) × (Nat → Int64)) (t : State) => va_P (dC, dI) vwCl (gWM bd kI kL kZ zw ma mb en nn (nI 1) u.1 u.2 (gm_b (gm_odd nn en a b ≤ 2 ∧ gm_conn en a b)) (gm_b (gm_odd nn en a b = 0 ∧ gm_conn en a b)) (gm_b (gm_good en a b nn ∧ gm_ov nn en a b ≤ 1 ∧ gm_conn en a b)) (gm_RO en a b)) t.heap ∧ va_K (dC, dI) vwCl (gTY kI kL kG kZ) t ∧ va_D A (gWM bd kI kL kZ zw ma mb en nn (nI 1) u.1 u.2 (gm_b (gm_odd nn en a b ≤ 2 ∧ gm_conn en a b)) (gm_b (gm_odd nn en a b = 0 ∧ gm_conn en a b)) (gm_b (gm_good en a b nn ∧ gm_ov nn en a b ≤ 1 ∧ gm_conn en a b)) (gm_RO en a b))) A) ([.ref (bd 0)] : List Value).toArray s 0 0 A) (F0 m 410 ls []) := by
    intro can S v hSl ho hv K
    intro k
    induction k with
    | zero => intro j ways H locs ls h1 h2 h3; exact absurd h3 (by omega)
    | succ k ih =>
      intro j ways H locs ls h1 h2 h3 hWA hP hD hS hl
      refine lv_iload hx hb dX1_reckon_410 (lv_at hl 0 rfl) ?_
      refine lv_aload_n hx hb dX1_reckon_412 rfl (lv_at hl 4 rfl) ?_
      refine va_get (D := (dC, dI)) (ci := 1) (v := .int (nI en)) (C := RX1) (T := TX1) (N := 11) hx hb hts in_X1 hown hK hP 0 rfl rfl 2 (by decide) (hts _ q123) (fun _ h9 => h9) rfl dX1_reckon_413 ?_
      refine gm_bge (tgt := 490) hx hb dX1_reckon_416 (by decide) (by omega) (by omega) (fun hc => ?_) (fun hc => ?_)
      · have e1 : j = en := by omega
        rw [e1] at hWA
        exact K ways H locs ls (gm_WA_row hWA) hP hD hS (lv_sub hl [2, 3, 4, 5] rfl)
      · have hdl := Nat.div_le_self S (2 ^ j)
        refine lv_iload_n hx hb dX1_reckon_419 rfl (lv_at hl 3 rfl) ?_
        refine lv_iload hx hb dX1_reckon_420 (lv_at hl 0 rfl) ?_
        refine lv_ishr hx hb dX1_reckon_422 ?_
        refine gm_tpi (gm_shr (by omega) (by omega)) ?_
        refine lv_iconst (v := nI 1) hx hb dX1_reckon_423 (by decide) ?_
        refine lv_iand hx hb dX1_reckon_424 ?_
        refine gm_tpi (gm_and1 (by omega)) ?_
        refine gm_zne (tgt := 484) hx hb dX1_reckon_425 (by decide) (by omega) (fun hc2 => ?_) (fun hc2 => ?_)
        · skip
          refine lv_iinc (v := nI (j + 1)) (lv' := [(6, .int (nI (j + 1))), (4, .long (Int64.ofInt (gm_W en a b S v))), (3, .int (nI v)), (2, .int (nI S)), (0, .ref (bd 0)), (1, .int (nI (2 ^ en - 1)))]) hx hb dX1_reckon_484 hl (k := 0) rfl (nI_1 j) (by decide) rfl (fun ls hl => ?_)
          refine lv_goto (tgt := 410) hx hb dX1_reckon_487 (by decide) ?_
          exact ih (j + 1) ways H locs ls (by omega) (by omega) (by omega) (gm_WA_skip hWA (Or.inl (gm_bit1 hc2))) hP hD hS (lv_sub hl [0, 1, 2, 3, 4, 5] rfl)
        · have hbit := gm_bit0 hc2
          refine lv_aload_n hx hb dX1_reckon_428 rfl (lv_at hl 4 rfl) ?_
          refine va_get (D := (dC, dI)) (ci := 1) (v := .ref (bd 1)) (C := RX1) (T := TX1) (N := 11) hx hb hts in_X1 hown hK hP 0 rfl rfl 0 (by decide) (hts _ q121) (fun _ h9 => h9) rfl dX1_reckon_429 ?_
          refine lv_iload hx hb dX1_reckon_432 (lv_at hl 0 rfl) ?_
          refine gm_iald (v := nI (a j)) hx hb hK hP 1 0 rfl rfl (k := j) (by omega) (by decide) (ha j hc).1 dX1_reckon_434 ?_
          refine lv_iload_n hx hb dX1_reckon_435 rfl (lv_at hl 2 rfl) ?_
          have haj := (ha j hc).2
          have hbj := (hb2 j hc).2
          refine gm_bne (tgt := 484) hx hb dX1_reckon_436 (by decide) (by omega) (by omega) (fun hc3 => ?_) (fun hc3 => ?_)
          · skip
            refine lv_iinc (v := nI (j + 1)) (lv' := [(6, .int (nI (j + 1))), (4, .long (Int64.ofInt (gm_W en a b S v))), (3, .int (nI v)), (2, .int (nI S)), (0, .ref (bd 0)), (1, .int (nI (2 ^ en - 1)))]) hx hb dX1_reckon_484 hl (k := 0) rfl (nI_1 j) (by decide) rfl (fun ls hl => ?_)
            refine lv_goto (tgt := 410) hx hb dX1_reckon_487 (by decide) ?_
            exact ih (j + 1) ways H locs ls (by omega) (by omega) (by omega) (gm_WA_skip hWA (Or.inr hc3)) hP hD hS (lv_sub hl [0, 1, 2, 3, 4, 5] rfl)
          · have hor := gm_or_bd hSl hc
            refine lv_aload_n hx hb dX1_reckon_439 rfl (lv_at hl 4 rfl) ?_
            refine va_get (D := (dC, dI)) (ci := 1) (v := .ref (bd 4)) (C := RX1) (T := TX1) (N := 11) hx hb hts in_X1 hown hK hP 0 rfl rfl 6 (by decide) (hts _ q127) (fun _ h9 => h9) rfl dX1_reckon_440 ?_
            refine lv_iconst (v := nI 5) hx hb dX1_reckon_443 (by decide) ?_
            refine lv_iload_n hx hb dX1_reckon_444 rfl (lv_at hl 3 rfl) ?_
            refine lv_iconst (v := nI 1) hx hb dX1_reckon_445 (by decide) ?_
            refine lv_iload hx hb dX1_reckon_446 (lv_at hl 0 rfl) ?_
            refine lv_ishl hx hb dX1_reckon_448 ?_
            refine gm_tpi (gm_shl1 (by omega)) ?_
            refine lv_ior hx hb dX1_reckon_449 ?_
            refine gm_tpi (gm_nor S (2 ^ j)) ?_
            refine lv_imul hx hb dX1_reckon_450 ?_
            refine gm_tpi (pk_mul 5 (S ||| 2 ^ j)) ?_
            refine lv_aload_n hx hb dX1_reckon_451 rfl (lv_at hl 4 rfl) ?_
            refine va_get (D := (dC, dI)) (ci := 1) (v := .ref (bd 2)) (C := RX1) (T := TX1) (N := 11) hx hb hts in_X1 hown hK hP 0 rfl rfl 1 (by decide) (hts _ q122) (fun _ h9 => h9) rfl dX1_reckon_452 ?_
            refine lv_iload hx hb dX1_reckon_455 (lv_at hl 0 rfl) ?_
            refine gm_iald (v := nI (b j)) hx hb hK hP 2 0 rfl rfl (k := j) (by omega) (by decide) (hb2 j hc).1 dX1_reckon_457 ?_
            refine lv_iadd hx hb dX1_reckon_458 ?_
            refine gm_tpi (nI_add (5 * (S ||| 2 ^ j)) (b j)) ?_
            refine lv_aload_n hx hb dX1_reckon_459 rfl (lv_at hl 4 rfl) ?_
            refine va_get (D := (dC, dI)) (ci := 1) (v := .ref (bd 4)) (C := RX1) (T := TX1) (N := 11) hx hb hts in_X1 hown hK hP 0 rfl rfl 6 (by decide) (hts _ q127) (fun _ h9 => h9) rfl dX1_reckon_460 ?_
            refine lv_iconst (v := nI 5) hx hb dX1_reckon_463 (by decide) ?_
            refine lv_iload_n hx hb dX1_reckon_464 rfl (lv_at hl 3 rfl) ?_
            refine lv_iconst (v := nI 1) hx hb dX1_reckon_465 (by decide) ?_
            refine lv_iload hx hb dX1_reckon_466 (lv_at hl 0 rfl) ?_
            refine lv_ishl hx hb dX1_reckon_468 ?_
            refine gm_tpi (gm_shl1 (by omega)) ?_
            refine lv_ior hx hb dX1_reckon_469 ?_
            refine gm_tpi (gm_nor S (2 ^ j)) ?_
            refine lv_imul hx hb dX1_reckon_470 ?_
            refine gm_tpi (pk_mul 5 (S ||| 2 ^ j)) ?_
            refine lv_aload_n hx hb dX1_reckon_471 rfl (lv_at hl 4 rfl) ?_
            refine va_get (D := (dC, dI)) (ci := 1) (v := .ref (bd 2)) (C := RX1) (T := TX1) (N := 11) hx hb hts in_X1 hown hK hP 0 rfl rfl 1 (by decide) (hts _ q122) (fun _ h9 => h9) rfl dX1_reckon_472 ?_
            refine lv_iload hx hb dX1_reckon_475 (lv_at hl 0 rfl) ?_
            refine gm_iald (v := nI (b j)) hx hb hK hP 2 0 rfl rfl (k := j) (by omega) (by decide) (hb2 j hc).1 dX1_reckon_477 ?_
            refine lv_iadd hx hb dX1_reckon_478 ?_
            refine gm_tpi (nI_add (5 * (S ||| 2 ^ j)) (b j)) ?_
            refine gm_lald (v := ways (5 * (S ||| 2 ^ j) + b j)) hx hb hK hP 4 1 rfl rfl (k := (5 * (S ||| 2 ^ j) + (b j))) (by omega) (by decide) rfl dX1_reckon_479 ?_
            refine lv_lload hx hb dX1_reckon_480 (lv_at hl 1 rfl) ?_
            refine lv_ladd hx hb dX1_reckon_482 ?_
            refine gm_last hx hb hK hP hD hS 4 1 rfl rfl (k := (5 * (S ||| 2 ^ j) + (b j))) (by omega) (by decide) dX1_reckon_483 (fun H locs hP hD hS => ?_)
            have hP : va_P (dC, dI) vwCl (gWM bd kI kL kZ zw ma mb en nn (nI 1) can (vp_updL ways (5 * (S ||| 2 ^ j) + (b j)) ((ways (5 * (S ||| 2 ^ j) + b j)) + (Int64.ofInt (gm_W en a b S v)))) (gm_b (gm_odd nn en a b ≤ 2 ∧ gm_conn en a b)) (gm_b (gm_odd nn en a b = 0 ∧ gm_conn en a b)) (gm_b (gm_good en a b nn ∧ gm_ov nn en a b ≤ 1 ∧ gm_conn en a b)) 0) H := hP
            have hD : va_D A (gWM bd kI kL kZ zw ma mb en nn (nI 1) can (vp_updL ways (5 * (S ||| 2 ^ j) + (b j)) ((ways (5 * (S ||| 2 ^ j) + b j)) + (Int64.ofInt (gm_W en a b S v)))) (gm_b (gm_odd nn en a b ≤ 2 ∧ gm_conn en a b)) (gm_b (gm_odd nn en a b = 0 ∧ gm_conn en a b)) (gm_b (gm_good en a b nn ∧ gm_ov nn en a b ≤ 1 ∧ gm_conn en a b)) 0) := hD
            refine lv_iinc (v := nI (j + 1)) (lv' := [(6, .int (nI (j + 1))), (4, .long (Int64.ofInt (gm_W en a b S v))), (3, .int (nI v)), (2, .int (nI S)), (0, .ref (bd 0)), (1, .int (nI (2 ^ en - 1)))]) hx hb dX1_reckon_484 hl (k := 0) rfl (nI_1 j) (by decide) rfl (fun ls hl => ?_)
            refine lv_goto (tgt := 410) hx hb dX1_reckon_487 (by decide) ?_
            exact ih (j + 1) _ H locs ls (by omega) (by omega) (by omega) (gm_WA_add hWA h1 hc hbit hc3 (by omega) ho hSl) hP hD hS (lv_sub hl [0, 1, 2, 3, 4, 5] rfl)
  have loopV : ∀ (can : Nat → Int32) (S : Nat), S < 2 ^ en → S % 2 = 1 → (∀ (ways : Nat → Int64) (H : Heap) (locs : List Loc) (ls : Array Slot), gm_WA en a b S nn 1 ways → va_P (dC, dI) vwCl (gWM bd kI kL kZ zw ma mb en nn (nI 1) can ways (gm_b (gm_odd nn en a b ≤ 2 ∧ gm_conn en a b)) (gm_b (gm_odd nn en a b = 0 ∧ gm_conn en a b)) (gm_b (gm_good en a b nn ∧ gm_ov nn en a b ≤ 1 ∧ gm_conn en a b)) 0) H → va_D A (gWM bd kI kL kZ zw ma mb en nn (nI 1) can ways (gm_b (gm_odd nn en a b ≤ 2 ∧ gm_conn en a b)) (gm_b (gm_odd nn en a b = 0 ∧ gm_conn en a b)) (gm_b (gm_good en a b nn ∧ gm_ov nn en a b ≤ 1 ∧ gm_conn en a b)) 0) → va_S A s.heap H locs → lv_has ls 7 [(2, .int (nI S)), (0, .ref (bd 0)), (1, .int (nI (2 ^ en - 1)))] → W p l e (headSpec wsX1_reckon ({ frames := 0, cells := 0, slots := 0, locals := 0 })).room s m ([.ref (bd 0)] : List Value).toArray below meth c H locs 0 0 (MQ below (va_Qv (fun (u : (Nat → Int32) × (Nat → Int64)) => True) (fun (u : (Nat → Int32) × (Nat → Int64)) (t : State) => va_P (dC, dI) vwCl (gWM bd kI kL kZ zw ma mb en nn (nI 1) u.1 u.2 (gm_b (gm_odd nn en a b ≤ 2 ∧ gm_conn en a b)) (gm_b (gm_odd nn en a b = 0 ∧ gm_conn en a b)) (gm_b (gm_good en a b nn ∧ gm_ov nn en a b ≤ 1 ∧ gm_conn en a b)) (gm_RO en a b)) t.heap ∧ va_K (dC, dI) vwCl (gTY kI kL kG kZ) t ∧ va_D A (gWM bd kI kL kZ zw ma mb en nn (nI 1) u.1 u.2 (gm_b (gm_odd nn en a b ≤ 2 ∧ gm_conn en a b)) (gm_b (gm_odd nn en a b = 0 ∧ gm_conn en a b)) (gm_b (gm_good en a b nn ∧ gm_ov nn en a b ≤ 1 ∧ gm_conn en a b)) (gm_RO en a b))) A) ([.ref (bd 0)] : List Value).toArray s 0 0 A) (F0 m 496 ls [])) → ∀ (k v : Nat) (ways : Nat → Int64) (H : Heap) (locs : List Loc) (ls : Array Slot), v ≤ nn → nn < v + k → gm_WA en a b S v 1 ways → va_P (dC, dI) vwCl (gWM bd kI kL kZ zw ma mb en nn (nI 1) can ways (gm_b (gm_odd nn en a b ≤ 2 ∧ gm_conn en a b)) (gm_b (gm_odd nn en a b = 0 ∧ gm_conn en a b)) (gm_b (gm_good en a b nn ∧ gm_ov nn en a b ≤ 1 ∧ gm_conn en a b)) 0) H → va_D A (gWM bd kI kL kZ zw ma mb en nn (nI 1) can ways (gm_b (gm_odd nn en a b ≤ 2 ∧ gm_conn en a b)) (gm_b (gm_odd nn en a b = 0 ∧ gm_conn en a b)) (gm_b (gm_good en a b nn ∧ gm_ov nn en a b ≤ 1 ∧ gm_conn en a b)) 0) → va_S A s.heap H locs → lv_has ls 7 [(3, .int (nI v)), (2, .int (nI S)), (0, .ref (bd 0)), (1, .int (nI (2 ^ en - 1)))] → W p l e (headSpec wsX1_reckon ({ frames := 0, cells := 0, slots := 0, locals := 0 })).room s m ([.ref (bd 0)] : List Value).toArray below meth c H locs 0 0 (MQ below (va_Qv (fun (u : (Nat → Int32) × (Nat → Int64)) => True) (fun (u : (Nat → Int32) × (Nat → Int64)) (t : State) => va_P (dC, dI) vwCl (gWM bd kI kL kZ zw ma mb en nn (nI 1) u.1 u.2 (gm_b (gm_odd nn en a b ≤ 2 ∧ gm_conn en a b)) (gm_b (gm_odd nn en a b = 0 ∧ gm_conn en a b)) (gm_b (gm_good en a b nn ∧ gm_ov nn en a b ≤ 1 ∧ gm_conn en a b)) (gm_RO en a b)) t.heap ∧ va_K (dC, dI) vwCl (gTY kI kL kG kZ) t ∧ va_D A (gWM bd kI kL kZ zw ma mb en nn (nI 1) u.1 u.2 (gm_b (gm_odd nn en a b ≤ 2 ∧ gm_conn en a b)) (gm_b (gm_odd nn en a b = 0 ∧ gm_conn en a b)) (gm_b (gm_good en a b nn ∧ gm_ov nn en a b ≤ 1 ∧ gm_conn en a b)) (gm_RO en a b))) A) ([.ref (bd 0)] : List Value).toArray s 0 0 A) (F0 m 380 ls []) := by
    intro can S hSl ho K
    intro k
    induction k with
    | zero => intro v ways H locs ls h1 h2; exact absurd h2 (by omega)
    | succ k ih =>
      intro v ways H locs ls h1 h2 hWA hP hD hS hl
      refine lv_iload_n hx hb dX1_reckon_380 rfl (lv_at hl 0 rfl) ?_
      refine lv_aload_n hx hb dX1_reckon_381 rfl (lv_at hl 2 rfl) ?_
      refine va_get (D := (dC, dI)) (ci := 1) (v := .int (nI nn)) (C := RX1) (T := TX1) (N := 11) hx hb hts in_X1 hown hK hP 0 rfl rfl 3 (by decide) (hts _ q124) (fun _ h9 => h9) rfl dX1_reckon_382 ?_
      refine gm_bge (tgt := 496) hx hb dX1_reckon_385 (by decide) (by omega) (by omega) (fun hc => ?_) (fun hc => ?_)
      · have e1 : v = nn := by omega
        rw [e1] at hWA
        exact K ways H locs ls hWA hP hD hS (lv_sub hl [1, 2, 3] rfl)
      · skip
        have k490 : ∀ (ways : Nat → Int64) (H : Heap) (locs : List Loc) (ls : Array Slot), gm_WA en a b S (v + 1) 1 ways → va_P (dC, dI) vwCl (gWM bd kI kL kZ zw ma mb en nn (nI 1) can ways (gm_b (gm_odd nn en a b ≤ 2 ∧ gm_conn en a b)) (gm_b (gm_odd nn en a b = 0 ∧ gm_conn en a b)) (gm_b (gm_good en a b nn ∧ gm_ov nn en a b ≤ 1 ∧ gm_conn en a b)) 0) H → va_D A (gWM bd kI kL kZ zw ma mb en nn (nI 1) can ways (gm_b (gm_odd nn en a b ≤ 2 ∧ gm_conn en a b)) (gm_b (gm_odd nn en a b = 0 ∧ gm_conn en a b)) (gm_b (gm_good en a b nn ∧ gm_ov nn en a b ≤ 1 ∧ gm_conn en a b)) 0) → va_S A s.heap H locs → lv_has ls 7 [(3, .int (nI v)), (2, .int (nI S)), (0, .ref (bd 0)), (1, .int (nI (2 ^ en - 1)))] → W p l e (headSpec wsX1_reckon ({ frames := 0, cells := 0, slots := 0, locals := 0 })).room s m ([.ref (bd 0)] : List Value).toArray below meth c H locs 0 0 (MQ below (va_Qv (fun (u : (Nat → Int32) × (Nat → Int64)) => True) (fun (u : (Nat → Int32) × (Nat → Int64)) (t : State) => va_P (dC, dI) vwCl (gWM bd kI kL kZ zw ma mb en nn (nI 1) u.1 u.2 (gm_b (gm_odd nn en a b ≤ 2 ∧ gm_conn en a b)) (gm_b (gm_odd nn en a b = 0 ∧ gm_conn en a b)) (gm_b (gm_good en a b nn ∧ gm_ov nn en a b ≤ 1 ∧ gm_conn en a b)) (gm_RO en a b)) t.heap ∧ va_K (dC, dI) vwCl (gTY kI kL kG kZ) t ∧ va_D A (gWM bd kI kL kZ zw ma mb en nn (nI 1) u.1 u.2 (gm_b (gm_odd nn en a b ≤ 2 ∧ gm_conn en a b)) (gm_b (gm_odd nn en a b = 0 ∧ gm_conn en a b)) (gm_b (gm_good en a b nn ∧ gm_ov nn en a b ≤ 1 ∧ gm_conn en a b)) (gm_RO en a b))) A) ([.ref (bd 0)] : List Value).toArray s 0 0 A) (F0 m 490 ls []) := by
          intro ways H locs ls hWA hP hD hS hl
          refine lv_iinc (v := nI (v + 1)) (lv' := [(3, .int (nI (v + 1))), (2, .int (nI S)), (0, .ref (bd 0)), (1, .int (nI (2 ^ en - 1)))]) hx hb dX1_reckon_490 hl (k := 0) rfl (nI_1 v) (by decide) rfl (fun ls hl => ?_)
          refine lv_goto (tgt := 380) hx hb dX1_reckon_493 (by decide) ?_
          exact ih (v + 1) ways H locs ls (by omega) (by omega) hWA hP hD hS (lv_sub hl [0, 1, 2, 3] rfl)
        refine lv_aload_n hx hb dX1_reckon_388 rfl (lv_at hl 2 rfl) ?_
        refine va_get (D := (dC, dI)) (ci := 1) (v := .ref (bd 4)) (C := RX1) (T := TX1) (N := 11) hx hb hts in_X1 hown hK hP 0 rfl rfl 6 (by decide) (hts _ q127) (fun _ h9 => h9) rfl dX1_reckon_389 ?_
        refine lv_iconst (v := nI 5) hx hb dX1_reckon_392 (by decide) ?_
        refine lv_iload_n hx hb dX1_reckon_393 rfl (lv_at hl 1 rfl) ?_
        refine lv_imul hx hb dX1_reckon_394 ?_
        refine gm_tpi (pk_mul 5 S) ?_
        refine lv_iload_n hx hb dX1_reckon_395 rfl (lv_at hl 0 rfl) ?_
        refine lv_iadd hx hb dX1_reckon_396 ?_
        refine gm_tpi (nI_add (5 * S) v) ?_
        refine gm_lald (v := Int64.ofInt (gm_W en a b S v)) hx hb hK hP 4 1 rfl rfl (k := (5 * S + v)) (by omega) (by decide) (gm_WA_read hWA hSl ho (Nat.le_refl S) (by omega)) dX1_reckon_397 ?_
        refine lv_lstore (lv' := [(4, .long (Int64.ofInt (gm_W en a b S v))), (3, .int (nI v)), (2, .int (nI S)), (0, .ref (bd 0)), (1, .int (nI (2 ^ en - 1)))]) hx hb dX1_reckon_398 hl (by decide) rfl (fun ls hl => ?_)
        refine lv_lload hx hb dX1_reckon_400 (lv_at hl 0 rfl) ?_
        refine lv_lconst (v := 0) hx hb dX1_reckon_402 (by decide) ?_
        refine W.lcmp hx hb dX1_reckon_403 ?_
        refine lv_if_le (tgt := 490) hx hb dX1_reckon_404 (by decide) (fun hc2 => ?_) (fun hc2 => ?_)
        · exact k490 ways H locs ls (gm_WA_none hWA (gm_W_le0 hm (gm_cmp_le hc2))) hP hD hS (lv_sub hl [1, 2, 3, 4] rfl)
        · skip
          refine lv_iconst (v := nI 1) hx hb dX1_reckon_407 (by decide) ?_
          refine lv_istore (lv' := [(6, .int (nI 1)), (4, .long (Int64.ofInt (gm_W en a b S v))), (3, .int (nI v)), (2, .int (nI S)), (0, .ref (bd 0)), (1, .int (nI (2 ^ en - 1)))]) hx hb dX1_reckon_408 hl (by decide) rfl (fun ls hl => ?_)
          have hen : 1 ≤ en := by
            rcases Nat.eq_zero_or_pos en with h | h
            · rw [h] at hSl; have h9 : S < 1 := hSl; omega
            · exact h
          exact loopE can S v hSl ho hc k490 (en + 1) 1 ways H locs ls (by omega) hen (by omega) hWA hP hD hS (lv_sub hl [0, 1, 2, 3, 4, 5] rfl)
  have loopS : ∀ (can : Nat → Int32), 0 < en → ∀ (k S : Nat) (ways : Nat → Int64) (H : Heap) (locs : List Loc) (ls : Array Slot), S % 2 = 1 → S ≤ 2 ^ en + 1 → 2 ^ en + 1 < S + k → gm_WA en a b S 0 1 ways → va_P (dC, dI) vwCl (gWM bd kI kL kZ zw ma mb en nn (nI 1) can ways (gm_b (gm_odd nn en a b ≤ 2 ∧ gm_conn en a b)) (gm_b (gm_odd nn en a b = 0 ∧ gm_conn en a b)) (gm_b (gm_good en a b nn ∧ gm_ov nn en a b ≤ 1 ∧ gm_conn en a b)) 0) H → va_D A (gWM bd kI kL kZ zw ma mb en nn (nI 1) can ways (gm_b (gm_odd nn en a b ≤ 2 ∧ gm_conn en a b)) (gm_b (gm_odd nn en a b = 0 ∧ gm_conn en a b)) (gm_b (gm_good en a b nn ∧ gm_ov nn en a b ≤ 1 ∧ gm_conn en a b)) 0) → va_S A s.heap H locs → lv_has ls 7 [(2, .int (nI S)), (0, .ref (bd 0)), (1, .int (nI (2 ^ en - 1)))] → W p l e (headSpec wsX1_reckon ({ frames := 0, cells := 0, slots := 0, locals := 0 })).room s m ([.ref (bd 0)] : List Value).toArray below meth c H locs 0 0 (MQ below (va_Qv (fun (u : (Nat → Int32) × (Nat → Int64)) => True) (fun (u : (Nat → Int32) × (Nat → Int64)) (t : State) => va_P (dC, dI) vwCl (gWM bd kI kL kZ zw ma mb en nn (nI 1) u.1 u.2 (gm_b (gm_odd nn en a b ≤ 2 ∧ gm_conn en a b)) (gm_b (gm_odd nn en a b = 0 ∧ gm_conn en a b)) (gm_b (gm_good en a b nn ∧ gm_ov nn en a b ≤ 1 ∧ gm_conn en a b)) (gm_RO en a b)) t.heap ∧ va_K (dC, dI) vwCl (gTY kI kL kG kZ) t ∧ va_D A (gWM bd kI kL kZ zw ma mb en nn (nI 1) u.1 u.2 (gm_b (gm_odd nn en a b ≤ 2 ∧ gm_conn en a b)) (gm_b (gm_odd nn en a b = 0 ∧ gm_conn en a b)) (gm_b (gm_good en a b nn ∧ gm_ov nn en a b ≤ 1 ∧ gm_conn en a b)) (gm_RO en a b))) A) ([.ref (bd 0)] : List Value).toArray s 0 0 A) (F0 m 373 ls []) := by
    intro can hen
    have hod := gm_p2 hen
    intro k
    induction k with
    | zero => intro S ways H locs ls h1 h2 h3; exact absurd h3 (by omega)
    | succ k ih =>
      intro S ways H locs ls h1 h2 h3 hWA hP hD hS hl
      refine lv_iload_n hx hb dX1_reckon_373 rfl (lv_at hl 0 rfl) ?_
      refine lv_iload_n hx hb dX1_reckon_374 rfl (lv_at hl 2 rfl) ?_
      refine gm_bgt (tgt := 503) hx hb dX1_reckon_375 (by decide) (by omega) (by omega) (fun hc => ?_) (fun hc => ?_)
      · have ha0 := ha 0 hen
        have hro : ways (5 * (2 ^ en - 1) + a 0) = gm_RO en a b := by
          rw [gm_WA_read hWA (by omega) hod (by omega) (by omega)]
          unfold gm_RO
          rw [if_neg (by omega), gm_W_all hen]
        refine lv_aload_n hx hb dX1_reckon_503 rfl (lv_at hl 1 rfl) ?_
        refine lv_aload_n hx hb dX1_reckon_504 rfl (lv_at hl 1 rfl) ?_
        refine va_get (D := (dC, dI)) (ci := 1) (v := .ref (bd 4)) (C := RX1) (T := TX1) (N := 11) hx hb hts in_X1 hown hK hP 0 rfl rfl 6 (by decide) (hts _ q127) (fun _ h9 => h9) rfl dX1_reckon_505 ?_
        refine lv_iconst (v := nI 5) hx hb dX1_reckon_508 (by decide) ?_
        refine lv_iload_n hx hb dX1_reckon_509 rfl (lv_at hl 2 rfl) ?_
        refine lv_imul hx hb dX1_reckon_510 ?_
        refine gm_tpi (pk_mul 5 (2 ^ en - 1)) ?_
        refine lv_aload_n hx hb dX1_reckon_511 rfl (lv_at hl 1 rfl) ?_
        refine va_get (D := (dC, dI)) (ci := 1) (v := .ref (bd 1)) (C := RX1) (T := TX1) (N := 11) hx hb hts in_X1 hown hK hP 0 rfl rfl 0 (by decide) (hts _ q121) (fun _ h9 => h9) rfl dX1_reckon_512 ?_
        refine lv_iconst (v := nI 0) hx hb dX1_reckon_515 (by decide) ?_
        refine gm_iald (v := nI (a 0)) hx hb hK hP 1 0 rfl rfl (k := 0) (by omega) (by decide) ha0.1 dX1_reckon_516 ?_
        refine lv_iadd hx hb dX1_reckon_517 ?_
        refine gm_tpi (nI_add (5 * (2 ^ en - 1)) (a 0)) ?_
        refine gm_lald (v := gm_RO en a b) hx hb hK hP 4 1 rfl rfl (k := (5 * (2 ^ en - 1) + (a 0))) (by omega) (by decide) hro dX1_reckon_518 ?_
        refine va_put (D := (dC, dI)) (ci := 1) (v := .long (gm_RO en a b)) (ty := .long) (C := RX1) (T := TX1) (N := 11) hx hb hts in_X1 tyX1 tyX1_ok nmX1 hown hK hP hD hS 0 rfl rfl 10 (by decide) (hts _ q131) (fun _ h9 => h9) rfl (by decide +kernel) rfl rfl (Nat.le_of_ble_eq_true rfl) dX1_reckon_519 (fun H locs hP hD hS => ?_)
        have hP : va_P (dC, dI) vwCl (gWM bd kI kL kZ zw ma mb en nn (nI 1) can ways (gm_b (gm_odd nn en a b ≤ 2 ∧ gm_conn en a b)) (gm_b (gm_odd nn en a b = 0 ∧ gm_conn en a b)) (gm_b (gm_good en a b nn ∧ gm_ov nn en a b ≤ 1 ∧ gm_conn en a b)) (gm_RO en a b)) H := hP
        have hD : va_D A (gWM bd kI kL kZ zw ma mb en nn (nI 1) can ways (gm_b (gm_odd nn en a b ≤ 2 ∧ gm_conn en a b)) (gm_b (gm_odd nn en a b = 0 ∧ gm_conn en a b)) (gm_b (gm_good en a b nn ∧ gm_ov nn en a b ≤ 1 ∧ gm_conn en a b)) (gm_RO en a b)) := hD
        exact kEnd can ways _ H locs ls rfl hP hD hS
      · skip
        refine lv_iconst (v := nI 0) hx hb dX1_reckon_378 (by decide) ?_
        refine lv_istore_n (lv' := [(3, .int (nI 0)), (2, .int (nI S)), (0, .ref (bd 0)), (1, .int (nI (2 ^ en - 1)))]) hx hb dX1_reckon_379 rfl hl (by decide) rfl (fun ls hl => ?_)
        refine loopV can S (by omega) h1 (fun ways H locs ls hWA hP hD hS hl => ?_) (nn + 1) 0 ways H locs ls (by omega) (by omega) hWA hP hD hS (lv_sub hl [0, 1, 2, 3] rfl)
        refine lv_iload_n hx hb dX1_reckon_496 rfl (lv_at hl 0 rfl) ?_
        refine lv_iconst (v := nI 2) hx hb dX1_reckon_497 (by decide) ?_
        refine lv_iadd hx hb dX1_reckon_498 ?_
        refine gm_tpi (nI_add S 2) ?_
        refine lv_istore_n (lv' := [(2, .int (nI (S + 2))), (0, .ref (bd 0)), (1, .int (nI (2 ^ en - 1)))]) hx hb dX1_reckon_499 rfl hl (by decide) rfl (fun ls hl => ?_)
        refine lv_goto (tgt := 373) hx hb dX1_reckon_500 (by decide) ?_
        exact ih (S + 2) ways H locs ls (by omega) (by omega) (by omega) (gm_WA_set hab h1 hWA) hP hD hS (lv_sub hl [0, 1, 2] rfl)
  have loopC : ∀ (can : Nat → Int32), 0 < en → ∀ (k i : Nat) (ways : Nat → Int64) (H : Heap) (locs : List Loc) (ls : Array Slot), i ≤ 5 * 2 ^ en → 5 * 2 ^ en < i + k → (∀ j, j < i → ways j = 0) → va_P (dC, dI) vwCl (gWM bd kI kL kZ zw ma mb en nn (nI 1) can ways (gm_b (gm_odd nn en a b ≤ 2 ∧ gm_conn en a b)) (gm_b (gm_odd nn en a b = 0 ∧ gm_conn en a b)) (gm_b (gm_good en a b nn ∧ gm_ov nn en a b ≤ 1 ∧ gm_conn en a b)) 0) H → va_D A (gWM bd kI kL kZ zw ma mb en nn (nI 1) can ways (gm_b (gm_odd nn en a b ≤ 2 ∧ gm_conn en a b)) (gm_b (gm_odd nn en a b = 0 ∧ gm_conn en a b)) (gm_b (gm_good en a b nn ∧ gm_ov nn en a b ≤ 1 ∧ gm_conn en a b)) 0) → va_S A s.heap H locs → lv_has ls 7 [(2, .int (nI i)), (0, .ref (bd 0)), (1, .int (nI (2 ^ en - 1)))] → W p l e (headSpec wsX1_reckon ({ frames := 0, cells := 0, slots := 0, locals := 0 })).room s m ([.ref (bd 0)] : List Value).toArray below meth c H locs 0 0 (MQ below (va_Qv (fun (u : (Nat → Int32) × (Nat → Int64)) => True) (fun (u : (Nat → Int32) × (Nat → Int64)) (t : State) => va_P (dC, dI) vwCl (gWM bd kI kL kZ zw ma mb en nn (nI 1) u.1 u.2 (gm_b (gm_odd nn en a b ≤ 2 ∧ gm_conn en a b)) (gm_b (gm_odd nn en a b = 0 ∧ gm_conn en a b)) (gm_b (gm_good en a b nn ∧ gm_ov nn en a b ≤ 1 ∧ gm_conn en a b)) (gm_RO en a b)) t.heap ∧ va_K (dC, dI) vwCl (gTY kI kL kG kZ) t ∧ va_D A (gWM bd kI kL kZ zw ma mb en nn (nI 1) u.1 u.2 (gm_b (gm_odd nn en a b ≤ 2 ∧ gm_conn en a b)) (gm_b (gm_odd nn en a b = 0 ∧ gm_conn en a b)) (gm_b (gm_good en a b nn ∧ gm_ov nn en a b ≤ 1 ∧ gm_conn en a b)) (gm_RO en a b))) A) ([.ref (bd 0)] : List Value).toArray s 0 0 A) (F0 m 335 ls []) := by
    intro can hen
    intro k
    induction k with
    | zero => intro i ways H locs ls h1 h2; exact absurd h2 (by omega)
    | succ k ih =>
      intro i ways H locs ls h1 h2 hz hP hD hS hl
      refine lv_iload_n hx hb dX1_reckon_335 rfl (lv_at hl 0 rfl) ?_
      refine lv_iconst (v := nI 5) hx hb dX1_reckon_336 (by decide) ?_
      refine lv_iload_n hx hb dX1_reckon_337 rfl (lv_at hl 2 rfl) ?_
      refine lv_iconst (v := nI 1) hx hb dX1_reckon_338 (by decide) ?_
      refine lv_iadd hx hb dX1_reckon_339 ?_
      refine gm_tpi (nI_add (2 ^ en - 1) 1) ?_
      refine lv_imul hx hb dX1_reckon_340 ?_
      refine gm_tpi (pk_mul 5 (2 ^ en - 1 + 1)) ?_
      refine gm_bge (tgt := 357) hx hb dX1_reckon_341 (by decide) (by omega) (by omega) (fun hc => ?_) (fun hc => ?_)
      · have e1 : i = 5 * 2 ^ en := by omega
        have hb0 := hb2 0 hen
        refine lv_aload_n hx hb dX1_reckon_357 rfl (lv_at hl 1 rfl) ?_
        refine va_get (D := (dC, dI)) (ci := 1) (v := .ref (bd 4)) (C := RX1) (T := TX1) (N := 11) hx hb hts in_X1 hown hK hP 0 rfl rfl 6 (by decide) (hts _ q127) (fun _ h9 => h9) rfl dX1_reckon_358 ?_
        refine lv_iconst (v := nI 5) hx hb dX1_reckon_361 (by decide) ?_
        refine lv_aload_n hx hb dX1_reckon_362 rfl (lv_at hl 1 rfl) ?_
        refine va_get (D := (dC, dI)) (ci := 1) (v := .ref (bd 2)) (C := RX1) (T := TX1) (N := 11) hx hb hts in_X1 hown hK hP 0 rfl rfl 1 (by decide) (hts _ q122) (fun _ h9 => h9) rfl dX1_reckon_363 ?_
        refine lv_iconst (v := nI 0) hx hb dX1_reckon_366 (by decide) ?_
        refine gm_iald (v := nI (b 0)) hx hb hK hP 2 0 rfl rfl (k := 0) (by omega) (by decide) hb0.1 dX1_reckon_367 ?_
        refine lv_iadd hx hb dX1_reckon_368 ?_
        refine gm_tpi (nI_add 5 (b 0)) ?_
        refine lv_lconst (v := 1) hx hb dX1_reckon_369 (by decide) ?_
        refine gm_last hx hb hK hP hD hS 4 1 rfl rfl (k := (5 + (b 0))) (by omega) (by decide) dX1_reckon_370 (fun H locs hP hD hS => ?_)
        have hP : va_P (dC, dI) vwCl (gWM bd kI kL kZ zw ma mb en nn (nI 1) can (vp_updL ways (5 + (b 0)) 1) (gm_b (gm_odd nn en a b ≤ 2 ∧ gm_conn en a b)) (gm_b (gm_odd nn en a b = 0 ∧ gm_conn en a b)) (gm_b (gm_good en a b nn ∧ gm_ov nn en a b ≤ 1 ∧ gm_conn en a b)) 0) H := hP
        have hD : va_D A (gWM bd kI kL kZ zw ma mb en nn (nI 1) can (vp_updL ways (5 + (b 0)) 1) (gm_b (gm_odd nn en a b ≤ 2 ∧ gm_conn en a b)) (gm_b (gm_odd nn en a b = 0 ∧ gm_conn en a b)) (gm_b (gm_good en a b nn ∧ gm_ov nn en a b ≤ 1 ∧ gm_conn en a b)) 0) := hD
        refine lv_iconst (v := nI 1) hx hb dX1_reckon_371 (by decide) ?_
        refine lv_istore_n (lv' := [(2, .int (nI 1)), (0, .ref (bd 0)), (1, .int (nI (2 ^ en - 1)))]) hx hb dX1_reckon_372 rfl hl (by decide) rfl (fun ls hl => ?_)
        exact loopS can hen (2 ^ en + 1) 1 _ H locs ls (by omega) (by omega) (by omega) (gm_WA_0 (by omega) (fun j hj => hz j (by omega))) hP hD hS (lv_sub hl [0, 1, 2] rfl)
      · skip
        refine lv_aload_n hx hb dX1_reckon_344 rfl (lv_at hl 1 rfl) ?_
        refine va_get (D := (dC, dI)) (ci := 1) (v := .ref (bd 4)) (C := RX1) (T := TX1) (N := 11) hx hb hts in_X1 hown hK hP 0 rfl rfl 6 (by decide) (hts _ q127) (fun _ h9 => h9) rfl dX1_reckon_345 ?_
        refine lv_iload_n hx hb dX1_reckon_348 rfl (lv_at hl 0 rfl) ?_
        refine lv_lconst (v := 0) hx hb dX1_reckon_349 (by decide) ?_
        refine gm_last hx hb hK hP hD hS 4 1 rfl rfl (k := i) (by omega) (by decide) dX1_reckon_350 (fun H locs hP hD hS => ?_)
        have hP : va_P (dC, dI) vwCl (gWM bd kI kL kZ zw ma mb en nn (nI 1) can (vp_updL ways i 0) (gm_b (gm_odd nn en a b ≤ 2 ∧ gm_conn en a b)) (gm_b (gm_odd nn en a b = 0 ∧ gm_conn en a b)) (gm_b (gm_good en a b nn ∧ gm_ov nn en a b ≤ 1 ∧ gm_conn en a b)) 0) H := hP
        have hD : va_D A (gWM bd kI kL kZ zw ma mb en nn (nI 1) can (vp_updL ways i 0) (gm_b (gm_odd nn en a b ≤ 2 ∧ gm_conn en a b)) (gm_b (gm_odd nn en a b = 0 ∧ gm_conn en a b)) (gm_b (gm_good en a b nn ∧ gm_ov nn en a b ≤ 1 ∧ gm_conn en a b)) 0) := hD
        refine lv_iinc (v := nI (i + 1)) (lv' := [(2, .int (nI (i + 1))), (0, .ref (bd 0)), (1, .int (nI (2 ^ en - 1)))]) hx hb dX1_reckon_351 hl (k := 0) rfl (nI_1 i) (by decide) rfl (fun ls hl => ?_)
        refine lv_goto (tgt := 335) hx hb dX1_reckon_354 (by decide) ?_
        exact ih (i + 1) _ H locs ls (by omega) (by omega) (fun j hj => by
          by_cases h7 : j = i
          · rw [h7]; exact pk_uLs
          · rw [pk_uLn h7]; exact hz j (by omega)) hP hD hS (lv_sub hl [0, 1, 2] rfl)
  have k326 : ∀ (can : Nat → Int32) (H : Heap) (locs : List Loc) (ls : Array Slot), va_P (dC, dI) vwCl (gWM bd kI kL kZ zw ma mb en nn (nI 1) can ways (gm_b (gm_odd nn en a b ≤ 2 ∧ gm_conn en a b)) (gm_b (gm_odd nn en a b = 0 ∧ gm_conn en a b)) (gm_b (gm_good en a b nn ∧ gm_ov nn en a b ≤ 1 ∧ gm_conn en a b)) 0) H → va_D A (gWM bd kI kL kZ zw ma mb en nn (nI 1) can ways (gm_b (gm_odd nn en a b ≤ 2 ∧ gm_conn en a b)) (gm_b (gm_odd nn en a b = 0 ∧ gm_conn en a b)) (gm_b (gm_good en a b nn ∧ gm_ov nn en a b ≤ 1 ∧ gm_conn en a b)) 0) → va_S A s.heap H locs → lv_has ls 7 [(0, .ref (bd 0)), (1, .int (nI (2 ^ en - 1)))] → W p l e (headSpec wsX1_reckon ({ frames := 0, cells := 0, slots := 0, locals := 0 })).room s m ([.ref (bd 0)] : List Value).toArray below meth c H locs 0 0 (MQ below (va_Qv (fun (u : (Nat → Int32) × (Nat → Int64)) => True) (fun (u : (Nat → Int32) × (Nat → Int64)) (t : State) => va_P (dC, dI) vwCl (gWM bd kI kL kZ zw ma mb en nn (nI 1) u.1 u.2 (gm_b (gm_odd nn en a b ≤ 2 ∧ gm_conn en a b)) (gm_b (gm_odd nn en a b = 0 ∧ gm_conn en a b)) (gm_b (gm_good en a b nn ∧ gm_ov nn en a b ≤ 1 ∧ gm_conn en a b)) (gm_RO en a b)) t.heap ∧ va_K (dC, dI) vwCl (gTY kI kL kG kZ) t ∧ va_D A (gWM bd kI kL kZ zw ma mb en nn (nI 1) u.1 u.2 (gm_b (gm_odd nn en a b ≤ 2 ∧ gm_conn en a b)) (gm_b (gm_odd nn en a b = 0 ∧ gm_conn en a b)) (gm_b (gm_good en a b nn ∧ gm_ov nn en a b ≤ 1 ∧ gm_conn en a b)) (gm_RO en a b))) A) ([.ref (bd 0)] : List Value).toArray s 0 0 A) (F0 m 326 ls []) := by
    intro can H locs ls hP hD hS hl
    refine lv_aload_n hx hb dX1_reckon_326 rfl (lv_at hl 0 rfl) ?_
    refine va_get (D := (dC, dI)) (ci := 1) (v := .int (nI en)) (C := RX1) (T := TX1) (N := 11) hx hb hts in_X1 hown hK hP 0 rfl rfl 2 (by decide) (hts _ q123) (fun _ h9 => h9) rfl dX1_reckon_327 ?_
    refine gm_zle (tgt := 522) hx hb dX1_reckon_330 (by decide) (by omega) (fun hc => ?_) (fun hc => ?_)
    · exact kEnd can ways 0 H locs ls (by unfold gm_RO; rw [if_pos hc]) hP hD hS
    · skip
      refine lv_iconst (v := nI 0) hx hb dX1_reckon_333 (by decide) ?_
      refine lv_istore_n (lv' := [(2, .int (nI 0)), (0, .ref (bd 0)), (1, .int (nI (2 ^ en - 1)))]) hx hb dX1_reckon_334 rfl hl (by decide) rfl (fun ls hl => ?_)
      exact loopC can hc (5 * 2 ^ en + 1) 0 ways H locs ls (by omega) (by omega) (fun j hj => absurd hj (by omega)) hP hD hS (lv_sub hl [0, 1, 2] rfl)
  have loopJ : ∀ (wv : Nat) (wb : Bool) (z : Nat) (fo fc fr : Int32) (S v : Nat), (wv = 0 ∧ wb = true ∨ wv = 1 ∧ wb = false) → S < 2 ^ en → v < nn → gm_rc wb en a b z S v → (∀ (can : Nat → Int32) (H : Heap) (locs : List Loc) (ls : Array Slot), gm_CA wb en a b z S (v + 1) 0 can → va_P (dC, dI) vwCl (gWM bd kI kL kZ zw ma mb en nn (nI 1) can ways fo fc fr 0) H → va_D A (gWM bd kI kL kZ zw ma mb en nn (nI 1) can ways fo fc fr 0) → va_S A s.heap H locs → lv_has ls 7 [(5, .int (nI v)), (4, .int (nI S)), (3, .int (nI wv)), (2, .int (nI z)), (0, .ref (bd 0)), (1, .int (nI (2 ^ en - 1)))] → W p l e (headSpec wsX1_reckon ({ frames := 0, cells := 0, slots := 0, locals := 0 })).room s m ([.ref (bd 0)] : List Value).toArray below meth c H locs 0 0 (MQ below (va_Qv (fun (u : (Nat → Int32) × (Nat → Int64)) => True) (fun (u : (Nat → Int32) × (Nat → Int64)) (t : State) => va_P (dC, dI) vwCl (gWM bd kI kL kZ zw ma mb en nn (nI 1) u.1 u.2 (gm_b (gm_odd nn en a b ≤ 2 ∧ gm_conn en a b)) (gm_b (gm_odd nn en a b = 0 ∧ gm_conn en a b)) (gm_b (gm_good en a b nn ∧ gm_ov nn en a b ≤ 1 ∧ gm_conn en a b)) (gm_RO en a b)) t.heap ∧ va_K (dC, dI) vwCl (gTY kI kL kG kZ) t ∧ va_D A (gWM bd kI kL kZ zw ma mb en nn (nI 1) u.1 u.2 (gm_b (gm_odd nn en a b ≤ 2 ∧ gm_conn en a b)) (gm_b (gm_odd nn en a b = 0 ∧ gm_conn en a b)) (gm_b (gm_good en a b nn ∧ gm_ov nn en a b ≤ 1 ∧ gm_conn en a b)) (gm_RO en a b))) A) ([.ref (bd 0)] : List Value).toArray s 0 0 A) (F0 m 231 ls [])) → ∀ (k j : Nat) (can : Nat → Int32) (H : Heap) (locs : List Loc) (ls : Array Slot), j ≤ en → en < j + k → gm_CA wb en a b z S v j can → va_P (dC, dI) vwCl (gWM bd kI kL kZ zw ma mb en nn (nI 1) can ways fo fc fr 0) H → va_D A (gWM bd kI kL kZ zw ma mb en nn (nI 1) can ways fo fc fr 0) → va_S A s.heap H locs → lv_has ls 7 [(6, .int (nI j)), (5, .int (nI v)), (4, .int (nI S)), (3, .int (nI wv)), (2, .int (nI z)), (0, .ref (bd 0)), (1, .int (nI (2 ^ en - 1)))] → W p l e (headSpec wsX1_reckon ({ frames := 0, cells := 0, slots := 0, locals := 0 })).room s m ([.ref (bd 0)] : List Value).toArray below meth c H locs 0 0 (MQ below (va_Qv (fun (u : (Nat → Int32) × (Nat → Int64)) => True) (fun (u : (Nat → Int32) × (Nat → Int64)) (t : State) => va_P (dC, dI) vwCl (gWM bd kI kL kZ zw ma mb en nn (nI 1) u.1 u.2 (gm_b (gm_odd nn en a b ≤ 2 ∧ gm_conn en a b)) (gm_b (gm_odd nn en a b = 0 ∧ gm_conn en a b)) (gm_b (gm_good en a b nn ∧ gm_ov nn en a b ≤ 1 ∧ gm_conn en a b)) (gm_RO en a b)) t.heap ∧ va_K (dC, dI) vwCl (gTY kI kL kG kZ) t ∧ va_D A (gWM bd kI kL kZ zw ma mb en nn (nI 1) u.1 u.2 (gm_b (gm_odd nn en a b ≤ 2 ∧ gm_conn en a b)) (gm_b (gm_odd nn en a b = 0 ∧ gm_conn en a b)) (gm_b (gm_good en a b nn ∧ gm_ov nn en a b ≤ 1 ∧ gm_conn en a b)) (gm_RO en a b))) A) ([.ref (bd 0)] : List Value).toArray s 0 0 A) (F0 m 132 ls []) := by
    intro wv wb z fo fc fr S v hw hSl hv hrc K
    intro k
    induction k with
    | zero => intro j can H locs ls h1 h2; exact absurd h2 (by omega)
    | succ k ih =>
      intro j can H locs ls h1 h2 hCA hP hD hS hl
      refine lv_iload hx hb dX1_reckon_132 (lv_at hl 0 rfl) ?_
      refine lv_aload_n hx hb dX1_reckon_134 rfl (lv_at hl 5 rfl) ?_
      refine va_get (D := (dC, dI)) (ci := 1) (v := .int (nI en)) (C := RX1) (T := TX1) (N := 11) hx hb hts in_X1 hown hK hP 0 rfl rfl 2 (by decide) (hts _ q123) (fun _ h9 => h9) rfl dX1_reckon_135 ?_
      refine gm_bge (tgt := 231) hx hb dX1_reckon_138 (by decide) (by omega) (by omega) (fun hc => ?_) (fun hc => ?_)
      · have e1 : j = en := by omega
        rw [e1] at hCA
        exact K can H locs ls (gm_CA_row hCA) hP hD hS (lv_sub hl [1, 2, 3, 4, 5, 6] rfl)
      · have hdl := Nat.div_le_self S (2 ^ j)
        have hor := gm_or_bd hSl hc
        have haj := ha j hc
        have hbj := hb2 j hc
        have h5 : a j < 5 ∧ b j < 5 := by omega
        refine lv_iload hx hb dX1_reckon_141 (lv_at hl 2 rfl) ?_
        refine lv_iload hx hb dX1_reckon_143 (lv_at hl 0 rfl) ?_
        refine lv_ishr hx hb dX1_reckon_145 ?_
        refine gm_tpi (gm_shr (by omega) (by omega)) ?_
        refine lv_iconst (v := nI 1) hx hb dX1_reckon_146 (by decide) ?_
        refine lv_iand hx hb dX1_reckon_147 ?_
        refine gm_tpi (gm_and1 (by omega)) ?_
        refine gm_zne (tgt := 225) hx hb dX1_reckon_148 (by decide) (by omega) (fun hc2 => ?_) (fun hc2 => ?_)
        · skip
          refine lv_iinc (v := nI (j + 1)) (lv' := [(6, .int (nI (j + 1))), (5, .int (nI v)), (4, .int (nI S)), (3, .int (nI wv)), (2, .int (nI z)), (0, .ref (bd 0)), (1, .int (nI (2 ^ en - 1)))]) hx hb dX1_reckon_225 hl (k := 0) rfl (nI_1 j) (by decide) rfl (fun ls hl => ?_)
          refine lv_goto (tgt := 132) hx hb dX1_reckon_228 (by decide) ?_
          exact ih (j + 1) can H locs ls (by omega) (by omega) (gm_CA_bit hCA (gm_bit1 hc2)) hP hD hS (lv_sub hl [0, 1, 2, 3, 4, 5, 6] rfl)
        · have hbit := gm_bit0 hc2
          refine lv_aload_n hx hb dX1_reckon_151 rfl (lv_at hl 5 rfl) ?_
          refine va_get (D := (dC, dI)) (ci := 1) (v := .ref (bd 1)) (C := RX1) (T := TX1) (N := 11) hx hb hts in_X1 hown hK hP 0 rfl rfl 0 (by decide) (hts _ q121) (fun _ h9 => h9) rfl dX1_reckon_152 ?_
          refine lv_iload hx hb dX1_reckon_155 (lv_at hl 0 rfl) ?_
          refine gm_iald (v := nI (a j)) hx hb hK hP 1 0 rfl rfl (k := j) (by omega) (by decide) haj.1 dX1_reckon_157 ?_
          refine lv_iload hx hb dX1_reckon_158 (lv_at hl 1 rfl) ?_
          refine gm_bne (tgt := 186) hx hb dX1_reckon_160 (by decide) (by omega) (by omega) (fun hc3 => ?_) (fun hc3 => ?_)
          · skip
            refine lv_iload_n hx hb dX1_reckon_186 rfl (lv_at hl 3 rfl) ?_
            refine gm_zne (tgt := 225) hx hb dX1_reckon_187 (by decide) (by omega) (fun hc4 => ?_) (fun hc4 => ?_)
            · have hwb : wb = false := hw.elim (fun h => absurd h.1 hc4) (fun h => h.2)
              refine lv_iinc (v := nI (j + 1)) (lv' := [(6, .int (nI (j + 1))), (5, .int (nI v)), (4, .int (nI S)), (3, .int (nI wv)), (2, .int (nI z)), (0, .ref (bd 0)), (1, .int (nI (2 ^ en - 1)))]) hx hb dX1_reckon_225 hl (k := 0) rfl (nI_1 j) (by decide) rfl (fun ls hl => ?_)
              refine lv_goto (tgt := 132) hx hb dX1_reckon_228 (by decide) ?_
              exact ih (j + 1) _ H locs ls (by omega) (by omega) (gm_CA_no hCA hrc hc hbit hSl hc3 (fun h => by rw [hwb] at h; exact absurd h.1 (by decide))) hP hD hS (lv_sub hl [0, 1, 2, 3, 4, 5, 6] rfl)
            · have hwb : wb = true := hw.elim (fun h => h.2) (fun h => absurd h.1 (by omega))
              refine lv_aload_n hx hb dX1_reckon_190 rfl (lv_at hl 5 rfl) ?_
              refine va_get (D := (dC, dI)) (ci := 1) (v := .ref (bd 2)) (C := RX1) (T := TX1) (N := 11) hx hb hts in_X1 hown hK hP 0 rfl rfl 1 (by decide) (hts _ q122) (fun _ h9 => h9) rfl dX1_reckon_191 ?_
              refine lv_iload hx hb dX1_reckon_194 (lv_at hl 0 rfl) ?_
              refine gm_iald (v := nI (b j)) hx hb hK hP 2 0 rfl rfl (k := j) (by omega) (by decide) hbj.1 dX1_reckon_196 ?_
              refine lv_iload hx hb dX1_reckon_197 (lv_at hl 1 rfl) ?_
              refine gm_bne (tgt := 225) hx hb dX1_reckon_199 (by decide) (by omega) (by omega) (fun hc5 => ?_) (fun hc5 => ?_)
              · skip
                refine lv_iinc (v := nI (j + 1)) (lv' := [(6, .int (nI (j + 1))), (5, .int (nI v)), (4, .int (nI S)), (3, .int (nI wv)), (2, .int (nI z)), (0, .ref (bd 0)), (1, .int (nI (2 ^ en - 1)))]) hx hb dX1_reckon_225 hl (k := 0) rfl (nI_1 j) (by decide) rfl (fun ls hl => ?_)
                refine lv_goto (tgt := 132) hx hb dX1_reckon_228 (by decide) ?_
                exact ih (j + 1) _ H locs ls (by omega) (by omega) (gm_CA_no hCA hrc hc hbit hSl hc3 (fun h => hc5 h.2)) hP hD hS (lv_sub hl [0, 1, 2, 3, 4, 5, 6] rfl)
              · skip
                refine lv_aload_n hx hb dX1_reckon_202 rfl (lv_at hl 5 rfl) ?_
                refine va_get (D := (dC, dI)) (ci := 1) (v := .ref (bd 3)) (C := RX1) (T := TX1) (N := 11) hx hb hts in_X1 hown hK hP 0 rfl rfl 5 (by decide) (hts _ q126) (fun _ h9 => h9) rfl dX1_reckon_203 ?_
                refine lv_iconst (v := nI 5) hx hb dX1_reckon_206 (by decide) ?_
                refine lv_iload hx hb dX1_reckon_207 (lv_at hl 2 rfl) ?_
                refine lv_iconst (v := nI 1) hx hb dX1_reckon_209 (by decide) ?_
                refine lv_iload hx hb dX1_reckon_210 (lv_at hl 0 rfl) ?_
                refine lv_ishl hx hb dX1_reckon_212 ?_
                refine gm_tpi (gm_shl1 (by omega)) ?_
                refine lv_ior hx hb dX1_reckon_213 ?_
                refine gm_tpi (gm_nor S (2 ^ j)) ?_
                refine lv_imul hx hb dX1_reckon_214 ?_
                refine gm_tpi (pk_mul 5 (S ||| 2 ^ j)) ?_
                refine lv_aload_n hx hb dX1_reckon_215 rfl (lv_at hl 5 rfl) ?_
                refine va_get (D := (dC, dI)) (ci := 1) (v := .ref (bd 1)) (C := RX1) (T := TX1) (N := 11) hx hb hts in_X1 hown hK hP 0 rfl rfl 0 (by decide) (hts _ q121) (fun _ h9 => h9) rfl dX1_reckon_216 ?_
                refine lv_iload hx hb dX1_reckon_219 (lv_at hl 0 rfl) ?_
                refine gm_iald (v := nI (a j)) hx hb hK hP 1 0 rfl rfl (k := j) (by omega) (by decide) haj.1 dX1_reckon_221 ?_
                refine lv_iadd hx hb dX1_reckon_222 ?_
                refine gm_tpi (nI_add (5 * (S ||| 2 ^ j)) (a j)) ?_
                refine lv_iconst (v := nI 1) hx hb dX1_reckon_223 (by decide) ?_
                refine gm_zast hx hb hK hP hD hS 3 3 rfl rfl (k := (5 * (S ||| 2 ^ j) + (a j))) rfl (by omega) (by decide) dX1_reckon_224 (fun H locs hP hD hS => ?_)
                have hP : va_P (dC, dI) vwCl (gWM bd kI kL kZ zw ma mb en nn (nI 1) (upd can (5 * (S ||| 2 ^ j) + (a j)) (nI 1)) ways fo fc fr 0) H := hP
                have hD : va_D A (gWM bd kI kL kZ zw ma mb en nn (nI 1) (upd can (5 * (S ||| 2 ^ j) + (a j)) (nI 1)) ways fo fc fr 0) := hD
                refine lv_iinc (v := nI (j + 1)) (lv' := [(6, .int (nI (j + 1))), (5, .int (nI v)), (4, .int (nI S)), (3, .int (nI wv)), (2, .int (nI z)), (0, .ref (bd 0)), (1, .int (nI (2 ^ en - 1)))]) hx hb dX1_reckon_225 hl (k := 0) rfl (nI_1 j) (by decide) rfl (fun ls hl => ?_)
                refine lv_goto (tgt := 132) hx hb dX1_reckon_228 (by decide) ?_
                exact ih (j + 1) _ H locs ls (by omega) (by omega) (gm_CA_ba hCA hrc hc hbit hSl h5 hc3 ⟨hwb, hc5⟩) hP hD hS (lv_sub hl [0, 1, 2, 3, 4, 5, 6] rfl)
          · skip
            refine lv_aload_n hx hb dX1_reckon_163 rfl (lv_at hl 5 rfl) ?_
            refine va_get (D := (dC, dI)) (ci := 1) (v := .ref (bd 3)) (C := RX1) (T := TX1) (N := 11) hx hb hts in_X1 hown hK hP 0 rfl rfl 5 (by decide) (hts _ q126) (fun _ h9 => h9) rfl dX1_reckon_164 ?_
            refine lv_iconst (v := nI 5) hx hb dX1_reckon_167 (by decide) ?_
            refine lv_iload hx hb dX1_reckon_168 (lv_at hl 2 rfl) ?_
            refine lv_iconst (v := nI 1) hx hb dX1_reckon_170 (by decide) ?_
            refine lv_iload hx hb dX1_reckon_171 (lv_at hl 0 rfl) ?_
            refine lv_ishl hx hb dX1_reckon_173 ?_
            refine gm_tpi (gm_shl1 (by omega)) ?_
            refine lv_ior hx hb dX1_reckon_174 ?_
            refine gm_tpi (gm_nor S (2 ^ j)) ?_
            refine lv_imul hx hb dX1_reckon_175 ?_
            refine gm_tpi (pk_mul 5 (S ||| 2 ^ j)) ?_
            refine lv_aload_n hx hb dX1_reckon_176 rfl (lv_at hl 5 rfl) ?_
            refine va_get (D := (dC, dI)) (ci := 1) (v := .ref (bd 2)) (C := RX1) (T := TX1) (N := 11) hx hb hts in_X1 hown hK hP 0 rfl rfl 1 (by decide) (hts _ q122) (fun _ h9 => h9) rfl dX1_reckon_177 ?_
            refine lv_iload hx hb dX1_reckon_180 (lv_at hl 0 rfl) ?_
            refine gm_iald (v := nI (b j)) hx hb hK hP 2 0 rfl rfl (k := j) (by omega) (by decide) hbj.1 dX1_reckon_182 ?_
            refine lv_iadd hx hb dX1_reckon_183 ?_
            refine gm_tpi (nI_add (5 * (S ||| 2 ^ j)) (b j)) ?_
            refine lv_iconst (v := nI 1) hx hb dX1_reckon_184 (by decide) ?_
            refine gm_zast hx hb hK hP hD hS 3 3 rfl rfl (k := (5 * (S ||| 2 ^ j) + (b j))) rfl (by omega) (by decide) dX1_reckon_185 (fun H locs hP hD hS => ?_)
            have hP : va_P (dC, dI) vwCl (gWM bd kI kL kZ zw ma mb en nn (nI 1) (upd can (5 * (S ||| 2 ^ j) + (b j)) (nI 1)) ways fo fc fr 0) H := hP
            have hD : va_D A (gWM bd kI kL kZ zw ma mb en nn (nI 1) (upd can (5 * (S ||| 2 ^ j) + (b j)) (nI 1)) ways fo fc fr 0) := hD
            refine lv_iload_n hx hb dX1_reckon_186 rfl (lv_at hl 3 rfl) ?_
            refine gm_zne (tgt := 225) hx hb dX1_reckon_187 (by decide) (by omega) (fun hc4 => ?_) (fun hc4 => ?_)
            · have hwb : wb = false := hw.elim (fun h => absurd h.1 hc4) (fun h => h.2)
              refine lv_iinc (v := nI (j + 1)) (lv' := [(6, .int (nI (j + 1))), (5, .int (nI v)), (4, .int (nI S)), (3, .int (nI wv)), (2, .int (nI z)), (0, .ref (bd 0)), (1, .int (nI (2 ^ en - 1)))]) hx hb dX1_reckon_225 hl (k := 0) rfl (nI_1 j) (by decide) rfl (fun ls hl => ?_)
              refine lv_goto (tgt := 132) hx hb dX1_reckon_228 (by decide) ?_
              exact ih (j + 1) _ H locs ls (by omega) (by omega) (gm_CA_ab hCA hrc hc hbit hSl h5 hc3 (fun h => by rw [hwb] at h; exact absurd h.1 (by decide))) hP hD hS (lv_sub hl [0, 1, 2, 3, 4, 5, 6] rfl)
            · have hwb : wb = true := hw.elim (fun h => h.2) (fun h => absurd h.1 (by omega))
              refine lv_aload_n hx hb dX1_reckon_190 rfl (lv_at hl 5 rfl) ?_
              refine va_get (D := (dC, dI)) (ci := 1) (v := .ref (bd 2)) (C := RX1) (T := TX1) (N := 11) hx hb hts in_X1 hown hK hP 0 rfl rfl 1 (by decide) (hts _ q122) (fun _ h9 => h9) rfl dX1_reckon_191 ?_
              refine lv_iload hx hb dX1_reckon_194 (lv_at hl 0 rfl) ?_
              refine gm_iald (v := nI (b j)) hx hb hK hP 2 0 rfl rfl (k := j) (by omega) (by decide) hbj.1 dX1_reckon_196 ?_
              refine lv_iload hx hb dX1_reckon_197 (lv_at hl 1 rfl) ?_
              refine gm_bne (tgt := 225) hx hb dX1_reckon_199 (by decide) (by omega) (by omega) (fun hc5 => ?_) (fun hc5 => ?_)
              · skip
                refine lv_iinc (v := nI (j + 1)) (lv' := [(6, .int (nI (j + 1))), (5, .int (nI v)), (4, .int (nI S)), (3, .int (nI wv)), (2, .int (nI z)), (0, .ref (bd 0)), (1, .int (nI (2 ^ en - 1)))]) hx hb dX1_reckon_225 hl (k := 0) rfl (nI_1 j) (by decide) rfl (fun ls hl => ?_)
                refine lv_goto (tgt := 132) hx hb dX1_reckon_228 (by decide) ?_
                exact ih (j + 1) _ H locs ls (by omega) (by omega) (gm_CA_ab hCA hrc hc hbit hSl h5 hc3 (fun h => hc5 h.2)) hP hD hS (lv_sub hl [0, 1, 2, 3, 4, 5, 6] rfl)
              · skip
                refine lv_aload_n hx hb dX1_reckon_202 rfl (lv_at hl 5 rfl) ?_
                refine va_get (D := (dC, dI)) (ci := 1) (v := .ref (bd 3)) (C := RX1) (T := TX1) (N := 11) hx hb hts in_X1 hown hK hP 0 rfl rfl 5 (by decide) (hts _ q126) (fun _ h9 => h9) rfl dX1_reckon_203 ?_
                refine lv_iconst (v := nI 5) hx hb dX1_reckon_206 (by decide) ?_
                refine lv_iload hx hb dX1_reckon_207 (lv_at hl 2 rfl) ?_
                refine lv_iconst (v := nI 1) hx hb dX1_reckon_209 (by decide) ?_
                refine lv_iload hx hb dX1_reckon_210 (lv_at hl 0 rfl) ?_
                refine lv_ishl hx hb dX1_reckon_212 ?_
                refine gm_tpi (gm_shl1 (by omega)) ?_
                refine lv_ior hx hb dX1_reckon_213 ?_
                refine gm_tpi (gm_nor S (2 ^ j)) ?_
                refine lv_imul hx hb dX1_reckon_214 ?_
                refine gm_tpi (pk_mul 5 (S ||| 2 ^ j)) ?_
                refine lv_aload_n hx hb dX1_reckon_215 rfl (lv_at hl 5 rfl) ?_
                refine va_get (D := (dC, dI)) (ci := 1) (v := .ref (bd 1)) (C := RX1) (T := TX1) (N := 11) hx hb hts in_X1 hown hK hP 0 rfl rfl 0 (by decide) (hts _ q121) (fun _ h9 => h9) rfl dX1_reckon_216 ?_
                refine lv_iload hx hb dX1_reckon_219 (lv_at hl 0 rfl) ?_
                refine gm_iald (v := nI (a j)) hx hb hK hP 1 0 rfl rfl (k := j) (by omega) (by decide) haj.1 dX1_reckon_221 ?_
                refine lv_iadd hx hb dX1_reckon_222 ?_
                refine gm_tpi (nI_add (5 * (S ||| 2 ^ j)) (a j)) ?_
                refine lv_iconst (v := nI 1) hx hb dX1_reckon_223 (by decide) ?_
                refine gm_zast hx hb hK hP hD hS 3 3 rfl rfl (k := (5 * (S ||| 2 ^ j) + (a j))) rfl (by omega) (by decide) dX1_reckon_224 (fun H locs hP hD hS => ?_)
                have hP : va_P (dC, dI) vwCl (gWM bd kI kL kZ zw ma mb en nn (nI 1) (upd (upd can (5 * (S ||| 2 ^ j) + (b j)) (nI 1)) (5 * (S ||| 2 ^ j) + (a j)) (nI 1)) ways fo fc fr 0) H := hP
                have hD : va_D A (gWM bd kI kL kZ zw ma mb en nn (nI 1) (upd (upd can (5 * (S ||| 2 ^ j) + (b j)) (nI 1)) (5 * (S ||| 2 ^ j) + (a j)) (nI 1)) ways fo fc fr 0) := hD
                refine lv_iinc (v := nI (j + 1)) (lv' := [(6, .int (nI (j + 1))), (5, .int (nI v)), (4, .int (nI S)), (3, .int (nI wv)), (2, .int (nI z)), (0, .ref (bd 0)), (1, .int (nI (2 ^ en - 1)))]) hx hb dX1_reckon_225 hl (k := 0) rfl (nI_1 j) (by decide) rfl (fun ls hl => ?_)
                refine lv_goto (tgt := 132) hx hb dX1_reckon_228 (by decide) ?_
                exact ih (j + 1) _ H locs ls (by omega) (by omega) (gm_CA_two hCA hrc hc hbit hSl h5 hc3 ⟨hwb, hc5⟩) hP hD hS (lv_sub hl [0, 1, 2, 3, 4, 5, 6] rfl)
  have loopP : ∀ (wv : Nat) (wb : Bool) (z : Nat) (fo fc fr : Int32) (S : Nat), (wv = 0 ∧ wb = true ∨ wv = 1 ∧ wb = false) → S < 2 ^ en → z < nn → (∀ (can : Nat → Int32) (H : Heap) (locs : List Loc) (ls : Array Slot), gm_CA wb en a b z S nn 0 can → va_P (dC, dI) vwCl (gWM bd kI kL kZ zw ma mb en nn (nI 1) can ways fo fc fr 0) H → va_D A (gWM bd kI kL kZ zw ma mb en nn (nI 1) can ways fo fc fr 0) → va_S A s.heap H locs → lv_has ls 7 [(4, .int (nI S)), (3, .int (nI wv)), (2, .int (nI z)), (0, .ref (bd 0)), (1, .int (nI (2 ^ en - 1)))] → W p l e (headSpec wsX1_reckon ({ frames := 0, cells := 0, slots := 0, locals := 0 })).room s m ([.ref (bd 0)] : List Value).toArray below meth c H locs 0 0 (MQ below (va_Qv (fun (u : (Nat → Int32) × (Nat → Int64)) => True) (fun (u : (Nat → Int32) × (Nat → Int64)) (t : State) => va_P (dC, dI) vwCl (gWM bd kI kL kZ zw ma mb en nn (nI 1) u.1 u.2 (gm_b (gm_odd nn en a b ≤ 2 ∧ gm_conn en a b)) (gm_b (gm_odd nn en a b = 0 ∧ gm_conn en a b)) (gm_b (gm_good en a b nn ∧ gm_ov nn en a b ≤ 1 ∧ gm_conn en a b)) (gm_RO en a b)) t.heap ∧ va_K (dC, dI) vwCl (gTY kI kL kG kZ) t ∧ va_D A (gWM bd kI kL kZ zw ma mb en nn (nI 1) u.1 u.2 (gm_b (gm_odd nn en a b ≤ 2 ∧ gm_conn en a b)) (gm_b (gm_odd nn en a b = 0 ∧ gm_conn en a b)) (gm_b (gm_good en a b nn ∧ gm_ov nn en a b ≤ 1 ∧ gm_conn en a b)) (gm_RO en a b))) A) ([.ref (bd 0)] : List Value).toArray s 0 0 A) (F0 m 237 ls [])) → ∀ (k v : Nat) (can : Nat → Int32) (H : Heap) (locs : List Loc) (ls : Array Slot), v ≤ nn → nn < v + k → gm_CA wb en a b z S v 0 can → va_P (dC, dI) vwCl (gWM bd kI kL kZ zw ma mb en nn (nI 1) can ways fo fc fr 0) H → va_D A (gWM bd kI kL kZ zw ma mb en nn (nI 1) can ways fo fc fr 0) → va_S A s.heap H locs → lv_has ls 7 [(5, .int (nI v)), (4, .int (nI S)), (3, .int (nI wv)), (2, .int (nI z)), (0, .ref (bd 0)), (1, .int (nI (2 ^ en - 1)))] → W p l e (headSpec wsX1_reckon ({ frames := 0, cells := 0, slots := 0, locals := 0 })).room s m ([.ref (bd 0)] : List Value).toArray below meth c H locs 0 0 (MQ below (va_Qv (fun (u : (Nat → Int32) × (Nat → Int64)) => True) (fun (u : (Nat → Int32) × (Nat → Int64)) (t : State) => va_P (dC, dI) vwCl (gWM bd kI kL kZ zw ma mb en nn (nI 1) u.1 u.2 (gm_b (gm_odd nn en a b ≤ 2 ∧ gm_conn en a b)) (gm_b (gm_odd nn en a b = 0 ∧ gm_conn en a b)) (gm_b (gm_good en a b nn ∧ gm_ov nn en a b ≤ 1 ∧ gm_conn en a b)) (gm_RO en a b)) t.heap ∧ va_K (dC, dI) vwCl (gTY kI kL kG kZ) t ∧ va_D A (gWM bd kI kL kZ zw ma mb en nn (nI 1) u.1 u.2 (gm_b (gm_odd nn en a b ≤ 2 ∧ gm_conn en a b)) (gm_b (gm_odd nn en a b = 0 ∧ gm_conn en a b)) (gm_b (gm_good en a b nn ∧ gm_ov nn en a b ≤ 1 ∧ gm_conn en a b)) (gm_RO en a b))) A) ([.ref (bd 0)] : List Value).toArray s 0 0 A) (F0 m 105 ls []) := by
    intro wv wb z fo fc fr S hw hSl hz K
    intro k
    induction k with
    | zero => intro v can H locs ls h1 h2; exact absurd h2 (by omega)
    | succ k ih =>
      intro v can H locs ls h1 h2 hCA hP hD hS hl
      refine lv_iload hx hb dX1_reckon_105 (lv_at hl 0 rfl) ?_
      refine lv_aload_n hx hb dX1_reckon_107 rfl (lv_at hl 4 rfl) ?_
      refine va_get (D := (dC, dI)) (ci := 1) (v := .int (nI nn)) (C := RX1) (T := TX1) (N := 11) hx hb hts in_X1 hown hK hP 0 rfl rfl 3 (by decide) (hts _ q124) (fun _ h9 => h9) rfl dX1_reckon_108 ?_
      refine gm_bge (tgt := 237) hx hb dX1_reckon_111 (by decide) (by omega) (by omega) (fun hc => ?_) (fun hc => ?_)
      · have e1 : v = nn := by omega
        rw [e1] at hCA
        exact K can H locs ls hCA hP hD hS (lv_sub hl [1, 2, 3, 4, 5] rfl)
      · skip
        have k231 : ∀ (can : Nat → Int32) (H : Heap) (locs : List Loc) (ls : Array Slot), gm_CA wb en a b z S (v + 1) 0 can → va_P (dC, dI) vwCl (gWM bd kI kL kZ zw ma mb en nn (nI 1) can ways fo fc fr 0) H → va_D A (gWM bd kI kL kZ zw ma mb en nn (nI 1) can ways fo fc fr 0) → va_S A s.heap H locs → lv_has ls 7 [(5, .int (nI v)), (4, .int (nI S)), (3, .int (nI wv)), (2, .int (nI z)), (0, .ref (bd 0)), (1, .int (nI (2 ^ en - 1)))] → W p l e (headSpec wsX1_reckon ({ frames := 0, cells := 0, slots := 0, locals := 0 })).room s m ([.ref (bd 0)] : List Value).toArray below meth c H locs 0 0 (MQ below (va_Qv (fun (u : (Nat → Int32) × (Nat → Int64)) => True) (fun (u : (Nat → Int32) × (Nat → Int64)) (t : State) => va_P (dC, dI) vwCl (gWM bd kI kL kZ zw ma mb en nn (nI 1) u.1 u.2 (gm_b (gm_odd nn en a b ≤ 2 ∧ gm_conn en a b)) (gm_b (gm_odd nn en a b = 0 ∧ gm_conn en a b)) (gm_b (gm_good en a b nn ∧ gm_ov nn en a b ≤ 1 ∧ gm_conn en a b)) (gm_RO en a b)) t.heap ∧ va_K (dC, dI) vwCl (gTY kI kL kG kZ) t ∧ va_D A (gWM bd kI kL kZ zw ma mb en nn (nI 1) u.1 u.2 (gm_b (gm_odd nn en a b ≤ 2 ∧ gm_conn en a b)) (gm_b (gm_odd nn en a b = 0 ∧ gm_conn en a b)) (gm_b (gm_good en a b nn ∧ gm_ov nn en a b ≤ 1 ∧ gm_conn en a b)) (gm_RO en a b))) A) ([.ref (bd 0)] : List Value).toArray s 0 0 A) (F0 m 231 ls []) := by
          intro can H locs ls hCA hP hD hS hl
          refine lv_iinc (v := nI (v + 1)) (lv' := [(5, .int (nI (v + 1))), (4, .int (nI S)), (3, .int (nI wv)), (2, .int (nI z)), (0, .ref (bd 0)), (1, .int (nI (2 ^ en - 1)))]) hx hb dX1_reckon_231 hl (k := 0) rfl (nI_1 v) (by decide) rfl (fun ls hl => ?_)
          refine lv_goto (tgt := 105) hx hb dX1_reckon_234 (by decide) ?_
          exact ih (v + 1) can H locs ls (by omega) (by omega) hCA hP hD hS (lv_sub hl [0, 1, 2, 3, 4, 5] rfl)
        refine lv_aload_n hx hb dX1_reckon_114 rfl (lv_at hl 4 rfl) ?_
        refine va_get (D := (dC, dI)) (ci := 1) (v := .ref (bd 3)) (C := RX1) (T := TX1) (N := 11) hx hb hts in_X1 hown hK hP 0 rfl rfl 5 (by decide) (hts _ q126) (fun _ h9 => h9) rfl dX1_reckon_115 ?_
        refine lv_iconst (v := nI 5) hx hb dX1_reckon_118 (by decide) ?_
        refine lv_iload hx hb dX1_reckon_119 (lv_at hl 1 rfl) ?_
        refine lv_imul hx hb dX1_reckon_121 ?_
        refine gm_tpi (pk_mul 5 S) ?_
        refine lv_iload hx hb dX1_reckon_122 (lv_at hl 0 rfl) ?_
        refine lv_iadd hx hb dX1_reckon_124 ?_
        refine gm_tpi (nI_add (5 * S) v) ?_
        refine gm_zald (v := gm_b (gm_rc wb en a b z S v)) hx hb hK hP 3 3 rfl rfl (k := (5 * S + v)) (by omega) (by decide) (gm_CA_read hCA hSl (Nat.le_refl S) (by omega)) dX1_reckon_125 ?_
        refine lv_if_eq (tgt := 231) hx hb dX1_reckon_126 (by decide) (fun hc2 => ?_) (fun hc2 => ?_)
        · exact k231 can H locs ls (gm_CA_none hCA (gm_b_0.mp hc2)) hP hD hS (lv_sub hl [0, 1, 2, 3, 4, 5] rfl)
        · have hrc : gm_rc wb en a b z S v := Classical.byContradiction (fun h => hc2 (gm_b_f h))
          refine lv_iconst (v := nI 0) hx hb dX1_reckon_129 (by decide) ?_
          refine lv_istore (lv' := [(6, .int (nI 0)), (5, .int (nI v)), (4, .int (nI S)), (3, .int (nI wv)), (2, .int (nI z)), (0, .ref (bd 0)), (1, .int (nI (2 ^ en - 1)))]) hx hb dX1_reckon_130 hl (by decide) rfl (fun ls hl => ?_)
          exact loopJ wv wb z fo fc fr S v hw hSl hc hrc k231 (en + 1) 0 can H locs ls (by omega) (by omega) hCA hP hD hS (lv_sub hl [0, 1, 2, 3, 4, 5, 6] rfl)
  have loopT : ∀ (wv : Nat) (wb : Bool) (z : Nat) (fo fc fr : Int32), (wv = 0 ∧ wb = true ∨ wv = 1 ∧ wb = false) → z < nn → (∀ (can : Nat → Int32) (H : Heap) (locs : List Loc) (ls : Array Slot), gm_CA wb en a b z (2 ^ en) 0 0 can → va_P (dC, dI) vwCl (gWM bd kI kL kZ zw ma mb en nn (nI 1) can ways fo fc fr 0) H → va_D A (gWM bd kI kL kZ zw ma mb en nn (nI 1) can ways fo fc fr 0) → va_S A s.heap H locs → lv_has ls 7 [(3, .int (nI wv)), (2, .int (nI z)), (0, .ref (bd 0)), (1, .int (nI (2 ^ en - 1)))] → W p l e (headSpec wsX1_reckon ({ frames := 0, cells := 0, slots := 0, locals := 0 })).room s m ([.ref (bd 0)] : List Value).toArray below meth c H locs 0 0 (MQ below (va_Qv (fun (u : (Nat → Int32) × (Nat → Int64)) => True) (fun (u : (Nat → Int32) × (Nat → Int64)) (t : State) => va_P (dC, dI) vwCl (gWM bd kI kL kZ zw ma mb en nn (nI 1) u.1 u.2 (gm_b (gm_odd nn en a b ≤ 2 ∧ gm_conn en a b)) (gm_b (gm_odd nn en a b = 0 ∧ gm_conn en a b)) (gm_b (gm_good en a b nn ∧ gm_ov nn en a b ≤ 1 ∧ gm_conn en a b)) (gm_RO en a b)) t.heap ∧ va_K (dC, dI) vwCl (gTY kI kL kG kZ) t ∧ va_D A (gWM bd kI kL kZ zw ma mb en nn (nI 1) u.1 u.2 (gm_b (gm_odd nn en a b ≤ 2 ∧ gm_conn en a b)) (gm_b (gm_odd nn en a b = 0 ∧ gm_conn en a b)) (gm_b (gm_good en a b nn ∧ gm_ov nn en a b ≤ 1 ∧ gm_conn en a b)) (gm_RO en a b))) A) ([.ref (bd 0)] : List Value).toArray s 0 0 A) (F0 m 243 ls [])) → ∀ (k S : Nat) (can : Nat → Int32) (H : Heap) (locs : List Loc) (ls : Array Slot), S ≤ 2 ^ en → 2 ^ en < S + k → gm_CA wb en a b z S 0 0 can → va_P (dC, dI) vwCl (gWM bd kI kL kZ zw ma mb en nn (nI 1) can ways fo fc fr 0) H → va_D A (gWM bd kI kL kZ zw ma mb en nn (nI 1) can ways fo fc fr 0) → va_S A s.heap H locs → lv_has ls 7 [(4, .int (nI S)), (3, .int (nI wv)), (2, .int (nI z)), (0, .ref (bd 0)), (1, .int (nI (2 ^ en - 1)))] → W p l e (headSpec wsX1_reckon ({ frames := 0, cells := 0, slots := 0, locals := 0 })).room s m ([.ref (bd 0)] : List Value).toArray below meth c H locs 0 0 (MQ below (va_Qv (fun (u : (Nat → Int32) × (Nat → Int64)) => True) (fun (u : (Nat → Int32) × (Nat → Int64)) (t : State) => va_P (dC, dI) vwCl (gWM bd kI kL kZ zw ma mb en nn (nI 1) u.1 u.2 (gm_b (gm_odd nn en a b ≤ 2 ∧ gm_conn en a b)) (gm_b (gm_odd nn en a b = 0 ∧ gm_conn en a b)) (gm_b (gm_good en a b nn ∧ gm_ov nn en a b ≤ 1 ∧ gm_conn en a b)) (gm_RO en a b)) t.heap ∧ va_K (dC, dI) vwCl (gTY kI kL kG kZ) t ∧ va_D A (gWM bd kI kL kZ zw ma mb en nn (nI 1) u.1 u.2 (gm_b (gm_odd nn en a b ≤ 2 ∧ gm_conn en a b)) (gm_b (gm_odd nn en a b = 0 ∧ gm_conn en a b)) (gm_b (gm_good en a b nn ∧ gm_ov nn en a b ≤ 1 ∧ gm_conn en a b)) (gm_RO en a b))) A) ([.ref (bd 0)] : List Value).toArray s 0 0 A) (F0 m 96 ls []) := by
    intro wv wb z fo fc fr hw hz K
    intro k
    induction k with
    | zero => intro S can H locs ls h1 h2; exact absurd h2 (by omega)
    | succ k ih =>
      intro S can H locs ls h1 h2 hCA hP hD hS hl
      refine lv_iload hx hb dX1_reckon_96 (lv_at hl 0 rfl) ?_
      refine lv_iload_n hx hb dX1_reckon_98 rfl (lv_at hl 4 rfl) ?_
      refine gm_bgt (tgt := 243) hx hb dX1_reckon_99 (by decide) (by omega) (by omega) (fun hc => ?_) (fun hc => ?_)
      · have e1 : S = 2 ^ en := by omega
        rw [e1] at hCA
        exact K can H locs ls hCA hP hD hS (lv_sub hl [1, 2, 3, 4] rfl)
      · skip
        refine lv_iconst (v := nI 0) hx hb dX1_reckon_102 (by decide) ?_
        refine lv_istore (lv' := [(5, .int (nI 0)), (4, .int (nI S)), (3, .int (nI wv)), (2, .int (nI z)), (0, .ref (bd 0)), (1, .int (nI (2 ^ en - 1)))]) hx hb dX1_reckon_103 hl (by decide) rfl (fun ls hl => ?_)
        refine loopP wv wb z fo fc fr S hw (by omega) hz (fun can H locs ls hCA hP hD hS hl => ?_) (nn + 1) 0 can H locs ls (by omega) (by omega) hCA hP hD hS (lv_sub hl [0, 1, 2, 3, 4, 5] rfl)
        refine lv_iinc (v := nI (S + 1)) (lv' := [(4, .int (nI (S + 1))), (3, .int (nI wv)), (2, .int (nI z)), (0, .ref (bd 0)), (1, .int (nI (2 ^ en - 1)))]) hx hb dX1_reckon_237 hl (k := 0) rfl (nI_1 S) (by decide) rfl (fun ls hl => ?_)
        refine lv_goto (tgt := 96) hx hb dX1_reckon_240 (by decide) ?_
        exact ih (S + 1) can H locs ls (by omega) (by omega) (gm_CA_set hab hz hCA) hP hD hS (lv_sub hl [0, 1, 2, 3, 4] rfl)
  have loopI : ∀ (wv : Nat) (wb : Bool) (z : Nat) (fo fc fr : Int32), (wv = 0 ∧ wb = true ∨ wv = 1 ∧ wb = false) → z < nn → (∀ (can : Nat → Int32) (H : Heap) (locs : List Loc) (ls : Array Slot), gm_CA wb en a b z (2 ^ en) 0 0 can → va_P (dC, dI) vwCl (gWM bd kI kL kZ zw ma mb en nn (nI 1) can ways fo fc fr 0) H → va_D A (gWM bd kI kL kZ zw ma mb en nn (nI 1) can ways fo fc fr 0) → va_S A s.heap H locs → lv_has ls 7 [(3, .int (nI wv)), (2, .int (nI z)), (0, .ref (bd 0)), (1, .int (nI (2 ^ en - 1)))] → W p l e (headSpec wsX1_reckon ({ frames := 0, cells := 0, slots := 0, locals := 0 })).room s m ([.ref (bd 0)] : List Value).toArray below meth c H locs 0 0 (MQ below (va_Qv (fun (u : (Nat → Int32) × (Nat → Int64)) => True) (fun (u : (Nat → Int32) × (Nat → Int64)) (t : State) => va_P (dC, dI) vwCl (gWM bd kI kL kZ zw ma mb en nn (nI 1) u.1 u.2 (gm_b (gm_odd nn en a b ≤ 2 ∧ gm_conn en a b)) (gm_b (gm_odd nn en a b = 0 ∧ gm_conn en a b)) (gm_b (gm_good en a b nn ∧ gm_ov nn en a b ≤ 1 ∧ gm_conn en a b)) (gm_RO en a b)) t.heap ∧ va_K (dC, dI) vwCl (gTY kI kL kG kZ) t ∧ va_D A (gWM bd kI kL kZ zw ma mb en nn (nI 1) u.1 u.2 (gm_b (gm_odd nn en a b ≤ 2 ∧ gm_conn en a b)) (gm_b (gm_odd nn en a b = 0 ∧ gm_conn en a b)) (gm_b (gm_good en a b nn ∧ gm_ov nn en a b ≤ 1 ∧ gm_conn en a b)) (gm_RO en a b))) A) ([.ref (bd 0)] : List Value).toArray s 0 0 A) (F0 m 243 ls [])) → ∀ (k i : Nat) (can : Nat → Int32) (H : Heap) (locs : List Loc) (ls : Array Slot), i ≤ 5 * 2 ^ en → 5 * 2 ^ en < i + k → (∀ j, j < i → can j = 0) → va_P (dC, dI) vwCl (gWM bd kI kL kZ zw ma mb en nn (nI 1) can ways fo fc fr 0) H → va_D A (gWM bd kI kL kZ zw ma mb en nn (nI 1) can ways fo fc fr 0) → va_S A s.heap H locs → lv_has ls 7 [(4, .int (nI i)), (3, .int (nI wv)), (2, .int (nI z)), (0, .ref (bd 0)), (1, .int (nI (2 ^ en - 1)))] → W p l e (headSpec wsX1_reckon ({ frames := 0, cells := 0, slots := 0, locals := 0 })).room s m ([.ref (bd 0)] : List Value).toArray below meth c H locs 0 0 (MQ below (va_Qv (fun (u : (Nat → Int32) × (Nat → Int64)) => True) (fun (u : (Nat → Int32) × (Nat → Int64)) (t : State) => va_P (dC, dI) vwCl (gWM bd kI kL kZ zw ma mb en nn (nI 1) u.1 u.2 (gm_b (gm_odd nn en a b ≤ 2 ∧ gm_conn en a b)) (gm_b (gm_odd nn en a b = 0 ∧ gm_conn en a b)) (gm_b (gm_good en a b nn ∧ gm_ov nn en a b ≤ 1 ∧ gm_conn en a b)) (gm_RO en a b)) t.heap ∧ va_K (dC, dI) vwCl (gTY kI kL kG kZ) t ∧ va_D A (gWM bd kI kL kZ zw ma mb en nn (nI 1) u.1 u.2 (gm_b (gm_odd nn en a b ≤ 2 ∧ gm_conn en a b)) (gm_b (gm_odd nn en a b = 0 ∧ gm_conn en a b)) (gm_b (gm_good en a b nn ∧ gm_ov nn en a b ≤ 1 ∧ gm_conn en a b)) (gm_RO en a b))) A) ([.ref (bd 0)] : List Value).toArray s 0 0 A) (F0 m 62 ls []) := by
    intro wv wb z fo fc fr hw hz K
    intro k
    induction k with
    | zero => intro i can H locs ls h1 h2; exact absurd h2 (by omega)
    | succ k ih =>
      intro i can H locs ls h1 h2 hz0 hP hD hS hl
      refine lv_iload hx hb dX1_reckon_62 (lv_at hl 0 rfl) ?_
      refine lv_iconst (v := nI 5) hx hb dX1_reckon_64 (by decide) ?_
      refine lv_iload_n hx hb dX1_reckon_65 rfl (lv_at hl 4 rfl) ?_
      refine lv_iconst (v := nI 1) hx hb dX1_reckon_66 (by decide) ?_
      refine lv_iadd hx hb dX1_reckon_67 ?_
      refine gm_tpi (nI_add (2 ^ en - 1) 1) ?_
      refine lv_imul hx hb dX1_reckon_68 ?_
      refine gm_tpi (pk_mul 5 (2 ^ en - 1 + 1)) ?_
      refine gm_bge (tgt := 86) hx hb dX1_reckon_69 (by decide) (by omega) (by omega) (fun hc => ?_) (fun hc => ?_)
      · have e1 : i = 5 * 2 ^ en := by omega
        refine lv_aload_n hx hb dX1_reckon_86 rfl (lv_at hl 3 rfl) ?_
        refine va_get (D := (dC, dI)) (ci := 1) (v := .ref (bd 3)) (C := RX1) (T := TX1) (N := 11) hx hb hts in_X1 hown hK hP 0 rfl rfl 5 (by decide) (hts _ q126) (fun _ h9 => h9) rfl dX1_reckon_87 ?_
        refine lv_iload_n hx hb dX1_reckon_90 rfl (lv_at hl 2 rfl) ?_
        refine lv_iconst (v := nI 1) hx hb dX1_reckon_91 (by decide) ?_
        refine gm_zast hx hb hK hP hD hS 3 3 rfl rfl (k := z) rfl (by omega) (by decide) dX1_reckon_92 (fun H locs hP hD hS => ?_)
        have hP : va_P (dC, dI) vwCl (gWM bd kI kL kZ zw ma mb en nn (nI 1) (upd can z (nI 1)) ways fo fc fr 0) H := hP
        have hD : va_D A (gWM bd kI kL kZ zw ma mb en nn (nI 1) (upd can z (nI 1)) ways fo fc fr 0) := hD
        refine lv_iconst (v := nI 0) hx hb dX1_reckon_93 (by decide) ?_
        refine lv_istore (lv' := [(4, .int (nI 0)), (3, .int (nI wv)), (2, .int (nI z)), (0, .ref (bd 0)), (1, .int (nI (2 ^ en - 1)))]) hx hb dX1_reckon_94 hl (by decide) rfl (fun ls hl => ?_)
        exact loopT wv wb z fo fc fr hw hz K (2 ^ en + 1) 0 _ H locs ls (by omega) (by omega) (gm_CA_0 (by omega) (fun j hj => hz0 j (by omega))) hP hD hS (lv_sub hl [0, 1, 2, 3, 4] rfl)
      · skip
        refine lv_aload_n hx hb dX1_reckon_72 rfl (lv_at hl 3 rfl) ?_
        refine va_get (D := (dC, dI)) (ci := 1) (v := .ref (bd 3)) (C := RX1) (T := TX1) (N := 11) hx hb hts in_X1 hown hK hP 0 rfl rfl 5 (by decide) (hts _ q126) (fun _ h9 => h9) rfl dX1_reckon_73 ?_
        refine lv_iload hx hb dX1_reckon_76 (lv_at hl 0 rfl) ?_
        refine lv_iconst (v := nI 0) hx hb dX1_reckon_78 (by decide) ?_
        refine gm_zast hx hb hK hP hD hS 3 3 rfl rfl (k := i) rfl (by omega) (by decide) dX1_reckon_79 (fun H locs hP hD hS => ?_)
        have hP : va_P (dC, dI) vwCl (gWM bd kI kL kZ zw ma mb en nn (nI 1) (upd can i (nI 0)) ways fo fc fr 0) H := hP
        have hD : va_D A (gWM bd kI kL kZ zw ma mb en nn (nI 1) (upd can i (nI 0)) ways fo fc fr 0) := hD
        refine lv_iinc (v := nI (i + 1)) (lv' := [(4, .int (nI (i + 1))), (3, .int (nI wv)), (2, .int (nI z)), (0, .ref (bd 0)), (1, .int (nI (2 ^ en - 1)))]) hx hb dX1_reckon_80 hl (k := 0) rfl (nI_1 i) (by decide) rfl (fun ls hl => ?_)
        refine lv_goto (tgt := 62) hx hb dX1_reckon_83 (by decide) ?_
        exact ih (i + 1) _ H locs ls (by omega) (by omega) (fun j hj => by
          by_cases h7 : j = i
          · rw [h7]; exact pk_us
          · rw [pk_un h7]; exact hz0 j (by omega)) hP hD hS (lv_sub hl [0, 1, 2, 3, 4] rfl)
  have body : ∀ (wv : Nat) (wb : Bool) (z : Nat) (fo fc fr : Int32), (wv = 0 ∧ wb = true ∨ wv = 1 ∧ wb = false) → z < nn → (∀ (can : Nat → Int32) (H : Heap) (locs : List Loc) (ls : Array Slot), gm_CA wb en a b z (2 ^ en) 0 0 can → va_P (dC, dI) vwCl (gWM bd kI kL kZ zw ma mb en nn (nI 1) can ways fo fc fr 0) H → va_D A (gWM bd kI kL kZ zw ma mb en nn (nI 1) can ways fo fc fr 0) → va_S A s.heap H locs → lv_has ls 7 [(3, .int (nI wv)), (2, .int (nI z)), (0, .ref (bd 0)), (1, .int (nI (2 ^ en - 1)))] → W p l e (headSpec wsX1_reckon ({ frames := 0, cells := 0, slots := 0, locals := 0 })).room s m ([.ref (bd 0)] : List Value).toArray below meth c H locs 0 0 (MQ below (va_Qv (fun (u : (Nat → Int32) × (Nat → Int64)) => True) (fun (u : (Nat → Int32) × (Nat → Int64)) (t : State) => va_P (dC, dI) vwCl (gWM bd kI kL kZ zw ma mb en nn (nI 1) u.1 u.2 (gm_b (gm_odd nn en a b ≤ 2 ∧ gm_conn en a b)) (gm_b (gm_odd nn en a b = 0 ∧ gm_conn en a b)) (gm_b (gm_good en a b nn ∧ gm_ov nn en a b ≤ 1 ∧ gm_conn en a b)) (gm_RO en a b)) t.heap ∧ va_K (dC, dI) vwCl (gTY kI kL kG kZ) t ∧ va_D A (gWM bd kI kL kZ zw ma mb en nn (nI 1) u.1 u.2 (gm_b (gm_odd nn en a b ≤ 2 ∧ gm_conn en a b)) (gm_b (gm_odd nn en a b = 0 ∧ gm_conn en a b)) (gm_b (gm_good en a b nn ∧ gm_ov nn en a b ≤ 1 ∧ gm_conn en a b)) (gm_RO en a b))) A) ([.ref (bd 0)] : List Value).toArray s 0 0 A) (F0 m 243 ls [])) → ∀ (can : Nat → Int32) (H : Heap) (locs : List Loc) (ls : Array Slot), va_P (dC, dI) vwCl (gWM bd kI kL kZ zw ma mb en nn (nI 1) can ways fo fc fr 0) H → va_D A (gWM bd kI kL kZ zw ma mb en nn (nI 1) can ways fo fc fr 0) → va_S A s.heap H locs → lv_has ls 7 [(3, .int (nI wv)), (2, .int (nI z)), (0, .ref (bd 0)), (1, .int (nI (2 ^ en - 1)))] → W p l e (headSpec wsX1_reckon ({ frames := 0, cells := 0, slots := 0, locals := 0 })).room s m ([.ref (bd 0)] : List Value).toArray below meth c H locs 0 0 (MQ below (va_Qv (fun (u : (Nat → Int32) × (Nat → Int64)) => True) (fun (u : (Nat → Int32) × (Nat → Int64)) (t : State) => va_P (dC, dI) vwCl (gWM bd kI kL kZ zw ma mb en nn (nI 1) u.1 u.2 (gm_b (gm_odd nn en a b ≤ 2 ∧ gm_conn en a b)) (gm_b (gm_odd nn en a b = 0 ∧ gm_conn en a b)) (gm_b (gm_good en a b nn ∧ gm_ov nn en a b ≤ 1 ∧ gm_conn en a b)) (gm_RO en a b)) t.heap ∧ va_K (dC, dI) vwCl (gTY kI kL kG kZ) t ∧ va_D A (gWM bd kI kL kZ zw ma mb en nn (nI 1) u.1 u.2 (gm_b (gm_odd nn en a b ≤ 2 ∧ gm_conn en a b)) (gm_b (gm_odd nn en a b = 0 ∧ gm_conn en a b)) (gm_b (gm_good en a b nn ∧ gm_ov nn en a b ≤ 1 ∧ gm_conn en a b)) (gm_RO en a b))) A) ([.ref (bd 0)] : List Value).toArray s 0 0 A) (F0 m 54 ls []) := by
    intro wv wb z fo fc fr hw hz K can H locs ls hP hD hS hl
    refine lv_iload_n hx hb dX1_reckon_54 rfl (lv_at hl 0 rfl) ?_
    refine lv_iconst (v := nI 2) hx hb dX1_reckon_55 (by decide) ?_
    refine gm_bge (tgt := 320) hx hb dX1_reckon_56 (by decide) (by omega) (by omega) (fun hc => ?_) (fun hc => ?_)
    · exact absurd hc (by omega)
    · clear hc
      refine lv_iconst (v := nI 0) hx hb dX1_reckon_59 (by decide) ?_
      refine lv_istore (lv' := [(4, .int (nI 0)), (3, .int (nI wv)), (2, .int (nI z)), (0, .ref (bd 0)), (1, .int (nI (2 ^ en - 1)))]) hx hb dX1_reckon_60 hl (by decide) rfl (fun ls hl => ?_)
      exact loopI wv wb z fo fc fr hw hz K (5 * 2 ^ en + 1) 0 can H locs ls (by omega) (by omega) (fun j hj => absurd hj (by omega)) hP hD hS (lv_sub hl [0, 1, 2, 3, 4] rfl)
  have scan0 : ∀ (z : Nat) (can : Nat → Int32), z < nn → gm_CA true en a b z (2 ^ en) 0 0 can → (∀ (fo fc fr : Int32) (H : Heap) (locs : List Loc) (ls : Array Slot), fo = gm_b (gm_ac (gm_Q true en a b) nn (z + 1) 0) → fc = gm_b (gm_ac (gm_Qc en a b) nn (z + 1) 0) → fr = gm_b (gm_ac (gm_Q false en a b) nn z 0) → va_P (dC, dI) vwCl (gWM bd kI kL kZ zw ma mb en nn (nI 1) can ways fo fc fr 0) H → va_D A (gWM bd kI kL kZ zw ma mb en nn (nI 1) can ways fo fc fr 0) → va_S A s.heap H locs → lv_has ls 7 [(3, .int (nI 0)), (2, .int (nI z)), (0, .ref (bd 0)), (1, .int (nI (2 ^ en - 1)))] → W p l e (headSpec wsX1_reckon ({ frames := 0, cells := 0, slots := 0, locals := 0 })).room s m ([.ref (bd 0)] : List Value).toArray below meth c H locs 0 0 (MQ below (va_Qv (fun (u : (Nat → Int32) × (Nat → Int64)) => True) (fun (u : (Nat → Int32) × (Nat → Int64)) (t : State) => va_P (dC, dI) vwCl (gWM bd kI kL kZ zw ma mb en nn (nI 1) u.1 u.2 (gm_b (gm_odd nn en a b ≤ 2 ∧ gm_conn en a b)) (gm_b (gm_odd nn en a b = 0 ∧ gm_conn en a b)) (gm_b (gm_good en a b nn ∧ gm_ov nn en a b ≤ 1 ∧ gm_conn en a b)) (gm_RO en a b)) t.heap ∧ va_K (dC, dI) vwCl (gTY kI kL kG kZ) t ∧ va_D A (gWM bd kI kL kZ zw ma mb en nn (nI 1) u.1 u.2 (gm_b (gm_odd nn en a b ≤ 2 ∧ gm_conn en a b)) (gm_b (gm_odd nn en a b = 0 ∧ gm_conn en a b)) (gm_b (gm_good en a b nn ∧ gm_ov nn en a b ≤ 1 ∧ gm_conn en a b)) (gm_RO en a b))) A) ([.ref (bd 0)] : List Value).toArray s 0 0 A) (F0 m 314 ls [])) → ∀ (k v : Nat) (fo fc fr : Int32) (H : Heap) (locs : List Loc) (ls : Array Slot), v ≤ nn → nn < v + k → fo = gm_b (gm_ac (gm_Q true en a b) nn z v) → fc = gm_b (gm_ac (gm_Qc en a b) nn z v) → fr = gm_b (gm_ac (gm_Q false en a b) nn z 0) → va_P (dC, dI) vwCl (gWM bd kI kL kZ zw ma mb en nn (nI 1) can ways fo fc fr 0) H → va_D A (gWM bd kI kL kZ zw ma mb en nn (nI 1) can ways fo fc fr 0) → va_S A s.heap H locs → lv_has ls 7 [(4, .int (nI v)), (3, .int (nI 0)), (2, .int (nI z)), (0, .ref (bd 0)), (1, .int (nI (2 ^ en - 1)))] → W p l e (headSpec wsX1_reckon ({ frames := 0, cells := 0, slots := 0, locals := 0 })).room s m ([.ref (bd 0)] : List Value).toArray below meth c H locs 0 0 (MQ below (va_Qv (fun (u : (Nat → Int32) × (Nat → Int64)) => True) (fun (u : (Nat → Int32) × (Nat → Int64)) (t : State) => va_P (dC, dI) vwCl (gWM bd kI kL kZ zw ma mb en nn (nI 1) u.1 u.2 (gm_b (gm_odd nn en a b ≤ 2 ∧ gm_conn en a b)) (gm_b (gm_odd nn en a b = 0 ∧ gm_conn en a b)) (gm_b (gm_good en a b nn ∧ gm_ov nn en a b ≤ 1 ∧ gm_conn en a b)) (gm_RO en a b)) t.heap ∧ va_K (dC, dI) vwCl (gTY kI kL kG kZ) t ∧ va_D A (gWM bd kI kL kZ zw ma mb en nn (nI 1) u.1 u.2 (gm_b (gm_odd nn en a b ≤ 2 ∧ gm_conn en a b)) (gm_b (gm_odd nn en a b = 0 ∧ gm_conn en a b)) (gm_b (gm_good en a b nn ∧ gm_ov nn en a b ≤ 1 ∧ gm_conn en a b)) (gm_RO en a b))) A) ([.ref (bd 0)] : List Value).toArray s 0 0 A) (F0 m 246 ls []) := by
    intro z can hz hCA K
    intro k
    induction k with
    | zero => intro v fo fc fr H locs ls h1 h2; exact absurd h2 (by omega)
    | succ k ih =>
      intro v fo fc fr H locs ls h1 h2 hfo hfc hfr hP hD hS hl
      refine lv_iload hx hb dX1_reckon_246 (lv_at hl 0 rfl) ?_
      refine lv_aload_n hx hb dX1_reckon_248 rfl (lv_at hl 3 rfl) ?_
      refine va_get (D := (dC, dI)) (ci := 1) (v := .int (nI nn)) (C := RX1) (T := TX1) (N := 11) hx hb hts in_X1 hown hK hP 0 rfl rfl 3 (by decide) (hts _ q124) (fun _ h9 => h9) rfl dX1_reckon_249 ?_
      refine gm_bge (tgt := 314) hx hb dX1_reckon_252 (by decide) (by omega) (by omega) (fun hc => ?_) (fun hc => ?_)
      · have e1 : v = nn := by omega
        subst e1
        exact K fo fc fr H locs ls (hfo.trans (gm_b_congr gm_ac_row)) (hfc.trans (gm_b_congr gm_ac_row)) hfr hP hD hS (lv_sub hl [1, 2, 3, 4] rfl)
      · skip
        refine lv_aload_n hx hb dX1_reckon_255 rfl (lv_at hl 3 rfl) ?_
        refine va_get (D := (dC, dI)) (ci := 1) (v := .ref (bd 3)) (C := RX1) (T := TX1) (N := 11) hx hb hts in_X1 hown hK hP 0 rfl rfl 5 (by decide) (hts _ q126) (fun _ h9 => h9) rfl dX1_reckon_256 ?_
        refine lv_iconst (v := nI 5) hx hb dX1_reckon_259 (by decide) ?_
        refine lv_iload_n hx hb dX1_reckon_260 rfl (lv_at hl 4 rfl) ?_
        refine lv_imul hx hb dX1_reckon_261 ?_
        refine gm_tpi (pk_mul 5 (2 ^ en - 1)) ?_
        refine lv_iload hx hb dX1_reckon_262 (lv_at hl 0 rfl) ?_
        refine lv_iadd hx hb dX1_reckon_264 ?_
        refine gm_tpi (nI_add (5 * (2 ^ en - 1)) v) ?_
        refine gm_zald (v := gm_b (gm_rc true en a b z (2 ^ en - 1) v)) hx hb hK hP 3 3 rfl rfl (k := (5 * (2 ^ en - 1) + v)) (by omega) (by decide) (gm_CA_read hCA (by omega) (by omega) (by omega)) dX1_reckon_265 ?_
        refine lv_if_eq (tgt := 308) hx hb dX1_reckon_266 (by decide) (fun hc2 => ?_) (fun hc2 => ?_)
        · have hnr := gm_b_0.mp hc2
          refine lv_iinc (v := nI (v + 1)) (lv' := [(4, .int (nI (v + 1))), (3, .int (nI 0)), (2, .int (nI z)), (0, .ref (bd 0)), (1, .int (nI (2 ^ en - 1)))]) hx hb dX1_reckon_308 hl (k := 0) rfl (nI_1 v) (by decide) rfl (fun ls hl => ?_)
          refine lv_goto (tgt := 246) hx hb dX1_reckon_311 (by decide) ?_
          exact ih (v + 1) _ _ _ H locs ls (by omega) (by omega) (hfo.trans (gm_b_congr (gm_ac_no (Q := (gm_Q true en a b)) hnr).symm)) (hfc.trans (gm_b_congr (gm_ac_no (Q := (gm_Qc en a b)) (fun h => hnr h.1)).symm)) hfr hP hD hS (lv_sub hl [0, 1, 2, 3, 4] rfl)
        · have hrc : gm_rc true en a b z (2 ^ en - 1) v := Classical.byContradiction (fun h => hc2 (gm_b_f h))
          refine lv_iload_n hx hb dX1_reckon_269 rfl (lv_at hl 1 rfl) ?_
          refine gm_zne (tgt := 303) hx hb dX1_reckon_270 (by decide) (by omega) (fun hc3 => ?_) (fun hc3 => ?_)
          · exact absurd rfl hc3
          · clear hc3
            refine lv_aload_n hx hb dX1_reckon_273 rfl (lv_at hl 3 rfl) ?_
            refine lv_iconst (v := nI 1) hx hb dX1_reckon_274 (by decide) ?_
            refine va_put (D := (dC, dI)) (ci := 1) (v := .int (nI 1)) (ty := .boolean) (C := RX1) (T := TX1) (N := 11) hx hb hts in_X1 tyX1 tyX1_ok nmX1 hown hK hP hD hS 0 rfl rfl 7 (by decide) (hts _ q128) (fun _ h9 => h9) rfl (by decide +kernel) rfl rfl (Nat.le_of_ble_eq_true rfl) dX1_reckon_275 (fun H locs hP hD hS => ?_)
            have hP : va_P (dC, dI) vwCl (gWM bd kI kL kZ zw ma mb en nn (nI 1) can ways (nI 1) fc fr 0) H := hP
            have hD : va_D A (gWM bd kI kL kZ zw ma mb en nn (nI 1) can ways (nI 1) fc fr 0) := hD
            refine lv_aload_n hx hb dX1_reckon_278 rfl (lv_at hl 3 rfl) ?_
            refine lv_aload_n hx hb dX1_reckon_279 rfl (lv_at hl 3 rfl) ?_
            refine va_get (D := (dC, dI)) (ci := 1) (v := .int fc) (C := RX1) (T := TX1) (N := 11) hx hb hts in_X1 hown hK hP 0 rfl rfl 8 (by decide) (hts _ q129) (fun _ h9 => h9) rfl dX1_reckon_280 ?_
            refine lv_if_ne (tgt := 292) hx hb dX1_reckon_283 (by decide) (fun hc4 => ?_) (fun hc4 => ?_)
            · have hac : gm_ac (gm_Qc en a b) nn z v := Classical.byContradiction (fun h => hc4 (by rw [hfc]; exact gm_b_f h))
              refine lv_iconst (v := nI 1) hx hb dX1_reckon_292 (by decide) ?_
              refine lv_goto (tgt := 297) hx hb dX1_reckon_293 (by decide) ?_
              refine va_put (D := (dC, dI)) (ci := 1) (v := .int (nI 1)) (ty := .boolean) (C := RX1) (T := TX1) (N := 11) hx hb hts in_X1 tyX1 tyX1_ok nmX1 hown hK hP hD hS 0 rfl rfl 8 (by decide) (hts _ q129) (fun _ h9 => h9) rfl (by decide +kernel) rfl rfl (Nat.le_of_ble_eq_true rfl) dX1_reckon_297 (fun H locs hP hD hS => ?_)
              have hP : va_P (dC, dI) vwCl (gWM bd kI kL kZ zw ma mb en nn (nI 1) can ways (nI 1) (nI 1) fr 0) H := hP
              have hD : va_D A (gWM bd kI kL kZ zw ma mb en nn (nI 1) can ways (nI 1) (nI 1) fr 0) := hD
              refine lv_goto (tgt := 308) hx hb dX1_reckon_300 (by decide) ?_
              refine lv_iinc (v := nI (v + 1)) (lv' := [(4, .int (nI (v + 1))), (3, .int (nI 0)), (2, .int (nI z)), (0, .ref (bd 0)), (1, .int (nI (2 ^ en - 1)))]) hx hb dX1_reckon_308 hl (k := 0) rfl (nI_1 v) (by decide) rfl (fun ls hl => ?_)
              refine lv_goto (tgt := 246) hx hb dX1_reckon_311 (by decide) ?_
              exact ih (v + 1) _ _ _ H locs ls (by omega) (by omega) (gm_b_t (gm_ac_yes (Q := (gm_Q true en a b)) hc hrc)).symm (gm_b_t (gm_ac_keep hac)).symm hfr hP hD hS (lv_sub hl [0, 1, 2, 3, 4] rfl)
            · have hac : ¬ gm_ac (gm_Qc en a b) nn z v := gm_b_0.mp (by rw [← hfc]; exact hc4)
              refine lv_iload hx hb dX1_reckon_286 (lv_at hl 0 rfl) ?_
              refine lv_iload_n hx hb dX1_reckon_288 rfl (lv_at hl 2 rfl) ?_
              refine gm_bne (tgt := 296) hx hb dX1_reckon_289 (by decide) (by omega) (by omega) (fun hc5 => ?_) (fun hc5 => ?_)
              · skip
                refine lv_iconst (v := nI 0) hx hb dX1_reckon_296 (by decide) ?_
                refine va_put (D := (dC, dI)) (ci := 1) (v := .int (nI 0)) (ty := .boolean) (C := RX1) (T := TX1) (N := 11) hx hb hts in_X1 tyX1 tyX1_ok nmX1 hown hK hP hD hS 0 rfl rfl 8 (by decide) (hts _ q129) (fun _ h9 => h9) rfl (by decide +kernel) rfl rfl (Nat.le_of_ble_eq_true rfl) dX1_reckon_297 (fun H locs hP hD hS => ?_)
                have hP : va_P (dC, dI) vwCl (gWM bd kI kL kZ zw ma mb en nn (nI 1) can ways (nI 1) (nI 0) fr 0) H := hP
                have hD : va_D A (gWM bd kI kL kZ zw ma mb en nn (nI 1) can ways (nI 1) (nI 0) fr 0) := hD
                refine lv_goto (tgt := 308) hx hb dX1_reckon_300 (by decide) ?_
                refine lv_iinc (v := nI (v + 1)) (lv' := [(4, .int (nI (v + 1))), (3, .int (nI 0)), (2, .int (nI z)), (0, .ref (bd 0)), (1, .int (nI (2 ^ en - 1)))]) hx hb dX1_reckon_308 hl (k := 0) rfl (nI_1 v) (by decide) rfl (fun ls hl => ?_)
                refine lv_goto (tgt := 246) hx hb dX1_reckon_311 (by decide) ?_
                exact ih (v + 1) _ _ _ H locs ls (by omega) (by omega) (gm_b_t (gm_ac_yes (Q := (gm_Q true en a b)) hc hrc)).symm (gm_b_f (fun h => hac ((gm_ac_no (Q := (gm_Qc en a b)) (fun h3 => hc5 h3.2)).mp h))).symm hfr hP hD hS (lv_sub hl [0, 1, 2, 3, 4] rfl)
              · skip
                refine lv_iconst (v := nI 1) hx hb dX1_reckon_292 (by decide) ?_
                refine lv_goto (tgt := 297) hx hb dX1_reckon_293 (by decide) ?_
                refine va_put (D := (dC, dI)) (ci := 1) (v := .int (nI 1)) (ty := .boolean) (C := RX1) (T := TX1) (N := 11) hx hb hts in_X1 tyX1 tyX1_ok nmX1 hown hK hP hD hS 0 rfl rfl 8 (by decide) (hts _ q129) (fun _ h9 => h9) rfl (by decide +kernel) rfl rfl (Nat.le_of_ble_eq_true rfl) dX1_reckon_297 (fun H locs hP hD hS => ?_)
                have hP : va_P (dC, dI) vwCl (gWM bd kI kL kZ zw ma mb en nn (nI 1) can ways (nI 1) (nI 1) fr 0) H := hP
                have hD : va_D A (gWM bd kI kL kZ zw ma mb en nn (nI 1) can ways (nI 1) (nI 1) fr 0) := hD
                refine lv_goto (tgt := 308) hx hb dX1_reckon_300 (by decide) ?_
                refine lv_iinc (v := nI (v + 1)) (lv' := [(4, .int (nI (v + 1))), (3, .int (nI 0)), (2, .int (nI z)), (0, .ref (bd 0)), (1, .int (nI (2 ^ en - 1)))]) hx hb dX1_reckon_308 hl (k := 0) rfl (nI_1 v) (by decide) rfl (fun ls hl => ?_)
                refine lv_goto (tgt := 246) hx hb dX1_reckon_311 (by decide) ?_
                exact ih (v + 1) _ _ _ H locs ls (by omega) (by omega) (gm_b_t (gm_ac_yes (Q := (gm_Q true en a b)) hc hrc)).symm (gm_b_t (gm_ac_yes (Q := (gm_Qc en a b)) hc ⟨hrc, hc5⟩)).symm hfr hP hD hS (lv_sub hl [0, 1, 2, 3, 4] rfl)
  have scan1 : ∀ (z : Nat) (can : Nat → Int32), z < nn → gm_CA false en a b z (2 ^ en) 0 0 can → (∀ (fo fc fr : Int32) (H : Heap) (locs : List Loc) (ls : Array Slot), fo = gm_b (gm_ac (gm_Q true en a b) nn (z + 1) 0) → fc = gm_b (gm_ac (gm_Qc en a b) nn (z + 1) 0) → fr = gm_b (gm_ac (gm_Q false en a b) nn (z + 1) 0) → va_P (dC, dI) vwCl (gWM bd kI kL kZ zw ma mb en nn (nI 1) can ways fo fc fr 0) H → va_D A (gWM bd kI kL kZ zw ma mb en nn (nI 1) can ways fo fc fr 0) → va_S A s.heap H locs → lv_has ls 7 [(3, .int (nI 1)), (2, .int (nI z)), (0, .ref (bd 0)), (1, .int (nI (2 ^ en - 1)))] → W p l e (headSpec wsX1_reckon ({ frames := 0, cells := 0, slots := 0, locals := 0 })).room s m ([.ref (bd 0)] : List Value).toArray below meth c H locs 0 0 (MQ below (va_Qv (fun (u : (Nat → Int32) × (Nat → Int64)) => True) (fun (u : (Nat → Int32) × (Nat → Int64)) (t : State) => va_P (dC, dI) vwCl (gWM bd kI kL kZ zw ma mb en nn (nI 1) u.1 u.2 (gm_b (gm_odd nn en a b ≤ 2 ∧ gm_conn en a b)) (gm_b (gm_odd nn en a b = 0 ∧ gm_conn en a b)) (gm_b (gm_good en a b nn ∧ gm_ov nn en a b ≤ 1 ∧ gm_conn en a b)) (gm_RO en a b)) t.heap ∧ va_K (dC, dI) vwCl (gTY kI kL kG kZ) t ∧ va_D A (gWM bd kI kL kZ zw ma mb en nn (nI 1) u.1 u.2 (gm_b (gm_odd nn en a b ≤ 2 ∧ gm_conn en a b)) (gm_b (gm_odd nn en a b = 0 ∧ gm_conn en a b)) (gm_b (gm_good en a b nn ∧ gm_ov nn en a b ≤ 1 ∧ gm_conn en a b)) (gm_RO en a b))) A) ([.ref (bd 0)] : List Value).toArray s 0 0 A) (F0 m 314 ls [])) → ∀ (k v : Nat) (fo fc fr : Int32) (H : Heap) (locs : List Loc) (ls : Array Slot), v ≤ nn → nn < v + k → fo = gm_b (gm_ac (gm_Q true en a b) nn (z + 1) 0) → fc = gm_b (gm_ac (gm_Qc en a b) nn (z + 1) 0) → fr = gm_b (gm_ac (gm_Q false en a b) nn z v) → va_P (dC, dI) vwCl (gWM bd kI kL kZ zw ma mb en nn (nI 1) can ways fo fc fr 0) H → va_D A (gWM bd kI kL kZ zw ma mb en nn (nI 1) can ways fo fc fr 0) → va_S A s.heap H locs → lv_has ls 7 [(4, .int (nI v)), (3, .int (nI 1)), (2, .int (nI z)), (0, .ref (bd 0)), (1, .int (nI (2 ^ en - 1)))] → W p l e (headSpec wsX1_reckon ({ frames := 0, cells := 0, slots := 0, locals := 0 })).room s m ([.ref (bd 0)] : List Value).toArray below meth c H locs 0 0 (MQ below (va_Qv (fun (u : (Nat → Int32) × (Nat → Int64)) => True) (fun (u : (Nat → Int32) × (Nat → Int64)) (t : State) => va_P (dC, dI) vwCl (gWM bd kI kL kZ zw ma mb en nn (nI 1) u.1 u.2 (gm_b (gm_odd nn en a b ≤ 2 ∧ gm_conn en a b)) (gm_b (gm_odd nn en a b = 0 ∧ gm_conn en a b)) (gm_b (gm_good en a b nn ∧ gm_ov nn en a b ≤ 1 ∧ gm_conn en a b)) (gm_RO en a b)) t.heap ∧ va_K (dC, dI) vwCl (gTY kI kL kG kZ) t ∧ va_D A (gWM bd kI kL kZ zw ma mb en nn (nI 1) u.1 u.2 (gm_b (gm_odd nn en a b ≤ 2 ∧ gm_conn en a b)) (gm_b (gm_odd nn en a b = 0 ∧ gm_conn en a b)) (gm_b (gm_good en a b nn ∧ gm_ov nn en a b ≤ 1 ∧ gm_conn en a b)) (gm_RO en a b))) A) ([.ref (bd 0)] : List Value).toArray s 0 0 A) (F0 m 246 ls []) := by
    intro z can hz hCA K
    intro k
    induction k with
    | zero => intro v fo fc fr H locs ls h1 h2; exact absurd h2 (by omega)
    | succ k ih =>
      intro v fo fc fr H locs ls h1 h2 hfo hfc hfr hP hD hS hl
      refine lv_iload hx hb dX1_reckon_246 (lv_at hl 0 rfl) ?_
      refine lv_aload_n hx hb dX1_reckon_248 rfl (lv_at hl 3 rfl) ?_
      refine va_get (D := (dC, dI)) (ci := 1) (v := .int (nI nn)) (C := RX1) (T := TX1) (N := 11) hx hb hts in_X1 hown hK hP 0 rfl rfl 3 (by decide) (hts _ q124) (fun _ h9 => h9) rfl dX1_reckon_249 ?_
      refine gm_bge (tgt := 314) hx hb dX1_reckon_252 (by decide) (by omega) (by omega) (fun hc => ?_) (fun hc => ?_)
      · have e1 : v = nn := by omega
        subst e1
        exact K fo fc fr H locs ls hfo hfc (hfr.trans (gm_b_congr gm_ac_row)) hP hD hS (lv_sub hl [1, 2, 3, 4] rfl)
      · skip
        refine lv_aload_n hx hb dX1_reckon_255 rfl (lv_at hl 3 rfl) ?_
        refine va_get (D := (dC, dI)) (ci := 1) (v := .ref (bd 3)) (C := RX1) (T := TX1) (N := 11) hx hb hts in_X1 hown hK hP 0 rfl rfl 5 (by decide) (hts _ q126) (fun _ h9 => h9) rfl dX1_reckon_256 ?_
        refine lv_iconst (v := nI 5) hx hb dX1_reckon_259 (by decide) ?_
        refine lv_iload_n hx hb dX1_reckon_260 rfl (lv_at hl 4 rfl) ?_
        refine lv_imul hx hb dX1_reckon_261 ?_
        refine gm_tpi (pk_mul 5 (2 ^ en - 1)) ?_
        refine lv_iload hx hb dX1_reckon_262 (lv_at hl 0 rfl) ?_
        refine lv_iadd hx hb dX1_reckon_264 ?_
        refine gm_tpi (nI_add (5 * (2 ^ en - 1)) v) ?_
        refine gm_zald (v := gm_b (gm_rc false en a b z (2 ^ en - 1) v)) hx hb hK hP 3 3 rfl rfl (k := (5 * (2 ^ en - 1) + v)) (by omega) (by decide) (gm_CA_read hCA (by omega) (by omega) (by omega)) dX1_reckon_265 ?_
        refine lv_if_eq (tgt := 308) hx hb dX1_reckon_266 (by decide) (fun hc2 => ?_) (fun hc2 => ?_)
        · have hnr := gm_b_0.mp hc2
          refine lv_iinc (v := nI (v + 1)) (lv' := [(4, .int (nI (v + 1))), (3, .int (nI 1)), (2, .int (nI z)), (0, .ref (bd 0)), (1, .int (nI (2 ^ en - 1)))]) hx hb dX1_reckon_308 hl (k := 0) rfl (nI_1 v) (by decide) rfl (fun ls hl => ?_)
          refine lv_goto (tgt := 246) hx hb dX1_reckon_311 (by decide) ?_
          exact ih (v + 1) _ _ _ H locs ls (by omega) (by omega) hfo hfc (hfr.trans (gm_b_congr (gm_ac_no (Q := (gm_Q false en a b)) hnr).symm)) hP hD hS (lv_sub hl [0, 1, 2, 3, 4] rfl)
        · have hrc : gm_rc false en a b z (2 ^ en - 1) v := Classical.byContradiction (fun h => hc2 (gm_b_f h))
          refine lv_iload_n hx hb dX1_reckon_269 rfl (lv_at hl 1 rfl) ?_
          refine gm_zne (tgt := 303) hx hb dX1_reckon_270 (by decide) (by omega) (fun hc3 => ?_) (fun hc3 => ?_)
          · skip
            refine lv_aload_n hx hb dX1_reckon_303 rfl (lv_at hl 3 rfl) ?_
            refine lv_iconst (v := nI 1) hx hb dX1_reckon_304 (by decide) ?_
            refine va_put (D := (dC, dI)) (ci := 1) (v := .int (nI 1)) (ty := .boolean) (C := RX1) (T := TX1) (N := 11) hx hb hts in_X1 tyX1 tyX1_ok nmX1 hown hK hP hD hS 0 rfl rfl 9 (by decide) (hts _ q130) (fun _ h9 => h9) rfl (by decide +kernel) rfl rfl (Nat.le_of_ble_eq_true rfl) dX1_reckon_305 (fun H locs hP hD hS => ?_)
            have hP : va_P (dC, dI) vwCl (gWM bd kI kL kZ zw ma mb en nn (nI 1) can ways fo fc (nI 1) 0) H := hP
            have hD : va_D A (gWM bd kI kL kZ zw ma mb en nn (nI 1) can ways fo fc (nI 1) 0) := hD
            refine lv_iinc (v := nI (v + 1)) (lv' := [(4, .int (nI (v + 1))), (3, .int (nI 1)), (2, .int (nI z)), (0, .ref (bd 0)), (1, .int (nI (2 ^ en - 1)))]) hx hb dX1_reckon_308 hl (k := 0) rfl (nI_1 v) (by decide) rfl (fun ls hl => ?_)
            refine lv_goto (tgt := 246) hx hb dX1_reckon_311 (by decide) ?_
            exact ih (v + 1) _ _ _ H locs ls (by omega) (by omega) hfo hfc (gm_b_t (gm_ac_yes (Q := (gm_Q false en a b)) hc hrc)).symm hP hD hS (lv_sub hl [0, 1, 2, 3, 4] rfl)
          · exact absurd hc3 (by decide)
  have loopZ : ∀ (k z : Nat) (can : Nat → Int32) (fo fc fr : Int32) (H : Heap) (locs : List Loc) (ls : Array Slot), z ≤ nn → nn < z + k → fo = gm_b (gm_ac (gm_Q true en a b) nn z 0) → fc = gm_b (gm_ac (gm_Qc en a b) nn z 0) → fr = gm_b (gm_ac (gm_Q false en a b) nn z 0) → va_P (dC, dI) vwCl (gWM bd kI kL kZ zw ma mb en nn (nI 1) can ways fo fc fr 0) H → va_D A (gWM bd kI kL kZ zw ma mb en nn (nI 1) can ways fo fc fr 0) → va_S A s.heap H locs → lv_has ls 7 [(2, .int (nI z)), (0, .ref (bd 0)), (1, .int (nI (2 ^ en - 1)))] → W p l e (headSpec wsX1_reckon ({ frames := 0, cells := 0, slots := 0, locals := 0 })).room s m ([.ref (bd 0)] : List Value).toArray below meth c H locs 0 0 (MQ below (va_Qv (fun (u : (Nat → Int32) × (Nat → Int64)) => True) (fun (u : (Nat → Int32) × (Nat → Int64)) (t : State) => va_P (dC, dI) vwCl (gWM bd kI kL kZ zw ma mb en nn (nI 1) u.1 u.2 (gm_b (gm_odd nn en a b ≤ 2 ∧ gm_conn en a b)) (gm_b (gm_odd nn en a b = 0 ∧ gm_conn en a b)) (gm_b (gm_good en a b nn ∧ gm_ov nn en a b ≤ 1 ∧ gm_conn en a b)) (gm_RO en a b)) t.heap ∧ va_K (dC, dI) vwCl (gTY kI kL kG kZ) t ∧ va_D A (gWM bd kI kL kZ zw ma mb en nn (nI 1) u.1 u.2 (gm_b (gm_odd nn en a b ≤ 2 ∧ gm_conn en a b)) (gm_b (gm_odd nn en a b = 0 ∧ gm_conn en a b)) (gm_b (gm_good en a b nn ∧ gm_ov nn en a b ≤ 1 ∧ gm_conn en a b)) (gm_RO en a b))) A) ([.ref (bd 0)] : List Value).toArray s 0 0 A) (F0 m 44 ls []) := by
    intro k
    induction k with
    | zero => intro z can fo fc fr H locs ls h1 h2; exact absurd h2 (by omega)
    | succ k ih =>
      intro z can fo fc fr H locs ls h1 h2 hfo hfc hfr hP hD hS hl
      refine lv_iload_n hx hb dX1_reckon_44 rfl (lv_at hl 0 rfl) ?_
      refine lv_aload_n hx hb dX1_reckon_45 rfl (lv_at hl 1 rfl) ?_
      refine va_get (D := (dC, dI)) (ci := 1) (v := .int (nI nn)) (C := RX1) (T := TX1) (N := 11) hx hb hts in_X1 hown hK hP 0 rfl rfl 3 (by decide) (hts _ q124) (fun _ h9 => h9) rfl dX1_reckon_46 ?_
      refine gm_bge (tgt := 326) hx hb dX1_reckon_49 (by decide) (by omega) (by omega) (fun hc => ?_) (fun hc => ?_)
      · have e1 : z = nn := by omega
        rw [e1] at hfo hfc hfr
        have e2 : fo = gm_b (gm_odd nn en a b ≤ 2 ∧ gm_conn en a b) := hfo.trans (gm_b_congr (gm_fo_end hn.1 hab))
        have e3 : fc = gm_b (gm_odd nn en a b = 0 ∧ gm_conn en a b) := hfc.trans (gm_b_congr (gm_fc_end hn.1 hab))
        have e4 : fr = gm_b (gm_good en a b nn ∧ gm_ov nn en a b ≤ 1 ∧ gm_conn en a b) := hfr.trans (gm_b_congr (gm_fr_end hn.1 hab))
        clear hfo hfc hfr
        subst e2 e3 e4
        exact k326 can H locs ls hP hD hS (lv_sub hl [1, 2] rfl)
      · skip
        refine lv_iconst (v := nI 0) hx hb dX1_reckon_52 (by decide) ?_
        refine lv_istore_n (lv' := [(3, .int (nI 0)), (2, .int (nI z)), (0, .ref (bd 0)), (1, .int (nI (2 ^ en - 1)))]) hx hb dX1_reckon_53 rfl hl (by decide) rfl (fun ls hl => ?_)
        refine body 0 true z fo fc fr (Or.inl ⟨rfl, rfl⟩) hc (fun can H locs ls hCA hP hD hS hl => ?_) can H locs ls hP hD hS (lv_sub hl [0, 1, 2, 3] rfl)
        refine lv_iconst (v := nI 0) hx hb dX1_reckon_243 (by decide) ?_
        refine lv_istore (lv' := [(4, .int (nI 0)), (3, .int (nI 0)), (2, .int (nI z)), (0, .ref (bd 0)), (1, .int (nI (2 ^ en - 1)))]) hx hb dX1_reckon_244 hl (by decide) rfl (fun ls hl => ?_)
        refine scan0 z can hc hCA (fun fo fc fr H locs ls hfo hfc hfr hP hD hS hl => ?_) (nn + 1) 0 fo fc fr H locs ls (by omega) (by omega) hfo hfc hfr hP hD hS (lv_sub hl [0, 1, 2, 3, 4] rfl)
        refine lv_iinc (v := nI 1) (lv' := [(3, .int (nI 1)), (2, .int (nI z)), (0, .ref (bd 0)), (1, .int (nI (2 ^ en - 1)))]) hx hb dX1_reckon_314 hl (k := 0) rfl (nI_1 0) (by decide) rfl (fun ls hl => ?_)
        refine lv_goto (tgt := 54) hx hb dX1_reckon_317 (by decide) ?_
        refine body 1 false z fo fc fr (Or.inr ⟨rfl, rfl⟩) hc (fun can H locs ls hCA hP hD hS hl => ?_) can H locs ls hP hD hS (lv_sub hl [0, 1, 2, 3] rfl)
        refine lv_iconst (v := nI 0) hx hb dX1_reckon_243 (by decide) ?_
        refine lv_istore (lv' := [(4, .int (nI 0)), (3, .int (nI 1)), (2, .int (nI z)), (0, .ref (bd 0)), (1, .int (nI (2 ^ en - 1)))]) hx hb dX1_reckon_244 hl (by decide) rfl (fun ls hl => ?_)
        refine scan1 z can hc hCA (fun fo fc fr H locs ls hfo hfc hfr hP hD hS hl => ?_) (nn + 1) 0 fo fc fr H locs ls (by omega) (by omega) hfo hfc hfr hP hD hS (lv_sub hl [0, 1, 2, 3, 4] rfl)
        refine lv_iinc (v := nI 2) (lv' := [(3, .int (nI 2)), (2, .int (nI z)), (0, .ref (bd 0)), (1, .int (nI (2 ^ en - 1)))]) hx hb dX1_reckon_314 hl (k := 0) rfl (nI_1 1) (by decide) rfl (fun ls hl => ?_)
        refine lv_goto (tgt := 54) hx hb dX1_reckon_317 (by decide) ?_
        refine lv_iload_n hx hb dX1_reckon_54 rfl (lv_at hl 0 rfl) ?_
        refine lv_iconst (v := nI 2) hx hb dX1_reckon_55 (by decide) ?_
        refine gm_bge (tgt := 320) hx hb dX1_reckon_56 (by decide) (by omega) (by omega) (fun hc6 => ?_) (fun hc6 => ?_)
        · skip
          refine lv_iinc (v := nI (z + 1)) (lv' := [(2, .int (nI (z + 1))), (3, .int (nI 2)), (0, .ref (bd 0)), (1, .int (nI (2 ^ en - 1)))]) hx hb dX1_reckon_320 hl (k := 1) rfl (nI_1 z) (by decide) rfl (fun ls hl => ?_)
          refine lv_goto (tgt := 44) hx hb dX1_reckon_323 (by decide) ?_
          exact ih (z + 1) can fo fc fr H locs ls (by omega) (by omega) hfo hfc hfr hP hD hS (lv_sub hl [0, 2, 3] rfl)
        · exact absurd hc6 (by omega)
  refine lv_aload_n hx hb dX1_reckon_0 rfl (lv_at hl 0 rfl) ?_
  refine va_get (D := (dC, dI)) (ci := 1) (v := .int (nI 0)) (C := RX1) (T := TX1) (N := 11) hx hb hts in_X1 hown hK hP 0 rfl rfl 4 (by decide) (hts _ q125) (fun _ h9 => h9) rfl dX1_reckon_1 ?_
  refine lv_if_eq (tgt := 8) hx hb dX1_reckon_4 (by decide) (fun hc => ?_) (fun hc => ?_)
  · clear hc
    refine lv_aload_n hx hb dX1_reckon_8 rfl (lv_at hl 0 rfl) ?_
    refine lv_iconst (v := nI 1) hx hb dX1_reckon_9 (by decide) ?_
    refine va_put (D := (dC, dI)) (ci := 1) (v := .int (nI 1)) (ty := .boolean) (C := RX1) (T := TX1) (N := 11) hx hb hts in_X1 tyX1 tyX1_ok nmX1 hown hK hP hD hS 0 rfl rfl 4 (by decide) (hts _ q125) (fun _ h9 => h9) rfl (by decide +kernel) rfl rfl (Nat.le_of_ble_eq_true rfl) dX1_reckon_10 (fun H locs hP hD hS => ?_)
    have hP : va_P (dC, dI) vwCl (gWM bd kI kL kZ zw ma mb en nn (nI 1) can ways fo fc fr ro) H := hP
    have hD : va_D A (gWM bd kI kL kZ zw ma mb en nn (nI 1) can ways fo fc fr ro) := hD
    refine lv_aload_n hx hb dX1_reckon_13 rfl (lv_at hl 0 rfl) ?_
    refine lv_iconst (v := nI 0) hx hb dX1_reckon_14 (by decide) ?_
    refine va_put (D := (dC, dI)) (ci := 1) (v := .int (nI 0)) (ty := .boolean) (C := RX1) (T := TX1) (N := 11) hx hb hts in_X1 tyX1 tyX1_ok nmX1 hown hK hP hD hS 0 rfl rfl 7 (by decide) (hts _ q128) (fun _ h9 => h9) rfl (by decide +kernel) rfl rfl (Nat.le_of_ble_eq_true rfl) dX1_reckon_15 (fun H locs hP hD hS => ?_)
    have hP : va_P (dC, dI) vwCl (gWM bd kI kL kZ zw ma mb en nn (nI 1) can ways (nI 0) fc fr ro) H := hP
    have hD : va_D A (gWM bd kI kL kZ zw ma mb en nn (nI 1) can ways (nI 0) fc fr ro) := hD
    refine lv_aload_n hx hb dX1_reckon_18 rfl (lv_at hl 0 rfl) ?_
    refine lv_iconst (v := nI 0) hx hb dX1_reckon_19 (by decide) ?_
    refine va_put (D := (dC, dI)) (ci := 1) (v := .int (nI 0)) (ty := .boolean) (C := RX1) (T := TX1) (N := 11) hx hb hts in_X1 tyX1 tyX1_ok nmX1 hown hK hP hD hS 0 rfl rfl 8 (by decide) (hts _ q129) (fun _ h9 => h9) rfl (by decide +kernel) rfl rfl (Nat.le_of_ble_eq_true rfl) dX1_reckon_20 (fun H locs hP hD hS => ?_)
    have hP : va_P (dC, dI) vwCl (gWM bd kI kL kZ zw ma mb en nn (nI 1) can ways (nI 0) (nI 0) fr ro) H := hP
    have hD : va_D A (gWM bd kI kL kZ zw ma mb en nn (nI 1) can ways (nI 0) (nI 0) fr ro) := hD
    refine lv_aload_n hx hb dX1_reckon_23 rfl (lv_at hl 0 rfl) ?_
    refine lv_iconst (v := nI 0) hx hb dX1_reckon_24 (by decide) ?_
    refine va_put (D := (dC, dI)) (ci := 1) (v := .int (nI 0)) (ty := .boolean) (C := RX1) (T := TX1) (N := 11) hx hb hts in_X1 tyX1 tyX1_ok nmX1 hown hK hP hD hS 0 rfl rfl 9 (by decide) (hts _ q130) (fun _ h9 => h9) rfl (by decide +kernel) rfl rfl (Nat.le_of_ble_eq_true rfl) dX1_reckon_25 (fun H locs hP hD hS => ?_)
    have hP : va_P (dC, dI) vwCl (gWM bd kI kL kZ zw ma mb en nn (nI 1) can ways (nI 0) (nI 0) (nI 0) ro) H := hP
    have hD : va_D A (gWM bd kI kL kZ zw ma mb en nn (nI 1) can ways (nI 0) (nI 0) (nI 0) ro) := hD
    refine lv_aload_n hx hb dX1_reckon_28 rfl (lv_at hl 0 rfl) ?_
    refine lv_lconst (v := 0) hx hb dX1_reckon_29 (by decide) ?_
    refine va_put (D := (dC, dI)) (ci := 1) (v := .long 0) (ty := .long) (C := RX1) (T := TX1) (N := 11) hx hb hts in_X1 tyX1 tyX1_ok nmX1 hown hK hP hD hS 0 rfl rfl 10 (by decide) (hts _ q131) (fun _ h9 => h9) rfl (by decide +kernel) rfl rfl (Nat.le_of_ble_eq_true rfl) dX1_reckon_30 (fun H locs hP hD hS => ?_)
    have hP : va_P (dC, dI) vwCl (gWM bd kI kL kZ zw ma mb en nn (nI 1) can ways (nI 0) (nI 0) (nI 0) 0) H := hP
    have hD : va_D A (gWM bd kI kL kZ zw ma mb en nn (nI 1) can ways (nI 0) (nI 0) (nI 0) 0) := hD
    refine lv_iconst (v := nI 1) hx hb dX1_reckon_33 (by decide) ?_
    refine lv_aload_n hx hb dX1_reckon_34 rfl (lv_at hl 0 rfl) ?_
    refine va_get (D := (dC, dI)) (ci := 1) (v := .int (nI en)) (C := RX1) (T := TX1) (N := 11) hx hb hts in_X1 hown hK hP 0 rfl rfl 2 (by decide) (hts _ q123) (fun _ h9 => h9) rfl dX1_reckon_35 ?_
    refine lv_ishl hx hb dX1_reckon_38 ?_
    refine gm_tpi (gm_shl1 hm) ?_
    refine lv_iconst (v := nI 1) hx hb dX1_reckon_39 (by decide) ?_
    refine lv_isub hx hb dX1_reckon_40 ?_
    refine gm_tpi (pk_sub hp.1) ?_
    refine lv_istore_n (lv' := [(1, .int (nI (2 ^ en - 1))), (0, .ref (bd 0))]) hx hb dX1_reckon_41 rfl hl (by decide) rfl (fun ls hl => ?_)
    refine lv_iconst (v := nI 0) hx hb dX1_reckon_42 (by decide) ?_
    refine lv_istore_n (lv' := [(2, .int (nI 0)), (1, .int (nI (2 ^ en - 1))), (0, .ref (bd 0))]) hx hb dX1_reckon_43 rfl hl (by decide) rfl (fun ls hl => ?_)
    exact loopZ (nn + 1) 0 can _ _ _ H locs ls (by omega) (by omega) (gm_b_f (gm_ac_0 _ _)).symm (gm_b_f (gm_ac_0 _ _)).symm (gm_b_f (gm_ac_0 _ _)).symm hP hD hS (lv_sub hl [0, 2, 1] rfl)
  · exact absurd (by decide) hc
end
section
/-! THE MODEL's answers -/
abbrev wsX1_open : List Cond := ws_ yX1_open cX1_open 1 (some .boolean)
set_option maxHeartbeats 4000000 in
set_option maxRecDepth 100000 in
/-- the model's open answer -/
theorem metX1_open (l : Launch) (dC : Nat → ClassId) (dI : Nat → Nat → Nat) (kI kL kG kZ : ClassId) (bd : Nat → Nat) (zw : va_W) (sz : Nat) (ma mb : Nat → Int32) (en nn : Nat) (kn : Int32) (can : Nat → Int32) (ways : Nat → Int64) (fo fc fr : Int32) (ro : Int64) (a b : Nat → Nat) (hn : 1 ≤ nn ∧ nn ≤ 5) (hm : en ≤ 10) (ha : gm_hold nn en ma a) (hb2 : gm_hold nn en mb b) (hst : kn = nI 0 ∨ (kn = nI 1 ∧ fo = gm_b (gm_odd nn en a b ≤ 2 ∧ gm_conn en a b) ∧ fc = gm_b (gm_odd nn en a b = 0 ∧ gm_conn en a b) ∧ fr = gm_b (gm_good en a b nn ∧ gm_ov nn en a b ≤ 1 ∧ gm_conn en a b) ∧ ro = gm_RO en a b)) : Met l yX1_open wsX1_open ({ frames := 1, cells := 0, slots := 0, locals := 26 }) (va_Pc [.ref (bd 0)] (fun U => U.heap.size = sz ∧ va_P (dC, dI) vwCl (gWM bd kI kL kZ zw ma mb en nn kn can ways fo fc fr ro) U.heap ∧ va_K (dC, dI) vwCl (gTY kI kL kG kZ) U ∧ va_D (fun _ => True) (gWM bd kI kL kZ zw ma mb en nn kn can ways fo fc fr ro))) (va_Qi (fun (r : Int32) (u : (Nat → Int32) × (Nat → Int64)) => r = gm_b (gm_odd nn en a b ≤ 2 ∧ gm_conn en a b)) (fun (u : (Nat → Int32) × (Nat → Int64)) (t : State) => va_P (dC, dI) vwCl (gWM bd kI kL kZ zw ma mb en nn (nI 1) u.1 u.2 (gm_b (gm_odd nn en a b ≤ 2 ∧ gm_conn en a b)) (gm_b (gm_odd nn en a b = 0 ∧ gm_conn en a b)) (gm_b (gm_good en a b nn ∧ gm_ov nn en a b ≤ 1 ∧ gm_conn en a b)) (gm_RO en a b)) t.heap ∧ va_K (dC, dI) vwCl (gTY kI kL kG kZ) t ∧ va_D (va_A (gWM bd kI kL kZ zw ma mb en nn kn can ways fo fc fr ro) sz) (gWM bd kI kL kZ zw ma mb en nn (nI 1) u.1 u.2 (gm_b (gm_odd nn en a b ≤ 2 ∧ gm_conn en a b)) (gm_b (gm_odd nn en a b = 0 ∧ gm_conn en a b)) (gm_b (gm_good en a b nn ∧ gm_ov nn en a b ≤ 1 ∧ gm_conn en a b)) (gm_RO en a b))) (va_A (gWM bd kI kL kZ zw ma mb en nn kn can ways fo fc fr ro) sz)) 0 0 (va_A (gWM bd kI kL kZ zw ma mb en nn kn can ways fo fc fr ro) sz) := by
  refine Met.ofW (cc := cX1_open) (maxL := 1) (ret := (some .boolean)) (by decide) rfl ?_
  intro p e s m args below meth c s₁ B hml hv
  obtain ⟨rfl, hsz, hP, hK, hD0⟩ := hv
  have hx := B.exec
  have hb := B.bytes
  have hr := B.returns
  have hts := atoms_spec (ws := wsX1_open) B.pre
  have hts : ∀ w ∈ lw_all, w.before _ s = true := fun w h => hts w (List.mem_cons_of_mem _ h)
  have hown : s.vm.findClass RX1 = some m.cls := findClass_of_methodNamed B.named
  have hlocks := B.notSynchronized
  subst hsz
  have hD := hD0.self (sz := s.heap.size)
  generalize hAe : va_A (gWM bd kI kL kZ zw ma mb en nn kn can ways fo fc fr ro) s.heap.size = A at hD ⊢
  have hA : ∀ q : Nat, s.heap.size ≤ q → A q := fun q h => by rw [← hAe]; exact Or.inr h
  have hS : va_S A s.heap s.heap [] := va_S.rf
  have hl := lv_entry ([.ref (bd 0)]) (n := 1) (Nat.le_of_ble_eq_true rfl)
  rw [lg_entry_eq]
  generalize (lg_sl ([.ref (bd 0)]) ++ List.replicate (1 - (lg_sl ([.ref (bd 0)])).length) Slot.unset).toArray = ls at hl ⊢
  have hl : lv_has ls 1 [(0, .ref (bd 0))] := hl
  obtain ⟨H, hH⟩ : ∃ H : Heap, H = s.heap := ⟨_, rfl⟩
  obtain ⟨locs, hlo⟩ : ∃ q : List Loc, q = [] := ⟨_, rfl⟩
  have hP : va_P (dC, dI) vwCl (gWM bd kI kL kZ zw ma mb en nn kn can ways fo fc fr ro) H := by rw [hH]; exact hP
  have hS : va_S A s.heap H locs := by rw [hH, hlo]; exact hS
  suffices goal : W p l e (headSpec wsX1_open ({ frames := 1, cells := 0, slots := 0, locals := 26 })).room s m ([.ref (bd 0)] : List Value).toArray below meth c H locs 0 0 (MQ below (va_Qi (fun (r : Int32) (u : (Nat → Int32) × (Nat → Int64)) => r = gm_b (gm_odd nn en a b ≤ 2 ∧ gm_conn en a b)) (fun (u : (Nat → Int32) × (Nat → Int64)) (t : State) => va_P (dC, dI) vwCl (gWM bd kI kL kZ zw ma mb en nn (nI 1) u.1 u.2 (gm_b (gm_odd nn en a b ≤ 2 ∧ gm_conn en a b)) (gm_b (gm_odd nn en a b = 0 ∧ gm_conn en a b)) (gm_b (gm_good en a b nn ∧ gm_ov nn en a b ≤ 1 ∧ gm_conn en a b)) (gm_RO en a b)) t.heap ∧ va_K (dC, dI) vwCl (gTY kI kL kG kZ) t ∧ va_D A (gWM bd kI kL kZ zw ma mb en nn (nI 1) u.1 u.2 (gm_b (gm_odd nn en a b ≤ 2 ∧ gm_conn en a b)) (gm_b (gm_odd nn en a b = 0 ∧ gm_conn en a b)) (gm_b (gm_good en a b nn ∧ gm_ov nn en a b ≤ 1 ∧ gm_conn en a b)) (gm_RO en a b))) A) ([.ref (bd 0)] : List Value).toArray s 0 0 A) (F0 m 0 ls []) by rw [hH, hlo] at goal; exact goal
  clear hH hlo hAe
  refine lv_aload_n hx hb dX1_open_0 rfl (lv_at hl 0 rfl) ?_
  rcases hst with h9 | ⟨h9, h10, h11, h12, h13⟩
  · subst h9
    have hFc := gm_free hD hS hA
    refine va_callv (va_runV (As := []) (rest := []) ⟨hx, hb, hml, hown, hts⟩ (metX1_reckon l dC dI kI kL kG kZ bd zw H.size ma mb en nn can ways fo fc fr ro a b hn hm ha hb2) (cwV 0 hts (lw_V q173 q175 qs8 q11 q176) rfl rfl rfl (by decide +kernel) ⟨Nat.le_of_ble_eq_true rfl, Nat.le_of_ble_eq_true rfl⟩) ⟨fun a U g mk q => by obtain ⟨q0, q1, qP, qK, qD⟩ := q; exact ⟨q0, q1, qP, va_K.moved (u := U) (U := U.calling g mk a) (Vm.Alike.refl U.vm) qK, qD⟩, va_recv hK hP (ci := 1) (q0 := 0) rfl rfl, fun U hU hW => ⟨rfl, by rw [hU], by rw [hU]; exact hP, va_K.moved hW.alike hK, hD.weaken (fun _ _ _ _ => trivial)⟩⟩ rfl rfl hl.1 rfl (lv_room (Nat.le_of_ble_eq_true rfl)) dX1_open_1 ⟨Nat.le_refl _, Nat.le_refl _⟩) hS (fun q _ h => hFc q h) hFc (fun u t H1 locs ht hvm hr1 hB hz1 hk1 hS => ?_)
    obtain ⟨hP1, hK1, hD1⟩ := hB
    rw [ht] at hP1
    have hD1 := hD1.weaken (fun _ _ _ h => hFc _ h)
    clear hP hD hFc hk1 hz1 hK1 hvm ht
    generalize H1 = H at hP1 hS ⊢
    have hP : va_P (dC, dI) vwCl (gWM bd kI kL kZ zw ma mb en nn (nI 1) u.1 u.2 (gm_b (gm_odd nn en a b ≤ 2 ∧ gm_conn en a b)) (gm_b (gm_odd nn en a b = 0 ∧ gm_conn en a b)) (gm_b (gm_good en a b nn ∧ gm_ov nn en a b ≤ 1 ∧ gm_conn en a b)) (gm_RO en a b)) H := hP1
    have hD : va_D A (gWM bd kI kL kZ zw ma mb en nn (nI 1) u.1 u.2 (gm_b (gm_odd nn en a b ≤ 2 ∧ gm_conn en a b)) (gm_b (gm_odd nn en a b = 0 ∧ gm_conn en a b)) (gm_b (gm_good en a b nn ∧ gm_ov nn en a b ≤ 1 ∧ gm_conn en a b)) (gm_RO en a b)) := hD1
    refine lv_aload_n hx hb dX1_open_4 rfl (lv_at hl 0 rfl) ?_
    refine va_get (D := (dC, dI)) (ci := 1) (v := .int (gm_b (gm_odd nn en a b ≤ 2 ∧ gm_conn en a b))) (C := RX1) (T := TX1) (N := 11) hx hb hts in_X1 hown hK hP 0 rfl rfl 7 (by decide) (hts _ q128) (fun _ h9 => h9) rfl dX1_open_5 ?_
    exact W.zret (v := gm_b (gm_odd nn en a b ≤ 2 ∧ gm_conn en a b)) hx hb hr (gm_b_nar _) (fun t ht hW => ⟨⟨gm_b (gm_odd nn en a b ≤ 2 ∧ gm_conn en a b), u, rfl, rfl, by rw [ht]; exact hP, va_K.moved hW.alike hK, hD⟩, hS.F ht⟩) hS.2.2 dX1_open_8
  · subst h9 h10 h11 h12 h13
    have hFc := gm_free hD hS hA
    refine va_callv (va_runV (As := []) (rest := []) ⟨hx, hb, hml, hown, hts⟩ (metX1_reckon_known l dC dI kI kL kG kZ bd zw H.size ma mb en nn can ways (gm_b (gm_odd nn en a b ≤ 2 ∧ gm_conn en a b)) (gm_b (gm_odd nn en a b = 0 ∧ gm_conn en a b)) (gm_b (gm_good en a b nn ∧ gm_ov nn en a b ≤ 1 ∧ gm_conn en a b)) (gm_RO en a b)) (cwV 0 hts (lw_V q173 q175 qs8 q11 q176) rfl rfl rfl (by decide +kernel) ⟨Nat.le_of_ble_eq_true rfl, Nat.le_of_ble_eq_true rfl⟩) ⟨fun a U g mk q => by obtain ⟨q0, q1, qP, qK, qD⟩ := q; exact ⟨q0, q1, qP, va_K.moved (u := U) (U := U.calling g mk a) (Vm.Alike.refl U.vm) qK, qD⟩, va_recv hK hP (ci := 1) (q0 := 0) rfl rfl, fun U hU hW => ⟨rfl, by rw [hU], by rw [hU]; exact hP, va_K.moved hW.alike hK, hD.weaken (fun _ _ _ _ => trivial)⟩⟩ rfl rfl hl.1 rfl (lv_room (Nat.le_of_ble_eq_true rfl)) dX1_open_1 ⟨Nat.le_refl _, Nat.le_refl _⟩) hS (fun q _ h => hFc q h) hFc (fun u t H1 locs ht hvm hr1 hB hz1 hk1 hS => ?_)
    obtain ⟨hP1, hK1, hD1⟩ := hB
    rw [ht] at hP1
    have hD1 := hD1.weaken (fun _ _ _ h => hFc _ h)
    clear hP hD hFc hk1 hz1 hK1 hvm ht
    generalize H1 = H at hP1 hS ⊢
    have hP : va_P (dC, dI) vwCl (gWM bd kI kL kZ zw ma mb en nn (nI 1) can ways (gm_b (gm_odd nn en a b ≤ 2 ∧ gm_conn en a b)) (gm_b (gm_odd nn en a b = 0 ∧ gm_conn en a b)) (gm_b (gm_good en a b nn ∧ gm_ov nn en a b ≤ 1 ∧ gm_conn en a b)) (gm_RO en a b)) H := hP1
    have hD : va_D A (gWM bd kI kL kZ zw ma mb en nn (nI 1) can ways (gm_b (gm_odd nn en a b ≤ 2 ∧ gm_conn en a b)) (gm_b (gm_odd nn en a b = 0 ∧ gm_conn en a b)) (gm_b (gm_good en a b nn ∧ gm_ov nn en a b ≤ 1 ∧ gm_conn en a b)) (gm_RO en a b)) := hD1
    refine lv_aload_n hx hb dX1_open_4 rfl (lv_at hl 0 rfl) ?_
    refine va_get (D := (dC, dI)) (ci := 1) (v := .int (gm_b (gm_odd nn en a b ≤ 2 ∧ gm_conn en a b))) (C := RX1) (T := TX1) (N := 11) hx hb hts in_X1 hown hK hP 0 rfl rfl 7 (by decide) (hts _ q128) (fun _ h9 => h9) rfl dX1_open_5 ?_
    exact W.zret (v := gm_b (gm_odd nn en a b ≤ 2 ∧ gm_conn en a b)) hx hb hr (gm_b_nar _) (fun t ht hW => ⟨⟨gm_b (gm_odd nn en a b ≤ 2 ∧ gm_conn en a b), (can, ways), rfl, rfl, by rw [ht]; exact hP, va_K.moved hW.alike hK, hD⟩, hS.F ht⟩) hS.2.2 dX1_open_8
abbrev wsX1_closed : List Cond := ws_ yX1_closed cX1_closed 1 (some .boolean)
set_option maxHeartbeats 4000000 in
set_option maxRecDepth 100000 in
/-- the model's closed answer -/
theorem metX1_closed (l : Launch) (dC : Nat → ClassId) (dI : Nat → Nat → Nat) (kI kL kG kZ : ClassId) (bd : Nat → Nat) (zw : va_W) (sz : Nat) (ma mb : Nat → Int32) (en nn : Nat) (kn : Int32) (can : Nat → Int32) (ways : Nat → Int64) (fo fc fr : Int32) (ro : Int64) (a b : Nat → Nat) (hn : 1 ≤ nn ∧ nn ≤ 5) (hm : en ≤ 10) (ha : gm_hold nn en ma a) (hb2 : gm_hold nn en mb b) (hst : kn = nI 0 ∨ (kn = nI 1 ∧ fo = gm_b (gm_odd nn en a b ≤ 2 ∧ gm_conn en a b) ∧ fc = gm_b (gm_odd nn en a b = 0 ∧ gm_conn en a b) ∧ fr = gm_b (gm_good en a b nn ∧ gm_ov nn en a b ≤ 1 ∧ gm_conn en a b) ∧ ro = gm_RO en a b)) : Met l yX1_closed wsX1_closed ({ frames := 1, cells := 0, slots := 0, locals := 26 }) (va_Pc [.ref (bd 0)] (fun U => U.heap.size = sz ∧ va_P (dC, dI) vwCl (gWM bd kI kL kZ zw ma mb en nn kn can ways fo fc fr ro) U.heap ∧ va_K (dC, dI) vwCl (gTY kI kL kG kZ) U ∧ va_D (fun _ => True) (gWM bd kI kL kZ zw ma mb en nn kn can ways fo fc fr ro))) (va_Qi (fun (r : Int32) (u : (Nat → Int32) × (Nat → Int64)) => r = gm_b (gm_odd nn en a b = 0 ∧ gm_conn en a b)) (fun (u : (Nat → Int32) × (Nat → Int64)) (t : State) => va_P (dC, dI) vwCl (gWM bd kI kL kZ zw ma mb en nn (nI 1) u.1 u.2 (gm_b (gm_odd nn en a b ≤ 2 ∧ gm_conn en a b)) (gm_b (gm_odd nn en a b = 0 ∧ gm_conn en a b)) (gm_b (gm_good en a b nn ∧ gm_ov nn en a b ≤ 1 ∧ gm_conn en a b)) (gm_RO en a b)) t.heap ∧ va_K (dC, dI) vwCl (gTY kI kL kG kZ) t ∧ va_D (va_A (gWM bd kI kL kZ zw ma mb en nn kn can ways fo fc fr ro) sz) (gWM bd kI kL kZ zw ma mb en nn (nI 1) u.1 u.2 (gm_b (gm_odd nn en a b ≤ 2 ∧ gm_conn en a b)) (gm_b (gm_odd nn en a b = 0 ∧ gm_conn en a b)) (gm_b (gm_good en a b nn ∧ gm_ov nn en a b ≤ 1 ∧ gm_conn en a b)) (gm_RO en a b))) (va_A (gWM bd kI kL kZ zw ma mb en nn kn can ways fo fc fr ro) sz)) 0 0 (va_A (gWM bd kI kL kZ zw ma mb en nn kn can ways fo fc fr ro) sz) := by
  refine Met.ofW (cc := cX1_closed) (maxL := 1) (ret := (some .boolean)) (by decide) rfl ?_
  intro p e s m args below meth c s₁ B hml hv
  obtain ⟨rfl, hsz, hP, hK, hD0⟩ := hv
  have hx := B.exec
  have hb := B.bytes
  have hr := B.returns
  have hts := atoms_spec (ws := wsX1_closed) B.pre
  have hts : ∀ w ∈ lw_all, w.before _ s = true := fun w h => hts w (List.mem_cons_of_mem _ h)
  have hown : s.vm.findClass RX1 = some m.cls := findClass_of_methodNamed B.named
  have hlocks := B.notSynchronized
  subst hsz
  have hD := hD0.self (sz := s.heap.size)
  generalize hAe : va_A (gWM bd kI kL kZ zw ma mb en nn kn can ways fo fc fr ro) s.heap.size = A at hD ⊢
  have hA : ∀ q : Nat, s.heap.size ≤ q → A q := fun q h => by rw [← hAe]; exact Or.inr h
  have hS : va_S A s.heap s.heap [] := va_S.rf
  have hl := lv_entry ([.ref (bd 0)]) (n := 1) (Nat.le_of_ble_eq_true rfl)
  rw [lg_entry_eq]
  generalize (lg_sl ([.ref (bd 0)]) ++ List.replicate (1 - (lg_sl ([.ref (bd 0)])).length) Slot.unset).toArray = ls at hl ⊢
  have hl : lv_has ls 1 [(0, .ref (bd 0))] := hl
  obtain ⟨H, hH⟩ : ∃ H : Heap, H = s.heap := ⟨_, rfl⟩
  obtain ⟨locs, hlo⟩ : ∃ q : List Loc, q = [] := ⟨_, rfl⟩
  have hP : va_P (dC, dI) vwCl (gWM bd kI kL kZ zw ma mb en nn kn can ways fo fc fr ro) H := by rw [hH]; exact hP
  have hS : va_S A s.heap H locs := by rw [hH, hlo]; exact hS
  suffices goal : W p l e (headSpec wsX1_closed ({ frames := 1, cells := 0, slots := 0, locals := 26 })).room s m ([.ref (bd 0)] : List Value).toArray below meth c H locs 0 0 (MQ below (va_Qi (fun (r : Int32) (u : (Nat → Int32) × (Nat → Int64)) => r = gm_b (gm_odd nn en a b = 0 ∧ gm_conn en a b)) (fun (u : (Nat → Int32) × (Nat → Int64)) (t : State) => va_P (dC, dI) vwCl (gWM bd kI kL kZ zw ma mb en nn (nI 1) u.1 u.2 (gm_b (gm_odd nn en a b ≤ 2 ∧ gm_conn en a b)) (gm_b (gm_odd nn en a b = 0 ∧ gm_conn en a b)) (gm_b (gm_good en a b nn ∧ gm_ov nn en a b ≤ 1 ∧ gm_conn en a b)) (gm_RO en a b)) t.heap ∧ va_K (dC, dI) vwCl (gTY kI kL kG kZ) t ∧ va_D A (gWM bd kI kL kZ zw ma mb en nn (nI 1) u.1 u.2 (gm_b (gm_odd nn en a b ≤ 2 ∧ gm_conn en a b)) (gm_b (gm_odd nn en a b = 0 ∧ gm_conn en a b)) (gm_b (gm_good en a b nn ∧ gm_ov nn en a b ≤ 1 ∧ gm_conn en a b)) (gm_RO en a b))) A) ([.ref (bd 0)] : List Value).toArray s 0 0 A) (F0 m 0 ls []) by rw [hH, hlo] at goal; exact goal
  clear hH hlo hAe
  refine lv_aload_n hx hb dX1_closed_0 rfl (lv_at hl 0 rfl) ?_
  rcases hst with h9 | ⟨h9, h10, h11, h12, h13⟩
  · subst h9
    have hFc := gm_free hD hS hA
    refine va_callv (va_runV (As := []) (rest := []) ⟨hx, hb, hml, hown, hts⟩ (metX1_reckon l dC dI kI kL kG kZ bd zw H.size ma mb en nn can ways fo fc fr ro a b hn hm ha hb2) (cwV 0 hts (lw_V q173 q175 qs8 q11 q176) rfl rfl rfl (by decide +kernel) ⟨Nat.le_of_ble_eq_true rfl, Nat.le_of_ble_eq_true rfl⟩) ⟨fun a U g mk q => by obtain ⟨q0, q1, qP, qK, qD⟩ := q; exact ⟨q0, q1, qP, va_K.moved (u := U) (U := U.calling g mk a) (Vm.Alike.refl U.vm) qK, qD⟩, va_recv hK hP (ci := 1) (q0 := 0) rfl rfl, fun U hU hW => ⟨rfl, by rw [hU], by rw [hU]; exact hP, va_K.moved hW.alike hK, hD.weaken (fun _ _ _ _ => trivial)⟩⟩ rfl rfl hl.1 rfl (lv_room (Nat.le_of_ble_eq_true rfl)) dX1_closed_1 ⟨Nat.le_refl _, Nat.le_refl _⟩) hS (fun q _ h => hFc q h) hFc (fun u t H1 locs ht hvm hr1 hB hz1 hk1 hS => ?_)
    obtain ⟨hP1, hK1, hD1⟩ := hB
    rw [ht] at hP1
    have hD1 := hD1.weaken (fun _ _ _ h => hFc _ h)
    clear hP hD hFc hk1 hz1 hK1 hvm ht
    generalize H1 = H at hP1 hS ⊢
    have hP : va_P (dC, dI) vwCl (gWM bd kI kL kZ zw ma mb en nn (nI 1) u.1 u.2 (gm_b (gm_odd nn en a b ≤ 2 ∧ gm_conn en a b)) (gm_b (gm_odd nn en a b = 0 ∧ gm_conn en a b)) (gm_b (gm_good en a b nn ∧ gm_ov nn en a b ≤ 1 ∧ gm_conn en a b)) (gm_RO en a b)) H := hP1
    have hD : va_D A (gWM bd kI kL kZ zw ma mb en nn (nI 1) u.1 u.2 (gm_b (gm_odd nn en a b ≤ 2 ∧ gm_conn en a b)) (gm_b (gm_odd nn en a b = 0 ∧ gm_conn en a b)) (gm_b (gm_good en a b nn ∧ gm_ov nn en a b ≤ 1 ∧ gm_conn en a b)) (gm_RO en a b)) := hD1
    refine lv_aload_n hx hb dX1_closed_4 rfl (lv_at hl 0 rfl) ?_
    refine va_get (D := (dC, dI)) (ci := 1) (v := .int (gm_b (gm_odd nn en a b = 0 ∧ gm_conn en a b))) (C := RX1) (T := TX1) (N := 11) hx hb hts in_X1 hown hK hP 0 rfl rfl 8 (by decide) (hts _ q129) (fun _ h9 => h9) rfl dX1_closed_5 ?_
    exact W.zret (v := gm_b (gm_odd nn en a b = 0 ∧ gm_conn en a b)) hx hb hr (gm_b_nar _) (fun t ht hW => ⟨⟨gm_b (gm_odd nn en a b = 0 ∧ gm_conn en a b), u, rfl, rfl, by rw [ht]; exact hP, va_K.moved hW.alike hK, hD⟩, hS.F ht⟩) hS.2.2 dX1_closed_8
  · subst h9 h10 h11 h12 h13
    have hFc := gm_free hD hS hA
    refine va_callv (va_runV (As := []) (rest := []) ⟨hx, hb, hml, hown, hts⟩ (metX1_reckon_known l dC dI kI kL kG kZ bd zw H.size ma mb en nn can ways (gm_b (gm_odd nn en a b ≤ 2 ∧ gm_conn en a b)) (gm_b (gm_odd nn en a b = 0 ∧ gm_conn en a b)) (gm_b (gm_good en a b nn ∧ gm_ov nn en a b ≤ 1 ∧ gm_conn en a b)) (gm_RO en a b)) (cwV 0 hts (lw_V q173 q175 qs8 q11 q176) rfl rfl rfl (by decide +kernel) ⟨Nat.le_of_ble_eq_true rfl, Nat.le_of_ble_eq_true rfl⟩) ⟨fun a U g mk q => by obtain ⟨q0, q1, qP, qK, qD⟩ := q; exact ⟨q0, q1, qP, va_K.moved (u := U) (U := U.calling g mk a) (Vm.Alike.refl U.vm) qK, qD⟩, va_recv hK hP (ci := 1) (q0 := 0) rfl rfl, fun U hU hW => ⟨rfl, by rw [hU], by rw [hU]; exact hP, va_K.moved hW.alike hK, hD.weaken (fun _ _ _ _ => trivial)⟩⟩ rfl rfl hl.1 rfl (lv_room (Nat.le_of_ble_eq_true rfl)) dX1_closed_1 ⟨Nat.le_refl _, Nat.le_refl _⟩) hS (fun q _ h => hFc q h) hFc (fun u t H1 locs ht hvm hr1 hB hz1 hk1 hS => ?_)
    obtain ⟨hP1, hK1, hD1⟩ := hB
    rw [ht] at hP1
    have hD1 := hD1.weaken (fun _ _ _ h => hFc _ h)
    clear hP hD hFc hk1 hz1 hK1 hvm ht
    generalize H1 = H at hP1 hS ⊢
    have hP : va_P (dC, dI) vwCl (gWM bd kI kL kZ zw ma mb en nn (nI 1) can ways (gm_b (gm_odd nn en a b ≤ 2 ∧ gm_conn en a b)) (gm_b (gm_odd nn en a b = 0 ∧ gm_conn en a b)) (gm_b (gm_good en a b nn ∧ gm_ov nn en a b ≤ 1 ∧ gm_conn en a b)) (gm_RO en a b)) H := hP1
    have hD : va_D A (gWM bd kI kL kZ zw ma mb en nn (nI 1) can ways (gm_b (gm_odd nn en a b ≤ 2 ∧ gm_conn en a b)) (gm_b (gm_odd nn en a b = 0 ∧ gm_conn en a b)) (gm_b (gm_good en a b nn ∧ gm_ov nn en a b ≤ 1 ∧ gm_conn en a b)) (gm_RO en a b)) := hD1
    refine lv_aload_n hx hb dX1_closed_4 rfl (lv_at hl 0 rfl) ?_
    refine va_get (D := (dC, dI)) (ci := 1) (v := .int (gm_b (gm_odd nn en a b = 0 ∧ gm_conn en a b))) (C := RX1) (T := TX1) (N := 11) hx hb hts in_X1 hown hK hP 0 rfl rfl 8 (by decide) (hts _ q129) (fun _ h9 => h9) rfl dX1_closed_5 ?_
    exact W.zret (v := gm_b (gm_odd nn en a b = 0 ∧ gm_conn en a b)) hx hb hr (gm_b_nar _) (fun t ht hW => ⟨⟨gm_b (gm_odd nn en a b = 0 ∧ gm_conn en a b), (can, ways), rfl, rfl, by rw [ht]; exact hP, va_K.moved hW.alike hK, hD⟩, hS.F ht⟩) hS.2.2 dX1_closed_8
abbrev wsX1_arrows : List Cond := ws_ yX1_arrows cX1_arrows 1 (some .boolean)
set_option maxHeartbeats 4000000 in
set_option maxRecDepth 100000 in
/-- the model's arrows answer -/
theorem metX1_arrows (l : Launch) (dC : Nat → ClassId) (dI : Nat → Nat → Nat) (kI kL kG kZ : ClassId) (bd : Nat → Nat) (zw : va_W) (sz : Nat) (ma mb : Nat → Int32) (en nn : Nat) (kn : Int32) (can : Nat → Int32) (ways : Nat → Int64) (fo fc fr : Int32) (ro : Int64) (a b : Nat → Nat) (hn : 1 ≤ nn ∧ nn ≤ 5) (hm : en ≤ 10) (ha : gm_hold nn en ma a) (hb2 : gm_hold nn en mb b) (hst : kn = nI 0 ∨ (kn = nI 1 ∧ fo = gm_b (gm_odd nn en a b ≤ 2 ∧ gm_conn en a b) ∧ fc = gm_b (gm_odd nn en a b = 0 ∧ gm_conn en a b) ∧ fr = gm_b (gm_good en a b nn ∧ gm_ov nn en a b ≤ 1 ∧ gm_conn en a b) ∧ ro = gm_RO en a b)) : Met l yX1_arrows wsX1_arrows ({ frames := 1, cells := 0, slots := 0, locals := 26 }) (va_Pc [.ref (bd 0)] (fun U => U.heap.size = sz ∧ va_P (dC, dI) vwCl (gWM bd kI kL kZ zw ma mb en nn kn can ways fo fc fr ro) U.heap ∧ va_K (dC, dI) vwCl (gTY kI kL kG kZ) U ∧ va_D (fun _ => True) (gWM bd kI kL kZ zw ma mb en nn kn can ways fo fc fr ro))) (va_Qi (fun (r : Int32) (u : (Nat → Int32) × (Nat → Int64)) => r = gm_b (gm_good en a b nn ∧ gm_ov nn en a b ≤ 1 ∧ gm_conn en a b)) (fun (u : (Nat → Int32) × (Nat → Int64)) (t : State) => va_P (dC, dI) vwCl (gWM bd kI kL kZ zw ma mb en nn (nI 1) u.1 u.2 (gm_b (gm_odd nn en a b ≤ 2 ∧ gm_conn en a b)) (gm_b (gm_odd nn en a b = 0 ∧ gm_conn en a b)) (gm_b (gm_good en a b nn ∧ gm_ov nn en a b ≤ 1 ∧ gm_conn en a b)) (gm_RO en a b)) t.heap ∧ va_K (dC, dI) vwCl (gTY kI kL kG kZ) t ∧ va_D (va_A (gWM bd kI kL kZ zw ma mb en nn kn can ways fo fc fr ro) sz) (gWM bd kI kL kZ zw ma mb en nn (nI 1) u.1 u.2 (gm_b (gm_odd nn en a b ≤ 2 ∧ gm_conn en a b)) (gm_b (gm_odd nn en a b = 0 ∧ gm_conn en a b)) (gm_b (gm_good en a b nn ∧ gm_ov nn en a b ≤ 1 ∧ gm_conn en a b)) (gm_RO en a b))) (va_A (gWM bd kI kL kZ zw ma mb en nn kn can ways fo fc fr ro) sz)) 0 0 (va_A (gWM bd kI kL kZ zw ma mb en nn kn can ways fo fc fr ro) sz) := by
  refine Met.ofW (cc := cX1_arrows) (maxL := 1) (ret := (some .boolean)) (by decide) rfl ?_
  intro p e s m args below meth c s₁ B hml hv
  obtain ⟨rfl, hsz, hP, hK, hD0⟩ := hv
  have hx := B.exec
  have hb := B.bytes
  have hr := B.returns
  have hts := atoms_spec (ws := wsX1_arrows) B.pre
  have hts : ∀ w ∈ lw_all, w.before _ s = true := fun w h => hts w (List.mem_cons_of_mem _ h)
  have hown : s.vm.findClass RX1 = some m.cls := findClass_of_methodNamed B.named
  have hlocks := B.notSynchronized
  subst hsz
  have hD := hD0.self (sz := s.heap.size)
  generalize hAe : va_A (gWM bd kI kL kZ zw ma mb en nn kn can ways fo fc fr ro) s.heap.size = A at hD ⊢
  have hA : ∀ q : Nat, s.heap.size ≤ q → A q := fun q h => by rw [← hAe]; exact Or.inr h
  have hS : va_S A s.heap s.heap [] := va_S.rf
  have hl := lv_entry ([.ref (bd 0)]) (n := 1) (Nat.le_of_ble_eq_true rfl)
  rw [lg_entry_eq]
  generalize (lg_sl ([.ref (bd 0)]) ++ List.replicate (1 - (lg_sl ([.ref (bd 0)])).length) Slot.unset).toArray = ls at hl ⊢
  have hl : lv_has ls 1 [(0, .ref (bd 0))] := hl
  obtain ⟨H, hH⟩ : ∃ H : Heap, H = s.heap := ⟨_, rfl⟩
  obtain ⟨locs, hlo⟩ : ∃ q : List Loc, q = [] := ⟨_, rfl⟩
  have hP : va_P (dC, dI) vwCl (gWM bd kI kL kZ zw ma mb en nn kn can ways fo fc fr ro) H := by rw [hH]; exact hP
  have hS : va_S A s.heap H locs := by rw [hH, hlo]; exact hS
  suffices goal : W p l e (headSpec wsX1_arrows ({ frames := 1, cells := 0, slots := 0, locals := 26 })).room s m ([.ref (bd 0)] : List Value).toArray below meth c H locs 0 0 (MQ below (va_Qi (fun (r : Int32) (u : (Nat → Int32) × (Nat → Int64)) => r = gm_b (gm_good en a b nn ∧ gm_ov nn en a b ≤ 1 ∧ gm_conn en a b)) (fun (u : (Nat → Int32) × (Nat → Int64)) (t : State) => va_P (dC, dI) vwCl (gWM bd kI kL kZ zw ma mb en nn (nI 1) u.1 u.2 (gm_b (gm_odd nn en a b ≤ 2 ∧ gm_conn en a b)) (gm_b (gm_odd nn en a b = 0 ∧ gm_conn en a b)) (gm_b (gm_good en a b nn ∧ gm_ov nn en a b ≤ 1 ∧ gm_conn en a b)) (gm_RO en a b)) t.heap ∧ va_K (dC, dI) vwCl (gTY kI kL kG kZ) t ∧ va_D A (gWM bd kI kL kZ zw ma mb en nn (nI 1) u.1 u.2 (gm_b (gm_odd nn en a b ≤ 2 ∧ gm_conn en a b)) (gm_b (gm_odd nn en a b = 0 ∧ gm_conn en a b)) (gm_b (gm_good en a b nn ∧ gm_ov nn en a b ≤ 1 ∧ gm_conn en a b)) (gm_RO en a b))) A) ([.ref (bd 0)] : List Value).toArray s 0 0 A) (F0 m 0 ls []) by rw [hH, hlo] at goal; exact goal
  clear hH hlo hAe
  refine lv_aload_n hx hb dX1_arrows_0 rfl (lv_at hl 0 rfl) ?_
  rcases hst with h9 | ⟨h9, h10, h11, h12, h13⟩
  · subst h9
    have hFc := gm_free hD hS hA
    refine va_callv (va_runV (As := []) (rest := []) ⟨hx, hb, hml, hown, hts⟩ (metX1_reckon l dC dI kI kL kG kZ bd zw H.size ma mb en nn can ways fo fc fr ro a b hn hm ha hb2) (cwV 0 hts (lw_V q173 q175 qs8 q11 q176) rfl rfl rfl (by decide +kernel) ⟨Nat.le_of_ble_eq_true rfl, Nat.le_of_ble_eq_true rfl⟩) ⟨fun a U g mk q => by obtain ⟨q0, q1, qP, qK, qD⟩ := q; exact ⟨q0, q1, qP, va_K.moved (u := U) (U := U.calling g mk a) (Vm.Alike.refl U.vm) qK, qD⟩, va_recv hK hP (ci := 1) (q0 := 0) rfl rfl, fun U hU hW => ⟨rfl, by rw [hU], by rw [hU]; exact hP, va_K.moved hW.alike hK, hD.weaken (fun _ _ _ _ => trivial)⟩⟩ rfl rfl hl.1 rfl (lv_room (Nat.le_of_ble_eq_true rfl)) dX1_arrows_1 ⟨Nat.le_refl _, Nat.le_refl _⟩) hS (fun q _ h => hFc q h) hFc (fun u t H1 locs ht hvm hr1 hB hz1 hk1 hS => ?_)
    obtain ⟨hP1, hK1, hD1⟩ := hB
    rw [ht] at hP1
    have hD1 := hD1.weaken (fun _ _ _ h => hFc _ h)
    clear hP hD hFc hk1 hz1 hK1 hvm ht
    generalize H1 = H at hP1 hS ⊢
    have hP : va_P (dC, dI) vwCl (gWM bd kI kL kZ zw ma mb en nn (nI 1) u.1 u.2 (gm_b (gm_odd nn en a b ≤ 2 ∧ gm_conn en a b)) (gm_b (gm_odd nn en a b = 0 ∧ gm_conn en a b)) (gm_b (gm_good en a b nn ∧ gm_ov nn en a b ≤ 1 ∧ gm_conn en a b)) (gm_RO en a b)) H := hP1
    have hD : va_D A (gWM bd kI kL kZ zw ma mb en nn (nI 1) u.1 u.2 (gm_b (gm_odd nn en a b ≤ 2 ∧ gm_conn en a b)) (gm_b (gm_odd nn en a b = 0 ∧ gm_conn en a b)) (gm_b (gm_good en a b nn ∧ gm_ov nn en a b ≤ 1 ∧ gm_conn en a b)) (gm_RO en a b)) := hD1
    refine lv_aload_n hx hb dX1_arrows_4 rfl (lv_at hl 0 rfl) ?_
    refine va_get (D := (dC, dI)) (ci := 1) (v := .int (gm_b (gm_good en a b nn ∧ gm_ov nn en a b ≤ 1 ∧ gm_conn en a b))) (C := RX1) (T := TX1) (N := 11) hx hb hts in_X1 hown hK hP 0 rfl rfl 9 (by decide) (hts _ q130) (fun _ h9 => h9) rfl dX1_arrows_5 ?_
    exact W.zret (v := gm_b (gm_good en a b nn ∧ gm_ov nn en a b ≤ 1 ∧ gm_conn en a b)) hx hb hr (gm_b_nar _) (fun t ht hW => ⟨⟨gm_b (gm_good en a b nn ∧ gm_ov nn en a b ≤ 1 ∧ gm_conn en a b), u, rfl, rfl, by rw [ht]; exact hP, va_K.moved hW.alike hK, hD⟩, hS.F ht⟩) hS.2.2 dX1_arrows_8
  · subst h9 h10 h11 h12 h13
    have hFc := gm_free hD hS hA
    refine va_callv (va_runV (As := []) (rest := []) ⟨hx, hb, hml, hown, hts⟩ (metX1_reckon_known l dC dI kI kL kG kZ bd zw H.size ma mb en nn can ways (gm_b (gm_odd nn en a b ≤ 2 ∧ gm_conn en a b)) (gm_b (gm_odd nn en a b = 0 ∧ gm_conn en a b)) (gm_b (gm_good en a b nn ∧ gm_ov nn en a b ≤ 1 ∧ gm_conn en a b)) (gm_RO en a b)) (cwV 0 hts (lw_V q173 q175 qs8 q11 q176) rfl rfl rfl (by decide +kernel) ⟨Nat.le_of_ble_eq_true rfl, Nat.le_of_ble_eq_true rfl⟩) ⟨fun a U g mk q => by obtain ⟨q0, q1, qP, qK, qD⟩ := q; exact ⟨q0, q1, qP, va_K.moved (u := U) (U := U.calling g mk a) (Vm.Alike.refl U.vm) qK, qD⟩, va_recv hK hP (ci := 1) (q0 := 0) rfl rfl, fun U hU hW => ⟨rfl, by rw [hU], by rw [hU]; exact hP, va_K.moved hW.alike hK, hD.weaken (fun _ _ _ _ => trivial)⟩⟩ rfl rfl hl.1 rfl (lv_room (Nat.le_of_ble_eq_true rfl)) dX1_arrows_1 ⟨Nat.le_refl _, Nat.le_refl _⟩) hS (fun q _ h => hFc q h) hFc (fun u t H1 locs ht hvm hr1 hB hz1 hk1 hS => ?_)
    obtain ⟨hP1, hK1, hD1⟩ := hB
    rw [ht] at hP1
    have hD1 := hD1.weaken (fun _ _ _ h => hFc _ h)
    clear hP hD hFc hk1 hz1 hK1 hvm ht
    generalize H1 = H at hP1 hS ⊢
    have hP : va_P (dC, dI) vwCl (gWM bd kI kL kZ zw ma mb en nn (nI 1) can ways (gm_b (gm_odd nn en a b ≤ 2 ∧ gm_conn en a b)) (gm_b (gm_odd nn en a b = 0 ∧ gm_conn en a b)) (gm_b (gm_good en a b nn ∧ gm_ov nn en a b ≤ 1 ∧ gm_conn en a b)) (gm_RO en a b)) H := hP1
    have hD : va_D A (gWM bd kI kL kZ zw ma mb en nn (nI 1) can ways (gm_b (gm_odd nn en a b ≤ 2 ∧ gm_conn en a b)) (gm_b (gm_odd nn en a b = 0 ∧ gm_conn en a b)) (gm_b (gm_good en a b nn ∧ gm_ov nn en a b ≤ 1 ∧ gm_conn en a b)) (gm_RO en a b)) := hD1
    refine lv_aload_n hx hb dX1_arrows_4 rfl (lv_at hl 0 rfl) ?_
    refine va_get (D := (dC, dI)) (ci := 1) (v := .int (gm_b (gm_good en a b nn ∧ gm_ov nn en a b ≤ 1 ∧ gm_conn en a b))) (C := RX1) (T := TX1) (N := 11) hx hb hts in_X1 hown hK hP 0 rfl rfl 9 (by decide) (hts _ q130) (fun _ h9 => h9) rfl dX1_arrows_5 ?_
    exact W.zret (v := gm_b (gm_good en a b nn ∧ gm_ov nn en a b ≤ 1 ∧ gm_conn en a b)) hx hb hr (gm_b_nar _) (fun t ht hW => ⟨⟨gm_b (gm_good en a b nn ∧ gm_ov nn en a b ≤ 1 ∧ gm_conn en a b), (can, ways), rfl, rfl, by rw [ht]; exact hP, va_K.moved hW.alike hK, hD⟩, hS.F ht⟩) hS.2.2 dX1_arrows_8
abbrev wsX1_rounds : List Cond := ws_ yX1_rounds cX1_rounds 1 (some .long)
set_option maxHeartbeats 4000000 in
set_option maxRecDepth 100000 in
/-- the model's rounds answer -/
theorem metX1_rounds (l : Launch) (dC : Nat → ClassId) (dI : Nat → Nat → Nat) (kI kL kG kZ : ClassId) (bd : Nat → Nat) (zw : va_W) (sz : Nat) (ma mb : Nat → Int32) (en nn : Nat) (kn : Int32) (can : Nat → Int32) (ways : Nat → Int64) (fo fc fr : Int32) (ro : Int64) (a b : Nat → Nat) (hn : 1 ≤ nn ∧ nn ≤ 5) (hm : en ≤ 10) (ha : gm_hold nn en ma a) (hb2 : gm_hold nn en mb b) (hst : kn = nI 0 ∨ (kn = nI 1 ∧ fo = gm_b (gm_odd nn en a b ≤ 2 ∧ gm_conn en a b) ∧ fc = gm_b (gm_odd nn en a b = 0 ∧ gm_conn en a b) ∧ fr = gm_b (gm_good en a b nn ∧ gm_ov nn en a b ≤ 1 ∧ gm_conn en a b) ∧ ro = gm_RO en a b)) : Met l yX1_rounds wsX1_rounds ({ frames := 1, cells := 0, slots := 0, locals := 26 }) (va_Pc [.ref (bd 0)] (fun U => U.heap.size = sz ∧ va_P (dC, dI) vwCl (gWM bd kI kL kZ zw ma mb en nn kn can ways fo fc fr ro) U.heap ∧ va_K (dC, dI) vwCl (gTY kI kL kG kZ) U ∧ va_D (fun _ => True) (gWM bd kI kL kZ zw ma mb en nn kn can ways fo fc fr ro))) (va_Ql (fun (r : Int64) (u : (Nat → Int32) × (Nat → Int64)) => r = gm_RO en a b) (fun (u : (Nat → Int32) × (Nat → Int64)) (t : State) => va_P (dC, dI) vwCl (gWM bd kI kL kZ zw ma mb en nn (nI 1) u.1 u.2 (gm_b (gm_odd nn en a b ≤ 2 ∧ gm_conn en a b)) (gm_b (gm_odd nn en a b = 0 ∧ gm_conn en a b)) (gm_b (gm_good en a b nn ∧ gm_ov nn en a b ≤ 1 ∧ gm_conn en a b)) (gm_RO en a b)) t.heap ∧ va_K (dC, dI) vwCl (gTY kI kL kG kZ) t ∧ va_D (va_A (gWM bd kI kL kZ zw ma mb en nn kn can ways fo fc fr ro) sz) (gWM bd kI kL kZ zw ma mb en nn (nI 1) u.1 u.2 (gm_b (gm_odd nn en a b ≤ 2 ∧ gm_conn en a b)) (gm_b (gm_odd nn en a b = 0 ∧ gm_conn en a b)) (gm_b (gm_good en a b nn ∧ gm_ov nn en a b ≤ 1 ∧ gm_conn en a b)) (gm_RO en a b))) (va_A (gWM bd kI kL kZ zw ma mb en nn kn can ways fo fc fr ro) sz)) 0 0 (va_A (gWM bd kI kL kZ zw ma mb en nn kn can ways fo fc fr ro) sz) := by
  refine Met.ofW (cc := cX1_rounds) (maxL := 1) (ret := (some .long)) (by decide) rfl ?_
  intro p e s m args below meth c s₁ B hml hv
  obtain ⟨rfl, hsz, hP, hK, hD0⟩ := hv
  have hx := B.exec
  have hb := B.bytes
  have hr := B.returns
  have hts := atoms_spec (ws := wsX1_rounds) B.pre
  have hts : ∀ w ∈ lw_all, w.before _ s = true := fun w h => hts w (List.mem_cons_of_mem _ h)
  have hown : s.vm.findClass RX1 = some m.cls := findClass_of_methodNamed B.named
  have hlocks := B.notSynchronized
  subst hsz
  have hD := hD0.self (sz := s.heap.size)
  generalize hAe : va_A (gWM bd kI kL kZ zw ma mb en nn kn can ways fo fc fr ro) s.heap.size = A at hD ⊢
  have hA : ∀ q : Nat, s.heap.size ≤ q → A q := fun q h => by rw [← hAe]; exact Or.inr h
  have hS : va_S A s.heap s.heap [] := va_S.rf
  have hl := lv_entry ([.ref (bd 0)]) (n := 1) (Nat.le_of_ble_eq_true rfl)
  rw [lg_entry_eq]
  generalize (lg_sl ([.ref (bd 0)]) ++ List.replicate (1 - (lg_sl ([.ref (bd 0)])).length) Slot.unset).toArray = ls at hl ⊢
  have hl : lv_has ls 1 [(0, .ref (bd 0))] := hl
  obtain ⟨H, hH⟩ : ∃ H : Heap, H = s.heap := ⟨_, rfl⟩
  obtain ⟨locs, hlo⟩ : ∃ q : List Loc, q = [] := ⟨_, rfl⟩
  have hP : va_P (dC, dI) vwCl (gWM bd kI kL kZ zw ma mb en nn kn can ways fo fc fr ro) H := by rw [hH]; exact hP
  have hS : va_S A s.heap H locs := by rw [hH, hlo]; exact hS
  suffices goal : W p l e (headSpec wsX1_rounds ({ frames := 1, cells := 0, slots := 0, locals := 26 })).room s m ([.ref (bd 0)] : List Value).toArray below meth c H locs 0 0 (MQ below (va_Ql (fun (r : Int64) (u : (Nat → Int32) × (Nat → Int64)) => r = gm_RO en a b) (fun (u : (Nat → Int32) × (Nat → Int64)) (t : State) => va_P (dC, dI) vwCl (gWM bd kI kL kZ zw ma mb en nn (nI 1) u.1 u.2 (gm_b (gm_odd nn en a b ≤ 2 ∧ gm_conn en a b)) (gm_b (gm_odd nn en a b = 0 ∧ gm_conn en a b)) (gm_b (gm_good en a b nn ∧ gm_ov nn en a b ≤ 1 ∧ gm_conn en a b)) (gm_RO en a b)) t.heap ∧ va_K (dC, dI) vwCl (gTY kI kL kG kZ) t ∧ va_D A (gWM bd kI kL kZ zw ma mb en nn (nI 1) u.1 u.2 (gm_b (gm_odd nn en a b ≤ 2 ∧ gm_conn en a b)) (gm_b (gm_odd nn en a b = 0 ∧ gm_conn en a b)) (gm_b (gm_good en a b nn ∧ gm_ov nn en a b ≤ 1 ∧ gm_conn en a b)) (gm_RO en a b))) A) ([.ref (bd 0)] : List Value).toArray s 0 0 A) (F0 m 0 ls []) by rw [hH, hlo] at goal; exact goal
  clear hH hlo hAe
  refine lv_aload_n hx hb dX1_rounds_0 rfl (lv_at hl 0 rfl) ?_
  rcases hst with h9 | ⟨h9, h10, h11, h12, h13⟩
  · subst h9
    have hFc := gm_free hD hS hA
    refine va_callv (va_runV (As := []) (rest := []) ⟨hx, hb, hml, hown, hts⟩ (metX1_reckon l dC dI kI kL kG kZ bd zw H.size ma mb en nn can ways fo fc fr ro a b hn hm ha hb2) (cwV 0 hts (lw_V q173 q175 qs8 q11 q176) rfl rfl rfl (by decide +kernel) ⟨Nat.le_of_ble_eq_true rfl, Nat.le_of_ble_eq_true rfl⟩) ⟨fun a U g mk q => by obtain ⟨q0, q1, qP, qK, qD⟩ := q; exact ⟨q0, q1, qP, va_K.moved (u := U) (U := U.calling g mk a) (Vm.Alike.refl U.vm) qK, qD⟩, va_recv hK hP (ci := 1) (q0 := 0) rfl rfl, fun U hU hW => ⟨rfl, by rw [hU], by rw [hU]; exact hP, va_K.moved hW.alike hK, hD.weaken (fun _ _ _ _ => trivial)⟩⟩ rfl rfl hl.1 rfl (lv_room (Nat.le_of_ble_eq_true rfl)) dX1_rounds_1 ⟨Nat.le_refl _, Nat.le_refl _⟩) hS (fun q _ h => hFc q h) hFc (fun u t H1 locs ht hvm hr1 hB hz1 hk1 hS => ?_)
    obtain ⟨hP1, hK1, hD1⟩ := hB
    rw [ht] at hP1
    have hD1 := hD1.weaken (fun _ _ _ h => hFc _ h)
    clear hP hD hFc hk1 hz1 hK1 hvm ht
    generalize H1 = H at hP1 hS ⊢
    have hP : va_P (dC, dI) vwCl (gWM bd kI kL kZ zw ma mb en nn (nI 1) u.1 u.2 (gm_b (gm_odd nn en a b ≤ 2 ∧ gm_conn en a b)) (gm_b (gm_odd nn en a b = 0 ∧ gm_conn en a b)) (gm_b (gm_good en a b nn ∧ gm_ov nn en a b ≤ 1 ∧ gm_conn en a b)) (gm_RO en a b)) H := hP1
    have hD : va_D A (gWM bd kI kL kZ zw ma mb en nn (nI 1) u.1 u.2 (gm_b (gm_odd nn en a b ≤ 2 ∧ gm_conn en a b)) (gm_b (gm_odd nn en a b = 0 ∧ gm_conn en a b)) (gm_b (gm_good en a b nn ∧ gm_ov nn en a b ≤ 1 ∧ gm_conn en a b)) (gm_RO en a b)) := hD1
    refine lv_aload_n hx hb dX1_rounds_4 rfl (lv_at hl 0 rfl) ?_
    refine va_get (D := (dC, dI)) (ci := 1) (v := .long (gm_RO en a b)) (C := RX1) (T := TX1) (N := 11) hx hb hts in_X1 hown hK hP 0 rfl rfl 10 (by decide) (hts _ q131) (fun _ h9 => h9) rfl dX1_rounds_5 ?_
    exact W.lret (v := gm_RO en a b) hx hb hr (fun t ht hW => ⟨⟨gm_RO en a b, u, rfl, rfl, by rw [ht]; exact hP, va_K.moved hW.alike hK, hD⟩, hS.F ht⟩) hS.2.2 dX1_rounds_8
  · subst h9 h10 h11 h12 h13
    have hFc := gm_free hD hS hA
    refine va_callv (va_runV (As := []) (rest := []) ⟨hx, hb, hml, hown, hts⟩ (metX1_reckon_known l dC dI kI kL kG kZ bd zw H.size ma mb en nn can ways (gm_b (gm_odd nn en a b ≤ 2 ∧ gm_conn en a b)) (gm_b (gm_odd nn en a b = 0 ∧ gm_conn en a b)) (gm_b (gm_good en a b nn ∧ gm_ov nn en a b ≤ 1 ∧ gm_conn en a b)) (gm_RO en a b)) (cwV 0 hts (lw_V q173 q175 qs8 q11 q176) rfl rfl rfl (by decide +kernel) ⟨Nat.le_of_ble_eq_true rfl, Nat.le_of_ble_eq_true rfl⟩) ⟨fun a U g mk q => by obtain ⟨q0, q1, qP, qK, qD⟩ := q; exact ⟨q0, q1, qP, va_K.moved (u := U) (U := U.calling g mk a) (Vm.Alike.refl U.vm) qK, qD⟩, va_recv hK hP (ci := 1) (q0 := 0) rfl rfl, fun U hU hW => ⟨rfl, by rw [hU], by rw [hU]; exact hP, va_K.moved hW.alike hK, hD.weaken (fun _ _ _ _ => trivial)⟩⟩ rfl rfl hl.1 rfl (lv_room (Nat.le_of_ble_eq_true rfl)) dX1_rounds_1 ⟨Nat.le_refl _, Nat.le_refl _⟩) hS (fun q _ h => hFc q h) hFc (fun u t H1 locs ht hvm hr1 hB hz1 hk1 hS => ?_)
    obtain ⟨hP1, hK1, hD1⟩ := hB
    rw [ht] at hP1
    have hD1 := hD1.weaken (fun _ _ _ h => hFc _ h)
    clear hP hD hFc hk1 hz1 hK1 hvm ht
    generalize H1 = H at hP1 hS ⊢
    have hP : va_P (dC, dI) vwCl (gWM bd kI kL kZ zw ma mb en nn (nI 1) can ways (gm_b (gm_odd nn en a b ≤ 2 ∧ gm_conn en a b)) (gm_b (gm_odd nn en a b = 0 ∧ gm_conn en a b)) (gm_b (gm_good en a b nn ∧ gm_ov nn en a b ≤ 1 ∧ gm_conn en a b)) (gm_RO en a b)) H := hP1
    have hD : va_D A (gWM bd kI kL kZ zw ma mb en nn (nI 1) can ways (gm_b (gm_odd nn en a b ≤ 2 ∧ gm_conn en a b)) (gm_b (gm_odd nn en a b = 0 ∧ gm_conn en a b)) (gm_b (gm_good en a b nn ∧ gm_ov nn en a b ≤ 1 ∧ gm_conn en a b)) (gm_RO en a b)) := hD1
    refine lv_aload_n hx hb dX1_rounds_4 rfl (lv_at hl 0 rfl) ?_
    refine va_get (D := (dC, dI)) (ci := 1) (v := .long (gm_RO en a b)) (C := RX1) (T := TX1) (N := 11) hx hb hts in_X1 hown hK hP 0 rfl rfl 10 (by decide) (hts _ q131) (fun _ h9 => h9) rfl dX1_rounds_5 ?_
    exact W.lret (v := gm_RO en a b) hx hb hr (fun t ht hW => ⟨⟨gm_RO en a b, (can, ways), rfl, rfl, by rw [ht]; exact hP, va_K.moved hW.alike hK, hD⟩, hS.F ht⟩) hS.2.2 dX1_rounds_8
end
section
/-! Arrays.fill of a row; the determinant -/
abbrev wsJ0_fill : List Cond := ws_ yJ0_fill cJ0_fill 5 none
set_option maxHeartbeats 4000000 in
set_option maxRecDepth 100000 in
/-- Arrays.fill of a row -/
theorem metJ0_fill (l : Launch) (dC : Nat → ClassId) (dI : Nat → Nat → Nat) (kI kL kG kZ : ClassId) (xw : va_W) (LP : List Nat) (sz : Nat) (pr : Nat → Nat → Int64) (y : Nat) (x0 : Int64) (hy : y ∈ LP) : Met l yJ0_fill wsJ0_fill ({ frames := 0, cells := 0, slots := 0, locals := 0 }) (va_Pc [.ref y, .long x0] (fun U => U.heap.size = sz ∧ va_P (dC, dI) vwCl (xw ++ gm_pool kL 5 LP pr) U.heap ∧ va_K (dC, dI) vwCl (gTY kI kL kG kZ) U ∧ va_D (fun _ => True) (xw ++ gm_pool kL 5 LP pr))) (va_Qv (fun (u : Nat → Int64) => ∀ j, j < 5 → u j = x0) (fun (u : Nat → Int64) (t : State) => va_P (dC, dI) vwCl (xw ++ gm_pool kL 5 LP (va_up pr y u)) t.heap ∧ va_K (dC, dI) vwCl (gTY kI kL kG kZ) t ∧ va_D (va_A (xw ++ gm_pool kL 5 LP pr) sz) (xw ++ gm_pool kL 5 LP (va_up pr y u))) (va_A (xw ++ gm_pool kL 5 LP pr) sz)) 0 0 (va_A (xw ++ gm_pool kL 5 LP pr) sz) := by
  refine Met.ofW (cc := cJ0_fill) (maxL := 5) (ret := none) (by decide) rfl ?_
  intro p e s m args below meth c s₁ B hml hv
  obtain ⟨rfl, hsz, hP, hK, hD0⟩ := hv
  have hx := B.exec
  have hb := B.bytes
  have hr := B.returns
  have hts := atoms_spec (ws := wsJ0_fill) B.pre
  have hts : ∀ w ∈ lw_all, w.before _ s = true := fun w h => hts w (List.mem_cons_of_mem _ h)
  have hown : s.vm.findClass RJ0 = some m.cls := findClass_of_methodNamed B.named
  have hlocks := B.notSynchronized
  subst hsz
  have hD := hD0.self (sz := s.heap.size)
  generalize hAe : va_A (xw ++ gm_pool kL 5 LP pr) s.heap.size = A at hD ⊢
  have hA : ∀ q : Nat, s.heap.size ≤ q → A q := fun q h => by rw [← hAe]; exact Or.inr h
  have hS : va_S A s.heap s.heap [] := va_S.rf
  have hl := lv_entry ([.ref y, .long x0]) (n := 5) (Nat.le_of_ble_eq_true rfl)
  rw [lg_entry_eq]
  generalize (lg_sl ([.ref y, .long x0]) ++ List.replicate (5 - (lg_sl ([.ref y, .long x0])).length) Slot.unset).toArray = ls at hl ⊢
  have hl : lv_has ls 5 [(0, .ref y), (1, .long x0)] := hl
  obtain ⟨H, hH⟩ : ∃ H : Heap, H = s.heap := ⟨_, rfl⟩
  obtain ⟨locs, hlo⟩ : ∃ q : List Loc, q = [] := ⟨_, rfl⟩
  have hP : va_P (dC, dI) vwCl (xw ++ gm_pool kL 5 LP pr) H := by rw [hH]; exact hP
  have hS : va_S A s.heap H locs := by rw [hH, hlo]; exact hS
  suffices goal : W p l e (headSpec wsJ0_fill ({ frames := 0, cells := 0, slots := 0, locals := 0 })).room s m ([.ref y, .long x0] : List Value).toArray below meth c H locs 0 0 (MQ below (va_Qv (fun (u : Nat → Int64) => ∀ j, j < 5 → u j = x0) (fun (u : Nat → Int64) (t : State) => va_P (dC, dI) vwCl (xw ++ gm_pool kL 5 LP (va_up pr y u)) t.heap ∧ va_K (dC, dI) vwCl (gTY kI kL kG kZ) t ∧ va_D A (xw ++ gm_pool kL 5 LP (va_up pr y u))) A) ([.ref y, .long x0] : List Value).toArray s 0 0 A) (F0 m 0 ls []) by rw [hH, hlo] at goal; exact goal
  clear hH hlo hAe
  refine lv_iconst (v := nI 0) hx hb dJ0_fill_0 (by decide) ?_
  refine lv_istore_n (lv' := [(3, .int (nI 0)), (0, .ref y), (1, .long x0)]) hx hb dJ0_fill_1 rfl hl (by decide) rfl (fun ls hl => ?_)
  refine lv_aload_n hx hb dJ0_fill_2 rfl (lv_at hl 1 rfl) ?_
  refine gm_alenP hx hb hK hP 1 rfl hy dJ0_fill_3 ?_
  refine lv_istore (lv' := [(4, .int (nI 5)), (3, .int (nI 0)), (0, .ref y), (1, .long x0)]) hx hb dJ0_fill_4 hl (by decide) rfl (fun ls hl => ?_)
  have loop : ∀ (k i : Nat) (u : Nat → Int64) (H : Heap) (locs : List Loc) (ls : Array Slot), i ≤ 5 → 5 < i + k → (∀ j, j < i → u j = x0) → va_P (dC, dI) vwCl (xw ++ gm_pool kL 5 LP (va_up pr y u)) H → va_D A (xw ++ gm_pool kL 5 LP (va_up pr y u)) → va_S A s.heap H locs → lv_has ls 5 [(4, .int (nI 5)), (3, .int (nI i)), (0, .ref y), (1, .long x0)] → W p l e (headSpec wsJ0_fill ({ frames := 0, cells := 0, slots := 0, locals := 0 })).room s m ([.ref y, .long x0] : List Value).toArray below meth c H locs 0 0 (MQ below (va_Qv (fun (u : Nat → Int64) => ∀ j, j < 5 → u j = x0) (fun (u : Nat → Int64) (t : State) => va_P (dC, dI) vwCl (xw ++ gm_pool kL 5 LP (va_up pr y u)) t.heap ∧ va_K (dC, dI) vwCl (gTY kI kL kG kZ) t ∧ va_D A (xw ++ gm_pool kL 5 LP (va_up pr y u))) A) ([.ref y, .long x0] : List Value).toArray s 0 0 A) (F0 m 6 ls []) := by
    intro k
    induction k with
    | zero => intro i u H locs ls h1 h2; exact absurd h2 (by omega)
    | succ k ih =>
      intro i u H locs ls h1 h2 hu hP hD hS hl
      refine lv_iload_n hx hb dJ0_fill_6 rfl (lv_at hl 1 rfl) ?_
      refine lv_iload hx hb dJ0_fill_7 (lv_at hl 0 rfl) ?_
      refine gm_bge (tgt := 22) hx hb dJ0_fill_9 (by decide) (by omega) (by omega) (fun hc => ?_) (fun hc => ?_)
      · skip
        exact W.vret hx hb hr (fun t ht hW => ⟨⟨u, rfl, (fun j hj => hu j (by omega)), by rw [ht]; exact hP, va_K.moved hW.alike hK, hD⟩, hS.F ht⟩) hS.2.2 dJ0_fill_22
      · skip
        refine lv_aload_n hx hb dJ0_fill_12 rfl (lv_at hl 2 rfl) ?_
        refine lv_iload_n hx hb dJ0_fill_13 rfl (lv_at hl 1 rfl) ?_
        refine lv_lload_n hx hb dJ0_fill_14 rfl (lv_at hl 3 rfl) ?_
        refine gm_last2 hx hb hK hP hD hS 1 rfl hy (k := i) (by omega) (by decide) dJ0_fill_15 (fun H locs hP hD hS => ?_)
        have e1 : va_up (va_up pr y u) y (vp_updL (va_up pr y u y) i x0) = va_up pr y (vp_updL u i x0) := by rw [bx_uu, va_up_self]
        rw [e1] at hP hD
        refine lv_iinc (v := nI (i + 1)) (lv' := [(3, .int (nI (i + 1))), (4, .int (nI 5)), (0, .ref y), (1, .long x0)]) hx hb dJ0_fill_16 hl (k := 1) rfl (nI_1 i) (by decide) rfl (fun ls hl => ?_)
        refine lv_goto (tgt := 6) hx hb dJ0_fill_19 (by decide) ?_
        exact ih (i + 1) _ H locs ls (by omega) (by omega) (fun j hj => by
          by_cases h7 : j = i
          · rw [h7]; exact pk_uLs
          · rw [pk_uLn h7]; exact hu j (by omega)) hP hD hS (lv_sub hl [1, 0, 2, 3] rfl)
  have e2 : va_up pr y (pr y) = pr := by
    funext q
    by_cases h : q = y
    · rw [h, va_up_self]
    · rw [va_up_ne _ _ h]
  exact loop 6 0 (pr y) H locs ls (by omega) (by omega) (fun j hj => absurd hj (by omega)) (by rw [e2]; exact hP) (by rw [e2]; exact hD) hS (lv_sub hl [0, 1, 2, 3] rfl)
abbrev wsX0_determinant : List Cond := ws_ yX0_determinant cX0_determinant 9 (some .long)
set_option maxHeartbeats 4000000 in
set_option maxRecDepth 100000 in
/-- determinant(size) -/
theorem metX0_determinant (l : Launch) (dC : Nat → ClassId) (dI : Nat → Nat → Nat) (kI kL kG kZ : ClassId) (ad : Nat → Nat) (mw : va_W) (LP : List Nat) (sz : Nat) (n mm : Nat) (fa fb rt us : Nat → Int32) (g : Nat → Option Nat) (pr : Nat → Nat → Int64) (z : Nat) (N : Nat → Nat → Int) (t : Nat → Nat → Int64) (hz : z ≤ 4) (hgr : gm_gr g LP pr t) (hJ : gm_J z N 0 t 1 false) : Met l yX0_determinant wsX0_determinant ({ frames := 0, cells := 0, slots := 0, locals := 0 }) (va_Pc [.ref (ad 0), .int (nI z)] (fun U => U.heap.size = sz ∧ va_P (dC, dI) vwCl (gWX ad kI kL kG mw LP n mm fa fb rt us g pr) U.heap ∧ va_K (dC, dI) vwCl (gTY kI kL kG kZ) U ∧ va_D (fun _ => True) (gWX ad kI kL kG mw LP n mm fa fb rt us g pr) ∧ gm_GA kG kL U)) (va_Ql (fun (r : Int64) (u : (Nat → Option Nat) × (Nat → Nat → Int64)) => r = Int64.ofInt (gm_det z N) ∧ ∃ t', gm_gr u.1 LP u.2 t') (fun (u : (Nat → Option Nat) × (Nat → Nat → Int64)) (t : State) => va_P (dC, dI) vwCl (gWX ad kI kL kG mw LP n mm fa fb rt us u.1 u.2) t.heap ∧ va_K (dC, dI) vwCl (gTY kI kL kG kZ) t ∧ va_D (va_A (gWX ad kI kL kG mw LP n mm fa fb rt us g pr) sz) (gWX ad kI kL kG mw LP n mm fa fb rt us u.1 u.2)) (va_A (gWX ad kI kL kG mw LP n mm fa fb rt us g pr) sz)) 0 0 (va_A (gWX ad kI kL kG mw LP n mm fa fb rt us g pr) sz) := by
  refine Met.ofW (cc := cX0_determinant) (maxL := 9) (ret := (some .long)) (by decide) rfl ?_
  intro p e s m args below meth c s₁ B hml hv
  obtain ⟨rfl, hsz, hP, hK, hD0, hG⟩ := hv
  have hx := B.exec
  have hb := B.bytes
  have hr := B.returns
  have hts := atoms_spec (ws := wsX0_determinant) B.pre
  have hts : ∀ w ∈ lw_all, w.before _ s = true := fun w h => hts w (List.mem_cons_of_mem _ h)
  have hown : s.vm.findClass RX0 = some m.cls := findClass_of_methodNamed B.named
  have hlocks := B.notSynchronized
  subst hsz
  have hD := hD0.self (sz := s.heap.size)
  generalize hAe : va_A (gWX ad kI kL kG mw LP n mm fa fb rt us g pr) s.heap.size = A at hD ⊢
  have hA : ∀ q : Nat, s.heap.size ≤ q → A q := fun q h => by rw [← hAe]; exact Or.inr h
  have hS : va_S A s.heap s.heap [] := va_S.rf
  have hl := lv_entry ([.ref (ad 0), .int (nI z)]) (n := 9) (Nat.le_of_ble_eq_true rfl)
  rw [lg_entry_eq]
  generalize (lg_sl ([.ref (ad 0), .int (nI z)]) ++ List.replicate (9 - (lg_sl ([.ref (ad 0), .int (nI z)])).length) Slot.unset).toArray = ls at hl ⊢
  have hl : lv_has ls 9 [(0, .ref (ad 0)), (1, .int (nI z))] := hl
  obtain ⟨H, hH⟩ : ∃ H : Heap, H = s.heap := ⟨_, rfl⟩
  obtain ⟨locs, hlo⟩ : ∃ q : List Loc, q = [] := ⟨_, rfl⟩
  have hP : va_P (dC, dI) vwCl (gWX ad kI kL kG mw LP n mm fa fb rt us g pr) H := by rw [hH]; exact hP
  have hS : va_S A s.heap H locs := by rw [hH, hlo]; exact hS
  suffices goal : W p l e (headSpec wsX0_determinant ({ frames := 0, cells := 0, slots := 0, locals := 0 })).room s m ([.ref (ad 0), .int (nI z)] : List Value).toArray below meth c H locs 0 0 (MQ below (va_Ql (fun (r : Int64) (u : (Nat → Option Nat) × (Nat → Nat → Int64)) => r = Int64.ofInt (gm_det z N) ∧ ∃ t', gm_gr u.1 LP u.2 t') (fun (u : (Nat → Option Nat) × (Nat → Nat → Int64)) (t : State) => va_P (dC, dI) vwCl (gWX ad kI kL kG mw LP n mm fa fb rt us u.1 u.2) t.heap ∧ va_K (dC, dI) vwCl (gTY kI kL kG kZ) t ∧ va_D A (gWX ad kI kL kG mw LP n mm fa fb rt us u.1 u.2)) A) ([.ref (ad 0), .int (nI z)] : List Value).toArray s 0 0 A) (F0 m 0 ls []) by rw [hH, hlo] at goal; exact goal
  clear hH hlo hAe
  have hgr0 := hgr
  have hJ0 := hJ
  clear hgr hJ
  have loopK : ∀ (w k : Nat) (g : Nat → Option Nat) (pr t : Nat → Nat → Int64) (b0 : Int64) (tu : Bool) (H : Heap) (locs : List Loc) (ls : Array Slot), k ≤ z → z < k + w → gm_gr g LP pr t → gm_J z N k t b0 tu → va_P (dC, dI) vwCl (gWX ad kI kL kG mw LP n mm fa fb rt us g pr) H → va_D A (gWX ad kI kL kG mw LP n mm fa fb rt us g pr) → va_S A s.heap H locs → lv_has ls 9 [(5, .int (nI k)), (4, .int (nI (gm_tn tu))), (2, .long b0), (0, .ref (ad 0)), (1, .int (nI z))] → W p l e (headSpec wsX0_determinant ({ frames := 0, cells := 0, slots := 0, locals := 0 })).room s m ([.ref (ad 0), .int (nI z)] : List Value).toArray below meth c H locs 0 0 (MQ below (va_Ql (fun (r : Int64) (u : (Nat → Option Nat) × (Nat → Nat → Int64)) => r = Int64.ofInt (gm_det z N) ∧ ∃ t', gm_gr u.1 LP u.2 t') (fun (u : (Nat → Option Nat) × (Nat → Nat → Int64)) (t : State) => va_P (dC, dI) vwCl (gWX ad kI kL kG mw LP n mm fa fb rt us u.1 u.2) t.heap ∧ va_K (dC, dI) vwCl (gTY kI kL kG kZ) t ∧ va_D A (gWX ad kI kL kG mw LP n mm fa fb rt us u.1 u.2)) A) ([.ref (ad 0), .int (nI z)] : List Value).toArray s 0 0 A) (F0 m 8 ls []) := by
    intro w
    induction w with
    | zero => intro k g pr t b0 tu H locs ls h1 h2; exact absurd h2 (by omega)
    | succ w ih =>
      intro k g pr t b0 tu H locs ls h1 h2 hgr hJ hP hD hS hl
      have htn := gm_tn_le tu
      refine lv_iload hx hb dX0_determinant_8 (lv_at hl 0 rfl) ?_
      refine lv_iload_n hx hb dX0_determinant_10 rfl (lv_at hl 4 rfl) ?_
      refine gm_bge (tgt := 212) hx hb dX0_determinant_11 (by decide) (by omega) (by omega) (fun hc => ?_) (fun hc => ?_)
      · have e1 : k = z := by omega
        subst e1
        have hend := gm_J_end hJ
        refine lv_iload hx hb dX0_determinant_212 (lv_at hl 1 rfl) ?_
        refine gm_zeq (tgt := 222) hx hb dX0_determinant_214 (by decide) (by omega) (fun hc2 => ?_) (fun hc2 => ?_)
        · rw [gm_tn_0] at hc2
          rw [hc2] at hend
          refine lv_lload_n hx hb dX0_determinant_222 rfl (lv_at hl 2 rfl) ?_
          exact W.lret (v := b0) hx hb hr (fun t ht hW => ⟨⟨b0, (g, pr), rfl, ⟨hend, _, hgr⟩, by rw [ht]; exact hP, va_K.moved hW.alike hK, hD⟩, hS.F ht⟩) hS.2.2 dX0_determinant_223
        · have hc2 : tu = true := by cases tu <;> first | rfl | exact absurd rfl hc2
          rw [hc2] at hend
          refine lv_lload_n hx hb dX0_determinant_217 rfl (lv_at hl 2 rfl) ?_
          refine lv_lneg hx hb dX0_determinant_218 ?_
          refine lv_goto (tgt := 223) hx hb dX0_determinant_219 (by decide) ?_
          exact W.lret (v := -b0) hx hb hr (fun t ht hW => ⟨⟨-b0, (g, pr), rfl, ⟨hend, _, hgr⟩, by rw [ht]; exact hP, va_K.moved hW.alike hK, hD⟩, hS.F ht⟩) hS.2.2 dX0_determinant_223
      · skip
        have k104 : ∀ (g : Nat → Option Nat) (pr t : Nat → Nat → Int64) (tu : Bool) (H : Heap) (locs : List Loc) (ls : Array Slot), gm_gr g LP pr t → gm_J z N k t b0 tu → t k k ≠ 0 → va_P (dC, dI) vwCl (gWX ad kI kL kG mw LP n mm fa fb rt us g pr) H → va_D A (gWX ad kI kL kG mw LP n mm fa fb rt us g pr) → va_S A s.heap H locs → lv_has ls 9 [(5, .int (nI k)), (4, .int (nI (gm_tn tu))), (2, .long b0), (0, .ref (ad 0)), (1, .int (nI z))] → W p l e (headSpec wsX0_determinant ({ frames := 0, cells := 0, slots := 0, locals := 0 })).room s m ([.ref (ad 0), .int (nI z)] : List Value).toArray below meth c H locs 0 0 (MQ below (va_Ql (fun (r : Int64) (u : (Nat → Option Nat) × (Nat → Nat → Int64)) => r = Int64.ofInt (gm_det z N) ∧ ∃ t', gm_gr u.1 LP u.2 t') (fun (u : (Nat → Option Nat) × (Nat → Nat → Int64)) (t : State) => va_P (dC, dI) vwCl (gWX ad kI kL kG mw LP n mm fa fb rt us u.1 u.2) t.heap ∧ va_K (dC, dI) vwCl (gTY kI kL kG kZ) t ∧ va_D A (gWX ad kI kL kG mw LP n mm fa fb rt us u.1 u.2)) A) ([.ref (ad 0), .int (nI z)] : List Value).toArray s 0 0 A) (F0 m 104 ls []) := by
          intro g pr t tu H locs ls hgr hJ hp0 hP hD hS hl
          have hb0 := gm_J_p hJ
          have loopI : ∀ (w i : Nat) (pr tt : Nat → Nat → Int64) (H : Heap) (locs : List Loc) (ls : Array Slot), k < i → i ≤ z → z < i + w → (∀ x y, x < 5 → y < 5 → tt x y = if k < x ∧ k < y ∧ y < z ∧ (x < i) then (t x y * t k k - t x k * t k y) / b0 else t x y) → gm_gr g LP pr tt → va_P (dC, dI) vwCl (gWX ad kI kL kG mw LP n mm fa fb rt us g pr) H → va_D A (gWX ad kI kL kG mw LP n mm fa fb rt us g pr) → va_S A s.heap H locs → lv_has ls 9 [(7, .int (nI i)), (5, .int (nI k)), (4, .int (nI (gm_tn tu))), (2, .long b0), (0, .ref (ad 0)), (1, .int (nI z))] → W p l e (headSpec wsX0_determinant ({ frames := 0, cells := 0, slots := 0, locals := 0 })).room s m ([.ref (ad 0), .int (nI z)] : List Value).toArray below meth c H locs 0 0 (MQ below (va_Ql (fun (r : Int64) (u : (Nat → Option Nat) × (Nat → Nat → Int64)) => r = Int64.ofInt (gm_det z N) ∧ ∃ t', gm_gr u.1 LP u.2 t') (fun (u : (Nat → Option Nat) × (Nat → Nat → Int64)) (t : State) => va_P (dC, dI) vwCl (gWX ad kI kL kG mw LP n mm fa fb rt us u.1 u.2) t.heap ∧ va_K (dC, dI) vwCl (gTY kI kL kG kZ) t ∧ va_D A (gWX ad kI kL kG mw LP n mm fa fb rt us u.1 u.2)) A) ([.ref (ad 0), .int (nI z)] : List Value).toArray s 0 0 A) (F0 m 110 ls []) := by
            clear hgr hP hD hS hl
            intro w0
            induction w0 with
            | zero => intro i pr tt H locs ls h3 h4 h5; exact absurd h5 (by omega)
            | succ w0 ihI =>
              intro i pr tt H locs ls h3 h4 h5 hF hgr hP hD hS hl
              refine lv_iload hx hb dX0_determinant_110 (lv_at hl 0 rfl) ?_
              refine lv_iload_n hx hb dX0_determinant_112 rfl (lv_at hl 5 rfl) ?_
              refine gm_bge (tgt := 195) hx hb dX0_determinant_113 (by decide) (by omega) (by omega) (fun hc3 => ?_) (fun hc3 => ?_)
              · have e1 : i = z := by omega
                obtain ⟨yk, hyk1, hyk2, hyk3⟩ := hgr.1 (k) (by omega)
                have ekk : tt k k = t k k := by rw [hF k k (by omega) (by omega), if_neg (by omega)]
                refine lv_aload_n hx hb dX0_determinant_195 rfl (lv_at hl 4 rfl) ?_
                refine va_get (D := (dC, dI)) (ci := 0) (v := .ref (ad 5)) (C := RX0) (T := TX0) (N := 7) hx hb hts in_X0 hown hK hP 0 rfl rfl 6 (by decide) (hts _ q29) (fun _ h9 => h9) rfl dX0_determinant_196 ?_
                refine lv_iload hx hb dX0_determinant_199 (lv_at hl 1 rfl) ?_
                refine gm_ald2 hx hb hK hP 5 2 rfl rfl (k := k) (by omega) (by decide) hyk1 dX0_determinant_201 ?_
                refine lv_iload hx hb dX0_determinant_202 (lv_at hl 1 rfl) ?_
                refine gm_lald2 (v := t k k) hx hb hK hP 1 rfl hyk2 (k := k) (by omega) (by decide) (by rw [hyk3 k (by omega)]; exact ekk) dX0_determinant_204 ?_
                refine lv_lstore_n (lv' := [(2, .long (t k k)), (7, .int (nI i)), (5, .int (nI k)), (4, .int (nI (gm_tn tu))), (0, .ref (ad 0)), (1, .int (nI z))]) hx hb dX0_determinant_205 rfl hl (by decide) rfl (fun ls hl => ?_)
                refine lv_iinc (v := nI (k + 1)) (lv' := [(5, .int (nI (k + 1))), (2, .long (t k k)), (7, .int (nI i)), (4, .int (nI (gm_tn tu))), (0, .ref (ad 0)), (1, .int (nI z))]) hx hb dX0_determinant_206 hl (k := 2) rfl (nI_1 k) (by decide) rfl (fun ls hl => ?_)
                refine lv_goto (tgt := 8) hx hb dX0_determinant_209 (by decide) ?_
                exact ih (k + 1) g pr tt (t k k) tu H locs ls (by omega) (by omega) hgr (gm_J_step hz hc hJ hp0 (fun x y h6 h7 h8 h9 => by rw [hF x y (by omega) (by omega), if_pos (by omega)])) hP hD hS (lv_sub hl [0, 3, 1, 4, 5] rfl)
              · skip
                refine lv_iload hx hb dX0_determinant_116 (lv_at hl 1 rfl) ?_
                refine lv_iconst (v := nI 1) hx hb dX0_determinant_118 (by decide) ?_
                refine lv_iadd hx hb dX0_determinant_119 ?_
                refine gm_tpi (nI_add k 1) ?_
                refine lv_istore (lv' := [(8, .int (nI (k + 1))), (7, .int (nI i)), (5, .int (nI k)), (4, .int (nI (gm_tn tu))), (2, .long b0), (0, .ref (ad 0)), (1, .int (nI z))]) hx hb dX0_determinant_120 hl (by decide) rfl (fun ls hl => ?_)
                have loopJ : ∀ (w j : Nat) (pr tt : Nat → Nat → Int64) (H : Heap) (locs : List Loc) (ls : Array Slot), k < j → j ≤ z → z < j + w → (∀ x y, x < 5 → y < 5 → tt x y = if k < x ∧ k < y ∧ y < z ∧ (x < i ∨ (x = i ∧ y < j)) then (t x y * t k k - t x k * t k y) / b0 else t x y) → gm_gr g LP pr tt → va_P (dC, dI) vwCl (gWX ad kI kL kG mw LP n mm fa fb rt us g pr) H → va_D A (gWX ad kI kL kG mw LP n mm fa fb rt us g pr) → va_S A s.heap H locs → lv_has ls 9 [(8, .int (nI j)), (7, .int (nI i)), (5, .int (nI k)), (4, .int (nI (gm_tn tu))), (2, .long b0), (0, .ref (ad 0)), (1, .int (nI z))] → W p l e (headSpec wsX0_determinant ({ frames := 0, cells := 0, slots := 0, locals := 0 })).room s m ([.ref (ad 0), .int (nI z)] : List Value).toArray below meth c H locs 0 0 (MQ below (va_Ql (fun (r : Int64) (u : (Nat → Option Nat) × (Nat → Nat → Int64)) => r = Int64.ofInt (gm_det z N) ∧ ∃ t', gm_gr u.1 LP u.2 t') (fun (u : (Nat → Option Nat) × (Nat → Nat → Int64)) (t : State) => va_P (dC, dI) vwCl (gWX ad kI kL kG mw LP n mm fa fb rt us u.1 u.2) t.heap ∧ va_K (dC, dI) vwCl (gTY kI kL kG kZ) t ∧ va_D A (gWX ad kI kL kG mw LP n mm fa fb rt us u.1 u.2)) A) ([.ref (ad 0), .int (nI z)] : List Value).toArray s 0 0 A) (F0 m 122 ls []) := by
                  clear hgr hP hD hS hl hF
                  intro w1
                  induction w1 with
                  | zero => intro j pr tt H locs ls h6 h7 h8; exact absurd h8 (by omega)
                  | succ w1 ihJ =>
                    intro j pr tt H locs ls h6 h7 h8 hF hgr hP hD hS hl
                    refine lv_iload hx hb dX0_determinant_122 (lv_at hl 0 rfl) ?_
                    refine lv_iload_n hx hb dX0_determinant_124 rfl (lv_at hl 6 rfl) ?_
                    refine gm_bge (tgt := 189) hx hb dX0_determinant_125 (by decide) (by omega) (by omega) (fun hc4 => ?_) (fun hc4 => ?_)
                    · skip
                      refine lv_iinc (v := nI (i + 1)) (lv' := [(7, .int (nI (i + 1))), (8, .int (nI j)), (5, .int (nI k)), (4, .int (nI (gm_tn tu))), (2, .long b0), (0, .ref (ad 0)), (1, .int (nI z))]) hx hb dX0_determinant_189 hl (k := 1) rfl (nI_1 i) (by decide) rfl (fun ls hl => ?_)
                      refine lv_goto (tgt := 110) hx hb dX0_determinant_192 (by decide) ?_
                      exact ihI (i + 1) pr tt H locs ls (by omega) (by omega) (by omega) (fun x y hx5 hy5 => by
                        rw [hF x y hx5 hy5]
                        by_cases h9 : k < x ∧ k < y ∧ y < z ∧ x < i + 1
                        · rw [if_pos h9, if_pos (by omega)]
                        · rw [if_neg h9, if_neg (by omega)]) hgr hP hD hS (lv_sub hl [0, 2, 3, 4, 5, 6] rfl)
                    · skip
                      obtain ⟨yk, hyk1, hyk2, hyk3⟩ := hgr.1 (k) (by omega)
                      obtain ⟨yi, hyi1, hyi2, hyi3⟩ := hgr.1 (i) (by omega)
                      have eij : tt i j = t i j := by rw [hF i j (by omega) (by omega), if_neg (by omega)]
                      have ekk : tt k k = t k k := by rw [hF k k (by omega) (by omega), if_neg (by omega)]
                      have eik : tt i k = t i k := by rw [hF i k (by omega) (by omega), if_neg (by omega)]
                      have ekj : tt k j = t k j := by rw [hF k j (by omega) (by omega), if_neg (by omega)]
                      refine lv_aload_n hx hb dX0_determinant_128 rfl (lv_at hl 5 rfl) ?_
                      refine va_get (D := (dC, dI)) (ci := 0) (v := .ref (ad 5)) (C := RX0) (T := TX0) (N := 7) hx hb hts in_X0 hown hK hP 0 rfl rfl 6 (by decide) (hts _ q29) (fun _ h9 => h9) rfl dX0_determinant_129 ?_
                      refine lv_iload hx hb dX0_determinant_132 (lv_at hl 1 rfl) ?_
                      refine gm_ald2 hx hb hK hP 5 2 rfl rfl (k := i) (by omega) (by decide) hyi1 dX0_determinant_134 ?_
                      refine lv_iload hx hb dX0_determinant_135 (lv_at hl 0 rfl) ?_
                      refine lv_aload_n hx hb dX0_determinant_137 rfl (lv_at hl 5 rfl) ?_
                      refine va_get (D := (dC, dI)) (ci := 0) (v := .ref (ad 5)) (C := RX0) (T := TX0) (N := 7) hx hb hts in_X0 hown hK hP 0 rfl rfl 6 (by decide) (hts _ q29) (fun _ h9 => h9) rfl dX0_determinant_138 ?_
                      refine lv_iload hx hb dX0_determinant_141 (lv_at hl 1 rfl) ?_
                      refine gm_ald2 hx hb hK hP 5 2 rfl rfl (k := i) (by omega) (by decide) hyi1 dX0_determinant_143 ?_
                      refine lv_iload hx hb dX0_determinant_144 (lv_at hl 0 rfl) ?_
                      refine gm_lald2 (v := t i j) hx hb hK hP 1 rfl hyi2 (k := j) (by omega) (by decide) (by rw [hyi3 j (by omega)]; exact eij) dX0_determinant_146 ?_
                      refine lv_aload_n hx hb dX0_determinant_147 rfl (lv_at hl 5 rfl) ?_
                      refine va_get (D := (dC, dI)) (ci := 0) (v := .ref (ad 5)) (C := RX0) (T := TX0) (N := 7) hx hb hts in_X0 hown hK hP 0 rfl rfl 6 (by decide) (hts _ q29) (fun _ h9 => h9) rfl dX0_determinant_148 ?_
                      refine lv_iload hx hb dX0_determinant_151 (lv_at hl 2 rfl) ?_
                      refine gm_ald2 hx hb hK hP 5 2 rfl rfl (k := k) (by omega) (by decide) hyk1 dX0_determinant_153 ?_
                      refine lv_iload hx hb dX0_determinant_154 (lv_at hl 2 rfl) ?_
                      refine gm_lald2 (v := t k k) hx hb hK hP 1 rfl hyk2 (k := k) (by omega) (by decide) (by rw [hyk3 k (by omega)]; exact ekk) dX0_determinant_156 ?_
                      refine lv_lmul hx hb dX0_determinant_157 ?_
                      refine lv_aload_n hx hb dX0_determinant_158 rfl (lv_at hl 5 rfl) ?_
                      refine va_get (D := (dC, dI)) (ci := 0) (v := .ref (ad 5)) (C := RX0) (T := TX0) (N := 7) hx hb hts in_X0 hown hK hP 0 rfl rfl 6 (by decide) (hts _ q29) (fun _ h9 => h9) rfl dX0_determinant_159 ?_
                      refine lv_iload hx hb dX0_determinant_162 (lv_at hl 1 rfl) ?_
                      refine gm_ald2 hx hb hK hP 5 2 rfl rfl (k := i) (by omega) (by decide) hyi1 dX0_determinant_164 ?_
                      refine lv_iload hx hb dX0_determinant_165 (lv_at hl 2 rfl) ?_
                      refine gm_lald2 (v := t i k) hx hb hK hP 1 rfl hyi2 (k := k) (by omega) (by decide) (by rw [hyi3 k (by omega)]; exact eik) dX0_determinant_167 ?_
                      refine lv_aload_n hx hb dX0_determinant_168 rfl (lv_at hl 5 rfl) ?_
                      refine va_get (D := (dC, dI)) (ci := 0) (v := .ref (ad 5)) (C := RX0) (T := TX0) (N := 7) hx hb hts in_X0 hown hK hP 0 rfl rfl 6 (by decide) (hts _ q29) (fun _ h9 => h9) rfl dX0_determinant_169 ?_
                      refine lv_iload hx hb dX0_determinant_172 (lv_at hl 2 rfl) ?_
                      refine gm_ald2 hx hb hK hP 5 2 rfl rfl (k := k) (by omega) (by decide) hyk1 dX0_determinant_174 ?_
                      refine lv_iload hx hb dX0_determinant_175 (lv_at hl 0 rfl) ?_
                      refine gm_lald2 (v := t k j) hx hb hK hP 1 rfl hyk2 (k := j) (by omega) (by decide) (by rw [hyk3 j (by omega)]; exact ekj) dX0_determinant_177 ?_
                      refine lv_lmul hx hb dX0_determinant_178 ?_
                      refine lv_lsub hx hb dX0_determinant_179 ?_
                      refine lv_lload_n hx hb dX0_determinant_180 rfl (lv_at hl 4 rfl) ?_
                      refine lv_ldiv hx hb dX0_determinant_181 hb0 ?_
                      refine gm_last2 hx hb hK hP hD hS 1 rfl hyi2 (k := j) (by omega) (by decide) dX0_determinant_182 (fun H locs hP hD hS => ?_)
                      have hP : va_P (dC, dI) vwCl (gWX ad kI kL kG mw LP n mm fa fb rt us g (va_up pr yi (vp_updL (pr yi) j ((((t i j) * (t k k)) - ((t i k) * (t k j))) / b0)))) H := hP
                      have hD : va_D A (gWX ad kI kL kG mw LP n mm fa fb rt us g (va_up pr yi (vp_updL (pr yi) j ((((t i j) * (t k k)) - ((t i k) * (t k j))) / b0)))) := hD
                      refine lv_iinc (v := nI (j + 1)) (lv' := [(8, .int (nI (j + 1))), (7, .int (nI i)), (5, .int (nI k)), (4, .int (nI (gm_tn tu))), (2, .long b0), (0, .ref (ad 0)), (1, .int (nI z))]) hx hb dX0_determinant_183 hl (k := 0) rfl (nI_1 j) (by decide) rfl (fun ls hl => ?_)
                      refine lv_goto (tgt := 122) hx hb dX0_determinant_186 (by decide) ?_
                      exact ihJ (j + 1) _ _ H locs ls (by omega) (by omega) (by omega) (fun x y hx5 hy5 => by
                        unfold gm_mu
                        by_cases h9 : x = i ∧ y = j
                        · rw [if_pos h9, if_pos (by omega), h9.1, h9.2]
                        · rw [if_neg h9, hF x y hx5 hy5]
                          by_cases h10 : k < x ∧ k < y ∧ y < z ∧ (x < i ∨ (x = i ∧ y < j))
                          · rw [if_pos h10, if_pos (by omega)]
                          · rw [if_neg h10, if_neg (by omega)]) (gm_gr_put hgr (by omega) hyi1) hP hD hS (lv_sub hl [0, 1, 2, 3, 4, 5, 6] rfl)
                exact loopJ (z + 1) (k + 1) pr tt H locs ls (by omega) (by omega) (by omega) (fun x y hx5 hy5 => by
                  rw [hF x y hx5 hy5]
                  by_cases h9 : k < x ∧ k < y ∧ y < z ∧ x < i
                  · rw [if_pos h9, if_pos (by omega)]
                  · rw [if_neg h9, if_neg (by omega)]) hgr hP hD hS (lv_sub hl [0, 1, 2, 3, 4, 5, 6] rfl)
          refine lv_iload hx hb dX0_determinant_104 (lv_at hl 0 rfl) ?_
          refine lv_iconst (v := nI 1) hx hb dX0_determinant_106 (by decide) ?_
          refine lv_iadd hx hb dX0_determinant_107 ?_
          refine gm_tpi (nI_add k 1) ?_
          refine lv_istore (lv' := [(7, .int (nI (k + 1))), (5, .int (nI k)), (4, .int (nI (gm_tn tu))), (2, .long b0), (0, .ref (ad 0)), (1, .int (nI z))]) hx hb dX0_determinant_108 hl (by decide) rfl (fun ls hl => ?_)
          exact loopI (z + 1) (k + 1) pr t H locs ls (by omega) (by omega) (by omega) (fun x y hx5 hy5 => by rw [if_neg (by omega)]) hgr hP hD hS (lv_sub hl [0, 1, 2, 3, 4, 5] rfl)
        have k45 : ∀ (r : Nat) (ls : Array Slot), k ≤ r → r ≤ z → (∀ i, k ≤ i → i < r → t i k = 0) → (r < z → t r k ≠ 0) → lv_has ls 9 [(6, .int (nI r)), (5, .int (nI k)), (4, .int (nI (gm_tn tu))), (2, .long b0), (0, .ref (ad 0)), (1, .int (nI z))] → W p l e (headSpec wsX0_determinant ({ frames := 0, cells := 0, slots := 0, locals := 0 })).room s m ([.ref (ad 0), .int (nI z)] : List Value).toArray below meth c H locs 0 0 (MQ below (va_Ql (fun (r : Int64) (u : (Nat → Option Nat) × (Nat → Nat → Int64)) => r = Int64.ofInt (gm_det z N) ∧ ∃ t', gm_gr u.1 LP u.2 t') (fun (u : (Nat → Option Nat) × (Nat → Nat → Int64)) (t : State) => va_P (dC, dI) vwCl (gWX ad kI kL kG mw LP n mm fa fb rt us u.1 u.2) t.heap ∧ va_K (dC, dI) vwCl (gTY kI kL kG kZ) t ∧ va_D A (gWX ad kI kL kG mw LP n mm fa fb rt us u.1 u.2)) A) ([.ref (ad 0), .int (nI z)] : List Value).toArray s 0 0 A) (F0 m 45 ls []) := by
          intro r ls h3 h4 h5 h6 hl
          refine lv_iload hx hb dX0_determinant_45 (lv_at hl 0 rfl) ?_
          refine lv_iload_n hx hb dX0_determinant_47 rfl (lv_at hl 5 rfl) ?_
          refine gm_bne (tgt := 53) hx hb dX0_determinant_48 (by decide) (by omega) (by omega) (fun hc3 => ?_) (fun hc3 => ?_)
          · skip
            refine lv_iload hx hb dX0_determinant_53 (lv_at hl 0 rfl) ?_
            refine lv_iload hx hb dX0_determinant_55 (lv_at hl 1 rfl) ?_
            refine gm_beq (tgt := 104) hx hb dX0_determinant_57 (by decide) (by omega) (by omega) (fun hc4 => ?_) (fun hc4 => ?_)
            · subst hc4
              exact k104 g pr t tu H locs ls hgr hJ (h6 (by omega)) hP hD hS (lv_sub hl [1, 2, 3, 4, 5] rfl)
            · skip
              obtain ⟨yr, hyr1, hyr2, hyr3⟩ := hgr.1 (r) (by omega)
              obtain ⟨yk, hyk1, hyk2, hyk3⟩ := hgr.1 (k) (by omega)
              refine lv_aload_n hx hb dX0_determinant_60 rfl (lv_at hl 4 rfl) ?_
              refine va_get (D := (dC, dI)) (ci := 0) (v := .ref (ad 5)) (C := RX0) (T := TX0) (N := 7) hx hb hts in_X0 hown hK hP 0 rfl rfl 6 (by decide) (hts _ q29) (fun _ h9 => h9) rfl dX0_determinant_61 ?_
              refine lv_iload hx hb dX0_determinant_64 (lv_at hl 0 rfl) ?_
              refine gm_ald2 hx hb hK hP 5 2 rfl rfl (k := r) (by omega) (by decide) hyr1 dX0_determinant_66 ?_
              refine lv_astore (lv' := [(7, .ref yr), (6, .int (nI r)), (5, .int (nI k)), (4, .int (nI (gm_tn tu))), (2, .long b0), (0, .ref (ad 0)), (1, .int (nI z))]) hx hb dX0_determinant_67 hl (by decide) rfl (fun ls hl => ?_)
              refine lv_aload_n hx hb dX0_determinant_69 rfl (lv_at hl 5 rfl) ?_
              refine va_get (D := (dC, dI)) (ci := 0) (v := .ref (ad 5)) (C := RX0) (T := TX0) (N := 7) hx hb hts in_X0 hown hK hP 0 rfl rfl 6 (by decide) (hts _ q29) (fun _ h9 => h9) rfl dX0_determinant_70 ?_
              refine lv_iload hx hb dX0_determinant_73 (lv_at hl 1 rfl) ?_
              refine lv_aload_n hx hb dX0_determinant_75 rfl (lv_at hl 5 rfl) ?_
              refine va_get (D := (dC, dI)) (ci := 0) (v := .ref (ad 5)) (C := RX0) (T := TX0) (N := 7) hx hb hts in_X0 hown hK hP 0 rfl rfl 6 (by decide) (hts _ q29) (fun _ h9 => h9) rfl dX0_determinant_76 ?_
              refine lv_iload hx hb dX0_determinant_79 (lv_at hl 2 rfl) ?_
              refine gm_ald2 hx hb hK hP 5 2 rfl rfl (k := k) (by omega) (by decide) hyk1 dX0_determinant_81 ?_
              refine gm_ast2P hx hb hP hD hS 5 hG rfl hyk2 (k := r) (by omega) (by decide) dX0_determinant_82 (fun H locs hP hD hS => ?_)
              have hP : va_P (dC, dI) vwCl (gWX ad kI kL kG mw LP n mm fa fb rt us (va_up g r (some yk)) pr) H := hP
              have hD : va_D A (gWX ad kI kL kG mw LP n mm fa fb rt us (va_up g r (some yk)) pr) := hD
              refine lv_aload_n hx hb dX0_determinant_83 rfl (lv_at hl 5 rfl) ?_
              refine va_get (D := (dC, dI)) (ci := 0) (v := .ref (ad 5)) (C := RX0) (T := TX0) (N := 7) hx hb hts in_X0 hown hK hP 0 rfl rfl 6 (by decide) (hts _ q29) (fun _ h9 => h9) rfl dX0_determinant_84 ?_
              refine lv_iload hx hb dX0_determinant_87 (lv_at hl 2 rfl) ?_
              refine lv_aload hx hb dX0_determinant_89 (lv_at hl 0 rfl) ?_
              refine gm_ast2P hx hb hP hD hS 5 hG rfl hyr2 (k := k) (by omega) (by decide) dX0_determinant_91 (fun H locs hP hD hS => ?_)
              have hP : va_P (dC, dI) vwCl (gWX ad kI kL kG mw LP n mm fa fb rt us (va_up (va_up g r (some yk)) k (some yr)) pr) H := hP
              have hD : va_D A (gWX ad kI kL kG mw LP n mm fa fb rt us (va_up (va_up g r (some yk)) k (some yr)) pr) := hD
              have hgr2 := gm_gr_swap hgr (show k < 5 by omega) (show r < 5 by omega) hyk1 hyr1
              have hJ2 := gm_J_swap hz (show k < r by omega) (show r < z by omega) hJ
              have hp2 : t (gm_sw k r k) k ≠ 0 := by
                unfold gm_sw
                rw [if_pos rfl]
                exact h6 (by omega)
              refine lv_iload hx hb dX0_determinant_92 (lv_at hl 3 rfl) ?_
              refine gm_zne (tgt := 101) hx hb dX0_determinant_94 (by decide) (by omega) (fun hc5 => ?_) (fun hc5 => ?_)
              · have e5 : tu = true := by cases tu <;> first | rfl | exact absurd rfl hc5
                subst e5
                refine lv_iconst (v := nI 0) hx hb dX0_determinant_101 (by decide) ?_
                refine lv_istore (lv' := [(4, .int (nI 0)), (7, .ref yr), (6, .int (nI r)), (5, .int (nI k)), (2, .long b0), (0, .ref (ad 0)), (1, .int (nI z))]) hx hb dX0_determinant_102 hl (by decide) rfl (fun ls hl => ?_)
                exact k104 _ pr _ false H locs ls hgr2 hJ2 hp2 hP hD hS (lv_sub hl [3, 0, 4, 5, 6] rfl)
              · rw [gm_tn_0] at hc5
                subst hc5
                refine lv_iconst (v := nI 1) hx hb dX0_determinant_97 (by decide) ?_
                refine lv_goto (tgt := 102) hx hb dX0_determinant_98 (by decide) ?_
                refine lv_istore (lv' := [(4, .int (nI 1)), (7, .ref yr), (6, .int (nI r)), (5, .int (nI k)), (2, .long b0), (0, .ref (ad 0)), (1, .int (nI z))]) hx hb dX0_determinant_102 hl (by decide) rfl (fun ls hl => ?_)
                exact k104 _ pr _ true H locs ls hgr2 hJ2 hp2 hP hD hS (lv_sub hl [3, 0, 4, 5, 6] rfl)
          · have hdet := gm_J_none hz hc hJ (fun i h7 h8 => h5 i h7 (by omega))
            refine lv_lconst (v := 0) hx hb dX0_determinant_51 (by decide) ?_
            exact W.lret (v := 0) hx hb hr (fun t ht hW => ⟨⟨0, (g, pr), rfl, ⟨by rw [hdet]; rfl, _, hgr⟩, by rw [ht]; exact hP, va_K.moved hW.alike hK, hD⟩, hS.F ht⟩) hS.2.2 dX0_determinant_52
        have loopR : ∀ (w r : Nat) (ls : Array Slot), k ≤ r → r ≤ z → z < r + w → (∀ i, k ≤ i → i < r → t i k = 0) → lv_has ls 9 [(6, .int (nI r)), (5, .int (nI k)), (4, .int (nI (gm_tn tu))), (2, .long b0), (0, .ref (ad 0)), (1, .int (nI z))] → W p l e (headSpec wsX0_determinant ({ frames := 0, cells := 0, slots := 0, locals := 0 })).room s m ([.ref (ad 0), .int (nI z)] : List Value).toArray below meth c H locs 0 0 (MQ below (va_Ql (fun (r : Int64) (u : (Nat → Option Nat) × (Nat → Nat → Int64)) => r = Int64.ofInt (gm_det z N) ∧ ∃ t', gm_gr u.1 LP u.2 t') (fun (u : (Nat → Option Nat) × (Nat → Nat → Int64)) (t : State) => va_P (dC, dI) vwCl (gWX ad kI kL kG mw LP n mm fa fb rt us u.1 u.2) t.heap ∧ va_K (dC, dI) vwCl (gTY kI kL kG kZ) t ∧ va_D A (gWX ad kI kL kG mw LP n mm fa fb rt us u.1 u.2)) A) ([.ref (ad 0), .int (nI z)] : List Value).toArray s 0 0 A) (F0 m 18 ls []) := by
          clear hl
          intro w0
          induction w0 with
          | zero => intro r ls h3 h4 h5; exact absurd h5 (by omega)
          | succ w0 ihR =>
            intro r ls h3 h4 h5 h6 hl
            refine lv_iload hx hb dX0_determinant_18 (lv_at hl 0 rfl) ?_
            refine lv_iload_n hx hb dX0_determinant_20 rfl (lv_at hl 5 rfl) ?_
            refine gm_bge (tgt := 45) hx hb dX0_determinant_21 (by decide) (by omega) (by omega) (fun hc3 => ?_) (fun hc3 => ?_)
            · exact k45 r ls h3 h4 h6 (fun h => absurd h (by omega)) (lv_sub hl [0, 1, 2, 3, 4, 5] rfl)
            · skip
              obtain ⟨yr, hyr1, hyr2, hyr3⟩ := hgr.1 (r) (by omega)
              refine lv_aload_n hx hb dX0_determinant_24 rfl (lv_at hl 4 rfl) ?_
              refine va_get (D := (dC, dI)) (ci := 0) (v := .ref (ad 5)) (C := RX0) (T := TX0) (N := 7) hx hb hts in_X0 hown hK hP 0 rfl rfl 6 (by decide) (hts _ q29) (fun _ h9 => h9) rfl dX0_determinant_25 ?_
              refine lv_iload hx hb dX0_determinant_28 (lv_at hl 0 rfl) ?_
              refine gm_ald2 hx hb hK hP 5 2 rfl rfl (k := r) (by omega) (by decide) hyr1 dX0_determinant_30 ?_
              refine lv_iload hx hb dX0_determinant_31 (lv_at hl 1 rfl) ?_
              refine gm_lald2 (v := t r k) hx hb hK hP 1 rfl hyr2 (k := k) (by omega) (by decide) (hyr3 k (by omega)) dX0_determinant_33 ?_
              refine lv_lconst (v := 0) hx hb dX0_determinant_34 (by decide) ?_
              refine W.lcmp hx hb dX0_determinant_35 ?_
              refine lv_if_ne (tgt := 45) hx hb dX0_determinant_36 (by decide) (fun hc4 => ?_) (fun hc4 => ?_)
              · exact k45 r ls h3 h4 h6 (fun _ h => hc4 (gm_cmp0.mpr h)) (lv_sub hl [0, 1, 2, 3, 4, 5] rfl)
              · have hc4 := gm_cmp0.mp hc4
                refine lv_iinc (v := nI (r + 1)) (lv' := [(6, .int (nI (r + 1))), (5, .int (nI k)), (4, .int (nI (gm_tn tu))), (2, .long b0), (0, .ref (ad 0)), (1, .int (nI z))]) hx hb dX0_determinant_39 hl (k := 0) rfl (nI_1 r) (by decide) rfl (fun ls hl => ?_)
                refine lv_goto (tgt := 18) hx hb dX0_determinant_42 (by decide) ?_
                exact ihR (r + 1) ls (by omega) (by omega) (by omega) (fun i h7 h8 => by
                  by_cases h9 : i = r
                  · rw [h9]; exact hc4
                  · exact h6 i h7 (by omega)) (lv_sub hl [0, 1, 2, 3, 4, 5] rfl)
        refine lv_iload hx hb dX0_determinant_14 (lv_at hl 0 rfl) ?_
        refine lv_istore (lv' := [(6, .int (nI k)), (5, .int (nI k)), (4, .int (nI (gm_tn tu))), (2, .long b0), (0, .ref (ad 0)), (1, .int (nI z))]) hx hb dX0_determinant_16 hl (by decide) rfl (fun ls hl => ?_)
        exact loopR (z + 1) k ls (by omega) (by omega) (by omega) (fun i h7 h8 => absurd h8 (by omega)) (lv_sub hl [0, 1, 2, 3, 4, 5] rfl)
  refine lv_lconst (v := 1) hx hb dX0_determinant_0 (by decide) ?_
  refine lv_lstore_n (lv' := [(2, .long 1), (0, .ref (ad 0)), (1, .int (nI z))]) hx hb dX0_determinant_1 rfl hl (by decide) rfl (fun ls hl => ?_)
  refine lv_iconst (v := nI 0) hx hb dX0_determinant_2 (by decide) ?_
  refine lv_istore (lv' := [(4, .int (nI 0)), (2, .long 1), (0, .ref (ad 0)), (1, .int (nI z))]) hx hb dX0_determinant_3 hl (by decide) rfl (fun ls hl => ?_)
  refine lv_iconst (v := nI 0) hx hb dX0_determinant_5 (by decide) ?_
  refine lv_istore (lv' := [(5, .int (nI 0)), (4, .int (nI 0)), (2, .long 1), (0, .ref (ad 0)), (1, .int (nI z))]) hx hb dX0_determinant_6 hl (by decide) rfl (fun ls hl => ?_)
  exact loopK (z + 1) 0 g pr t 1 false H locs ls (by omega) (by omega) hgr0 hJ0 hP hD hS (lv_sub hl [0, 1, 2, 3, 4] rfl)
end
section
/-! THE DESK: rounds -/
theorem gm_sub1 {x : Nat} (h : 0 < x) : nI x - nI 1 = nI (x - 1) := by
  obtain ⟨y, rfl⟩ : ∃ y, x = y + 1 := ⟨x - 1, by omega⟩
  exact nI_pred y
theorem gm_dec (k : Nat) : nI (k + 1) + Int32.ofInt (-1) = nI k := by
  rw [← nI_pred k, Int32.sub_eq_add_neg, show Int32.ofInt (-1) = -1 by decide]
abbrev wsX0_rounds : List Cond := ws_ yX0_rounds cX0_rounds 7 (some .long)
set_option maxHeartbeats 4000000 in
set_option maxRecDepth 100000 in
/-- rounds() -/
theorem metX0_rounds (l : Launch) (dC : Nat → ClassId) (dI : Nat → Nat → Nat) (kI kL kG kZ : ClassId) (ad : Nat → Nat) (mw : va_W) (LP : List Nat) (sz : Nat) (n mm : Nat) (fa fb rt us : Nat → Int32) (g : Nat → Option Nat) (pr : Nat → Nat → Int64) (a b : Nat → Nat) (hn : 1 ≤ n ∧ n ≤ 5) (hm : mm ≤ 10) (ha : gm_hold n mm fa a) (hb2 : gm_hold n mm fb b) (t : Nat → Nat → Int64) (hgr : gm_gr g LP pr t) : Met l yX0_rounds wsX0_rounds ({ frames := 2, cells := 0, slots := 0, locals := 46 }) (va_Pc [.ref (ad 0)] (fun U => U.heap.size = sz ∧ va_P (dC, dI) vwCl (gWX ad kI kL kG mw LP n mm fa fb rt us g pr) U.heap ∧ va_K (dC, dI) vwCl (gTY kI kL kG kZ) U ∧ va_D (fun _ => True) (gWX ad kI kL kG mw LP n mm fa fb rt us g pr) ∧ gm_GA kG kL U)) (va_Ql (fun (r : Int64) (u : (Nat → Int32) × (Nat → Int32) × (Nat → Option Nat) × (Nat → Nat → Int64)) => r = gm_RO mm a b ∧ ∃ t', gm_gr u.2.2.1 LP u.2.2.2 t') (fun (u : (Nat → Int32) × (Nat → Int32) × (Nat → Option Nat) × (Nat → Nat → Int64)) (t : State) => va_P (dC, dI) vwCl (gWX ad kI kL kG mw LP n mm fa fb u.1 u.2.1 u.2.2.1 u.2.2.2) t.heap ∧ va_K (dC, dI) vwCl (gTY kI kL kG kZ) t ∧ va_D (va_A (gWX ad kI kL kG mw LP n mm fa fb rt us g pr) sz) (gWX ad kI kL kG mw LP n mm fa fb u.1 u.2.1 u.2.2.1 u.2.2.2)) (va_A (gWX ad kI kL kG mw LP n mm fa fb rt us g pr) sz)) 0 0 (va_A (gWX ad kI kL kG mw LP n mm fa fb rt us g pr) sz) := by
  refine Met.ofW (cc := cX0_rounds) (maxL := 7) (ret := (some .long)) (by decide) rfl ?_
  intro p e s m args below meth c s₁ B hml hv
  obtain ⟨rfl, hsz, hP, hK, hD0, hG⟩ := hv
  have hx := B.exec
  have hb := B.bytes
  have hr := B.returns
  have hts := atoms_spec (ws := wsX0_rounds) B.pre
  have hts : ∀ w ∈ lw_all, w.before _ s = true := fun w h => hts w (List.mem_cons_of_mem _ h)
  have hown : s.vm.findClass RX0 = some m.cls := findClass_of_methodNamed B.named
  have hlocks := B.notSynchronized
  subst hsz
  have hD := hD0.self (sz := s.heap.size)
  generalize hAe : va_A (gWX ad kI kL kG mw LP n mm fa fb rt us g pr) s.heap.size = A at hD ⊢
  have hA : ∀ q : Nat, s.heap.size ≤ q → A q := fun q h => by rw [← hAe]; exact Or.inr h
  have hS : va_S A s.heap s.heap [] := va_S.rf
  have hl := lv_entry ([.ref (ad 0)]) (n := 7) (Nat.le_of_ble_eq_true rfl)
  rw [lg_entry_eq]
  generalize (lg_sl ([.ref (ad 0)]) ++ List.replicate (7 - (lg_sl ([.ref (ad 0)])).length) Slot.unset).toArray = ls at hl ⊢
  have hl : lv_has ls 7 [(0, .ref (ad 0))] := hl
  obtain ⟨H, hH⟩ : ∃ H : Heap, H = s.heap := ⟨_, rfl⟩
  obtain ⟨locs, hlo⟩ : ∃ q : List Loc, q = [] := ⟨_, rfl⟩
  have hP : va_P (dC, dI) vwCl (gWX ad kI kL kG mw LP n mm fa fb rt us g pr) H := by rw [hH]; exact hP
  have hS : va_S A s.heap H locs := by rw [hH, hlo]; exact hS
  suffices goal : W p l e (headSpec wsX0_rounds ({ frames := 2, cells := 0, slots := 0, locals := 46 })).room s m ([.ref (ad 0)] : List Value).toArray below meth c H locs 0 0 (MQ below (va_Ql (fun (r : Int64) (u : (Nat → Int32) × (Nat → Int32) × (Nat → Option Nat) × (Nat → Nat → Int64)) => r = gm_RO mm a b ∧ ∃ t', gm_gr u.2.2.1 LP u.2.2.2 t') (fun (u : (Nat → Int32) × (Nat → Int32) × (Nat → Option Nat) × (Nat → Nat → Int64)) (t : State) => va_P (dC, dI) vwCl (gWX ad kI kL kG mw LP n mm fa fb u.1 u.2.1 u.2.2.1 u.2.2.2) t.heap ∧ va_K (dC, dI) vwCl (gTY kI kL kG kZ) t ∧ va_D A (gWX ad kI kL kG mw LP n mm fa fb u.1 u.2.1 u.2.2.1 u.2.2.2)) A) ([.ref (ad 0)] : List Value).toArray s 0 0 A) (F0 m 0 ls []) by rw [hH, hlo] at goal; exact goal
  clear hH hlo hAe
  have hab : ∀ j, j < mm → a j < n ∧ b j < n := fun j hj => ⟨(ha j hj).2, (hb2 j hj).2⟩
  have hgr0 := hgr
  clear hgr
  have k23 : gm_good mm a b n → gm_oc mm a b n = 0 → mm ≠ 0 → ∀ (rt : Nat → Int32) (H : Heap) (locs : List Loc) (ls : Array Slot), va_P (dC, dI) vwCl (gWX ad kI kL kG mw LP n mm fa fb rt us g pr) H → va_D A (gWX ad kI kL kG mw LP n mm fa fb rt us g pr) → va_S A s.heap H locs → lv_has ls 7 [(0, .ref (ad 0))] → W p l e (headSpec wsX0_rounds ({ frames := 2, cells := 0, slots := 0, locals := 46 })).room s m ([.ref (ad 0)] : List Value).toArray below meth c H locs 0 0 (MQ below (va_Ql (fun (r : Int64) (u : (Nat → Int32) × (Nat → Int32) × (Nat → Option Nat) × (Nat → Nat → Int64)) => r = gm_RO mm a b ∧ ∃ t', gm_gr u.2.2.1 LP u.2.2.2 t') (fun (u : (Nat → Int32) × (Nat → Int32) × (Nat → Option Nat) × (Nat → Nat → Int64)) (t : State) => va_P (dC, dI) vwCl (gWX ad kI kL kG mw LP n mm fa fb u.1 u.2.1 u.2.2.1 u.2.2.2) t.heap ∧ va_K (dC, dI) vwCl (gTY kI kL kG kZ) t ∧ va_D A (gWX ad kI kL kG mw LP n mm fa fb u.1 u.2.1 u.2.2.1 u.2.2.2)) A) ([.ref (ad 0)] : List Value).toArray s 0 0 A) (F0 m 23 ls []) := by
    intro hgd hoc hm0
    have hRO := gm_RO_yes hn.2 hm0 hab hgd hoc
    have ha0 := (hab 0 (by omega)).1
    have hz4 := gm_sz_le (m := mm) hn.2 (hab 0 (by omega)).1
    obtain ⟨DD, hDD⟩ : ∃ DD : Int, DD = gm_det (gm_sz n mm a) (gm_N n mm a b) := ⟨_, rfl⟩
    rw [← hDD] at hRO
    clear hgd hoc hP hD hS hl
    have loopP : ∀ (w q : Nat) (rt us : Nat → Int32) (g : Nat → Option Nat) (pr t : Nat → Nat → Int64) (H : Heap) (locs : List Loc) (ls : Array Slot), q ≤ n → n < q + w → gm_gr g LP pr t → va_P (dC, dI) vwCl (gWX ad kI kL kG mw LP n mm fa fb rt us g pr) H → va_D A (gWX ad kI kL kG mw LP n mm fa fb rt us g pr) → va_S A s.heap H locs → lv_has ls 7 [(5, .int (nI q)), (3, .long (Int64.ofInt (DD * gm_pd a mm q))), (2, .int (nI (gm_sz n mm a))), (1, .int (nI (a 0))), (0, .ref (ad 0))] → W p l e (headSpec wsX0_rounds ({ frames := 2, cells := 0, slots := 0, locals := 46 })).room s m ([.ref (ad 0)] : List Value).toArray below meth c H locs 0 0 (MQ below (va_Ql (fun (r : Int64) (u : (Nat → Int32) × (Nat → Int32) × (Nat → Option Nat) × (Nat → Nat → Int64)) => r = gm_RO mm a b ∧ ∃ t', gm_gr u.2.2.1 LP u.2.2.2 t') (fun (u : (Nat → Int32) × (Nat → Int32) × (Nat → Option Nat) × (Nat → Nat → Int64)) (t : State) => va_P (dC, dI) vwCl (gWX ad kI kL kG mw LP n mm fa fb u.1 u.2.1 u.2.2.1 u.2.2.2) t.heap ∧ va_K (dC, dI) vwCl (gTY kI kL kG kZ) t ∧ va_D A (gWX ad kI kL kG mw LP n mm fa fb u.1 u.2.1 u.2.2.1 u.2.2.2)) A) ([.ref (ad 0)] : List Value).toArray s 0 0 A) (F0 m 227 ls []) := by
      intro w
      induction w with
      | zero => intro q rt us g pr t H locs ls h1 h2; exact absurd h2 (by omega)
      | succ w ih =>
        intro q rt us g pr t H locs ls h1 h2 hgr hP hD hS hl
        refine lv_iload hx hb dX0_rounds_227 (lv_at hl 0 rfl) ?_
        refine lv_aload_n hx hb dX0_rounds_229 rfl (lv_at hl 4 rfl) ?_
        refine va_get (D := (dC, dI)) (ci := 0) (v := .int (nI n)) (C := RX0) (T := TX0) (N := 7) hx hb hts in_X0 hown hK hP 0 rfl rfl 0 (by decide) (hts _ q23) (fun _ h9 => h9) rfl dX0_rounds_230 ?_
        refine gm_bge (tgt := 270) hx hb dX0_rounds_233 (by decide) (by omega) (by omega) (fun hc => ?_) (fun hc => ?_)
        · have e1 : q = n := by omega
          refine lv_lload_n hx hb dX0_rounds_270 rfl (lv_at hl 1 rfl) ?_
          exact W.lret (v := Int64.ofInt (DD * gm_pd a mm q)) hx hb hr (fun t ht hW => ⟨⟨Int64.ofInt (DD * gm_pd a mm q), (rt, us, g, pr), rfl, ⟨by rw [e1]; exact hRO, _, hgr⟩, by rw [ht]; exact hP, va_K.moved hW.alike hK, hD⟩, hS.F ht⟩) hS.2.2 dX0_rounds_271
        · have c1 := gm_ct_le a q mm
          refine lv_aload_n hx hb dX0_rounds_236 rfl (lv_at hl 4 rfl) ?_
          refine lv_iload hx hb dX0_rounds_237 (lv_at hl 0 rfl) ?_
          refine vp_callSi (W.runV (As := [.int (nI q)]) (rest := []) ⟨hx, hb, hml, hown, hts⟩ (metX0_leaving l dC dI kI kL kG kZ ad mw LP n mm fa fb rt us g pr q a (by omega) hm hn.2 ha) (cwV 1 hts (lw_V q68 q70 qs1 q10 q71) rfl rfl rfl (by decide +kernel) ⟨Nat.le_of_ble_eq_true rfl, Nat.le_of_ble_eq_true rfl⟩) ⟨fun a U g mk q => by obtain ⟨q0, qP, qK⟩ := q; exact ⟨q0, qP, va_K.moved (u := U) (U := U.calling g mk a) (Vm.Alike.refl U.vm) qK⟩, va_recv hK hP (ci := 0) (q0 := 0) rfl rfl, fun U hU hW => ⟨rfl, by rw [hU]; exact hP, va_K.moved hW.alike hK⟩⟩ rfl rfl hl.1 rfl (lv_room (Nat.le_of_ble_eq_true rfl)) dX0_rounds_239 ⟨Nat.le_refl _, Nat.le_refl _⟩) (fun r hr1 => ?_)
          subst hr1
          refine lv_iconst (v := nI 1) hx hb dX0_rounds_242 (by decide) ?_
          rcases Nat.eq_zero_or_pos (gm_ct a q mm) with h7 | h7
          · have e3 : gm_pd a mm (q + 1) = gm_pd a mm q := by rw [gm_pd, h7, gm_fc, Int.mul_one]
            refine lv_isub hx hb dX0_rounds_243 ?_
            refine gm_tpi (by rw [h7]) ?_
            refine lv_istore (lv' := [(6, .int (-1)), (5, .int (nI q)), (3, .long (Int64.ofInt (DD * gm_pd a mm q))), (2, .int (nI (gm_sz n mm a))), (1, .int (nI (a 0))), (0, .ref (ad 0))]) hx hb dX0_rounds_244 hl (by decide) rfl (fun ls hl => ?_)
            refine lv_iload hx hb dX0_rounds_246 (lv_at hl 0 rfl) ?_
            refine lv_iconst (v := nI 1) hx hb dX0_rounds_248 (by decide) ?_
            refine lv_icmp_le (tgt := 264) hx hb dX0_rounds_249 (by decide) (fun hc2 => ?_) (fun hc2 => ?_)
            · skip
              refine lv_iinc (v := nI (q + 1)) (lv' := [(5, .int (nI (q + 1))), (6, .int (-1)), (3, .long (Int64.ofInt (DD * gm_pd a mm q))), (2, .int (nI (gm_sz n mm a))), (1, .int (nI (a 0))), (0, .ref (ad 0))]) hx hb dX0_rounds_264 hl (k := 1) rfl (nI_1 q) (by decide) rfl (fun ls hl => ?_)
              refine lv_goto (tgt := 227) hx hb dX0_rounds_267 (by decide) ?_
              exact ih (q + 1) rt us g pr t H locs ls (by omega) (by omega) hgr hP hD hS (by rw [e3]; exact lv_sub hl [0, 2, 3, 4, 5] rfl)
            · exact absurd (by decide) hc2
          · have e4 := gm_fc_hi (k := gm_ct a q mm)
            skip
            have loopK : ∀ (k : Nat) (X : Int) (ls : Array Slot), k ≤ 10 → X * gm_fc (k + 1) = DD * gm_pd a mm (q + 1) → lv_has ls 7 [(6, .int (nI k)), (3, .long (Int64.ofInt X)), (5, .int (nI q)), (2, .int (nI (gm_sz n mm a))), (1, .int (nI (a 0))), (0, .ref (ad 0))] → W p l e (headSpec wsX0_rounds ({ frames := 2, cells := 0, slots := 0, locals := 46 })).room s m ([.ref (ad 0)] : List Value).toArray below meth c H locs 0 0 (MQ below (va_Ql (fun (r : Int64) (u : (Nat → Int32) × (Nat → Int32) × (Nat → Option Nat) × (Nat → Nat → Int64)) => r = gm_RO mm a b ∧ ∃ t', gm_gr u.2.2.1 LP u.2.2.2 t') (fun (u : (Nat → Int32) × (Nat → Int32) × (Nat → Option Nat) × (Nat → Nat → Int64)) (t : State) => va_P (dC, dI) vwCl (gWX ad kI kL kG mw LP n mm fa fb u.1 u.2.1 u.2.2.1 u.2.2.2) t.heap ∧ va_K (dC, dI) vwCl (gTY kI kL kG kZ) t ∧ va_D A (gWX ad kI kL kG mw LP n mm fa fb u.1 u.2.1 u.2.2.1 u.2.2.2)) A) ([.ref (ad 0)] : List Value).toArray s 0 0 A) (F0 m 246 ls []) := by
              clear hl e4
              intro k
              induction k with
              | zero =>
                intro X ls h8 h9 hl
                refine lv_iload hx hb dX0_rounds_246 (lv_at hl 0 rfl) ?_
                refine lv_iconst (v := nI 1) hx hb dX0_rounds_248 (by decide) ?_
                refine gm_ble (tgt := 264) hx hb dX0_rounds_249 (by decide) (by omega) (by omega) (fun hc3 => ?_) (fun hc3 => ?_)
                · rw [gm_fc_lo (k := 0) (by omega), Int.mul_one] at h9
                  subst h9
                  refine lv_iinc (v := nI (q + 1)) (lv' := [(5, .int (nI (q + 1))), (6, .int (nI 0)), (3, .long (Int64.ofInt (DD * gm_pd a mm (q + 1)))), (2, .int (nI (gm_sz n mm a))), (1, .int (nI (a 0))), (0, .ref (ad 0))]) hx hb dX0_rounds_264 hl (k := 2) rfl (nI_1 q) (by decide) rfl (fun ls hl => ?_)
                  refine lv_goto (tgt := 227) hx hb dX0_rounds_267 (by decide) ?_
                  exact ih (q + 1) rt us g pr t H locs ls (by omega) (by omega) hgr hP hD hS (lv_sub hl [0, 2, 3, 4, 5] rfl)
                · exact absurd hc3 (by omega)
              | succ k ihK =>
                intro X ls h8 h9 hl
                refine lv_iload hx hb dX0_rounds_246 (lv_at hl 0 rfl) ?_
                refine lv_iconst (v := nI 1) hx hb dX0_rounds_248 (by decide) ?_
                refine gm_ble (tgt := 264) hx hb dX0_rounds_249 (by decide) (by omega) (by omega) (fun hc3 => ?_) (fun hc3 => ?_)
                · rw [gm_fc_lo (k := k + 1) (by omega), Int.mul_one] at h9
                  subst h9
                  refine lv_iinc (v := nI (q + 1)) (lv' := [(5, .int (nI (q + 1))), (6, .int (nI (k + 1))), (3, .long (Int64.ofInt (DD * gm_pd a mm (q + 1)))), (2, .int (nI (gm_sz n mm a))), (1, .int (nI (a 0))), (0, .ref (ad 0))]) hx hb dX0_rounds_264 hl (k := 2) rfl (nI_1 q) (by decide) rfl (fun ls hl => ?_)
                  refine lv_goto (tgt := 227) hx hb dX0_rounds_267 (by decide) ?_
                  exact ih (q + 1) rt us g pr t H locs ls (by omega) (by omega) hgr hP hD hS (lv_sub hl [0, 2, 3, 4, 5] rfl)
                · rw [gm_fc_hi (k := k + 1) (by omega), ← Int.mul_assoc] at h9
                  refine lv_lload_n hx hb dX0_rounds_252 rfl (lv_at hl 1 rfl) ?_
                  refine lv_iload hx hb dX0_rounds_253 (lv_at hl 0 rfl) ?_
                  refine lv_i2l hx hb dX0_rounds_255 (gm_i2l (by omega)) ?_
                  refine lv_lmul hx hb dX0_rounds_256 ?_
                  refine gm_tpl (Int64.ofInt_mul _ _).symm ?_
                  refine lv_lstore_n (lv' := [(3, .long (Int64.ofInt (X * ((k + 1 : Nat) : Int)))), (6, .int (nI (k + 1))), (5, .int (nI q)), (2, .int (nI (gm_sz n mm a))), (1, .int (nI (a 0))), (0, .ref (ad 0))]) hx hb dX0_rounds_257 rfl hl (by decide) rfl (fun ls hl => ?_)
                  refine lv_iinc (v := nI k) (lv' := [(6, .int (nI k)), (3, .long (Int64.ofInt (X * ((k + 1 : Nat) : Int)))), (5, .int (nI q)), (2, .int (nI (gm_sz n mm a))), (1, .int (nI (a 0))), (0, .ref (ad 0))]) hx hb dX0_rounds_258 hl (k := 1) rfl (gm_dec k) (by decide) rfl (fun ls hl => ?_)
                  refine lv_goto (tgt := 246) hx hb dX0_rounds_261 (by decide) ?_
                  exact ihK _ ls (by omega) h9 (lv_sub hl [0, 1, 2, 3, 4, 5] rfl)
            refine lv_isub hx hb dX0_rounds_243 ?_
            refine gm_tpi (gm_sub1 h7) ?_
            refine lv_istore (lv' := [(6, .int (nI (gm_ct a q mm - 1))), (5, .int (nI q)), (3, .long (Int64.ofInt (DD * gm_pd a mm q))), (2, .int (nI (gm_sz n mm a))), (1, .int (nI (a 0))), (0, .ref (ad 0))]) hx hb dX0_rounds_244 hl (by decide) rfl (fun ls hl => ?_)
            exact loopK (gm_ct a q mm - 1) _ ls (by omega) (by rw [gm_pd, show gm_ct a q mm - 1 + 1 = gm_ct a q mm by omega]; exact (Int.mul_assoc _ _ _)) (lv_sub hl [0, 2, 1, 3, 4, 5] rfl)
    have k218 : ∀ (rt us : Nat → Int32) (pr t : Nat → Nat → Int64) (i : Nat) (H : Heap) (locs : List Loc) (ls : Array Slot), (∀ x y, x < gm_sz n mm a → y < gm_sz n mm a → t x y = Int64.ofInt (gm_en a b (gm_us n mm a x) (gm_us n mm a y) mm)) → gm_gr g LP pr t → va_P (dC, dI) vwCl (gWX ad kI kL kG mw LP n mm fa fb rt us g pr) H → va_D A (gWX ad kI kL kG mw LP n mm fa fb rt us g pr) → va_S A s.heap H locs → lv_has ls 7 [(3, .int (nI i)), (2, .int (nI (gm_sz n mm a))), (1, .int (nI (a 0))), (0, .ref (ad 0))] → W p l e (headSpec wsX0_rounds ({ frames := 2, cells := 0, slots := 0, locals := 46 })).room s m ([.ref (ad 0)] : List Value).toArray below meth c H locs 0 0 (MQ below (va_Ql (fun (r : Int64) (u : (Nat → Int32) × (Nat → Int32) × (Nat → Option Nat) × (Nat → Nat → Int64)) => r = gm_RO mm a b ∧ ∃ t', gm_gr u.2.2.1 LP u.2.2.2 t') (fun (u : (Nat → Int32) × (Nat → Int32) × (Nat → Option Nat) × (Nat → Nat → Int64)) (t : State) => va_P (dC, dI) vwCl (gWX ad kI kL kG mw LP n mm fa fb u.1 u.2.1 u.2.2.1 u.2.2.2) t.heap ∧ va_K (dC, dI) vwCl (gTY kI kL kG kZ) t ∧ va_D A (gWX ad kI kL kG mw LP n mm fa fb u.1 u.2.1 u.2.2.1 u.2.2.2)) A) ([.ref (ad 0)] : List Value).toArray s 0 0 A) (F0 m 218 ls []) := by
      intro rt us pr t i H locs ls hro hgr hP hD hS hl
      have hJ := gm_N_J (n := n) hm hro
      refine lv_aload_n hx hb dX0_rounds_218 rfl (lv_at hl 3 rfl) ?_
      refine lv_iload_n hx hb dX0_rounds_219 rfl (lv_at hl 1 rfl) ?_
      have hFc := gm_free hD hS hA
      refine va_calll (va_runV (As := [.int (nI (gm_sz n mm a))]) (rest := []) ⟨hx, hb, hml, hown, hts⟩ (metX0_determinant l dC dI kI kL kG kZ ad mw LP H.size n mm fa fb rt us g pr (gm_sz n mm a) (gm_N n mm a b) t hz4 hgr hJ) (cwV 1 hts (lw_V q111 q113 qs7 q10 q114) rfl rfl rfl (by decide +kernel) ⟨Nat.le_of_ble_eq_true rfl, Nat.le_of_ble_eq_true rfl⟩) ⟨fun a U g mk q => by obtain ⟨q0, q1, qP, qK, qD, qG⟩ := q; exact ⟨q0, q1, qP, va_K.moved (u := U) (U := U.calling g mk a) (Vm.Alike.refl U.vm) qK, qD, gm_GA.moved (u := U) (U := U.calling g mk a) (Vm.Alike.refl U.vm) qG⟩, va_recv hK hP (ci := 0) (q0 := 0) rfl rfl, fun U hU hW => ⟨rfl, by rw [hU], by rw [hU]; exact hP, va_K.moved hW.alike hK, hD.weaken (fun _ _ _ _ => trivial), gm_GA.moved hW.alike hG⟩⟩ rfl rfl hl.1 rfl (lv_room (Nat.le_of_ble_eq_true rfl)) dX0_rounds_220 ⟨Nat.le_refl _, Nat.le_refl _⟩) hS (fun q _ h => hFc q h) hFc (fun r u1 t H1 locs ht hvm hr1 hB hz1 hk1 hS => ?_)
      obtain ⟨hP1, hK1, hD1⟩ := hB
      rw [ht] at hP1
      have hD1 := hD1.weaken (fun _ _ _ h => hFc _ h)
      clear hP hD hFc hk1 hz1 hK1 hvm ht
      generalize H1 = H at hP1 hS ⊢
      have hP : va_P (dC, dI) vwCl (gWX ad kI kL kG mw LP n mm fa fb rt us u1.1 u1.2) H := hP1
      have hD : va_D A (gWX ad kI kL kG mw LP n mm fa fb rt us u1.1 u1.2) := hD1
      obtain ⟨hr2, t2, hgr2⟩ := hr1
      rw [← hDD] at hr2
      subst hr2
      refine gm_tpl (w := Int64.ofInt (DD * gm_pd a mm 0)) (by rw [gm_pd, Int.mul_one]) ?_
      refine lv_lstore_n (lv' := [(3, .long (Int64.ofInt (DD * gm_pd a mm 0))), (2, .int (nI (gm_sz n mm a))), (1, .int (nI (a 0))), (0, .ref (ad 0))]) hx hb dX0_rounds_223 rfl hl (by decide) rfl (fun ls hl => ?_)
      refine lv_iconst (v := nI 0) hx hb dX0_rounds_224 (by decide) ?_
      refine lv_istore (lv' := [(5, .int (nI 0)), (3, .long (Int64.ofInt (DD * gm_pd a mm 0))), (2, .int (nI (gm_sz n mm a))), (1, .int (nI (a 0))), (0, .ref (ad 0))]) hx hb dX0_rounds_225 hl (by decide) rfl (fun ls hl => ?_)
      exact loopP (n + 1) 0 rt us u1.1 u1.2 t2 H locs ls (by omega) (by omega) hgr2 hP hD hS (lv_sub hl [0, 1, 2, 3, 4] rfl)
    have k74 : ∀ (rt us : Nat → Int32) (p1 : Nat) (H : Heap) (locs : List Loc) (ls : Array Slot), gm_uh n mm a us → va_P (dC, dI) vwCl (gWX ad kI kL kG mw LP n mm fa fb rt us g pr) H → va_D A (gWX ad kI kL kG mw LP n mm fa fb rt us g pr) → va_S A s.heap H locs → lv_has ls 7 [(3, .int (nI p1)), (2, .int (nI (gm_sz n mm a))), (1, .int (nI (a 0))), (0, .ref (ad 0))] → W p l e (headSpec wsX0_rounds ({ frames := 2, cells := 0, slots := 0, locals := 46 })).room s m ([.ref (ad 0)] : List Value).toArray below meth c H locs 0 0 (MQ below (va_Ql (fun (r : Int64) (u : (Nat → Int32) × (Nat → Int32) × (Nat → Option Nat) × (Nat → Nat → Int64)) => r = gm_RO mm a b ∧ ∃ t', gm_gr u.2.2.1 LP u.2.2.2 t') (fun (u : (Nat → Int32) × (Nat → Int32) × (Nat → Option Nat) × (Nat → Nat → Int64)) (t : State) => va_P (dC, dI) vwCl (gWX ad kI kL kG mw LP n mm fa fb u.1 u.2.1 u.2.2.1 u.2.2.2) t.heap ∧ va_K (dC, dI) vwCl (gTY kI kL kG kZ) t ∧ va_D A (gWX ad kI kL kG mw LP n mm fa fb u.1 u.2.1 u.2.2.1 u.2.2.2)) A) ([.ref (ad 0)] : List Value).toArray s 0 0 A) (F0 m 74 ls []) := by
      intro rt us p1 H locs ls huh hP hD hS hl
      have loopI : ∀ (w i : Nat) (pr t : Nat → Nat → Int64) (H : Heap) (locs : List Loc) (ls : Array Slot), i ≤ gm_sz n mm a → gm_sz n mm a < i + w → (∀ x y, x < i → y < gm_sz n mm a → t x y = Int64.ofInt (gm_en a b (gm_us n mm a x) (gm_us n mm a y) mm)) → gm_gr g LP pr t → va_P (dC, dI) vwCl (gWX ad kI kL kG mw LP n mm fa fb rt us g pr) H → va_D A (gWX ad kI kL kG mw LP n mm fa fb rt us g pr) → va_S A s.heap H locs → lv_has ls 7 [(3, .int (nI i)), (2, .int (nI (gm_sz n mm a))), (1, .int (nI (a 0))), (0, .ref (ad 0))] → W p l e (headSpec wsX0_rounds ({ frames := 2, cells := 0, slots := 0, locals := 46 })).room s m ([.ref (ad 0)] : List Value).toArray below meth c H locs 0 0 (MQ below (va_Ql (fun (r : Int64) (u : (Nat → Int32) × (Nat → Int32) × (Nat → Option Nat) × (Nat → Nat → Int64)) => r = gm_RO mm a b ∧ ∃ t', gm_gr u.2.2.1 LP u.2.2.2 t') (fun (u : (Nat → Int32) × (Nat → Int32) × (Nat → Option Nat) × (Nat → Nat → Int64)) (t : State) => va_P (dC, dI) vwCl (gWX ad kI kL kG mw LP n mm fa fb u.1 u.2.1 u.2.2.1 u.2.2.2) t.heap ∧ va_K (dC, dI) vwCl (gTY kI kL kG kZ) t ∧ va_D A (gWX ad kI kL kG mw LP n mm fa fb u.1 u.2.1 u.2.2.1 u.2.2.2)) A) ([.ref (ad 0)] : List Value).toArray s 0 0 A) (F0 m 76 ls []) := by
        clear hP hD hS hl
        intro w
        induction w with
        | zero => intro i pr t H locs ls h1 h2; exact absurd h2 (by omega)
        | succ w ih =>
          intro i pr t H locs ls h1 h2 hro hgr hP hD hS hl
          refine lv_iload_n hx hb dX0_rounds_76 rfl (lv_at hl 0 rfl) ?_
          refine lv_iload_n hx hb dX0_rounds_77 rfl (lv_at hl 1 rfl) ?_
          refine gm_bge (tgt := 218) hx hb dX0_rounds_78 (by decide) (by omega) (by omega) (fun hc => ?_) (fun hc => ?_)
          · have e1 : i = gm_sz n mm a := by omega
            exact k218 rt us pr t i H locs ls (fun x y hx5 hy5 => hro x y (by omega) hy5) hgr hP hD hS (lv_sub hl [0, 1, 2, 3] rfl)
          · have hUi := gm_us_lt hc
            obtain ⟨yi, hyi1, hyi2, hyi3⟩ := hgr.1 (i) (by omega)
            refine lv_aload_n hx hb dX0_rounds_81 rfl (lv_at hl 3 rfl) ?_
            refine va_get (D := (dC, dI)) (ci := 0) (v := .ref (ad 5)) (C := RX0) (T := TX0) (N := 7) hx hb hts in_X0 hown hK hP 0 rfl rfl 6 (by decide) (hts _ q29) (fun _ h9 => h9) rfl dX0_rounds_82 ?_
            refine lv_iload_n hx hb dX0_rounds_85 rfl (lv_at hl 0 rfl) ?_
            refine gm_ald2 hx hb hK hP 5 2 rfl rfl (k := i) (by omega) (by decide) hyi1 dX0_rounds_86 ?_
            refine lv_lconst (v := 0) hx hb dX0_rounds_87 (by decide) ?_
            have hFc := gm_free hD hS hA
            refine va_callv (va_runS (As := [.ref yi, .long 0]) (rest := []) ⟨hx, hb, hml, hown, hts⟩ (metJ0_fill l dC dI kI kL kG kZ (gX6 ad kI kG n mm fa fb rt us g ++ mw) LP H.size pr yi 0 hyi2) (va_cwS 2 hts (lw_S q108 q109 q12 q110) rfl rfl rfl (by decide +kernel) ⟨Nat.le_of_ble_eq_true rfl, Nat.le_of_ble_eq_true rfl⟩) ⟨fun a U g mk q => by obtain ⟨q0, q1, qP, qK, qD⟩ := q; exact ⟨q0, q1, qP, va_K.moved (u := U) (U := U.calling g mk a) (Vm.Alike.refl U.vm) qK, qD⟩, fun U hU hW => ⟨rfl, by rw [hU], by rw [hU]; exact hP, va_K.moved hW.alike hK, hD.weaken (fun _ _ _ _ => trivial)⟩⟩ rfl rfl hl.1 rfl (lv_room (Nat.le_of_ble_eq_true rfl)) dX0_rounds_88 ⟨Nat.le_refl _, Nat.le_refl _⟩) hS (fun q _ h => hFc q h) hFc (fun u t1 H1 locs ht hvm hfl hB hz1 hk1 hS => ?_)
            obtain ⟨hP1, hK1, hD1⟩ := hB
            rw [ht] at hP1
            have hD1 := hD1.weaken (fun _ _ _ h => hFc _ h)
            clear hP hD hFc hk1 hz1 hK1 hvm ht
            generalize H1 = H at hP1 hS ⊢
            have hP : va_P (dC, dI) vwCl (gWX ad kI kL kG mw LP n mm fa fb rt us g (va_up pr yi u)) H := hP1
            have hD : va_D A (gWX ad kI kL kG mw LP n mm fa fb rt us g (va_up pr yi u)) := hD1
            obtain ⟨t, hgr, htt⟩ : ∃ t', gm_gr g LP (va_up pr yi u) t' ∧ gm_tt (gm_us n mm a) a b mm (gm_sz n mm a) i 0 0 t' := ⟨fun x y => if x = i then 0 else t x y, gm_gr_row hgr (by omega) hyi1 (fun j hj => by rw [if_pos rfl]; exact hfl j hj) (fun x j _ hxi _ => if_neg hxi), gm_tt_0 (fun x y hxi hy => by rw [if_neg (by omega)]; exact hro x y hxi hy) (fun y _ => if_pos rfl)⟩
            clear hfl hro hyi1 hyi2 hyi3
            generalize va_up pr yi u = pr at hgr hP hD
            have hP : va_P (dC, dI) vwCl (gWX ad kI kL kG mw LP n mm fa fb rt us g pr) H := hP
            have hD : va_D A (gWX ad kI kL kG mw LP n mm fa fb rt us g pr) := hD
            refine lv_iconst (v := nI 0) hx hb dX0_rounds_91 (by decide) ?_
            refine lv_istore (lv' := [(4, .int (nI 0)), (3, .int (nI i)), (2, .int (nI (gm_sz n mm a))), (1, .int (nI (a 0))), (0, .ref (ad 0))]) hx hb dX0_rounds_92 hl (by decide) rfl (fun ls hl => ?_)
            have loopJ : ∀ (w j : Nat) (pr t : Nat → Nat → Int64) (H : Heap) (locs : List Loc) (ls : Array Slot), j ≤ gm_sz n mm a → gm_sz n mm a < j + w → gm_tt (gm_us n mm a) a b mm (gm_sz n mm a) i j 0 t → gm_gr g LP pr t → va_P (dC, dI) vwCl (gWX ad kI kL kG mw LP n mm fa fb rt us g pr) H → va_D A (gWX ad kI kL kG mw LP n mm fa fb rt us g pr) → va_S A s.heap H locs → lv_has ls 7 [(4, .int (nI j)), (3, .int (nI i)), (2, .int (nI (gm_sz n mm a))), (1, .int (nI (a 0))), (0, .ref (ad 0))] → W p l e (headSpec wsX0_rounds ({ frames := 2, cells := 0, slots := 0, locals := 46 })).room s m ([.ref (ad 0)] : List Value).toArray below meth c H locs 0 0 (MQ below (va_Ql (fun (r : Int64) (u : (Nat → Int32) × (Nat → Int32) × (Nat → Option Nat) × (Nat → Nat → Int64)) => r = gm_RO mm a b ∧ ∃ t', gm_gr u.2.2.1 LP u.2.2.2 t') (fun (u : (Nat → Int32) × (Nat → Int32) × (Nat → Option Nat) × (Nat → Nat → Int64)) (t : State) => va_P (dC, dI) vwCl (gWX ad kI kL kG mw LP n mm fa fb u.1 u.2.1 u.2.2.1 u.2.2.2) t.heap ∧ va_K (dC, dI) vwCl (gTY kI kL kG kZ) t ∧ va_D A (gWX ad kI kL kG mw LP n mm fa fb u.1 u.2.1 u.2.2.1 u.2.2.2)) A) ([.ref (ad 0)] : List Value).toArray s 0 0 A) (F0 m 94 ls []) := by
              clear hP hD hS hl hgr htt
              intro w1
              induction w1 with
              | zero => intro j pr t H locs ls h3 h4; exact absurd h4 (by omega)
              | succ w1 ihJ =>
                intro j pr t H locs ls h3 h4 htt hgr hP hD hS hl
                refine lv_iload hx hb dX0_rounds_94 (lv_at hl 0 rfl) ?_
                refine lv_iload_n hx hb dX0_rounds_96 rfl (lv_at hl 2 rfl) ?_
                refine gm_bge (tgt := 212) hx hb dX0_rounds_97 (by decide) (by omega) (by omega) (fun hc2 => ?_) (fun hc2 => ?_)
                · have e1 : j = gm_sz n mm a := by omega
                  subst e1
                  refine lv_iinc (v := nI (i + 1)) (lv' := [(3, .int (nI (i + 1))), (4, .int (nI (gm_sz n mm a))), (2, .int (nI (gm_sz n mm a))), (1, .int (nI (a 0))), (0, .ref (ad 0))]) hx hb dX0_rounds_212 hl (k := 1) rfl (nI_1 i) (by decide) rfl (fun ls hl => ?_)
                  refine lv_goto (tgt := 76) hx hb dX0_rounds_215 (by decide) ?_
                  exact ih (i + 1) pr t H locs ls (by omega) (by omega) (gm_tt_row htt) hgr hP hD hS (lv_sub hl [0, 2, 3, 4] rfl)
                · have hUj := gm_us_lt hc2
                  refine lv_iconst (v := nI 0) hx hb dX0_rounds_100 (by decide) ?_
                  refine lv_istore (lv' := [(5, .int (nI 0)), (4, .int (nI j)), (3, .int (nI i)), (2, .int (nI (gm_sz n mm a))), (1, .int (nI (a 0))), (0, .ref (ad 0))]) hx hb dX0_rounds_101 hl (by decide) rfl (fun ls hl => ?_)
                  have loopE : ∀ (w e1 : Nat) (pr t : Nat → Nat → Int64) (H : Heap) (locs : List Loc) (ls : Array Slot), e1 ≤ mm → mm < e1 + w → gm_tt (gm_us n mm a) a b mm (gm_sz n mm a) i j e1 t → gm_gr g LP pr t → va_P (dC, dI) vwCl (gWX ad kI kL kG mw LP n mm fa fb rt us g pr) H → va_D A (gWX ad kI kL kG mw LP n mm fa fb rt us g pr) → va_S A s.heap H locs → lv_has ls 7 [(5, .int (nI e1)), (4, .int (nI j)), (3, .int (nI i)), (2, .int (nI (gm_sz n mm a))), (1, .int (nI (a 0))), (0, .ref (ad 0))] → W p l e (headSpec wsX0_rounds ({ frames := 2, cells := 0, slots := 0, locals := 46 })).room s m ([.ref (ad 0)] : List Value).toArray below meth c H locs 0 0 (MQ below (va_Ql (fun (r : Int64) (u : (Nat → Int32) × (Nat → Int32) × (Nat → Option Nat) × (Nat → Nat → Int64)) => r = gm_RO mm a b ∧ ∃ t', gm_gr u.2.2.1 LP u.2.2.2 t') (fun (u : (Nat → Int32) × (Nat → Int32) × (Nat → Option Nat) × (Nat → Nat → Int64)) (t : State) => va_P (dC, dI) vwCl (gWX ad kI kL kG mw LP n mm fa fb u.1 u.2.1 u.2.2.1 u.2.2.2) t.heap ∧ va_K (dC, dI) vwCl (gTY kI kL kG kZ) t ∧ va_D A (gWX ad kI kL kG mw LP n mm fa fb u.1 u.2.1 u.2.2.1 u.2.2.2)) A) ([.ref (ad 0)] : List Value).toArray s 0 0 A) (F0 m 103 ls []) := by
                    clear hP hD hS hl hgr htt
                    intro w2
                    induction w2 with
                    | zero => intro e1 pr t H locs ls h5 h6; exact absurd h6 (by omega)
                    | succ w2 ihE =>
                      intro e1 pr t H locs ls h5 h6 htt hgr hP hD hS hl
                      refine lv_iload hx hb dX0_rounds_103 (lv_at hl 0 rfl) ?_
                      refine lv_aload_n hx hb dX0_rounds_105 rfl (lv_at hl 5 rfl) ?_
                      refine va_get (D := (dC, dI)) (ci := 0) (v := .int (nI mm)) (C := RX0) (T := TX0) (N := 7) hx hb hts in_X0 hown hK hP 0 rfl rfl 1 (by decide) (hts _ q24) (fun _ h9 => h9) rfl dX0_rounds_106 ?_
                      refine gm_bge (tgt := 206) hx hb dX0_rounds_109 (by decide) (by omega) (by omega) (fun hc3 => ?_) (fun hc3 => ?_)
                      · have e2 : e1 = mm := by omega
                        rw [e2] at htt
                        refine lv_iinc (v := nI (j + 1)) (lv' := [(4, .int (nI (j + 1))), (5, .int (nI e1)), (3, .int (nI i)), (2, .int (nI (gm_sz n mm a))), (1, .int (nI (a 0))), (0, .ref (ad 0))]) hx hb dX0_rounds_206 hl (k := 1) rfl (nI_1 j) (by decide) rfl (fun ls hl => ?_)
                        refine lv_goto (tgt := 94) hx hb dX0_rounds_209 (by decide) ?_
                        exact ihJ (j + 1) pr t H locs ls (by omega) (by omega) (gm_tt_col htt) hgr hP hD hS (lv_sub hl [0, 2, 3, 4, 5] rfl)
                      · obtain ⟨ea, ea2⟩ := ha e1 hc3
                        obtain ⟨eb, eb2⟩ := hb2 e1 hc3
                        have eui := huh i hc
                        have euj := huh j hc2
                        refine lv_aload_n hx hb dX0_rounds_112 rfl (lv_at hl 5 rfl) ?_
                        refine va_get (D := (dC, dI)) (ci := 0) (v := .ref (ad 1)) (C := RX0) (T := TX0) (N := 7) hx hb hts in_X0 hown hK hP 0 rfl rfl 2 (by decide) (hts _ q25) (fun _ h9 => h9) rfl dX0_rounds_113 ?_
                        refine lv_iload hx hb dX0_rounds_116 (lv_at hl 0 rfl) ?_
                        refine gm_iald (v := nI (a e1)) hx hb hK hP 1 0 rfl rfl (k := e1) (by omega) (by decide) ea dX0_rounds_118 ?_
                        refine lv_aload_n hx hb dX0_rounds_119 rfl (lv_at hl 5 rfl) ?_
                        refine va_get (D := (dC, dI)) (ci := 0) (v := .ref (ad 4)) (C := RX0) (T := TX0) (N := 7) hx hb hts in_X0 hown hK hP 0 rfl rfl 5 (by decide) (hts _ q28) (fun _ h9 => h9) rfl dX0_rounds_120 ?_
                        refine lv_iload_n hx hb dX0_rounds_123 rfl (lv_at hl 2 rfl) ?_
                        refine gm_iald (v := nI (gm_us n mm a i)) hx hb hK hP 4 0 rfl rfl (k := i) (by omega) (by decide) eui dX0_rounds_124 ?_
                        refine gm_bne (tgt := 200) hx hb dX0_rounds_125 (by decide) (by omega) (by omega) (fun hc4 => ?_) (fun hc4 => ?_)
                        · skip
                          refine lv_iinc (v := nI (e1 + 1)) (lv' := [(5, .int (nI (e1 + 1))), (4, .int (nI j)), (3, .int (nI i)), (2, .int (nI (gm_sz n mm a))), (1, .int (nI (a 0))), (0, .ref (ad 0))]) hx hb dX0_rounds_200 hl (k := 0) rfl (nI_1 e1) (by decide) rfl (fun ls hl => ?_)
                          refine lv_goto (tgt := 103) hx hb dX0_rounds_203 (by decide) ?_
                          exact ihE (e1 + 1) pr t H locs ls (by omega) (by omega) (gm_tt_skip htt (by rw [gm_en, if_neg (fun q => hc4 q.1), Int.add_zero])) hgr hP hD hS (lv_sub hl [0, 1, 2, 3, 4, 5] rfl)
                        · skip
                          refine lv_aload_n hx hb dX0_rounds_128 rfl (lv_at hl 5 rfl) ?_
                          refine va_get (D := (dC, dI)) (ci := 0) (v := .ref (ad 1)) (C := RX0) (T := TX0) (N := 7) hx hb hts in_X0 hown hK hP 0 rfl rfl 2 (by decide) (hts _ q25) (fun _ h9 => h9) rfl dX0_rounds_129 ?_
                          refine lv_iload hx hb dX0_rounds_132 (lv_at hl 0 rfl) ?_
                          refine gm_iald (v := nI (a e1)) hx hb hK hP 1 0 rfl rfl (k := e1) (by omega) (by decide) ea dX0_rounds_134 ?_
                          refine lv_aload_n hx hb dX0_rounds_135 rfl (lv_at hl 5 rfl) ?_
                          refine va_get (D := (dC, dI)) (ci := 0) (v := .ref (ad 2)) (C := RX0) (T := TX0) (N := 7) hx hb hts in_X0 hown hK hP 0 rfl rfl 3 (by decide) (hts _ q26) (fun _ h9 => h9) rfl dX0_rounds_136 ?_
                          refine lv_iload hx hb dX0_rounds_139 (lv_at hl 0 rfl) ?_
                          refine gm_iald (v := nI (b e1)) hx hb hK hP 2 0 rfl rfl (k := e1) (by omega) (by decide) eb dX0_rounds_141 ?_
                          refine gm_bne (tgt := 148) hx hb dX0_rounds_142 (by decide) (by omega) (by omega) (fun hc5 => ?_) (fun hc5 => ?_)
                          · skip
                            refine lv_iload_n hx hb dX0_rounds_148 rfl (lv_at hl 2 rfl) ?_
                            refine lv_iload hx hb dX0_rounds_149 (lv_at hl 1 rfl) ?_
                            refine gm_bne (tgt := 170) hx hb dX0_rounds_151 (by decide) (by omega) (by omega) (fun hc6 => ?_) (fun hc6 => ?_)
                            · have hne : gm_us n mm a i ≠ gm_us n mm a j := fun q => hc6 (gm_us_inj hc hc2 q)
                              refine lv_aload_n hx hb dX0_rounds_170 rfl (lv_at hl 5 rfl) ?_
                              refine va_get (D := (dC, dI)) (ci := 0) (v := .ref (ad 2)) (C := RX0) (T := TX0) (N := 7) hx hb hts in_X0 hown hK hP 0 rfl rfl 3 (by decide) (hts _ q26) (fun _ h9 => h9) rfl dX0_rounds_171 ?_
                              refine lv_iload hx hb dX0_rounds_174 (lv_at hl 0 rfl) ?_
                              refine gm_iald (v := nI (b e1)) hx hb hK hP 2 0 rfl rfl (k := e1) (by omega) (by decide) eb dX0_rounds_176 ?_
                              refine lv_aload_n hx hb dX0_rounds_177 rfl (lv_at hl 5 rfl) ?_
                              refine va_get (D := (dC, dI)) (ci := 0) (v := .ref (ad 4)) (C := RX0) (T := TX0) (N := 7) hx hb hts in_X0 hown hK hP 0 rfl rfl 5 (by decide) (hts _ q28) (fun _ h9 => h9) rfl dX0_rounds_178 ?_
                              refine lv_iload hx hb dX0_rounds_181 (lv_at hl 1 rfl) ?_
                              refine gm_iald (v := nI (gm_us n mm a j)) hx hb hK hP 4 0 rfl rfl (k := j) (by omega) (by decide) euj dX0_rounds_183 ?_
                              refine gm_bne (tgt := 200) hx hb dX0_rounds_184 (by decide) (by omega) (by omega) (fun hc7 => ?_) (fun hc7 => ?_)
                              · skip
                                refine lv_iinc (v := nI (e1 + 1)) (lv' := [(5, .int (nI (e1 + 1))), (4, .int (nI j)), (3, .int (nI i)), (2, .int (nI (gm_sz n mm a))), (1, .int (nI (a 0))), (0, .ref (ad 0))]) hx hb dX0_rounds_200 hl (k := 0) rfl (nI_1 e1) (by decide) rfl (fun ls hl => ?_)
                                refine lv_goto (tgt := 103) hx hb dX0_rounds_203 (by decide) ?_
                                exact ihE (e1 + 1) pr t H locs ls (by omega) (by omega) (gm_tt_skip htt (by rw [gm_en, if_pos ⟨hc4, hc5⟩, if_neg hne, if_neg hc7, Int.add_zero])) hgr hP hD hS (lv_sub hl [0, 1, 2, 3, 4, 5] rfl)
                              · skip
                                obtain ⟨yi, hyi1, hyi2, hyi3⟩ := hgr.1 (i) (by omega)
                                refine lv_aload_n hx hb dX0_rounds_187 rfl (lv_at hl 5 rfl) ?_
                                refine va_get (D := (dC, dI)) (ci := 0) (v := .ref (ad 5)) (C := RX0) (T := TX0) (N := 7) hx hb hts in_X0 hown hK hP 0 rfl rfl 6 (by decide) (hts _ q29) (fun _ h9 => h9) rfl dX0_rounds_188 ?_
                                refine lv_iload_n hx hb dX0_rounds_191 rfl (lv_at hl 2 rfl) ?_
                                refine gm_ald2 hx hb hK hP 5 2 rfl rfl (k := i) (by omega) (by decide) hyi1 dX0_rounds_192 ?_
                                refine lv_iload hx hb dX0_rounds_193 (lv_at hl 1 rfl) ?_
                                refine lv_dup2_11 hx hb dX0_rounds_195 rfl rfl ?_
                                refine gm_lald2 (v := t i j) hx hb hK hP 1 rfl hyi2 (k := j) (by omega) (by decide) (hyi3 j (by omega)) dX0_rounds_196 ?_
                                refine lv_lconst (v := 1) hx hb dX0_rounds_197 (by decide) ?_
                                refine lv_lsub hx hb dX0_rounds_198 ?_
                                refine gm_last2 hx hb hK hP hD hS 1 rfl hyi2 (k := j) (by omega) (by decide) dX0_rounds_199 (fun H locs hP hD hS => ?_)
                                have hP : va_P (dC, dI) vwCl (gWX ad kI kL kG mw LP n mm fa fb rt us g (va_up pr yi (vp_updL (pr yi) j ((t i j) - 1)))) H := hP
                                have hD : va_D A (gWX ad kI kL kG mw LP n mm fa fb rt us g (va_up pr yi (vp_updL (pr yi) j ((t i j) - 1)))) := hD
                                refine lv_iinc (v := nI (e1 + 1)) (lv' := [(5, .int (nI (e1 + 1))), (4, .int (nI j)), (3, .int (nI i)), (2, .int (nI (gm_sz n mm a))), (1, .int (nI (a 0))), (0, .ref (ad 0))]) hx hb dX0_rounds_200 hl (k := 0) rfl (nI_1 e1) (by decide) rfl (fun ls hl => ?_)
                                refine lv_goto (tgt := 103) hx hb dX0_rounds_203 (by decide) ?_
                                exact ihE (e1 + 1) _ _ H locs ls (by omega) (by omega) (gm_tt_put htt (by rw [gm_tt_at htt hc2, gm_en, if_pos ⟨hc4, hc5⟩, if_neg hne, if_pos hc7]; exact (Int64.ofInt_sub _ 1).symm)) (gm_gr_put hgr (by omega) hyi1) hP hD hS (lv_sub hl [0, 1, 2, 3, 4, 5] rfl)
                            · skip
                              obtain ⟨yi, hyi1, hyi2, hyi3⟩ := hgr.1 (i) (by omega)
                              refine lv_aload_n hx hb dX0_rounds_154 rfl (lv_at hl 5 rfl) ?_
                              refine va_get (D := (dC, dI)) (ci := 0) (v := .ref (ad 5)) (C := RX0) (T := TX0) (N := 7) hx hb hts in_X0 hown hK hP 0 rfl rfl 6 (by decide) (hts _ q29) (fun _ h9 => h9) rfl dX0_rounds_155 ?_
                              refine lv_iload_n hx hb dX0_rounds_158 rfl (lv_at hl 2 rfl) ?_
                              refine gm_ald2 hx hb hK hP 5 2 rfl rfl (k := i) (by omega) (by decide) hyi1 dX0_rounds_159 ?_
                              refine lv_iload hx hb dX0_rounds_160 (lv_at hl 1 rfl) ?_
                              refine lv_dup2_11 hx hb dX0_rounds_162 rfl rfl ?_
                              refine gm_lald2 (v := t i j) hx hb hK hP 1 rfl hyi2 (k := j) (by omega) (by decide) (hyi3 j (by omega)) dX0_rounds_163 ?_
                              refine lv_lconst (v := 1) hx hb dX0_rounds_164 (by decide) ?_
                              refine lv_ladd hx hb dX0_rounds_165 ?_
                              refine gm_last2 hx hb hK hP hD hS 1 rfl hyi2 (k := j) (by omega) (by decide) dX0_rounds_166 (fun H locs hP hD hS => ?_)
                              have hP : va_P (dC, dI) vwCl (gWX ad kI kL kG mw LP n mm fa fb rt us g (va_up pr yi (vp_updL (pr yi) j ((t i j) + 1)))) H := hP
                              have hD : va_D A (gWX ad kI kL kG mw LP n mm fa fb rt us g (va_up pr yi (vp_updL (pr yi) j ((t i j) + 1)))) := hD
                              refine lv_goto (tgt := 200) hx hb dX0_rounds_167 (by decide) ?_
                              refine lv_iinc (v := nI (e1 + 1)) (lv' := [(5, .int (nI (e1 + 1))), (4, .int (nI j)), (3, .int (nI i)), (2, .int (nI (gm_sz n mm a))), (1, .int (nI (a 0))), (0, .ref (ad 0))]) hx hb dX0_rounds_200 hl (k := 0) rfl (nI_1 e1) (by decide) rfl (fun ls hl => ?_)
                              refine lv_goto (tgt := 103) hx hb dX0_rounds_203 (by decide) ?_
                              exact ihE (e1 + 1) _ _ H locs ls (by omega) (by omega) (gm_tt_put htt (by rw [gm_tt_at htt hc2, gm_en, if_pos ⟨hc4, hc5⟩, if_pos (show gm_us n mm a i = gm_us n mm a j by rw [hc6])]; exact (Int64.ofInt_add _ 1).symm)) (gm_gr_put hgr (by omega) hyi1) hP hD hS (lv_sub hl [0, 1, 2, 3, 4, 5] rfl)
                          · skip
                            refine lv_goto (tgt := 200) hx hb dX0_rounds_145 (by decide) ?_
                            refine lv_iinc (v := nI (e1 + 1)) (lv' := [(5, .int (nI (e1 + 1))), (4, .int (nI j)), (3, .int (nI i)), (2, .int (nI (gm_sz n mm a))), (1, .int (nI (a 0))), (0, .ref (ad 0))]) hx hb dX0_rounds_200 hl (k := 0) rfl (nI_1 e1) (by decide) rfl (fun ls hl => ?_)
                            refine lv_goto (tgt := 103) hx hb dX0_rounds_203 (by decide) ?_
                            exact ihE (e1 + 1) pr t H locs ls (by omega) (by omega) (gm_tt_skip htt (by rw [gm_en, if_neg (fun q => q.2 hc5), Int.add_zero])) hgr hP hD hS (lv_sub hl [0, 1, 2, 3, 4, 5] rfl)
                  exact loopE (mm + 1) 0 pr t H locs ls (by omega) (by omega) htt hgr hP hD hS (lv_sub hl [0, 1, 2, 3, 4, 5] rfl)
            exact loopJ (gm_sz n mm a + 1) 0 pr t H locs ls (by omega) (by omega) htt hgr hP hD hS (lv_sub hl [0, 1, 2, 3, 4] rfl)
      refine lv_iconst (v := nI 0) hx hb dX0_rounds_74 (by decide) ?_
      refine lv_istore_n (lv' := [(3, .int (nI 0)), (2, .int (nI (gm_sz n mm a))), (1, .int (nI (a 0))), (0, .ref (ad 0))]) hx hb dX0_rounds_75 rfl hl (by decide) rfl (fun ls hl => ?_)
      exact loopI (gm_sz n mm a + 1) 0 pr t H locs ls (by omega) (by omega) (fun x y hxi _ => absurd hxi (by omega)) hgr0 hP hD hS (lv_sub hl [0, 1, 2, 3] rfl)
    have loopU : ∀ (w p1 : Nat) (rt us : Nat → Int32) (H : Heap) (locs : List Loc) (ls : Array Slot), p1 ≤ n → n < p1 + w → gm_uh p1 mm a us → va_P (dC, dI) vwCl (gWX ad kI kL kG mw LP n mm fa fb rt us g pr) H → va_D A (gWX ad kI kL kG mw LP n mm fa fb rt us g pr) → va_S A s.heap H locs → lv_has ls 7 [(3, .int (nI p1)), (2, .int (nI (gm_sz p1 mm a))), (1, .int (nI (a 0))), (0, .ref (ad 0))] → W p l e (headSpec wsX0_rounds ({ frames := 2, cells := 0, slots := 0, locals := 46 })).room s m ([.ref (ad 0)] : List Value).toArray below meth c H locs 0 0 (MQ below (va_Ql (fun (r : Int64) (u : (Nat → Int32) × (Nat → Int32) × (Nat → Option Nat) × (Nat → Nat → Int64)) => r = gm_RO mm a b ∧ ∃ t', gm_gr u.2.2.1 LP u.2.2.2 t') (fun (u : (Nat → Int32) × (Nat → Int32) × (Nat → Option Nat) × (Nat → Nat → Int64)) (t : State) => va_P (dC, dI) vwCl (gWX ad kI kL kG mw LP n mm fa fb u.1 u.2.1 u.2.2.1 u.2.2.2) t.heap ∧ va_K (dC, dI) vwCl (gTY kI kL kG kZ) t ∧ va_D A (gWX ad kI kL kG mw LP n mm fa fb u.1 u.2.1 u.2.2.1 u.2.2.2)) A) ([.ref (ad 0)] : List Value).toArray s 0 0 A) (F0 m 34 ls []) := by
      intro w
      induction w with
      | zero => intro p1 rt us H locs ls h1 h2; exact absurd h2 (by omega)
      | succ w ih =>
        intro p1 rt us H locs ls h1 h2 huh hP hD hS hl
        have hzl : gm_sz p1 mm a ≤ p1 := gm_lv_len _ _
        refine lv_iload_n hx hb dX0_rounds_34 rfl (lv_at hl 0 rfl) ?_
        refine lv_aload_n hx hb dX0_rounds_35 rfl (lv_at hl 3 rfl) ?_
        refine va_get (D := (dC, dI)) (ci := 0) (v := .int (nI n)) (C := RX0) (T := TX0) (N := 7) hx hb hts in_X0 hown hK hP 0 rfl rfl 0 (by decide) (hts _ q23) (fun _ h9 => h9) rfl dX0_rounds_36 ?_
        refine gm_bge (tgt := 74) hx hb dX0_rounds_39 (by decide) (by omega) (by omega) (fun hc => ?_) (fun hc => ?_)
        · have e1 : p1 = n := by omega
          rw [e1] at huh hl
          exact k74 rt us n H locs ls huh hP hD hS (lv_sub hl [0, 1, 2, 3] rfl)
        · skip
          refine lv_iload_n hx hb dX0_rounds_42 rfl (lv_at hl 0 rfl) ?_
          refine lv_iload_n hx hb dX0_rounds_43 rfl (lv_at hl 2 rfl) ?_
          refine gm_beq (tgt := 68) hx hb dX0_rounds_44 (by decide) (by omega) (by omega) (fun hc2 => ?_) (fun hc2 => ?_)
          · have hlf := gm_live_f (m := mm) (a := a) (Or.inl hc2)
            refine lv_iinc (v := nI (p1 + 1)) (lv' := [(3, .int (nI (p1 + 1))), (2, .int (nI (gm_sz p1 mm a))), (1, .int (nI (a 0))), (0, .ref (ad 0))]) hx hb dX0_rounds_68 hl (k := 0) rfl (nI_1 p1) (by decide) rfl (fun ls hl => ?_)
            refine lv_goto (tgt := 34) hx hb dX0_rounds_71 (by decide) ?_
            exact ih (p1 + 1) rt us H locs ls (by omega) (by omega) (gm_uh_f huh hlf) hP hD hS (by rw [gm_sz_f hlf]; exact lv_sub hl [0, 1, 2, 3] rfl)
          · have c1 := gm_ct_le a p1 mm
            refine lv_aload_n hx hb dX0_rounds_47 rfl (lv_at hl 3 rfl) ?_
            refine lv_iload_n hx hb dX0_rounds_48 rfl (lv_at hl 0 rfl) ?_
            refine vp_callSi (W.runV (As := [.int (nI p1)]) (rest := []) ⟨hx, hb, hml, hown, hts⟩ (metX0_leaving l dC dI kI kL kG kZ ad mw LP n mm fa fb rt us g pr p1 a (by omega) hm hn.2 ha) (cwV 1 hts (lw_V q68 q70 qs1 q10 q71) rfl rfl rfl (by decide +kernel) ⟨Nat.le_of_ble_eq_true rfl, Nat.le_of_ble_eq_true rfl⟩) ⟨fun a U g mk q => by obtain ⟨q0, qP, qK⟩ := q; exact ⟨q0, qP, va_K.moved (u := U) (U := U.calling g mk a) (Vm.Alike.refl U.vm) qK⟩, va_recv hK hP (ci := 0) (q0 := 0) rfl rfl, fun U hU hW => ⟨rfl, by rw [hU]; exact hP, va_K.moved hW.alike hK⟩⟩ rfl rfl hl.1 rfl (lv_room (Nat.le_of_ble_eq_true rfl)) dX0_rounds_49 ⟨Nat.le_refl _, Nat.le_refl _⟩) (fun r hr1 => ?_)
            subst hr1
            refine gm_zne (tgt := 58) hx hb dX0_rounds_52 (by decide) (by omega) (fun hc3 => ?_) (fun hc3 => ?_)
            · have hlt := gm_live_t (m := mm) (a := a) hc2 hc3
              refine lv_aload_n hx hb dX0_rounds_58 rfl (lv_at hl 3 rfl) ?_
              refine va_get (D := (dC, dI)) (ci := 0) (v := .ref (ad 4)) (C := RX0) (T := TX0) (N := 7) hx hb hts in_X0 hown hK hP 0 rfl rfl 5 (by decide) (hts _ q28) (fun _ h9 => h9) rfl dX0_rounds_59 ?_
              refine lv_iload_n hx hb dX0_rounds_62 rfl (lv_at hl 1 rfl) ?_
              refine lv_iload_n hx hb dX0_rounds_63 rfl (lv_at hl 0 rfl) ?_
              refine gm_iast hx hb hK hP hD hS 4 0 rfl rfl (k := (gm_sz p1 mm a)) (by omega) (by decide) dX0_rounds_64 (fun H locs hP hD hS => ?_)
              have hP : va_P (dC, dI) vwCl (gWX ad kI kL kG mw LP n mm fa fb rt (upd us (gm_sz p1 mm a) (nI p1)) g pr) H := hP
              have hD : va_D A (gWX ad kI kL kG mw LP n mm fa fb rt (upd us (gm_sz p1 mm a) (nI p1)) g pr) := hD
              refine lv_iinc (v := nI (gm_sz p1 mm a + 1)) (lv' := [(2, .int (nI (gm_sz p1 mm a + 1))), (3, .int (nI p1)), (1, .int (nI (a 0))), (0, .ref (ad 0))]) hx hb dX0_rounds_65 hl (k := 1) rfl (nI_1 (gm_sz p1 mm a)) (by decide) rfl (fun ls hl => ?_)
              refine lv_iinc (v := nI (p1 + 1)) (lv' := [(3, .int (nI (p1 + 1))), (2, .int (nI (gm_sz p1 mm a + 1))), (1, .int (nI (a 0))), (0, .ref (ad 0))]) hx hb dX0_rounds_68 hl (k := 1) rfl (nI_1 p1) (by decide) rfl (fun ls hl => ?_)
              refine lv_goto (tgt := 34) hx hb dX0_rounds_71 (by decide) ?_
              exact ih (p1 + 1) rt _ H locs ls (by omega) (by omega) (gm_uh_t huh hlt) hP hD hS (by rw [gm_sz_t hlt]; exact lv_sub hl [0, 1, 2, 3] rfl)
            · have hlf := gm_live_f (m := mm) (a := a) (r := a 0) (Or.inr hc3)
              refine lv_goto (tgt := 68) hx hb dX0_rounds_55 (by decide) ?_
              refine lv_iinc (v := nI (p1 + 1)) (lv' := [(3, .int (nI (p1 + 1))), (2, .int (nI (gm_sz p1 mm a))), (1, .int (nI (a 0))), (0, .ref (ad 0))]) hx hb dX0_rounds_68 hl (k := 0) rfl (nI_1 p1) (by decide) rfl (fun ls hl => ?_)
              refine lv_goto (tgt := 34) hx hb dX0_rounds_71 (by decide) ?_
              exact ih (p1 + 1) rt us H locs ls (by omega) (by omega) (gm_uh_f huh hlf) hP hD hS (by rw [gm_sz_f hlf]; exact lv_sub hl [0, 1, 2, 3] rfl)
    intro rt H locs ls hP hD hS hl
    have e0 := (ha 0 (by omega)).1
    refine lv_aload_n hx hb dX0_rounds_23 rfl (lv_at hl 0 rfl) ?_
    refine va_get (D := (dC, dI)) (ci := 0) (v := .ref (ad 1)) (C := RX0) (T := TX0) (N := 7) hx hb hts in_X0 hown hK hP 0 rfl rfl 2 (by decide) (hts _ q25) (fun _ h9 => h9) rfl dX0_rounds_24 ?_
    refine lv_iconst (v := nI 0) hx hb dX0_rounds_27 (by decide) ?_
    refine gm_iald (v := nI (a 0)) hx hb hK hP 1 0 rfl rfl (k := 0) (by omega) (by decide) e0 dX0_rounds_28 ?_
    refine lv_istore_n (lv' := [(1, .int (nI (a 0))), (0, .ref (ad 0))]) hx hb dX0_rounds_29 rfl hl (by decide) rfl (fun ls hl => ?_)
    refine lv_iconst (v := nI 0) hx hb dX0_rounds_30 (by decide) ?_
    refine lv_istore_n (lv' := [(2, .int (nI 0)), (1, .int (nI (a 0))), (0, .ref (ad 0))]) hx hb dX0_rounds_31 rfl hl (by decide) rfl (fun ls hl => ?_)
    refine lv_iconst (v := nI 0) hx hb dX0_rounds_32 (by decide) ?_
    refine lv_istore_n (lv' := [(3, .int (nI 0)), (2, .int (nI 0)), (1, .int (nI (a 0))), (0, .ref (ad 0))]) hx hb dX0_rounds_33 rfl hl (by decide) rfl (fun ls hl => ?_)
    exact loopU (n + 1) 0 rt us H locs ls (by omega) (by omega) (gm_uh_0 mm a us) hP hD hS (lv_sub hl [0, 1, 2, 3] rfl)
  refine lv_aload_n hx hb dX0_rounds_0 rfl (lv_at hl 0 rfl) ?_
  refine va_get (D := (dC, dI)) (ci := 0) (v := .int (nI mm)) (C := RX0) (T := TX0) (N := 7) hx hb hts in_X0 hown hK hP 0 rfl rfl 1 (by decide) (hts _ q24) (fun _ h9 => h9) rfl dX0_rounds_1 ?_
  refine gm_zeq (tgt := 21) hx hb dX0_rounds_4 (by decide) (by omega) (fun hm0 => ?_) (fun hm0 => ?_)
  · skip
    refine lv_lconst (v := 0) hx hb dX0_rounds_21 (by decide) ?_
    exact W.lret (v := 0) hx hb hr (fun t ht hW => ⟨⟨0, (rt, us, g, pr), rfl, ⟨by rw [hm0]; exact gm_RO_none a b, _, hgr0⟩, by rw [ht]; exact hP, va_K.moved hW.alike hK, hD⟩, hS.F ht⟩) hS.2.2 dX0_rounds_22
  · skip
    refine lv_aload_n hx hb dX0_rounds_7 rfl (lv_at hl 0 rfl) ?_
    refine vp_callSi (W.runV (As := []) (rest := []) ⟨hx, hb, hml, hown, hts⟩ (metX0_over l dC dI kI kL kG kZ ad mw LP n mm fa fb rt us g pr a b hn hm ha hb2) (cwV 0 hts (lw_V q100 q102 qs6 q10 q103) rfl rfl rfl (by decide +kernel) ⟨Nat.le_of_ble_eq_true rfl, Nat.le_of_ble_eq_true rfl⟩) ⟨fun a U g mk q => by obtain ⟨q0, qP, qK⟩ := q; exact ⟨q0, qP, va_K.moved (u := U) (U := U.calling g mk a) (Vm.Alike.refl U.vm) qK⟩, va_recv hK hP (ci := 0) (q0 := 0) rfl rfl, fun U hU hW => ⟨rfl, by rw [hU]; exact hP, va_K.moved hW.alike hK⟩⟩ rfl rfl hl.1 rfl (lv_room (Nat.le_of_ble_eq_true rfl)) dX0_rounds_8 ⟨Nat.le_refl _, Nat.le_refl _⟩) (fun r hr1 => ?_)
    have hoc5 := gm_oc_le mm a b n
    rcases hr1 with ⟨hg1, hr1⟩ | ⟨hg1, hr1⟩
    · subst hr1
      refine gm_zne (tgt := 21) hx hb dX0_rounds_11 (by decide) (by omega) (fun hc2 => ?_) (fun hc2 => ?_)
      · skip
        refine lv_lconst (v := 0) hx hb dX0_rounds_21 (by decide) ?_
        exact W.lret (v := 0) hx hb hr (fun t ht hW => ⟨⟨0, (rt, us, g, pr), rfl, ⟨gm_RO_no (n := n) (fun h9 => hc2 h9.1.2), _, hgr0⟩, by rw [ht]; exact hP, va_K.moved hW.alike hK, hD⟩, hS.F ht⟩) hS.2.2 dX0_rounds_22
      · skip
        refine lv_aload_n hx hb dX0_rounds_14 rfl (lv_at hl 0 rfl) ?_
        have hFc := gm_free hD hS hA
        refine va_calli (va_runV (As := []) (rest := []) ⟨hx, hb, hml, hown, hts⟩ (metX0_isOne l dC dI kI kL kG kZ ad mw LP H.size n mm fa fb rt us g pr a b hn hm ha hb2) (cwV 0 hts (lw_V q84 q86 qs4 q10 q87) rfl rfl rfl (by decide +kernel) ⟨Nat.le_of_ble_eq_true rfl, Nat.le_of_ble_eq_true rfl⟩) ⟨fun a U g mk q => by obtain ⟨q0, q1, qP, qK, qD⟩ := q; exact ⟨q0, q1, qP, va_K.moved (u := U) (U := U.calling g mk a) (Vm.Alike.refl U.vm) qK, qD⟩, va_recv hK hP (ci := 0) (q0 := 0) rfl rfl, fun U hU hW => ⟨rfl, by rw [hU], by rw [hU]; exact hP, va_K.moved hW.alike hK, hD.weaken (fun _ _ _ _ => trivial)⟩⟩ rfl rfl hl.1 rfl (lv_room (Nat.le_of_ble_eq_true rfl)) dX0_rounds_15 ⟨Nat.le_refl _, Nat.le_refl _⟩) hS (fun q _ h => hFc q h) hFc (fun r rt1 t H1 locs ht hvm hr1 hB hz1 hk1 hS => ?_)
        obtain ⟨hP1, hK1, hD1⟩ := hB
        rw [ht] at hP1
        have hD1 := hD1.weaken (fun _ _ _ h => hFc _ h)
        clear hP hD hFc hk1 hz1 hK1 hvm ht
        generalize H1 = H at hP1 hS ⊢
        have hP : va_P (dC, dI) vwCl (gWX ad kI kL kG mw LP n mm fa fb rt1 us g pr) H := hP1
        have hD : va_D A (gWX ad kI kL kG mw LP n mm fa fb rt1 us g pr) := hD1
        refine lv_if_ne (tgt := 23) hx hb dX0_rounds_18 (by decide) (fun hc3 => ?_) (fun hc3 => ?_)
        · exact k23 hg1 hc2 hm0 rt1 H locs ls hP hD hS (lv_sub hl [0] rfl)
        · have e9 : ¬ gm_conn mm a b := gm_b_0.mp (by rw [← hr1]; exact hc3)
          refine lv_lconst (v := 0) hx hb dX0_rounds_21 (by decide) ?_
          exact W.lret (v := 0) hx hb hr (fun t ht hW => ⟨⟨0, (rt1, us, g, pr), rfl, ⟨gm_RO_no (n := n) (fun h9 => e9 h9.2), _, hgr0⟩, by rw [ht]; exact hP, va_K.moved hW.alike hK, hD⟩, hS.F ht⟩) hS.2.2 dX0_rounds_22
    · subst hr1
      refine lv_if_ne (tgt := 21) hx hb dX0_rounds_11 (by decide) (fun hc2 => ?_) (fun hc2 => ?_)
      · skip
        refine lv_lconst (v := 0) hx hb dX0_rounds_21 (by decide) ?_
        exact W.lret (v := 0) hx hb hr (fun t ht hW => ⟨⟨0, (rt, us, g, pr), rfl, ⟨gm_RO_no (n := n) (fun h9 => hg1 h9.1.1), _, hgr0⟩, by rw [ht]; exact hP, va_K.moved hW.alike hK, hD⟩, hS.F ht⟩) hS.2.2 dX0_rounds_22
      · exact absurd hc2 (by decide)
end
section
/-! THE CONSTRUCTORS -/
def gm_ad (o q1 q2 q3 q4 h : Nat) : Nat → Nat := fun k => match k with
  | 0 => o
  | 1 => q1
  | 2 => q2
  | 3 => q3
  | 4 => q4
  | _ => h
abbrev wsX0_init : List Cond := ws_ yX0_init cX0_init 1 none
set_option maxHeartbeats 4000000 in
set_option maxRecDepth 100000 in
/-- the desk, new -/
theorem metX0_init (l : Launch) (dC : Nat → ClassId) (dI : Nat → Nat → Nat) (kI kL kG kZ : ClassId) (o sz : Nat) : Met l yX0_init wsX0_init ({ frames := 1, cells := 10, slots := 60, locals := 12 }) (va_Pc [.ref o] (fun U => U.heap.size = sz ∧ va_P (dC, dI) vwCl ([(o, .inr (0, [.int 0, .int 0, .null, .null, .null, .null, .null]))]) U.heap ∧ va_K (dC, dI) vwCl (gTY kI kL kG kZ) U ∧ va_D (fun _ => True) ([(o, .inr (0, [.int 0, .int 0, .null, .null, .null, .null, .null]))]) ∧ (Cond.arrayOver (.array .long)).before #[] U = true)) (va_Qv (fun (u : Nat → Nat) => u 0 = o) (fun (u : Nat → Nat) (t : State) => va_P (dC, dI) vwCl (gWX u kI kL kG [] (gm_rng (u 5)) 3 0 (fun _ => 0) (fun _ => 0) (fun _ => 0) (fun _ => 0) (fun j => some (u 5 + 1 + j)) (fun _ _ => 0)) t.heap ∧ va_K (dC, dI) vwCl (gTY kI kL kG kZ) t ∧ va_D (va_A ([(o, .inr (0, [.int 0, .int 0, .null, .null, .null, .null, .null]))]) sz) (gWX u kI kL kG [] (gm_rng (u 5)) 3 0 (fun _ => 0) (fun _ => 0) (fun _ => 0) (fun _ => 0) (fun j => some (u 5 + 1 + j)) (fun _ _ => 0))) (va_A ([(o, .inr (0, [.int 0, .int 0, .null, .null, .null, .null, .null]))]) sz)) 10 60 (va_A ([(o, .inr (0, [.int 0, .int 0, .null, .null, .null, .null, .null]))]) sz) := by
  refine Met.ofW (cc := cX0_init) (maxL := 1) (ret := none) (by decide) rfl ?_
  intro p e s m args below meth c s₁ B hml hv
  obtain ⟨rfl, hsz, hP, hK, hD0, hov⟩ := hv
  have hx := B.exec
  have hb := B.bytes
  have hr := B.returns
  have hts := atoms_spec (ws := wsX0_init) B.pre
  have hts : ∀ w ∈ lw_all, w.before _ s = true := fun w h => hts w (List.mem_cons_of_mem _ h)
  have hown : s.vm.findClass RX0 = some m.cls := findClass_of_methodNamed B.named
  have hlocks := B.notSynchronized
  have hin : meth.name = "<init>" := (name_of_methodNamed B.named B.method).1
  subst hsz
  have hD := hD0.self (sz := s.heap.size)
  generalize hAe : va_A ([(o, .inr (0, [.int 0, .int 0, .null, .null, .null, .null, .null]))]) s.heap.size = A at hD ⊢
  have hA : ∀ q : Nat, s.heap.size ≤ q → A q := fun q h => by rw [← hAe]; exact Or.inr h
  have hS : va_S A s.heap s.heap [] := va_S.rf
  have hl := lv_entry ([.ref o]) (n := 1) (Nat.le_of_ble_eq_true rfl)
  rw [lg_entry_eq]
  generalize (lg_sl ([.ref o]) ++ List.replicate (1 - (lg_sl ([.ref o])).length) Slot.unset).toArray = ls at hl ⊢
  have hl : lv_has ls 1 [(0, .ref o)] := hl
  refine lv_aload_n hx hb dX0_init_0 rfl (lv_at hl 0 rfl) ?_
  refine W.objInit hx hb hown (hts _ q18) (hts _ q19) (hts _ q20) rfl (by rw [hml]; exact hl.1) rfl dX0_init_1 (Nat.le_of_ble_eq_true rfl) (Nat.le_of_ble_eq_true rfl) ?_
  refine W.eq (g2 := F0 m 4 ls []) rfl ?_
  refine lv_aload_n hx hb dX0_init_4 rfl (lv_at hl 0 rfl) ?_
  refine lv_iconst (v := nI 3) hx hb dX0_init_5 (by decide) ?_
  refine va_put (D := (dC, dI)) (ci := 0) (v := .int (nI 3)) (ty := .int) (C := RX0) (T := TX0) (N := 7) hx hb hts in_X0 tyX0 tyX0_ok nmX0 hown hK hP hD hS 0 rfl rfl 0 (by decide) (hts _ q23) (fun _ h9 => h9) rfl (by decide +kernel) rfl rfl (Nat.le_of_ble_eq_true rfl) dX0_init_6 (fun H locs hP hD hS => ?_)
  have hP : va_P (dC, dI) vwCl ([(o, .inr (0, [.int (nI 3), .int 0, .null, .null, .null, .null, .null]))]) H := hP
  have hD : va_D A ([(o, .inr (0, [.int (nI 3), .int 0, .null, .null, .null, .null, .null]))]) := hD
  refine lv_aload_n hx hb dX0_init_9 rfl (lv_at hl 0 rfl) ?_
  refine lv_bipush (v := nI 10) hx hb dX0_init_10 (by decide) ?_
  refine va_newa (atype := .int) (ty := .int) (N' := 10) (a0 := (10, .inl (fun _ => 0))) hx hb (hts _ q45) rfl hK hP hD hS hA (fun cA => rfl) (by decide) (nI_clamp (by decide)) (by decide) (Nat.le_of_ble_eq_true rfl) (Nat.le_of_ble_eq_true rfl) dX0_init_12 (fun q1 cA H hK2 hP hD hS => ?_)
  have e9 : cA = kI := Option.some.inj ((show s.vm.findClass _ = some cA from (hK2.2 4 _ rfl).2).symm.trans (hK.2 0 _ rfl).2)
  rw [e9] at hP hD
  clear hK2 e9
  have hP : va_P (dC, dI) vwCl ([(o, .inr (0, [.int (nI 3), .int 0, .null, .null, .null, .null, .null])), (q1, .inl (kI, 10, .inl (fun _ => 0)))]) H := hP
  have hD : va_D A ([(o, .inr (0, [.int (nI 3), .int 0, .null, .null, .null, .null, .null])), (q1, .inl (kI, 10, .inl (fun _ => 0)))]) := hD
  refine va_putF (D := (dC, dI)) (ci := 0) (v := .ref q1) (ty := .array .int) (C := RX0) (T := TX0) (N := 7) hx hb hts in_X0 tyX0 tyX0_ok nmX0 hown hK hP hD hS 0 rfl rfl 2 (by decide) (hts _ q25) (fun _ h9 => h9) rfl hin rfl (by decide +kernel) rfl rfl (Nat.le_of_ble_eq_true rfl) dX0_init_14 (fun H locs hP hD hS => ?_)
  have hP : va_P (dC, dI) vwCl ([(o, .inr (0, [.int (nI 3), .int 0, .ref q1, .null, .null, .null, .null])), (q1, .inl (kI, 10, .inl (fun _ => 0)))]) H := hP
  have hD : va_D A ([(o, .inr (0, [.int (nI 3), .int 0, .ref q1, .null, .null, .null, .null])), (q1, .inl (kI, 10, .inl (fun _ => 0)))]) := hD
  refine lv_aload_n hx hb dX0_init_17 rfl (lv_at hl 0 rfl) ?_
  refine lv_bipush (v := nI 10) hx hb dX0_init_18 (by decide) ?_
  refine va_newa (atype := .int) (ty := .int) (N' := 10) (a0 := (10, .inl (fun _ => 0))) hx hb (hts _ q45) rfl hK hP hD hS hA (fun cA => rfl) (by decide) (nI_clamp (by decide)) (by decide) (Nat.le_of_ble_eq_true rfl) (Nat.le_of_ble_eq_true rfl) dX0_init_20 (fun q2 cA H hK2 hP hD hS => ?_)
  have e9 : cA = kI := Option.some.inj ((show s.vm.findClass _ = some cA from (hK2.2 4 _ rfl).2).symm.trans (hK.2 0 _ rfl).2)
  rw [e9] at hP hD
  clear hK2 e9
  have hP : va_P (dC, dI) vwCl ([(o, .inr (0, [.int (nI 3), .int 0, .ref q1, .null, .null, .null, .null])), (q1, .inl (kI, 10, .inl (fun _ => 0))), (q2, .inl (kI, 10, .inl (fun _ => 0)))]) H := hP
  have hD : va_D A ([(o, .inr (0, [.int (nI 3), .int 0, .ref q1, .null, .null, .null, .null])), (q1, .inl (kI, 10, .inl (fun _ => 0))), (q2, .inl (kI, 10, .inl (fun _ => 0)))]) := hD
  refine va_putF (D := (dC, dI)) (ci := 0) (v := .ref q2) (ty := .array .int) (C := RX0) (T := TX0) (N := 7) hx hb hts in_X0 tyX0 tyX0_ok nmX0 hown hK hP hD hS 0 rfl rfl 3 (by decide) (hts _ q26) (fun _ h9 => h9) rfl hin rfl (by decide +kernel) rfl rfl (Nat.le_of_ble_eq_true rfl) dX0_init_22 (fun H locs hP hD hS => ?_)
  have hP : va_P (dC, dI) vwCl ([(o, .inr (0, [.int (nI 3), .int 0, .ref q1, .ref q2, .null, .null, .null])), (q1, .inl (kI, 10, .inl (fun _ => 0))), (q2, .inl (kI, 10, .inl (fun _ => 0)))]) H := hP
  have hD : va_D A ([(o, .inr (0, [.int (nI 3), .int 0, .ref q1, .ref q2, .null, .null, .null])), (q1, .inl (kI, 10, .inl (fun _ => 0))), (q2, .inl (kI, 10, .inl (fun _ => 0)))]) := hD
  refine lv_aload_n hx hb dX0_init_25 rfl (lv_at hl 0 rfl) ?_
  refine lv_iconst (v := nI 5) hx hb dX0_init_26 (by decide) ?_
  refine va_newa (atype := .int) (ty := .int) (N' := 5) (a0 := (5, .inl (fun _ => 0))) hx hb (hts _ q45) rfl hK hP hD hS hA (fun cA => rfl) (by decide) (nI_clamp (by decide)) (by decide) (Nat.le_of_ble_eq_true rfl) (Nat.le_of_ble_eq_true rfl) dX0_init_27 (fun q3 cA H hK2 hP hD hS => ?_)
  have e9 : cA = kI := Option.some.inj ((show s.vm.findClass _ = some cA from (hK2.2 4 _ rfl).2).symm.trans (hK.2 0 _ rfl).2)
  rw [e9] at hP hD
  clear hK2 e9
  have hP : va_P (dC, dI) vwCl ([(o, .inr (0, [.int (nI 3), .int 0, .ref q1, .ref q2, .null, .null, .null])), (q1, .inl (kI, 10, .inl (fun _ => 0))), (q2, .inl (kI, 10, .inl (fun _ => 0))), (q3, .inl (kI, 5, .inl (fun _ => 0)))]) H := hP
  have hD : va_D A ([(o, .inr (0, [.int (nI 3), .int 0, .ref q1, .ref q2, .null, .null, .null])), (q1, .inl (kI, 10, .inl (fun _ => 0))), (q2, .inl (kI, 10, .inl (fun _ => 0))), (q3, .inl (kI, 5, .inl (fun _ => 0)))]) := hD
  refine va_putF (D := (dC, dI)) (ci := 0) (v := .ref q3) (ty := .array .int) (C := RX0) (T := TX0) (N := 7) hx hb hts in_X0 tyX0 tyX0_ok nmX0 hown hK hP hD hS 0 rfl rfl 4 (by decide) (hts _ q27) (fun _ h9 => h9) rfl hin rfl (by decide +kernel) rfl rfl (Nat.le_of_ble_eq_true rfl) dX0_init_29 (fun H locs hP hD hS => ?_)
  have hP : va_P (dC, dI) vwCl ([(o, .inr (0, [.int (nI 3), .int 0, .ref q1, .ref q2, .ref q3, .null, .null])), (q1, .inl (kI, 10, .inl (fun _ => 0))), (q2, .inl (kI, 10, .inl (fun _ => 0))), (q3, .inl (kI, 5, .inl (fun _ => 0)))]) H := hP
  have hD : va_D A ([(o, .inr (0, [.int (nI 3), .int 0, .ref q1, .ref q2, .ref q3, .null, .null])), (q1, .inl (kI, 10, .inl (fun _ => 0))), (q2, .inl (kI, 10, .inl (fun _ => 0))), (q3, .inl (kI, 5, .inl (fun _ => 0)))]) := hD
  refine lv_aload_n hx hb dX0_init_32 rfl (lv_at hl 0 rfl) ?_
  refine lv_iconst (v := nI 5) hx hb dX0_init_33 (by decide) ?_
  refine va_newa (atype := .int) (ty := .int) (N' := 5) (a0 := (5, .inl (fun _ => 0))) hx hb (hts _ q45) rfl hK hP hD hS hA (fun cA => rfl) (by decide) (nI_clamp (by decide)) (by decide) (Nat.le_of_ble_eq_true rfl) (Nat.le_of_ble_eq_true rfl) dX0_init_34 (fun q4 cA H hK2 hP hD hS => ?_)
  have e9 : cA = kI := Option.some.inj ((show s.vm.findClass _ = some cA from (hK2.2 4 _ rfl).2).symm.trans (hK.2 0 _ rfl).2)
  rw [e9] at hP hD
  clear hK2 e9
  have hP : va_P (dC, dI) vwCl ([(o, .inr (0, [.int (nI 3), .int 0, .ref q1, .ref q2, .ref q3, .null, .null])), (q1, .inl (kI, 10, .inl (fun _ => 0))), (q2, .inl (kI, 10, .inl (fun _ => 0))), (q3, .inl (kI, 5, .inl (fun _ => 0))), (q4, .inl (kI, 5, .inl (fun _ => 0)))]) H := hP
  have hD : va_D A ([(o, .inr (0, [.int (nI 3), .int 0, .ref q1, .ref q2, .ref q3, .null, .null])), (q1, .inl (kI, 10, .inl (fun _ => 0))), (q2, .inl (kI, 10, .inl (fun _ => 0))), (q3, .inl (kI, 5, .inl (fun _ => 0))), (q4, .inl (kI, 5, .inl (fun _ => 0)))]) := hD
  refine va_putF (D := (dC, dI)) (ci := 0) (v := .ref q4) (ty := .array .int) (C := RX0) (T := TX0) (N := 7) hx hb hts in_X0 tyX0 tyX0_ok nmX0 hown hK hP hD hS 0 rfl rfl 5 (by decide) (hts _ q28) (fun _ h9 => h9) rfl hin rfl (by decide +kernel) rfl rfl (Nat.le_of_ble_eq_true rfl) dX0_init_36 (fun H locs hP hD hS => ?_)
  have hP : va_P (dC, dI) vwCl ([(o, .inr (0, [.int (nI 3), .int 0, .ref q1, .ref q2, .ref q3, .ref q4, .null])), (q1, .inl (kI, 10, .inl (fun _ => 0))), (q2, .inl (kI, 10, .inl (fun _ => 0))), (q3, .inl (kI, 5, .inl (fun _ => 0))), (q4, .inl (kI, 5, .inl (fun _ => 0)))]) H := hP
  have hD : va_D A ([(o, .inr (0, [.int (nI 3), .int 0, .ref q1, .ref q2, .ref q3, .ref q4, .null])), (q1, .inl (kI, 10, .inl (fun _ => 0))), (q2, .inl (kI, 10, .inl (fun _ => 0))), (q3, .inl (kI, 5, .inl (fun _ => 0))), (q4, .inl (kI, 5, .inl (fun _ => 0)))]) := hD
  refine lv_aload_n hx hb dX0_init_39 rfl (lv_at hl 0 rfl) ?_
  refine lv_iconst (v := nI 5) hx hb dX0_init_40 (by decide) ?_
  refine lv_iconst (v := nI 5) hx hb dX0_init_41 (by decide) ?_
  refine gm_multi (cG := kG) (cL := kL) hx hb hown (hts _ q21) hov (hts _ q46) hP hD hS hA (hK.2 2 _ rfl).2 (hK.2 1 _ rfl).2 (Nat.le_of_ble_eq_true rfl) (Nat.le_of_ble_eq_true rfl) dX0_init_42 (fun h H locs hP hD hS => ?_)
  have hP : va_P (dC, dI) vwCl ([(o, .inr (0, [.int (nI 3), .int 0, .ref q1, .ref q2, .ref q3, .ref q4, .null])), (q1, .inl (kI, 10, .inl (fun _ => 0))), (q2, .inl (kI, 10, .inl (fun _ => 0))), (q3, .inl (kI, 5, .inl (fun _ => 0))), (q4, .inl (kI, 5, .inl (fun _ => 0)))] ++ gm_tab kG kL h) H := hP
  have hD : va_D A ([(o, .inr (0, [.int (nI 3), .int 0, .ref q1, .ref q2, .ref q3, .ref q4, .null])), (q1, .inl (kI, 10, .inl (fun _ => 0))), (q2, .inl (kI, 10, .inl (fun _ => 0))), (q3, .inl (kI, 5, .inl (fun _ => 0))), (q4, .inl (kI, 5, .inl (fun _ => 0)))] ++ gm_tab kG kL h) := hD
  refine va_putF (D := (dC, dI)) (ci := 0) (v := .ref h) (ty := .array (.array .long)) (C := RX0) (T := TX0) (N := 7) hx hb hts in_X0 tyX0 tyX0_ok nmX0 hown hK hP hD hS 0 rfl rfl 6 (by decide) (hts _ q29) (fun _ h9 => h9) rfl hin rfl (by decide +kernel) rfl rfl (Nat.le_of_ble_eq_true rfl) dX0_init_46 (fun H locs hP hD hS => ?_)
  have hP : va_P (dC, dI) vwCl ([(o, .inr (0, [.int (nI 3), .int 0, .ref q1, .ref q2, .ref q3, .ref q4, .ref h])), (q1, .inl (kI, 10, .inl (fun _ => 0))), (q2, .inl (kI, 10, .inl (fun _ => 0))), (q3, .inl (kI, 5, .inl (fun _ => 0))), (q4, .inl (kI, 5, .inl (fun _ => 0)))] ++ gm_tab kG kL h) H := hP
  have hD : va_D A ([(o, .inr (0, [.int (nI 3), .int 0, .ref q1, .ref q2, .ref q3, .ref q4, .ref h])), (q1, .inl (kI, 10, .inl (fun _ => 0))), (q2, .inl (kI, 10, .inl (fun _ => 0))), (q3, .inl (kI, 5, .inl (fun _ => 0))), (q4, .inl (kI, 5, .inl (fun _ => 0)))] ++ gm_tab kG kL h) := hD
  exact W.vret hx hb hr (fun t ht hW => ⟨⟨gm_ad o q1 q2 q3 q4 h, rfl, rfl, by rw [ht]; exact hP, va_K.moved hW.alike hK, hD⟩, hS.F ht⟩) hS.2.2 dX0_init_49
abbrev wsX1_init : List Cond := ws_ yX1_init cX1_init 1 none
set_option maxHeartbeats 4000000 in
set_option maxRecDepth 100000 in
/-- the model, new -/
theorem metX1_init (l : Launch) (dC : Nat → ClassId) (dI : Nat → Nat → Nat) (kI kL kG kZ : ClassId) (o sz : Nat) : Met l yX1_init wsX1_init ({ frames := 1, cells := 4, slots := 10260, locals := 12 }) (va_Pc [.ref o] (fun U => U.heap.size = sz ∧ va_P (dC, dI) vwCl ([(o, .inr (1, [.null, .null, .int 0, .int 0, .int 0, .null, .null, .int 0, .int 0, .int 0, .long 0]))]) U.heap ∧ va_K (dC, dI) vwCl (gTY kI kL kG kZ) U ∧ va_D (fun _ => True) ([(o, .inr (1, [.null, .null, .int 0, .int 0, .int 0, .null, .null, .int 0, .int 0, .int 0, .long 0]))]))) (va_Qv (fun (u : Nat → Nat) => u 0 = o) (fun (u : Nat → Nat) (t : State) => va_P (dC, dI) vwCl (gM5 u kI kL kZ (fun _ => 0) (fun _ => 0) 0 3 (nI 0) (fun _ => 0) (fun _ => 0) 0 0 0 0) t.heap ∧ va_K (dC, dI) vwCl (gTY kI kL kG kZ) t ∧ va_D (va_A ([(o, .inr (1, [.null, .null, .int 0, .int 0, .int 0, .null, .null, .int 0, .int 0, .int 0, .long 0]))]) sz) (gM5 u kI kL kZ (fun _ => 0) (fun _ => 0) 0 3 (nI 0) (fun _ => 0) (fun _ => 0) 0 0 0 0)) (va_A ([(o, .inr (1, [.null, .null, .int 0, .int 0, .int 0, .null, .null, .int 0, .int 0, .int 0, .long 0]))]) sz)) 4 10260 (va_A ([(o, .inr (1, [.null, .null, .int 0, .int 0, .int 0, .null, .null, .int 0, .int 0, .int 0, .long 0]))]) sz) := by
  refine Met.ofW (cc := cX1_init) (maxL := 1) (ret := none) (by decide) rfl ?_
  intro p e s m args below meth c s₁ B hml hv
  obtain ⟨rfl, hsz, hP, hK, hD0⟩ := hv
  have hx := B.exec
  have hb := B.bytes
  have hr := B.returns
  have hts := atoms_spec (ws := wsX1_init) B.pre
  have hts : ∀ w ∈ lw_all, w.before _ s = true := fun w h => hts w (List.mem_cons_of_mem _ h)
  have hown : s.vm.findClass RX1 = some m.cls := findClass_of_methodNamed B.named
  have hlocks := B.notSynchronized
  have hin : meth.name = "<init>" := (name_of_methodNamed B.named B.method).1
  subst hsz
  have hD := hD0.self (sz := s.heap.size)
  generalize hAe : va_A ([(o, .inr (1, [.null, .null, .int 0, .int 0, .int 0, .null, .null, .int 0, .int 0, .int 0, .long 0]))]) s.heap.size = A at hD ⊢
  have hA : ∀ q : Nat, s.heap.size ≤ q → A q := fun q h => by rw [← hAe]; exact Or.inr h
  have hS : va_S A s.heap s.heap [] := va_S.rf
  have hl := lv_entry ([.ref o]) (n := 1) (Nat.le_of_ble_eq_true rfl)
  rw [lg_entry_eq]
  generalize (lg_sl ([.ref o]) ++ List.replicate (1 - (lg_sl ([.ref o])).length) Slot.unset).toArray = ls at hl ⊢
  have hl : lv_has ls 1 [(0, .ref o)] := hl
  refine lv_aload_n hx hb dX1_init_0 rfl (lv_at hl 0 rfl) ?_
  refine W.objInit hx hb hown (hts _ q120) (hts _ q19) (hts _ q20) rfl (by rw [hml]; exact hl.1) rfl dX1_init_1 (Nat.le_of_ble_eq_true rfl) (Nat.le_of_ble_eq_true rfl) ?_
  refine W.eq (g2 := F0 m 4 ls []) rfl ?_
  refine lv_aload_n hx hb dX1_init_4 rfl (lv_at hl 0 rfl) ?_
  refine lv_bipush (v := nI 10) hx hb dX1_init_5 (by decide) ?_
  refine va_newa (atype := .int) (ty := .int) (N' := 10) (a0 := (10, .inl (fun _ => 0))) hx hb (hts _ q45) rfl hK hP hD hS hA (fun cA => rfl) (by decide) (nI_clamp (by decide)) (by decide) (Nat.le_of_ble_eq_true rfl) (Nat.le_of_ble_eq_true rfl) dX1_init_7 (fun q1 cA H hK2 hP hD hS => ?_)
  have e9 : cA = kI := Option.some.inj ((show s.vm.findClass _ = some cA from (hK2.2 4 _ rfl).2).symm.trans (hK.2 0 _ rfl).2)
  rw [e9] at hP hD
  clear hK2 e9
  have hP : va_P (dC, dI) vwCl ([(o, .inr (1, [.null, .null, .int 0, .int 0, .int 0, .null, .null, .int 0, .int 0, .int 0, .long 0])), (q1, .inl (kI, 10, .inl (fun _ => 0)))]) H := hP
  have hD : va_D A ([(o, .inr (1, [.null, .null, .int 0, .int 0, .int 0, .null, .null, .int 0, .int 0, .int 0, .long 0])), (q1, .inl (kI, 10, .inl (fun _ => 0)))]) := hD
  refine va_putF (D := (dC, dI)) (ci := 1) (v := .ref q1) (ty := .array .int) (C := RX1) (T := TX1) (N := 11) hx hb hts in_X1 tyX1 tyX1_ok nmX1 hown hK hP hD hS 0 rfl rfl 0 (by decide) (hts _ q121) (fun _ h9 => h9) rfl hin rfl (by decide +kernel) rfl rfl (Nat.le_of_ble_eq_true rfl) dX1_init_9 (fun H locs hP hD hS => ?_)
  have hP : va_P (dC, dI) vwCl ([(o, .inr (1, [.ref q1, .null, .int 0, .int 0, .int 0, .null, .null, .int 0, .int 0, .int 0, .long 0])), (q1, .inl (kI, 10, .inl (fun _ => 0)))]) H := hP
  have hD : va_D A ([(o, .inr (1, [.ref q1, .null, .int 0, .int 0, .int 0, .null, .null, .int 0, .int 0, .int 0, .long 0])), (q1, .inl (kI, 10, .inl (fun _ => 0)))]) := hD
  refine lv_aload_n hx hb dX1_init_12 rfl (lv_at hl 0 rfl) ?_
  refine lv_bipush (v := nI 10) hx hb dX1_init_13 (by decide) ?_
  refine va_newa (atype := .int) (ty := .int) (N' := 10) (a0 := (10, .inl (fun _ => 0))) hx hb (hts _ q45) rfl hK hP hD hS hA (fun cA => rfl) (by decide) (nI_clamp (by decide)) (by decide) (Nat.le_of_ble_eq_true rfl) (Nat.le_of_ble_eq_true rfl) dX1_init_15 (fun q2 cA H hK2 hP hD hS => ?_)
  have e9 : cA = kI := Option.some.inj ((show s.vm.findClass _ = some cA from (hK2.2 4 _ rfl).2).symm.trans (hK.2 0 _ rfl).2)
  rw [e9] at hP hD
  clear hK2 e9
  have hP : va_P (dC, dI) vwCl ([(o, .inr (1, [.ref q1, .null, .int 0, .int 0, .int 0, .null, .null, .int 0, .int 0, .int 0, .long 0])), (q1, .inl (kI, 10, .inl (fun _ => 0))), (q2, .inl (kI, 10, .inl (fun _ => 0)))]) H := hP
  have hD : va_D A ([(o, .inr (1, [.ref q1, .null, .int 0, .int 0, .int 0, .null, .null, .int 0, .int 0, .int 0, .long 0])), (q1, .inl (kI, 10, .inl (fun _ => 0))), (q2, .inl (kI, 10, .inl (fun _ => 0)))]) := hD
  refine va_putF (D := (dC, dI)) (ci := 1) (v := .ref q2) (ty := .array .int) (C := RX1) (T := TX1) (N := 11) hx hb hts in_X1 tyX1 tyX1_ok nmX1 hown hK hP hD hS 0 rfl rfl 1 (by decide) (hts _ q122) (fun _ h9 => h9) rfl hin rfl (by decide +kernel) rfl rfl (Nat.le_of_ble_eq_true rfl) dX1_init_17 (fun H locs hP hD hS => ?_)
  have hP : va_P (dC, dI) vwCl ([(o, .inr (1, [.ref q1, .ref q2, .int 0, .int 0, .int 0, .null, .null, .int 0, .int 0, .int 0, .long 0])), (q1, .inl (kI, 10, .inl (fun _ => 0))), (q2, .inl (kI, 10, .inl (fun _ => 0)))]) H := hP
  have hD : va_D A ([(o, .inr (1, [.ref q1, .ref q2, .int 0, .int 0, .int 0, .null, .null, .int 0, .int 0, .int 0, .long 0])), (q1, .inl (kI, 10, .inl (fun _ => 0))), (q2, .inl (kI, 10, .inl (fun _ => 0)))]) := hD
  refine lv_aload_n hx hb dX1_init_20 rfl (lv_at hl 0 rfl) ?_
  refine lv_iconst (v := nI 3) hx hb dX1_init_21 (by decide) ?_
  refine va_put (D := (dC, dI)) (ci := 1) (v := .int (nI 3)) (ty := .int) (C := RX1) (T := TX1) (N := 11) hx hb hts in_X1 tyX1 tyX1_ok nmX1 hown hK hP hD hS 0 rfl rfl 3 (by decide) (hts _ q124) (fun _ h9 => h9) rfl (by decide +kernel) rfl rfl (Nat.le_of_ble_eq_true rfl) dX1_init_22 (fun H locs hP hD hS => ?_)
  have hP : va_P (dC, dI) vwCl ([(o, .inr (1, [.ref q1, .ref q2, .int 0, .int (nI 3), .int 0, .null, .null, .int 0, .int 0, .int 0, .long 0])), (q1, .inl (kI, 10, .inl (fun _ => 0))), (q2, .inl (kI, 10, .inl (fun _ => 0)))]) H := hP
  have hD : va_D A ([(o, .inr (1, [.ref q1, .ref q2, .int 0, .int (nI 3), .int 0, .null, .null, .int 0, .int 0, .int 0, .long 0])), (q1, .inl (kI, 10, .inl (fun _ => 0))), (q2, .inl (kI, 10, .inl (fun _ => 0)))]) := hD
  refine lv_aload_n hx hb dX1_init_25 rfl (lv_at hl 0 rfl) ?_
  refine lv_sipush (v := nI 5120) hx hb dX1_init_26 (by decide) ?_
  refine va_newa (atype := .boolean) (ty := .boolean) (N' := 5120) (a0 := (5120, .inl (fun _ => 0))) hx hb (hts _ q155) rfl hK hP hD hS hA (fun cA => rfl) (by decide) (nI_clamp (by decide)) (by decide) (Nat.le_of_ble_eq_true rfl) (Nat.le_of_ble_eq_true rfl) dX1_init_29 (fun q3 cA H hK2 hP hD hS => ?_)
  have e9 : cA = kZ := Option.some.inj ((show s.vm.findClass _ = some cA from (hK2.2 4 _ rfl).2).symm.trans (hK.2 3 _ rfl).2)
  rw [e9] at hP hD
  clear hK2 e9
  have hP : va_P (dC, dI) vwCl ([(o, .inr (1, [.ref q1, .ref q2, .int 0, .int (nI 3), .int 0, .null, .null, .int 0, .int 0, .int 0, .long 0])), (q1, .inl (kI, 10, .inl (fun _ => 0))), (q2, .inl (kI, 10, .inl (fun _ => 0))), (q3, .inl (kZ, 5120, .inl (fun _ => 0)))]) H := hP
  have hD : va_D A ([(o, .inr (1, [.ref q1, .ref q2, .int 0, .int (nI 3), .int 0, .null, .null, .int 0, .int 0, .int 0, .long 0])), (q1, .inl (kI, 10, .inl (fun _ => 0))), (q2, .inl (kI, 10, .inl (fun _ => 0))), (q3, .inl (kZ, 5120, .inl (fun _ => 0)))]) := hD
  refine va_putF (D := (dC, dI)) (ci := 1) (v := .ref q3) (ty := .array .boolean) (C := RX1) (T := TX1) (N := 11) hx hb hts in_X1 tyX1 tyX1_ok nmX1 hown hK hP hD hS 0 rfl rfl 5 (by decide) (hts _ q126) (fun _ h9 => h9) rfl hin rfl (by decide +kernel) rfl rfl (Nat.le_of_ble_eq_true rfl) dX1_init_31 (fun H locs hP hD hS => ?_)
  have hP : va_P (dC, dI) vwCl ([(o, .inr (1, [.ref q1, .ref q2, .int 0, .int (nI 3), .int 0, .ref q3, .null, .int 0, .int 0, .int 0, .long 0])), (q1, .inl (kI, 10, .inl (fun _ => 0))), (q2, .inl (kI, 10, .inl (fun _ => 0))), (q3, .inl (kZ, 5120, .inl (fun _ => 0)))]) H := hP
  have hD : va_D A ([(o, .inr (1, [.ref q1, .ref q2, .int 0, .int (nI 3), .int 0, .ref q3, .null, .int 0, .int 0, .int 0, .long 0])), (q1, .inl (kI, 10, .inl (fun _ => 0))), (q2, .inl (kI, 10, .inl (fun _ => 0))), (q3, .inl (kZ, 5120, .inl (fun _ => 0)))]) := hD
  refine lv_aload_n hx hb dX1_init_34 rfl (lv_at hl 0 rfl) ?_
  refine lv_sipush (v := nI 5120) hx hb dX1_init_35 (by decide) ?_
  refine va_newa (atype := .long) (ty := .long) (N' := 5120) (a0 := (5120, .inr (.inl (fun _ => 0)))) hx hb (hts _ q46) rfl hK hP hD hS hA (fun cA => rfl) (by decide) (nI_clamp (by decide)) (by decide) (Nat.le_of_ble_eq_true rfl) (Nat.le_of_ble_eq_true rfl) dX1_init_38 (fun q4 cA H hK2 hP hD hS => ?_)
  have e9 : cA = kL := Option.some.inj ((show s.vm.findClass _ = some cA from (hK2.2 4 _ rfl).2).symm.trans (hK.2 1 _ rfl).2)
  rw [e9] at hP hD
  clear hK2 e9
  have hP : va_P (dC, dI) vwCl ([(o, .inr (1, [.ref q1, .ref q2, .int 0, .int (nI 3), .int 0, .ref q3, .null, .int 0, .int 0, .int 0, .long 0])), (q1, .inl (kI, 10, .inl (fun _ => 0))), (q2, .inl (kI, 10, .inl (fun _ => 0))), (q3, .inl (kZ, 5120, .inl (fun _ => 0))), (q4, .inl (kL, 5120, .inr (.inl (fun _ => 0))))]) H := hP
  have hD : va_D A ([(o, .inr (1, [.ref q1, .ref q2, .int 0, .int (nI 3), .int 0, .ref q3, .null, .int 0, .int 0, .int 0, .long 0])), (q1, .inl (kI, 10, .inl (fun _ => 0))), (q2, .inl (kI, 10, .inl (fun _ => 0))), (q3, .inl (kZ, 5120, .inl (fun _ => 0))), (q4, .inl (kL, 5120, .inr (.inl (fun _ => 0))))]) := hD
  refine va_putF (D := (dC, dI)) (ci := 1) (v := .ref q4) (ty := .array .long) (C := RX1) (T := TX1) (N := 11) hx hb hts in_X1 tyX1 tyX1_ok nmX1 hown hK hP hD hS 0 rfl rfl 6 (by decide) (hts _ q127) (fun _ h9 => h9) rfl hin rfl (by decide +kernel) rfl rfl (Nat.le_of_ble_eq_true rfl) dX1_init_40 (fun H locs hP hD hS => ?_)
  have hP : va_P (dC, dI) vwCl ([(o, .inr (1, [.ref q1, .ref q2, .int 0, .int (nI 3), .int 0, .ref q3, .ref q4, .int 0, .int 0, .int 0, .long 0])), (q1, .inl (kI, 10, .inl (fun _ => 0))), (q2, .inl (kI, 10, .inl (fun _ => 0))), (q3, .inl (kZ, 5120, .inl (fun _ => 0))), (q4, .inl (kL, 5120, .inr (.inl (fun _ => 0))))]) H := hP
  have hD : va_D A ([(o, .inr (1, [.ref q1, .ref q2, .int 0, .int (nI 3), .int 0, .ref q3, .ref q4, .int 0, .int 0, .int 0, .long 0])), (q1, .inl (kI, 10, .inl (fun _ => 0))), (q2, .inl (kI, 10, .inl (fun _ => 0))), (q3, .inl (kZ, 5120, .inl (fun _ => 0))), (q4, .inl (kL, 5120, .inr (.inl (fun _ => 0))))]) := hD
  exact W.vret hx hb hr (fun t ht hW => ⟨⟨gm_ad o q1 q2 q3 q4 0, rfl, rfl, by rw [ht]; exact hP, va_K.moved hW.alike hK, hD⟩, hS.F ht⟩) hS.2.2 dX1_init_43
end
section
/-! THE LAW: its head, worlds turned, what holds between two calls -/
/-! THE CLAIM OUT OF ONE WALK OF THE LAW'S BODY. Your part is whole_start (and what it stands on); all else here is the same for every law, but numbers. -/
def R_law : String := "TrailDeskLaw"
def lw_P (b : Addr) (xs : List Int32) (args : Array Value) (s : State) : Prop := args = #[.ref b] ∧ s.IntsAt b xs ∧ xs.length ≤ 192 ∧ (Jvm.Cond.and given_1 narrow_1).before args s = true
def lw_Q (_ : Array Value) (s : State) (o : Outcome) (t : State) : Prop := o = .returned (some (.int 1)) ∧ Framed s o t [] 600000 7302250
def lw_Z (below : List Frame) (a : Array Value) (s : State) : State → Prop := fun t => ∃ o, t.status = .running ∧ Ended t below o ∧ lw_Q a s o t
/-- the law's own end, with 1 on the stack, nothing written that was there before, its room as the claim has it -/
theorem lw_ret {p : Program} {l : Launch} {e : Env} {s : State} {m : MethodId} {below : List Frame} {meth : Method} {c : Code} {b : Nat} (hx : p.tables.exec = Jvm.exec) (hb : c.code = code) (hr : meth.sig.returnType = ret) (hlocks : meth.locks = false) {pc : Nat} {H : Heap} {ls : Array Slot} (hdg : decode code pc = .ok (.ireturn, 1)) : W p l e room_1 s m #[Value.ref b] below meth c H [] 600000 7302250 (lw_Z below #[Value.ref b] s) (F0 m pc ls [.int 1]) := by
  intro T hT X
  obtain ⟨fs, hret, hrun, hended, hW, hframe⟩ := X.leave (v := some (.int 1)) (hlocks := hlocks) (fun h => by rw [hr] at h; cases h)
  have hmeth' : T.vm.method? m = some meth := X.method'
  refine ⟨T.setFrames fs, ?_, .returned (some (.int 1)), hrun, hended, rfl, ⟨_, rfl⟩, hW, hframe⟩
  jvm_step X.here [X.here.top, hx, hb, hdg, hmeth', hr, ret, narrow_b1]
  (try refine ⟨rfl, ?_⟩); (try refine ⟨rfl, ?_⟩)
  first | (intro acts; rw [hret _ acts rfl rfl rfl]) | rw [hret _ _ rfl rfl rfl]
  exact Steps.refl _
/-- what holds at the law's entry: the machine, the code, the tables' words (any of lw_tbl by 'hts w (by decide +kernel)'), the script of L ints xs at the cell b, what the Statement gives of the start (any of its parts by flat_of_before) -/
def lw_At (p : Program) (s : State) (m : MethodId) (meth : Method) (c : Code) (b L : Nat) (xs : Nat → Int32) : Prop :=
  p.tables.exec = Jvm.exec ∧ c.code = code ∧ meth.sig.returnType = ret ∧ c.maxLocals = 4 ∧ s.vm.findClass R_law = some m.cls ∧ (∀ w ∈ lw_tbl, w.before #[Value.ref b] s = true) ∧ va_X b L xs s s.heap ∧ b < s.heap.size ∧ meth.locks = false ∧ (Jvm.Cond.and given_1 narrow_1).before #[Value.ref b] s = true
theorem gm_permP {D : va_G} {cl : List vw_C} {ws ws' : va_W} {H : Heap} (hp : ws.Perm ws') (h : va_P D cl ws H) : va_P D cl ws' H := fun k q hk => by
  obtain ⟨i, hi⟩ := List.getElem?_of_mem (hp.mem_iff.mpr (List.mem_of_getElem? hk))
  exact h i q hi
theorem gm_D_nd {A : Nat → Prop} {ws : va_W} : va_D A ws ↔ (ws.map (fun q => q.1)).Nodup ∧ ∀ q ∈ ws, A q.1 := by
  constructor
  · rintro ⟨h1, h2⟩
    refine ⟨?_, fun q hq => by obtain ⟨i, hi⟩ := List.getElem?_of_mem hq; exact h2 i q hi⟩
    unfold List.Nodup
    rw [List.pairwise_iff_getElem]
    intro i j hi hj hij he
    simp only [List.getElem_map] at he
    rw [List.length_map] at hi hj
    have h3 := h1 i j ws[i] ws[j] (List.getElem?_eq_getElem hi) (List.getElem?_eq_getElem hj) he
    omega
  · rintro ⟨h1, h2⟩
    refine ⟨fun i j p q hi hj hpq => ?_, fun k q hk => h2 q (List.mem_of_getElem? hk)⟩
    have hi' : i < (ws.map (fun q => q.1)).length := by rw [List.length_map]; exact (List.getElem?_eq_some_iff.mp hi).1
    refine (List.getElem?_inj hi' h1).mp ?_
    rw [List.getElem?_map, List.getElem?_map, hi, hj]
    simp [hpq]
theorem gm_permD {A : Nat → Prop} {ws ws' : va_W} (hp : ws.Perm ws') (h : va_D A ws) : va_D A ws' := by
  rw [gm_D_nd] at h ⊢
  exact ⟨(hp.map _).nodup_iff.mp h.1, fun q hq => h.2 q (hp.mem_iff.mpr hq)⟩
theorem gm_rot (X M P : va_W) : ((X ++ M) ++ P).Perm (M ++ (X ++ P)) := by
  rw [← List.append_assoc]
  exact List.perm_append_comm.append_right P
theorem gm_rot2 (X P M : va_W) : (((X ++ []) ++ P) ++ M).Perm ((X ++ M) ++ P) := by
  rw [List.append_nil, List.append_assoc, List.append_assoc]
  exact List.perm_append_comm.append_left X
/-- the law's world: the desk's cells, the model's, the rows of the desk's table -/
abbrev gWL (ad bd : Nat → Nat) (kI kL kG kZ : ClassId) (LP : List Nat) (n mm : Nat) (fa fb rt us : Nat → Int32) (g : Nat → Option Nat) (pr : Nat → Nat → Int64) (ma mb : Nat → Int32) (kn : Int32) (can : Nat → Int32) (ways : Nat → Int64) (fo fc fr : Int32) (ro : Int64) : va_W := gWX ad kI kL kG (gM5 bd kI kL kZ ma mb mm n kn can ways fo fc fr ro) LP n mm fa fb rt us g pr
/-- what holds between two calls -/
def gm_LI (LP : List Nat) (n mm : Nat) (a b2 : Nat → Nat) (fa fb : Nat → Int32) (g : Nat → Option Nat) (pr : Nat → Nat → Int64) (ma mb : Nat → Int32) (kn fo fc fr : Int32) (ro : Int64) : Prop := (1 ≤ n ∧ n ≤ 5) ∧ mm ≤ 10 ∧ gm_hold n mm fa a ∧ gm_hold n mm fb b2 ∧ gm_hold n mm ma a ∧ gm_hold n mm mb b2 ∧ (∃ t, gm_gr g LP pr t) ∧ (kn = nI 0 ∨ (kn = nI 1 ∧ fo = gm_b (gm_odd n mm a b2 ≤ 2 ∧ gm_conn mm a b2) ∧ fc = gm_b (gm_odd n mm a b2 = 0 ∧ gm_conn mm a b2) ∧ fr = gm_b (gm_good mm a b2 n ∧ gm_ov n mm a b2 ≤ 1 ∧ gm_conn mm a b2) ∧ ro = gm_RO mm a b2))
abbrev gLW (p : Program) (l : Launch) (e : Env) (s : State) (m : MethodId) (below : List Frame) (meth : Method) (c : Code) (b : Nat) (H : Heap) (locs : List Loc) (pc : Nat) (ls : Array Slot) (st : List Value) : Prop := W p l e room_1 s m #[Value.ref b] below meth c H locs 16 10338 (lw_Z below #[Value.ref b] s) (F0 m pc ls st)
/-- the law goes on from pc, whatever the worlds hold -/
def gm_LAt (p : Program) (l : Launch) (e : Env) (s : State) (m : MethodId) (below : List Frame) (meth : Method) (c : Code) (b : Nat) (dC : Nat → ClassId) (dI : Nat → Nat → Nat) (kI kL kG kZ : ClassId) (ad bd : Nat → Nat) (LP : List Nat) (A : Nat → Prop) (i pc : Nat) : Prop := ∀ (n mm : Nat) (a b2 : Nat → Nat) (fa fb rt us : Nat → Int32) (g : Nat → Option Nat) (pr : Nat → Nat → Int64) (ma mb : Nat → Int32) (kn : Int32) (can : Nat → Int32) (ways : Nat → Int64) (fo fc fr : Int32) (ro : Int64) (H : Heap) (locs : List Loc) (ls : Array Slot), gm_LI LP n mm a b2 fa fb g pr ma mb kn fo fc fr ro → va_P (dC, dI) vwCl (gWL ad bd kI kL kG kZ LP n mm fa fb rt us g pr ma mb kn can ways fo fc fr ro) H → va_D A (gWL ad bd kI kL kG kZ LP n mm fa fb rt us g pr ma mb kn can ways fo fc fr ro) → va_S A s.heap H locs → lv_has ls 4 [(3, .int (nI i)), (1, .ref (ad 0)), (2, .ref (bd 0)), (0, .ref b)] → gLW p l e s m below meth c b H locs pc ls []
/-- what stands all through the law -/
def gm_LF (p : Program) (s : State) (m : MethodId) (meth : Method) (c : Code) (b L : Nat) (xs : Nat → Int32) (dC : Nat → ClassId) (dI : Nat → Nat → Nat) (kI kL kG kZ : ClassId) (A : Nat → Prop) : Prop := p.tables.exec = Jvm.exec ∧ c.code = code ∧ meth.sig.returnType = ret ∧ c.maxLocals = 4 ∧ s.vm.findClass R_law = some m.cls ∧ (∀ w ∈ lw_all, w.before #[Value.ref b] s = true) ∧ va_X b L xs s s.heap ∧ b < s.heap.size ∧ ¬ A b ∧ (∀ q, s.heap.size ≤ q → A q) ∧ (∀ q, A q → s.heap.size ≤ q) ∧ va_K (dC, dI) vwCl (gTY kI kL kG kZ) s ∧ gm_GA kG kL s ∧ meth.locks = false ∧ L ≤ 192
def gm_ap (a : Nat → Nat) (k v : Nat) : Nat → Nat := fun j => if j = k then v else a j
theorem gm_hold_ap {n m : Nat} {f : Nat → Int32} {a : Nat → Nat} (H : gm_hold n m f a) {v : Nat} (hv : v < n) : gm_hold n (m + 1) (upd f m (nI v)) (gm_ap a m v) := fun e he => by
  unfold gm_ap
  by_cases h1 : e = m
  · rw [h1, pk_us, if_pos rfl]; exact ⟨rfl, hv⟩
  · rw [pk_un h1, if_neg h1]; exact H e (by omega)
theorem gm_hold_less {n m : Nat} {f : Nat → Int32} {a : Nat → Nat} (H : gm_hold n (m + 1) f a) : gm_hold n m f a := fun e he => H e (by omega)
theorem gm_hold_0 (n : Nat) (f : Nat → Int32) (a : Nat → Nat) : gm_hold n 0 f a := fun e he => absurd he (Nat.not_lt_zero e)
theorem gm_gr_new (h : Nat) : gm_gr (fun j => some (h + 1 + j)) (gm_rng h) (fun _ _ => 0) (fun _ _ => 0) := by
  refine ⟨fun i hi => ⟨h + 1 + i, rfl, ?_, fun _ _ => rfl⟩, fun i j _ _ e => ?_⟩
  · have h6 : i = 0 ∨ i = 1 ∨ i = 2 ∨ i = 3 ∨ i = 4 := by omega
    rcases h6 with e1 | e1 | e1 | e1 | e1 <;> subst e1 <;> simp [gm_rng]
  · have e2 : h + 1 + i = h + 1 + j := Option.some.inj e
    omega
theorem gm_gt3 {i L : Nat} (hi : i < 2 ^ 30) (hL : L < 2 ^ 30) : nI L - nI 3 < nI i ↔ L < i + 3 := by
  rw [Int32.lt_iff_toInt_lt, pk_sub_toInt hL (by decide), nI_toInt (by omega)]
  omega
theorem gm_inc3 (i : Nat) : nI i + Int32.ofInt 3 = nI (i + 3) := by
  rw [show Int32.ofInt 3 = nI 3 by decide]
  exact nI_add i 3
section GLS
variable {p : Program} {l : Launch} {e : Env} {R : Room} {s : State} {m : MethodId} {args : Array Value} {below : List Frame} {meth : Method} {c : Code} {H : Heap} {locs : List Loc} {cells slots : Nat} {Q : State → Prop} {cc : ByteArray} {pc : Nat} {ls : Array Slot} {rest : List Value} {A : Nat → Prop} {H0 : Heap}
theorem gm_sld (hexec : p.tables.exec = Jvm.exec) (hb : c.code = cc) {b L : Nat} {xs : Nat → Int32} (hX : va_X b L xs s H0) (hbl : b < H0.size) (hbA : ¬ A b) (hS : va_S A H0 H locs) {k : Nat} (hk : k < L) (hL : L < 2 ^ 31) (hdg : decode cc pc = .ok (.iaload, 1))
    (kk : W p l e R s m args below meth c H locs cells slots Q (F0 m (pc + 1) ls (.int (xs k) :: rest))) : W p l e R s m args below meth c H locs cells slots Q (F0 m pc ls (.int (nI k) :: .ref b :: rest)) := by
  refine va_sld hexec hb hX hbl hbA hS (vp_in_nI hk hL) hdg ?_
  rw [nI_clamp (by omega)]; exact kk
end GLS
end
section
/-! THE LAW's eight cases -/
set_option maxHeartbeats 4000000 in
set_option maxRecDepth 100000 in
/-- places(k) -/
theorem law_0 {p : Program} {l : Launch} {e : Env} {s : State} {m : MethodId} {below : List Frame} {meth : Method} {c : Code} {b L : Nat} {xs : Nat → Int32} {dC : Nat → ClassId} {dI : Nat → Nat → Nat} {kI kL kG kZ : ClassId} {ad bd : Nat → Nat} {LP : List Nat} {A : Nat → Prop} (HF : gm_LF p s m meth c b L xs dC dI kI kL kG kZ A) {i : Nat} (hi : i + 3 ≤ L) (K : gm_LAt p l e s m below meth c b dC dI kI kL kG kZ ad bd LP A i 223) : gm_LAt p l e s m below meth c b dC dI kI kL kG kZ ad bd LP A i 80 := by
  obtain ⟨hx, hb, hr, hml, hown, hts, hX, hbl, hbA, hA, hA2, hK, hG, hlocks, hL⟩ := HF
  intro n mm a b2 fa fb rt us g pr ma mb kn can ways fo fc fr ro H locs ls HI hP hD hS hl
  obtain ⟨hn, hm, ha, hb2, ha1, hb1, ⟨t, hgr⟩, hst⟩ := HI
  refine lv_aload_n hx hb dL_law_80 rfl (lv_at hl 1 rfl) ?_
  refine lv_aload_n hx hb dL_law_81 rfl (lv_at hl 3 rfl) ?_
  refine lv_iload_n hx hb dL_law_82 rfl (lv_at hl 0 rfl) ?_
  refine lv_iconst (v := nI 1) hx hb dL_law_83 (by decide) ?_
  refine lv_iadd hx hb dL_law_84 ?_
  refine gm_tpi (nI_add i 1) ?_
  refine gm_sld hx hb hX hbl hbA hS (k := (i + 1)) (by omega) (by omega) dL_law_85 ?_
  have hFc := gm_free hD hS hA
  refine va_callv (va_runV (As := [.int (xs (i + 1))]) (rest := []) ⟨hx, hb, hml, hown, hts⟩ (metX0_places l dC dI kI kL kG kZ ad (gM5 bd kI kL kZ ma mb mm n kn can ways fo fc fr ro) LP H.size n mm fa fb rt us g pr (xs (i + 1))) (cwV 1 hts (lw_V q47 q48 q49 q10 q50) rfl rfl rfl (by decide +kernel) ⟨Nat.le_of_ble_eq_true rfl, Nat.le_of_ble_eq_true rfl⟩) ⟨fun a U g mk q => by obtain ⟨q0, q1, qP, qK, qD⟩ := q; exact ⟨q0, q1, qP, va_K.moved (u := U) (U := U.calling g mk a) (Vm.Alike.refl U.vm) qK, qD⟩, va_recv hK hP (ci := 0) (q0 := 0) rfl rfl, fun U hU hW => ⟨rfl, by rw [hU], by rw [hU]; exact hP, va_K.moved hW.alike hK, hD.weaken (fun _ _ _ _ => trivial)⟩⟩ rfl rfl hl.1 rfl (lv_room (Nat.le_of_ble_eq_true rfl)) dL_law_86 ⟨Nat.le_of_ble_eq_true rfl, Nat.le_of_ble_eq_true rfl⟩) hS (fun q _ h => hFc q h) hFc (fun u t1 H1 locs ht hvm hr1 hB hz1 hk1 hS => ?_)
  obtain ⟨hP1, hK1, hD1⟩ := hB
  rw [ht] at hP1
  have hD1 := hD1.weaken (fun _ _ _ h => hFc _ h)
  clear hP hD hFc hk1 hz1 hK1 hvm ht
  generalize H1 = H at hP1 hS ⊢
  have hP : va_P (dC, dI) vwCl (gWX ad kI kL kG (gM5 bd kI kL kZ ma mb mm n kn can ways fo fc fr ro) LP (1 + gm_pl (xs (i + 1)) 5) 0 fa fb rt us g pr) H := hP1
  have hD : va_D A (gWX ad kI kL kG (gM5 bd kI kL kZ ma mb mm n kn can ways fo fc fr ro) LP (1 + gm_pl (xs (i + 1)) 5) 0 fa fb rt us g pr) := hD1
  clear hP1 hD1
  refine lv_aload_n hx hb dL_law_89 rfl (lv_at hl 2 rfl) ?_
  refine lv_aload_n hx hb dL_law_90 rfl (lv_at hl 3 rfl) ?_
  refine lv_iload_n hx hb dL_law_91 rfl (lv_at hl 0 rfl) ?_
  refine lv_iconst (v := nI 1) hx hb dL_law_92 (by decide) ?_
  refine lv_iadd hx hb dL_law_93 ?_
  refine gm_tpi (nI_add i 1) ?_
  refine gm_sld hx hb hX hbl hbA hS (k := (i + 1)) (by omega) (by omega) dL_law_94 ?_
  have hP : va_P (dC, dI) vwCl (gWM bd kI kL kZ (gX6 ad kI kG (1 + gm_pl (xs (i + 1)) 5) 0 fa fb rt us g ++ gm_pool kL 5 LP pr) ma mb mm n kn can ways fo fc fr ro) H := gm_permP (gm_rot _ _ _) hP
  have hD : va_D A (gWM bd kI kL kZ (gX6 ad kI kG (1 + gm_pl (xs (i + 1)) 5) 0 fa fb rt us g ++ gm_pool kL 5 LP pr) ma mb mm n kn can ways fo fc fr ro) := gm_permD (gm_rot _ _ _) hD
  have hFc := gm_free hD hS hA
  refine va_callv (va_runV (As := [.int (xs (i + 1))]) (rest := []) ⟨hx, hb, hml, hown, hts⟩ (metX1_places l dC dI kI kL kG kZ bd (gX6 ad kI kG (1 + gm_pl (xs (i + 1)) 5) 0 fa fb rt us g ++ gm_pool kL 5 LP pr) H.size ma mb mm n kn can ways fo fc fr ro (xs (i + 1))) (cwV 1 hts (lw_V q156 q157 q158 q11 q159) rfl rfl rfl (by decide +kernel) ⟨Nat.le_of_ble_eq_true rfl, Nat.le_of_ble_eq_true rfl⟩) ⟨fun a U g mk q => by obtain ⟨q0, q1, qP, qK, qD⟩ := q; exact ⟨q0, q1, qP, va_K.moved (u := U) (U := U.calling g mk a) (Vm.Alike.refl U.vm) qK, qD⟩, va_recv hK hP (ci := 1) (q0 := 0) rfl rfl, fun U hU hW => ⟨rfl, by rw [hU], by rw [hU]; exact hP, va_K.moved hW.alike hK, hD.weaken (fun _ _ _ _ => trivial)⟩⟩ rfl rfl hl.1 rfl (lv_room (Nat.le_of_ble_eq_true rfl)) dL_law_95 ⟨Nat.le_of_ble_eq_true rfl, Nat.le_of_ble_eq_true rfl⟩) hS (fun q _ h => hFc q h) hFc (fun u2 t1 H1 locs ht hvm hr1 hB hz1 hk1 hS => ?_)
  obtain ⟨hP1, hK1, hD1⟩ := hB
  rw [ht] at hP1
  have hD1 := hD1.weaken (fun _ _ _ h => hFc _ h)
  clear hP hD hFc hk1 hz1 hK1 hvm ht
  generalize H1 = H at hP1 hS ⊢
  have hP : va_P (dC, dI) vwCl (gWM bd kI kL kZ (gX6 ad kI kG (1 + gm_pl (xs (i + 1)) 5) 0 fa fb rt us g ++ gm_pool kL 5 LP pr) ma mb 0 (1 + gm_pl (xs (i + 1)) 5) (nI 0) can ways fo fc fr ro) H := hP1
  have hD : va_D A (gWM bd kI kL kZ (gX6 ad kI kG (1 + gm_pl (xs (i + 1)) 5) 0 fa fb rt us g ++ gm_pool kL 5 LP pr) ma mb 0 (1 + gm_pl (xs (i + 1)) 5) (nI 0) can ways fo fc fr ro) := hD1
  clear hP1 hD1
  refine lv_goto (tgt := 223) hx hb dL_law_98 (by decide) ?_
  have hpl := gm_pl_lt (xs (i + 1)) (show 0 < 5 by decide)
  have hP : va_P (dC, dI) vwCl (gWX ad kI kL kG (gM5 bd kI kL kZ ma mb 0 (1 + gm_pl (xs (i + 1)) 5) (nI 0) can ways fo fc fr ro) LP (1 + gm_pl (xs (i + 1)) 5) 0 fa fb rt us g pr) H := gm_permP ((gm_rot _ _ _).symm) hP
  have hD : va_D A (gWX ad kI kL kG (gM5 bd kI kL kZ ma mb 0 (1 + gm_pl (xs (i + 1)) 5) (nI 0) can ways fo fc fr ro) LP (1 + gm_pl (xs (i + 1)) 5) 0 fa fb rt us g pr) := gm_permD ((gm_rot _ _ _).symm) hD
  exact K (1 + gm_pl (xs (i + 1)) 5) 0 a b2 fa fb rt us g pr ma mb (nI 0) can ways fo fc fr ro H locs ls ⟨⟨by omega, by omega⟩, by omega, gm_hold_0 _ _ _, gm_hold_0 _ _ _, gm_hold_0 _ _ _, gm_hold_0 _ _ _, ⟨t, hgr⟩, Or.inl rfl⟩ hP hD hS (lv_sub hl [0, 1, 2, 3] rfl)
set_option maxHeartbeats 4000000 in
set_option maxRecDepth 100000 in
/-- edge(x, y) -/
theorem law_1 {p : Program} {l : Launch} {e : Env} {s : State} {m : MethodId} {below : List Frame} {meth : Method} {c : Code} {b L : Nat} {xs : Nat → Int32} {dC : Nat → ClassId} {dI : Nat → Nat → Nat} {kI kL kG kZ : ClassId} {ad bd : Nat → Nat} {LP : List Nat} {A : Nat → Prop} (HF : gm_LF p s m meth c b L xs dC dI kI kL kG kZ A) {i : Nat} (hi : i + 3 ≤ L) (K : gm_LAt p l e s m below meth c b dC dI kI kL kG kZ ad bd LP A i 223) : gm_LAt p l e s m below meth c b dC dI kI kL kG kZ ad bd LP A i 101 := by
  obtain ⟨hx, hb, hr, hml, hown, hts, hX, hbl, hbA, hA, hA2, hK, hG, hlocks, hL⟩ := HF
  intro n mm a b2 fa fb rt us g pr ma mb kn can ways fo fc fr ro H locs ls HI hP hD hS hl
  obtain ⟨hn, hm, ha, hb2, ha1, hb1, ⟨t, hgr⟩, hst⟩ := HI
  rcases Nat.lt_or_ge mm 10 with h10 | h10
  · skip
    refine lv_aload_n hx hb dL_law_101 rfl (lv_at hl 1 rfl) ?_
    refine lv_aload_n hx hb dL_law_102 rfl (lv_at hl 3 rfl) ?_
    refine lv_iload_n hx hb dL_law_103 rfl (lv_at hl 0 rfl) ?_
    refine lv_iconst (v := nI 1) hx hb dL_law_104 (by decide) ?_
    refine lv_iadd hx hb dL_law_105 ?_
    refine gm_tpi (nI_add i 1) ?_
    refine gm_sld hx hb hX hbl hbA hS (k := (i + 1)) (by omega) (by omega) dL_law_106 ?_
    refine lv_aload_n hx hb dL_law_107 rfl (lv_at hl 3 rfl) ?_
    refine lv_iload_n hx hb dL_law_108 rfl (lv_at hl 0 rfl) ?_
    refine lv_iconst (v := nI 2) hx hb dL_law_109 (by decide) ?_
    refine lv_iadd hx hb dL_law_110 ?_
    refine gm_tpi (nI_add i 2) ?_
    refine gm_sld hx hb hX hbl hbA hS (k := (i + 2)) (by omega) (by omega) dL_law_111 ?_
    have hFc := gm_free hD hS hA
    refine va_calli (va_runV (As := [.int (xs (i + 1)), .int (xs (i + 2))]) (rest := []) ⟨hx, hb, hml, hown, hts⟩ (metX0_edge l dC dI kI kL kG kZ ad (gM5 bd kI kL kZ ma mb mm n kn can ways fo fc fr ro) LP H.size n mm fa fb rt us g pr (xs (i + 1)) (xs (i + 2)) hn h10) (cwV 2 hts (lw_V q52 q53 q54 q10 q55) rfl rfl rfl (by decide +kernel) ⟨Nat.le_of_ble_eq_true rfl, Nat.le_of_ble_eq_true rfl⟩) ⟨fun a U g mk q => by obtain ⟨q0, q1, qP, qK, qD⟩ := q; exact ⟨q0, q1, qP, va_K.moved (u := U) (U := U.calling g mk a) (Vm.Alike.refl U.vm) qK, qD⟩, va_recv hK hP (ci := 0) (q0 := 0) rfl rfl, fun U hU hW => ⟨rfl, by rw [hU], by rw [hU]; exact hP, va_K.moved hW.alike hK, hD.weaken (fun _ _ _ _ => trivial)⟩⟩ rfl rfl hl.1 rfl (lv_room (Nat.le_of_ble_eq_true rfl)) dL_law_112 ⟨Nat.le_of_ble_eq_true rfl, Nat.le_of_ble_eq_true rfl⟩) hS (fun q _ h => hFc q h) hFc (fun r u t1 H1 locs ht hvm hr1 hB hz1 hk1 hS => ?_)
    obtain ⟨hP1, hK1, hD1⟩ := hB
    rw [ht] at hP1
    have hD1 := hD1.weaken (fun _ _ _ h => hFc _ h)
    clear hP hD hFc hk1 hz1 hK1 hvm ht
    generalize H1 = H at hP1 hS ⊢
    have hP : va_P (dC, dI) vwCl (gWX ad kI kL kG (gM5 bd kI kL kZ ma mb mm n kn can ways fo fc fr ro) LP n (mm + 1) (upd fa mm (nI (gm_pl (xs (i + 1)) n))) (upd fb mm (nI (gm_pl (xs (i + 2)) n))) rt us g pr) H := hP1
    have hD : va_D A (gWX ad kI kL kG (gM5 bd kI kL kZ ma mb mm n kn can ways fo fc fr ro) LP n (mm + 1) (upd fa mm (nI (gm_pl (xs (i + 1)) n))) (upd fb mm (nI (gm_pl (xs (i + 2)) n))) rt us g pr) := hD1
    clear hP1 hD1
    subst hr1
    refine lv_aload_n hx hb dL_law_115 rfl (lv_at hl 2 rfl) ?_
    refine lv_aload_n hx hb dL_law_116 rfl (lv_at hl 3 rfl) ?_
    refine lv_iload_n hx hb dL_law_117 rfl (lv_at hl 0 rfl) ?_
    refine lv_iconst (v := nI 1) hx hb dL_law_118 (by decide) ?_
    refine lv_iadd hx hb dL_law_119 ?_
    refine gm_tpi (nI_add i 1) ?_
    refine gm_sld hx hb hX hbl hbA hS (k := (i + 1)) (by omega) (by omega) dL_law_120 ?_
    refine lv_aload_n hx hb dL_law_121 rfl (lv_at hl 3 rfl) ?_
    refine lv_iload_n hx hb dL_law_122 rfl (lv_at hl 0 rfl) ?_
    refine lv_iconst (v := nI 2) hx hb dL_law_123 (by decide) ?_
    refine lv_iadd hx hb dL_law_124 ?_
    refine gm_tpi (nI_add i 2) ?_
    refine gm_sld hx hb hX hbl hbA hS (k := (i + 2)) (by omega) (by omega) dL_law_125 ?_
    have hP : va_P (dC, dI) vwCl (gWM bd kI kL kZ (gX6 ad kI kG n (mm + 1) (upd fa mm (nI (gm_pl (xs (i + 1)) n))) (upd fb mm (nI (gm_pl (xs (i + 2)) n))) rt us g ++ gm_pool kL 5 LP pr) ma mb mm n kn can ways fo fc fr ro) H := gm_permP (gm_rot _ _ _) hP
    have hD : va_D A (gWM bd kI kL kZ (gX6 ad kI kG n (mm + 1) (upd fa mm (nI (gm_pl (xs (i + 1)) n))) (upd fb mm (nI (gm_pl (xs (i + 2)) n))) rt us g ++ gm_pool kL 5 LP pr) ma mb mm n kn can ways fo fc fr ro) := gm_permD (gm_rot _ _ _) hD
    have hFc := gm_free hD hS hA
    refine va_calli (va_runV (As := [.int (xs (i + 1)), .int (xs (i + 2))]) (rest := [.int 1]) ⟨hx, hb, hml, hown, hts⟩ (metX1_edge l dC dI kI kL kG kZ bd (gX6 ad kI kG n (mm + 1) (upd fa mm (nI (gm_pl (xs (i + 1)) n))) (upd fb mm (nI (gm_pl (xs (i + 2)) n))) rt us g ++ gm_pool kL 5 LP pr) H.size ma mb mm n kn can ways fo fc fr ro (xs (i + 1)) (xs (i + 2)) hn h10) (cwV 2 hts (lw_V q161 q162 q163 q11 q164) rfl rfl rfl (by decide +kernel) ⟨Nat.le_of_ble_eq_true rfl, Nat.le_of_ble_eq_true rfl⟩) ⟨fun a U g mk q => by obtain ⟨q0, q1, qP, qK, qD⟩ := q; exact ⟨q0, q1, qP, va_K.moved (u := U) (U := U.calling g mk a) (Vm.Alike.refl U.vm) qK, qD⟩, va_recv hK hP (ci := 1) (q0 := 0) rfl rfl, fun U hU hW => ⟨rfl, by rw [hU], by rw [hU]; exact hP, va_K.moved hW.alike hK, hD.weaken (fun _ _ _ _ => trivial)⟩⟩ rfl rfl hl.1 rfl (lv_room (Nat.le_of_ble_eq_true rfl)) dL_law_126 ⟨Nat.le_of_ble_eq_true rfl, Nat.le_of_ble_eq_true rfl⟩) hS (fun q _ h => hFc q h) hFc (fun r2 u2 t1 H1 locs ht hvm hr2 hB hz1 hk1 hS => ?_)
    obtain ⟨hP1, hK1, hD1⟩ := hB
    rw [ht] at hP1
    have hD1 := hD1.weaken (fun _ _ _ h => hFc _ h)
    clear hP hD hFc hk1 hz1 hK1 hvm ht
    generalize H1 = H at hP1 hS ⊢
    have hP : va_P (dC, dI) vwCl (gWM bd kI kL kZ (gX6 ad kI kG n (mm + 1) (upd fa mm (nI (gm_pl (xs (i + 1)) n))) (upd fb mm (nI (gm_pl (xs (i + 2)) n))) rt us g ++ gm_pool kL 5 LP pr) (upd ma mm (nI (gm_pl (xs (i + 1)) n))) (upd mb mm (nI (gm_pl (xs (i + 2)) n))) (mm + 1) n (nI 0) can ways fo fc fr ro) H := hP1
    have hD : va_D A (gWM bd kI kL kZ (gX6 ad kI kG n (mm + 1) (upd fa mm (nI (gm_pl (xs (i + 1)) n))) (upd fb mm (nI (gm_pl (xs (i + 2)) n))) rt us g ++ gm_pool kL 5 LP pr) (upd ma mm (nI (gm_pl (xs (i + 1)) n))) (upd mb mm (nI (gm_pl (xs (i + 2)) n))) (mm + 1) n (nI 0) can ways fo fc fr ro) := hD1
    clear hP1 hD1
    subst hr2
    refine lv_icmp_eq (tgt := 223) hx hb dL_law_129 (by decide) (fun hc => ?_) (fun hc => ?_)
    · have hp1 := gm_pl_lt (xs (i + 1)) (show 0 < n by omega)
      have hp2 := gm_pl_lt (xs (i + 2)) (show 0 < n by omega)
      have hP : va_P (dC, dI) vwCl (gWX ad kI kL kG (gM5 bd kI kL kZ (upd ma mm (nI (gm_pl (xs (i + 1)) n))) (upd mb mm (nI (gm_pl (xs (i + 2)) n))) (mm + 1) n (nI 0) can ways fo fc fr ro) LP n (mm + 1) (upd fa mm (nI (gm_pl (xs (i + 1)) n))) (upd fb mm (nI (gm_pl (xs (i + 2)) n))) rt us g pr) H := gm_permP ((gm_rot _ _ _).symm) hP
      have hD : va_D A (gWX ad kI kL kG (gM5 bd kI kL kZ (upd ma mm (nI (gm_pl (xs (i + 1)) n))) (upd mb mm (nI (gm_pl (xs (i + 2)) n))) (mm + 1) n (nI 0) can ways fo fc fr ro) LP n (mm + 1) (upd fa mm (nI (gm_pl (xs (i + 1)) n))) (upd fb mm (nI (gm_pl (xs (i + 2)) n))) rt us g pr) := gm_permD ((gm_rot _ _ _).symm) hD
      exact K n (mm + 1) (gm_ap a mm (gm_pl (xs (i + 1)) n)) (gm_ap b2 mm (gm_pl (xs (i + 2)) n)) (upd fa mm (nI (gm_pl (xs (i + 1)) n))) (upd fb mm (nI (gm_pl (xs (i + 2)) n))) rt us g pr (upd ma mm (nI (gm_pl (xs (i + 1)) n))) (upd mb mm (nI (gm_pl (xs (i + 2)) n))) (nI 0) can ways fo fc fr ro H locs ls ⟨hn, by omega, gm_hold_ap ha hp1, gm_hold_ap hb2 hp2, gm_hold_ap ha1 hp1, gm_hold_ap hb1 hp2, ⟨t, hgr⟩, Or.inl rfl⟩ hP hD hS (lv_sub hl [0, 1, 2, 3] rfl)
    · exact absurd rfl hc
  · have e10 : mm = 10 := by omega
    subst e10
    refine lv_aload_n hx hb dL_law_101 rfl (lv_at hl 1 rfl) ?_
    refine lv_aload_n hx hb dL_law_102 rfl (lv_at hl 3 rfl) ?_
    refine lv_iload_n hx hb dL_law_103 rfl (lv_at hl 0 rfl) ?_
    refine lv_iconst (v := nI 1) hx hb dL_law_104 (by decide) ?_
    refine lv_iadd hx hb dL_law_105 ?_
    refine gm_tpi (nI_add i 1) ?_
    refine gm_sld hx hb hX hbl hbA hS (k := (i + 1)) (by omega) (by omega) dL_law_106 ?_
    refine lv_aload_n hx hb dL_law_107 rfl (lv_at hl 3 rfl) ?_
    refine lv_iload_n hx hb dL_law_108 rfl (lv_at hl 0 rfl) ?_
    refine lv_iconst (v := nI 2) hx hb dL_law_109 (by decide) ?_
    refine lv_iadd hx hb dL_law_110 ?_
    refine gm_tpi (nI_add i 2) ?_
    refine gm_sld hx hb hX hbl hbA hS (k := (i + 2)) (by omega) (by omega) dL_law_111 ?_
    have hFc := gm_free hD hS hA
    refine va_calli (va_runV (As := [.int (xs (i + 1)), .int (xs (i + 2))]) (rest := []) ⟨hx, hb, hml, hown, hts⟩ (metX0_edge_full l dC dI kI kL kG kZ ad (gM5 bd kI kL kZ ma mb 10 n kn can ways fo fc fr ro) LP H.size n fa fb rt us g pr (xs (i + 1)) (xs (i + 2))) (cwV 2 hts (lw_V q52 q53 q54 q10 q55) rfl rfl rfl (by decide +kernel) ⟨Nat.le_of_ble_eq_true rfl, Nat.le_of_ble_eq_true rfl⟩) ⟨fun a U g mk q => by obtain ⟨q0, q1, qP, qK, qD⟩ := q; exact ⟨q0, q1, qP, va_K.moved (u := U) (U := U.calling g mk a) (Vm.Alike.refl U.vm) qK, qD⟩, va_recv hK hP (ci := 0) (q0 := 0) rfl rfl, fun U hU hW => ⟨rfl, by rw [hU], by rw [hU]; exact hP, va_K.moved hW.alike hK, hD.weaken (fun _ _ _ _ => trivial)⟩⟩ rfl rfl hl.1 rfl (lv_room (Nat.le_of_ble_eq_true rfl)) dL_law_112 ⟨Nat.le_of_ble_eq_true rfl, Nat.le_of_ble_eq_true rfl⟩) hS (fun q _ h => hFc q h) hFc (fun r u t1 H1 locs ht hvm hr1 hB hz1 hk1 hS => ?_)
    obtain ⟨hP1, hK1, hD1⟩ := hB
    rw [ht] at hP1
    have hD1 := hD1.weaken (fun _ _ _ h => hFc _ h)
    clear hP hD hFc hk1 hz1 hK1 hvm ht
    generalize H1 = H at hP1 hS ⊢
    have hP : va_P (dC, dI) vwCl (gWX ad kI kL kG (gM5 bd kI kL kZ ma mb 10 n kn can ways fo fc fr ro) LP n 10 fa fb rt us g pr) H := hP1
    have hD : va_D A (gWX ad kI kL kG (gM5 bd kI kL kZ ma mb 10 n kn can ways fo fc fr ro) LP n 10 fa fb rt us g pr) := hD1
    clear hP1 hD1
    subst hr1
    refine lv_aload_n hx hb dL_law_115 rfl (lv_at hl 2 rfl) ?_
    refine lv_aload_n hx hb dL_law_116 rfl (lv_at hl 3 rfl) ?_
    refine lv_iload_n hx hb dL_law_117 rfl (lv_at hl 0 rfl) ?_
    refine lv_iconst (v := nI 1) hx hb dL_law_118 (by decide) ?_
    refine lv_iadd hx hb dL_law_119 ?_
    refine gm_tpi (nI_add i 1) ?_
    refine gm_sld hx hb hX hbl hbA hS (k := (i + 1)) (by omega) (by omega) dL_law_120 ?_
    refine lv_aload_n hx hb dL_law_121 rfl (lv_at hl 3 rfl) ?_
    refine lv_iload_n hx hb dL_law_122 rfl (lv_at hl 0 rfl) ?_
    refine lv_iconst (v := nI 2) hx hb dL_law_123 (by decide) ?_
    refine lv_iadd hx hb dL_law_124 ?_
    refine gm_tpi (nI_add i 2) ?_
    refine gm_sld hx hb hX hbl hbA hS (k := (i + 2)) (by omega) (by omega) dL_law_125 ?_
    have hP : va_P (dC, dI) vwCl (gWM bd kI kL kZ (gX6 ad kI kG n 10 fa fb rt us g ++ gm_pool kL 5 LP pr) ma mb 10 n kn can ways fo fc fr ro) H := gm_permP (gm_rot _ _ _) hP
    have hD : va_D A (gWM bd kI kL kZ (gX6 ad kI kG n 10 fa fb rt us g ++ gm_pool kL 5 LP pr) ma mb 10 n kn can ways fo fc fr ro) := gm_permD (gm_rot _ _ _) hD
    have hFc := gm_free hD hS hA
    refine va_calli (va_runV (As := [.int (xs (i + 1)), .int (xs (i + 2))]) (rest := [.int 0]) ⟨hx, hb, hml, hown, hts⟩ (metX1_edge_full l dC dI kI kL kG kZ bd (gX6 ad kI kG n 10 fa fb rt us g ++ gm_pool kL 5 LP pr) H.size ma mb n kn can ways fo fc fr ro (xs (i + 1)) (xs (i + 2))) (cwV 2 hts (lw_V q161 q162 q163 q11 q164) rfl rfl rfl (by decide +kernel) ⟨Nat.le_of_ble_eq_true rfl, Nat.le_of_ble_eq_true rfl⟩) ⟨fun a U g mk q => by obtain ⟨q0, q1, qP, qK, qD⟩ := q; exact ⟨q0, q1, qP, va_K.moved (u := U) (U := U.calling g mk a) (Vm.Alike.refl U.vm) qK, qD⟩, va_recv hK hP (ci := 1) (q0 := 0) rfl rfl, fun U hU hW => ⟨rfl, by rw [hU], by rw [hU]; exact hP, va_K.moved hW.alike hK, hD.weaken (fun _ _ _ _ => trivial)⟩⟩ rfl rfl hl.1 rfl (lv_room (Nat.le_of_ble_eq_true rfl)) dL_law_126 ⟨Nat.le_of_ble_eq_true rfl, Nat.le_of_ble_eq_true rfl⟩) hS (fun q _ h => hFc q h) hFc (fun r2 u2 t1 H1 locs ht hvm hr2 hB hz1 hk1 hS => ?_)
    obtain ⟨hP1, hK1, hD1⟩ := hB
    rw [ht] at hP1
    have hD1 := hD1.weaken (fun _ _ _ h => hFc _ h)
    clear hP hD hFc hk1 hz1 hK1 hvm ht
    generalize H1 = H at hP1 hS ⊢
    have hP : va_P (dC, dI) vwCl (gWM bd kI kL kZ (gX6 ad kI kG n 10 fa fb rt us g ++ gm_pool kL 5 LP pr) ma mb 10 n kn can ways fo fc fr ro) H := hP1
    have hD : va_D A (gWM bd kI kL kZ (gX6 ad kI kG n 10 fa fb rt us g ++ gm_pool kL 5 LP pr) ma mb 10 n kn can ways fo fc fr ro) := hD1
    clear hP1 hD1
    subst hr2
    refine lv_icmp_eq (tgt := 223) hx hb dL_law_129 (by decide) (fun hc => ?_) (fun hc => ?_)
    · skip
      have hP : va_P (dC, dI) vwCl (gWX ad kI kL kG (gM5 bd kI kL kZ ma mb 10 n kn can ways fo fc fr ro) LP n 10 fa fb rt us g pr) H := gm_permP ((gm_rot _ _ _).symm) hP
      have hD : va_D A (gWX ad kI kL kG (gM5 bd kI kL kZ ma mb 10 n kn can ways fo fc fr ro) LP n 10 fa fb rt us g pr) := gm_permD ((gm_rot _ _ _).symm) hD
      exact K n 10 a b2 fa fb rt us g pr ma mb kn can ways fo fc fr ro H locs ls ⟨hn, hm, ha, hb2, ha1, hb1, ⟨t, hgr⟩, hst⟩ hP hD hS (lv_sub hl [0, 1, 2, 3] rfl)
    · exact absurd rfl hc
set_option maxHeartbeats 4000000 in
set_option maxRecDepth 100000 in
/-- drop() -/
theorem law_2 {p : Program} {l : Launch} {e : Env} {s : State} {m : MethodId} {below : List Frame} {meth : Method} {c : Code} {b L : Nat} {xs : Nat → Int32} {dC : Nat → ClassId} {dI : Nat → Nat → Nat} {kI kL kG kZ : ClassId} {ad bd : Nat → Nat} {LP : List Nat} {A : Nat → Prop} (HF : gm_LF p s m meth c b L xs dC dI kI kL kG kZ A) {i : Nat} (hi : i + 3 ≤ L) (K : gm_LAt p l e s m below meth c b dC dI kI kL kG kZ ad bd LP A i 223) : gm_LAt p l e s m below meth c b dC dI kI kL kG kZ ad bd LP A i 134 := by
  obtain ⟨hx, hb, hr, hml, hown, hts, hX, hbl, hbA, hA, hA2, hK, hG, hlocks, hL⟩ := HF
  intro n mm a b2 fa fb rt us g pr ma mb kn can ways fo fc fr ro H locs ls HI hP hD hS hl
  obtain ⟨hn, hm, ha, hb2, ha1, hb1, ⟨t, hgr⟩, hst⟩ := HI
  rcases Nat.eq_zero_or_pos mm with h0 | h0
  · subst h0
    refine lv_aload_n hx hb dL_law_134 rfl (lv_at hl 1 rfl) ?_
    have hFc := gm_free hD hS hA
    refine va_calli (va_runV (As := []) (rest := []) ⟨hx, hb, hml, hown, hts⟩ (metX0_drop_none l dC dI kI kL kG kZ ad (gM5 bd kI kL kZ ma mb 0 n kn can ways fo fc fr ro) LP H.size n fa fb rt us g pr) (cwV 0 hts (lw_V q60 q61 q62 q10 q63) rfl rfl rfl (by decide +kernel) ⟨Nat.le_of_ble_eq_true rfl, Nat.le_of_ble_eq_true rfl⟩) ⟨fun a U g mk q => by obtain ⟨q0, q1, qP, qK, qD⟩ := q; exact ⟨q0, q1, qP, va_K.moved (u := U) (U := U.calling g mk a) (Vm.Alike.refl U.vm) qK, qD⟩, va_recv hK hP (ci := 0) (q0 := 0) rfl rfl, fun U hU hW => ⟨rfl, by rw [hU], by rw [hU]; exact hP, va_K.moved hW.alike hK, hD.weaken (fun _ _ _ _ => trivial)⟩⟩ rfl rfl hl.1 rfl (lv_room (Nat.le_of_ble_eq_true rfl)) dL_law_135 ⟨Nat.le_of_ble_eq_true rfl, Nat.le_of_ble_eq_true rfl⟩) hS (fun q _ h => hFc q h) hFc (fun r u t1 H1 locs ht hvm hr1 hB hz1 hk1 hS => ?_)
    obtain ⟨hP1, hK1, hD1⟩ := hB
    rw [ht] at hP1
    have hD1 := hD1.weaken (fun _ _ _ h => hFc _ h)
    clear hP hD hFc hk1 hz1 hK1 hvm ht
    generalize H1 = H at hP1 hS ⊢
    have hP : va_P (dC, dI) vwCl (gWX ad kI kL kG (gM5 bd kI kL kZ ma mb 0 n kn can ways fo fc fr ro) LP n 0 fa fb rt us g pr) H := hP1
    have hD : va_D A (gWX ad kI kL kG (gM5 bd kI kL kZ ma mb 0 n kn can ways fo fc fr ro) LP n 0 fa fb rt us g pr) := hD1
    clear hP1 hD1
    subst hr1
    refine lv_aload_n hx hb dL_law_138 rfl (lv_at hl 2 rfl) ?_
    have hP : va_P (dC, dI) vwCl (gWM bd kI kL kZ (gX6 ad kI kG n 0 fa fb rt us g ++ gm_pool kL 5 LP pr) ma mb 0 n kn can ways fo fc fr ro) H := gm_permP (gm_rot _ _ _) hP
    have hD : va_D A (gWM bd kI kL kZ (gX6 ad kI kG n 0 fa fb rt us g ++ gm_pool kL 5 LP pr) ma mb 0 n kn can ways fo fc fr ro) := gm_permD (gm_rot _ _ _) hD
    have hFc := gm_free hD hS hA
    refine va_calli (va_runV (As := []) (rest := [.int 0]) ⟨hx, hb, hml, hown, hts⟩ (metX1_drop_none l dC dI kI kL kG kZ bd (gX6 ad kI kG n 0 fa fb rt us g ++ gm_pool kL 5 LP pr) H.size ma mb n kn can ways fo fc fr ro) (cwV 0 hts (lw_V q165 q166 q167 q11 q168) rfl rfl rfl (by decide +kernel) ⟨Nat.le_of_ble_eq_true rfl, Nat.le_of_ble_eq_true rfl⟩) ⟨fun a U g mk q => by obtain ⟨q0, q1, qP, qK, qD⟩ := q; exact ⟨q0, q1, qP, va_K.moved (u := U) (U := U.calling g mk a) (Vm.Alike.refl U.vm) qK, qD⟩, va_recv hK hP (ci := 1) (q0 := 0) rfl rfl, fun U hU hW => ⟨rfl, by rw [hU], by rw [hU]; exact hP, va_K.moved hW.alike hK, hD.weaken (fun _ _ _ _ => trivial)⟩⟩ rfl rfl hl.1 rfl (lv_room (Nat.le_of_ble_eq_true rfl)) dL_law_139 ⟨Nat.le_of_ble_eq_true rfl, Nat.le_of_ble_eq_true rfl⟩) hS (fun q _ h => hFc q h) hFc (fun r2 u2 t1 H1 locs ht hvm hr2 hB hz1 hk1 hS => ?_)
    obtain ⟨hP1, hK1, hD1⟩ := hB
    rw [ht] at hP1
    have hD1 := hD1.weaken (fun _ _ _ h => hFc _ h)
    clear hP hD hFc hk1 hz1 hK1 hvm ht
    generalize H1 = H at hP1 hS ⊢
    have hP : va_P (dC, dI) vwCl (gWM bd kI kL kZ (gX6 ad kI kG n 0 fa fb rt us g ++ gm_pool kL 5 LP pr) ma mb 0 n kn can ways fo fc fr ro) H := hP1
    have hD : va_D A (gWM bd kI kL kZ (gX6 ad kI kG n 0 fa fb rt us g ++ gm_pool kL 5 LP pr) ma mb 0 n kn can ways fo fc fr ro) := hD1
    clear hP1 hD1
    subst hr2
    refine lv_icmp_eq (tgt := 223) hx hb dL_law_142 (by decide) (fun hc => ?_) (fun hc => ?_)
    · skip
      have hP : va_P (dC, dI) vwCl (gWX ad kI kL kG (gM5 bd kI kL kZ ma mb 0 n kn can ways fo fc fr ro) LP n 0 fa fb rt us g pr) H := gm_permP ((gm_rot _ _ _).symm) hP
      have hD : va_D A (gWX ad kI kL kG (gM5 bd kI kL kZ ma mb 0 n kn can ways fo fc fr ro) LP n 0 fa fb rt us g pr) := gm_permD ((gm_rot _ _ _).symm) hD
      exact K n 0 a b2 fa fb rt us g pr ma mb kn can ways fo fc fr ro H locs ls ⟨hn, hm, ha, hb2, ha1, hb1, ⟨t, hgr⟩, hst⟩ hP hD hS (lv_sub hl [0, 1, 2, 3] rfl)
    · exact absurd rfl hc
  · obtain ⟨mk, rfl⟩ : ∃ k, mm = k + 1 := ⟨mm - 1, by omega⟩
    refine lv_aload_n hx hb dL_law_134 rfl (lv_at hl 1 rfl) ?_
    have hFc := gm_free hD hS hA
    refine va_calli (va_runV (As := []) (rest := []) ⟨hx, hb, hml, hown, hts⟩ (metX0_drop l dC dI kI kL kG kZ ad (gM5 bd kI kL kZ ma mb (mk + 1) n kn can ways fo fc fr ro) LP H.size n mk fa fb rt us g pr (by omega)) (cwV 0 hts (lw_V q60 q61 q62 q10 q63) rfl rfl rfl (by decide +kernel) ⟨Nat.le_of_ble_eq_true rfl, Nat.le_of_ble_eq_true rfl⟩) ⟨fun a U g mk q => by obtain ⟨q0, q1, qP, qK, qD⟩ := q; exact ⟨q0, q1, qP, va_K.moved (u := U) (U := U.calling g mk a) (Vm.Alike.refl U.vm) qK, qD⟩, va_recv hK hP (ci := 0) (q0 := 0) rfl rfl, fun U hU hW => ⟨rfl, by rw [hU], by rw [hU]; exact hP, va_K.moved hW.alike hK, hD.weaken (fun _ _ _ _ => trivial)⟩⟩ rfl rfl hl.1 rfl (lv_room (Nat.le_of_ble_eq_true rfl)) dL_law_135 ⟨Nat.le_of_ble_eq_true rfl, Nat.le_of_ble_eq_true rfl⟩) hS (fun q _ h => hFc q h) hFc (fun r u t1 H1 locs ht hvm hr1 hB hz1 hk1 hS => ?_)
    obtain ⟨hP1, hK1, hD1⟩ := hB
    rw [ht] at hP1
    have hD1 := hD1.weaken (fun _ _ _ h => hFc _ h)
    clear hP hD hFc hk1 hz1 hK1 hvm ht
    generalize H1 = H at hP1 hS ⊢
    have hP : va_P (dC, dI) vwCl (gWX ad kI kL kG (gM5 bd kI kL kZ ma mb (mk + 1) n kn can ways fo fc fr ro) LP n mk fa fb rt us g pr) H := hP1
    have hD : va_D A (gWX ad kI kL kG (gM5 bd kI kL kZ ma mb (mk + 1) n kn can ways fo fc fr ro) LP n mk fa fb rt us g pr) := hD1
    clear hP1 hD1
    subst hr1
    refine lv_aload_n hx hb dL_law_138 rfl (lv_at hl 2 rfl) ?_
    have hP : va_P (dC, dI) vwCl (gWM bd kI kL kZ (gX6 ad kI kG n mk fa fb rt us g ++ gm_pool kL 5 LP pr) ma mb (mk + 1) n kn can ways fo fc fr ro) H := gm_permP (gm_rot _ _ _) hP
    have hD : va_D A (gWM bd kI kL kZ (gX6 ad kI kG n mk fa fb rt us g ++ gm_pool kL 5 LP pr) ma mb (mk + 1) n kn can ways fo fc fr ro) := gm_permD (gm_rot _ _ _) hD
    have hFc := gm_free hD hS hA
    refine va_calli (va_runV (As := []) (rest := [.int 1]) ⟨hx, hb, hml, hown, hts⟩ (metX1_drop l dC dI kI kL kG kZ bd (gX6 ad kI kG n mk fa fb rt us g ++ gm_pool kL 5 LP pr) H.size ma mb mk n kn can ways fo fc fr ro (by omega)) (cwV 0 hts (lw_V q165 q166 q167 q11 q168) rfl rfl rfl (by decide +kernel) ⟨Nat.le_of_ble_eq_true rfl, Nat.le_of_ble_eq_true rfl⟩) ⟨fun a U g mk q => by obtain ⟨q0, q1, qP, qK, qD⟩ := q; exact ⟨q0, q1, qP, va_K.moved (u := U) (U := U.calling g mk a) (Vm.Alike.refl U.vm) qK, qD⟩, va_recv hK hP (ci := 1) (q0 := 0) rfl rfl, fun U hU hW => ⟨rfl, by rw [hU], by rw [hU]; exact hP, va_K.moved hW.alike hK, hD.weaken (fun _ _ _ _ => trivial)⟩⟩ rfl rfl hl.1 rfl (lv_room (Nat.le_of_ble_eq_true rfl)) dL_law_139 ⟨Nat.le_of_ble_eq_true rfl, Nat.le_of_ble_eq_true rfl⟩) hS (fun q _ h => hFc q h) hFc (fun r2 u2 t1 H1 locs ht hvm hr2 hB hz1 hk1 hS => ?_)
    obtain ⟨hP1, hK1, hD1⟩ := hB
    rw [ht] at hP1
    have hD1 := hD1.weaken (fun _ _ _ h => hFc _ h)
    clear hP hD hFc hk1 hz1 hK1 hvm ht
    generalize H1 = H at hP1 hS ⊢
    have hP : va_P (dC, dI) vwCl (gWM bd kI kL kZ (gX6 ad kI kG n mk fa fb rt us g ++ gm_pool kL 5 LP pr) ma mb mk n (nI 0) can ways fo fc fr ro) H := hP1
    have hD : va_D A (gWM bd kI kL kZ (gX6 ad kI kG n mk fa fb rt us g ++ gm_pool kL 5 LP pr) ma mb mk n (nI 0) can ways fo fc fr ro) := hD1
    clear hP1 hD1
    subst hr2
    refine lv_icmp_eq (tgt := 223) hx hb dL_law_142 (by decide) (fun hc => ?_) (fun hc => ?_)
    · skip
      have hP : va_P (dC, dI) vwCl (gWX ad kI kL kG (gM5 bd kI kL kZ ma mb mk n (nI 0) can ways fo fc fr ro) LP n mk fa fb rt us g pr) H := gm_permP ((gm_rot _ _ _).symm) hP
      have hD : va_D A (gWX ad kI kL kG (gM5 bd kI kL kZ ma mb mk n (nI 0) can ways fo fc fr ro) LP n mk fa fb rt us g pr) := gm_permD ((gm_rot _ _ _).symm) hD
      exact K n mk a b2 fa fb rt us g pr ma mb (nI 0) can ways fo fc fr ro H locs ls ⟨hn, by omega, gm_hold_less ha, gm_hold_less hb2, gm_hold_less ha1, gm_hold_less hb1, ⟨t, hgr⟩, Or.inl rfl⟩ hP hD hS (lv_sub hl [0, 1, 2, 3] rfl)
    · exact absurd rfl hc
set_option maxHeartbeats 4000000 in
set_option maxRecDepth 100000 in
/-- open() -/
theorem law_3 {p : Program} {l : Launch} {e : Env} {s : State} {m : MethodId} {below : List Frame} {meth : Method} {c : Code} {b L : Nat} {xs : Nat → Int32} {dC : Nat → ClassId} {dI : Nat → Nat → Nat} {kI kL kG kZ : ClassId} {ad bd : Nat → Nat} {LP : List Nat} {A : Nat → Prop} (HF : gm_LF p s m meth c b L xs dC dI kI kL kG kZ A) {i : Nat} (hi : i + 3 ≤ L) (K : gm_LAt p l e s m below meth c b dC dI kI kL kG kZ ad bd LP A i 223) : gm_LAt p l e s m below meth c b dC dI kI kL kG kZ ad bd LP A i 147 := by
  obtain ⟨hx, hb, hr, hml, hown, hts, hX, hbl, hbA, hA, hA2, hK, hG, hlocks, hL⟩ := HF
  intro n mm a b2 fa fb rt us g pr ma mb kn can ways fo fc fr ro H locs ls HI hP hD hS hl
  obtain ⟨hn, hm, ha, hb2, ha1, hb1, ⟨t, hgr⟩, hst⟩ := HI
  refine lv_aload_n hx hb dL_law_147 rfl (lv_at hl 1 rfl) ?_
  have hFc := gm_free hD hS hA
  refine va_calli (va_runV (As := []) (rest := []) ⟨hx, hb, hml, hown, hts⟩ (metX0_open l dC dI kI kL kG kZ ad (gM5 bd kI kL kZ ma mb mm n kn can ways fo fc fr ro) LP H.size n mm fa fb rt us g pr a b2 hn hm ha hb2) (cwV 0 hts (lw_V q76 q77 q78 q10 q79) rfl rfl rfl (by decide +kernel) ⟨Nat.le_of_ble_eq_true rfl, Nat.le_of_ble_eq_true rfl⟩) ⟨fun a U g mk q => by obtain ⟨q0, q1, qP, qK, qD⟩ := q; exact ⟨q0, q1, qP, va_K.moved (u := U) (U := U.calling g mk a) (Vm.Alike.refl U.vm) qK, qD⟩, va_recv hK hP (ci := 0) (q0 := 0) rfl rfl, fun U hU hW => ⟨rfl, by rw [hU], by rw [hU]; exact hP, va_K.moved hW.alike hK, hD.weaken (fun _ _ _ _ => trivial)⟩⟩ rfl rfl hl.1 rfl (lv_room (Nat.le_of_ble_eq_true rfl)) dL_law_148 ⟨Nat.le_of_ble_eq_true rfl, Nat.le_of_ble_eq_true rfl⟩) hS (fun q _ h => hFc q h) hFc (fun r rt1 t1 H1 locs ht hvm hr1 hB hz1 hk1 hS => ?_)
  obtain ⟨hP1, hK1, hD1⟩ := hB
  rw [ht] at hP1
  have hD1 := hD1.weaken (fun _ _ _ h => hFc _ h)
  clear hP hD hFc hk1 hz1 hK1 hvm ht
  generalize H1 = H at hP1 hS ⊢
  have hP : va_P (dC, dI) vwCl (gWX ad kI kL kG (gM5 bd kI kL kZ ma mb mm n kn can ways fo fc fr ro) LP n mm fa fb rt1 us g pr) H := hP1
  have hD : va_D A (gWX ad kI kL kG (gM5 bd kI kL kZ ma mb mm n kn can ways fo fc fr ro) LP n mm fa fb rt1 us g pr) := hD1
  clear hP1 hD1
  subst hr1
  refine lv_aload_n hx hb dL_law_151 rfl (lv_at hl 2 rfl) ?_
  have hP : va_P (dC, dI) vwCl (gWM bd kI kL kZ (gX6 ad kI kG n mm fa fb rt1 us g ++ gm_pool kL 5 LP pr) ma mb mm n kn can ways fo fc fr ro) H := gm_permP (gm_rot _ _ _) hP
  have hD : va_D A (gWM bd kI kL kZ (gX6 ad kI kG n mm fa fb rt1 us g ++ gm_pool kL 5 LP pr) ma mb mm n kn can ways fo fc fr ro) := gm_permD (gm_rot _ _ _) hD
  have hFc := gm_free hD hS hA
  refine va_calli (va_runV (As := []) (rest := [.int (gm_b (gm_odd n mm a b2 ≤ 2 ∧ gm_conn mm a b2))]) ⟨hx, hb, hml, hown, hts⟩ (metX1_open l dC dI kI kL kG kZ bd (gX6 ad kI kG n mm fa fb rt1 us g ++ gm_pool kL 5 LP pr) H.size ma mb mm n kn can ways fo fc fr ro a b2 hn hm ha1 hb1 hst) (cwV 0 hts (lw_V q169 q170 q171 q11 q172) rfl rfl rfl (by decide +kernel) ⟨Nat.le_of_ble_eq_true rfl, Nat.le_of_ble_eq_true rfl⟩) ⟨fun a U g mk q => by obtain ⟨q0, q1, qP, qK, qD⟩ := q; exact ⟨q0, q1, qP, va_K.moved (u := U) (U := U.calling g mk a) (Vm.Alike.refl U.vm) qK, qD⟩, va_recv hK hP (ci := 1) (q0 := 0) rfl rfl, fun U hU hW => ⟨rfl, by rw [hU], by rw [hU]; exact hP, va_K.moved hW.alike hK, hD.weaken (fun _ _ _ _ => trivial)⟩⟩ rfl rfl hl.1 rfl (lv_room (Nat.le_of_ble_eq_true rfl)) dL_law_152 ⟨Nat.le_of_ble_eq_true rfl, Nat.le_of_ble_eq_true rfl⟩) hS (fun q _ h => hFc q h) hFc (fun r2 u2 t1 H1 locs ht hvm hr2 hB hz1 hk1 hS => ?_)
  obtain ⟨hP1, hK1, hD1⟩ := hB
  rw [ht] at hP1
  have hD1 := hD1.weaken (fun _ _ _ h => hFc _ h)
  clear hP hD hFc hk1 hz1 hK1 hvm ht
  generalize H1 = H at hP1 hS ⊢
  have hP : va_P (dC, dI) vwCl (gWM bd kI kL kZ (gX6 ad kI kG n mm fa fb rt1 us g ++ gm_pool kL 5 LP pr) ma mb mm n (nI 1) u2.1 u2.2 (gm_b (gm_odd n mm a b2 ≤ 2 ∧ gm_conn mm a b2)) (gm_b (gm_odd n mm a b2 = 0 ∧ gm_conn mm a b2)) (gm_b (gm_good mm a b2 n ∧ gm_ov n mm a b2 ≤ 1 ∧ gm_conn mm a b2)) (gm_RO mm a b2)) H := hP1
  have hD : va_D A (gWM bd kI kL kZ (gX6 ad kI kG n mm fa fb rt1 us g ++ gm_pool kL 5 LP pr) ma mb mm n (nI 1) u2.1 u2.2 (gm_b (gm_odd n mm a b2 ≤ 2 ∧ gm_conn mm a b2)) (gm_b (gm_odd n mm a b2 = 0 ∧ gm_conn mm a b2)) (gm_b (gm_good mm a b2 n ∧ gm_ov n mm a b2 ≤ 1 ∧ gm_conn mm a b2)) (gm_RO mm a b2)) := hD1
  clear hP1 hD1
  subst hr2
  refine lv_icmp_eq (tgt := 223) hx hb dL_law_155 (by decide) (fun hc => ?_) (fun hc => ?_)
  · skip
    have hP : va_P (dC, dI) vwCl (gWX ad kI kL kG (gM5 bd kI kL kZ ma mb mm n (nI 1) u2.1 u2.2 (gm_b (gm_odd n mm a b2 ≤ 2 ∧ gm_conn mm a b2)) (gm_b (gm_odd n mm a b2 = 0 ∧ gm_conn mm a b2)) (gm_b (gm_good mm a b2 n ∧ gm_ov n mm a b2 ≤ 1 ∧ gm_conn mm a b2)) (gm_RO mm a b2)) LP n mm fa fb rt1 us g pr) H := gm_permP ((gm_rot _ _ _).symm) hP
    have hD : va_D A (gWX ad kI kL kG (gM5 bd kI kL kZ ma mb mm n (nI 1) u2.1 u2.2 (gm_b (gm_odd n mm a b2 ≤ 2 ∧ gm_conn mm a b2)) (gm_b (gm_odd n mm a b2 = 0 ∧ gm_conn mm a b2)) (gm_b (gm_good mm a b2 n ∧ gm_ov n mm a b2 ≤ 1 ∧ gm_conn mm a b2)) (gm_RO mm a b2)) LP n mm fa fb rt1 us g pr) := gm_permD ((gm_rot _ _ _).symm) hD
    exact K n mm a b2 fa fb rt1 us g pr ma mb (nI 1) u2.1 u2.2 (gm_b (gm_odd n mm a b2 ≤ 2 ∧ gm_conn mm a b2)) (gm_b (gm_odd n mm a b2 = 0 ∧ gm_conn mm a b2)) (gm_b (gm_good mm a b2 n ∧ gm_ov n mm a b2 ≤ 1 ∧ gm_conn mm a b2)) (gm_RO mm a b2) H locs ls ⟨hn, hm, ha, hb2, ha1, hb1, ⟨t, hgr⟩, Or.inr ⟨rfl, rfl, rfl, rfl, rfl⟩⟩ hP hD hS (lv_sub hl [0, 1, 2, 3] rfl)
  · exact absurd rfl hc
set_option maxHeartbeats 4000000 in
set_option maxRecDepth 100000 in
/-- closed() -/
theorem law_4 {p : Program} {l : Launch} {e : Env} {s : State} {m : MethodId} {below : List Frame} {meth : Method} {c : Code} {b L : Nat} {xs : Nat → Int32} {dC : Nat → ClassId} {dI : Nat → Nat → Nat} {kI kL kG kZ : ClassId} {ad bd : Nat → Nat} {LP : List Nat} {A : Nat → Prop} (HF : gm_LF p s m meth c b L xs dC dI kI kL kG kZ A) {i : Nat} (hi : i + 3 ≤ L) (K : gm_LAt p l e s m below meth c b dC dI kI kL kG kZ ad bd LP A i 223) : gm_LAt p l e s m below meth c b dC dI kI kL kG kZ ad bd LP A i 160 := by
  obtain ⟨hx, hb, hr, hml, hown, hts, hX, hbl, hbA, hA, hA2, hK, hG, hlocks, hL⟩ := HF
  intro n mm a b2 fa fb rt us g pr ma mb kn can ways fo fc fr ro H locs ls HI hP hD hS hl
  obtain ⟨hn, hm, ha, hb2, ha1, hb1, ⟨t, hgr⟩, hst⟩ := HI
  refine lv_aload_n hx hb dL_law_160 rfl (lv_at hl 1 rfl) ?_
  have hFc := gm_free hD hS hA
  refine va_calli (va_runV (As := []) (rest := []) ⟨hx, hb, hml, hown, hts⟩ (metX0_closed l dC dI kI kL kG kZ ad (gM5 bd kI kL kZ ma mb mm n kn can ways fo fc fr ro) LP H.size n mm fa fb rt us g pr a b2 hn hm ha hb2) (cwV 0 hts (lw_V q92 q93 q94 q10 q95) rfl rfl rfl (by decide +kernel) ⟨Nat.le_of_ble_eq_true rfl, Nat.le_of_ble_eq_true rfl⟩) ⟨fun a U g mk q => by obtain ⟨q0, q1, qP, qK, qD⟩ := q; exact ⟨q0, q1, qP, va_K.moved (u := U) (U := U.calling g mk a) (Vm.Alike.refl U.vm) qK, qD⟩, va_recv hK hP (ci := 0) (q0 := 0) rfl rfl, fun U hU hW => ⟨rfl, by rw [hU], by rw [hU]; exact hP, va_K.moved hW.alike hK, hD.weaken (fun _ _ _ _ => trivial)⟩⟩ rfl rfl hl.1 rfl (lv_room (Nat.le_of_ble_eq_true rfl)) dL_law_161 ⟨Nat.le_of_ble_eq_true rfl, Nat.le_of_ble_eq_true rfl⟩) hS (fun q _ h => hFc q h) hFc (fun r rt1 t1 H1 locs ht hvm hr1 hB hz1 hk1 hS => ?_)
  obtain ⟨hP1, hK1, hD1⟩ := hB
  rw [ht] at hP1
  have hD1 := hD1.weaken (fun _ _ _ h => hFc _ h)
  clear hP hD hFc hk1 hz1 hK1 hvm ht
  generalize H1 = H at hP1 hS ⊢
  have hP : va_P (dC, dI) vwCl (gWX ad kI kL kG (gM5 bd kI kL kZ ma mb mm n kn can ways fo fc fr ro) LP n mm fa fb rt1 us g pr) H := hP1
  have hD : va_D A (gWX ad kI kL kG (gM5 bd kI kL kZ ma mb mm n kn can ways fo fc fr ro) LP n mm fa fb rt1 us g pr) := hD1
  clear hP1 hD1
  subst hr1
  refine lv_aload_n hx hb dL_law_164 rfl (lv_at hl 2 rfl) ?_
  have hP : va_P (dC, dI) vwCl (gWM bd kI kL kZ (gX6 ad kI kG n mm fa fb rt1 us g ++ gm_pool kL 5 LP pr) ma mb mm n kn can ways fo fc fr ro) H := gm_permP (gm_rot _ _ _) hP
  have hD : va_D A (gWM bd kI kL kZ (gX6 ad kI kG n mm fa fb rt1 us g ++ gm_pool kL 5 LP pr) ma mb mm n kn can ways fo fc fr ro) := gm_permD (gm_rot _ _ _) hD
  have hFc := gm_free hD hS hA
  refine va_calli (va_runV (As := []) (rest := [.int (gm_b (gm_odd n mm a b2 = 0 ∧ gm_conn mm a b2))]) ⟨hx, hb, hml, hown, hts⟩ (metX1_closed l dC dI kI kL kG kZ bd (gX6 ad kI kG n mm fa fb rt1 us g ++ gm_pool kL 5 LP pr) H.size ma mb mm n kn can ways fo fc fr ro a b2 hn hm ha1 hb1 hst) (cwV 0 hts (lw_V q177 q178 q179 q11 q180) rfl rfl rfl (by decide +kernel) ⟨Nat.le_of_ble_eq_true rfl, Nat.le_of_ble_eq_true rfl⟩) ⟨fun a U g mk q => by obtain ⟨q0, q1, qP, qK, qD⟩ := q; exact ⟨q0, q1, qP, va_K.moved (u := U) (U := U.calling g mk a) (Vm.Alike.refl U.vm) qK, qD⟩, va_recv hK hP (ci := 1) (q0 := 0) rfl rfl, fun U hU hW => ⟨rfl, by rw [hU], by rw [hU]; exact hP, va_K.moved hW.alike hK, hD.weaken (fun _ _ _ _ => trivial)⟩⟩ rfl rfl hl.1 rfl (lv_room (Nat.le_of_ble_eq_true rfl)) dL_law_165 ⟨Nat.le_of_ble_eq_true rfl, Nat.le_of_ble_eq_true rfl⟩) hS (fun q _ h => hFc q h) hFc (fun r2 u2 t1 H1 locs ht hvm hr2 hB hz1 hk1 hS => ?_)
  obtain ⟨hP1, hK1, hD1⟩ := hB
  rw [ht] at hP1
  have hD1 := hD1.weaken (fun _ _ _ h => hFc _ h)
  clear hP hD hFc hk1 hz1 hK1 hvm ht
  generalize H1 = H at hP1 hS ⊢
  have hP : va_P (dC, dI) vwCl (gWM bd kI kL kZ (gX6 ad kI kG n mm fa fb rt1 us g ++ gm_pool kL 5 LP pr) ma mb mm n (nI 1) u2.1 u2.2 (gm_b (gm_odd n mm a b2 ≤ 2 ∧ gm_conn mm a b2)) (gm_b (gm_odd n mm a b2 = 0 ∧ gm_conn mm a b2)) (gm_b (gm_good mm a b2 n ∧ gm_ov n mm a b2 ≤ 1 ∧ gm_conn mm a b2)) (gm_RO mm a b2)) H := hP1
  have hD : va_D A (gWM bd kI kL kZ (gX6 ad kI kG n mm fa fb rt1 us g ++ gm_pool kL 5 LP pr) ma mb mm n (nI 1) u2.1 u2.2 (gm_b (gm_odd n mm a b2 ≤ 2 ∧ gm_conn mm a b2)) (gm_b (gm_odd n mm a b2 = 0 ∧ gm_conn mm a b2)) (gm_b (gm_good mm a b2 n ∧ gm_ov n mm a b2 ≤ 1 ∧ gm_conn mm a b2)) (gm_RO mm a b2)) := hD1
  clear hP1 hD1
  subst hr2
  refine lv_icmp_eq (tgt := 223) hx hb dL_law_168 (by decide) (fun hc => ?_) (fun hc => ?_)
  · skip
    have hP : va_P (dC, dI) vwCl (gWX ad kI kL kG (gM5 bd kI kL kZ ma mb mm n (nI 1) u2.1 u2.2 (gm_b (gm_odd n mm a b2 ≤ 2 ∧ gm_conn mm a b2)) (gm_b (gm_odd n mm a b2 = 0 ∧ gm_conn mm a b2)) (gm_b (gm_good mm a b2 n ∧ gm_ov n mm a b2 ≤ 1 ∧ gm_conn mm a b2)) (gm_RO mm a b2)) LP n mm fa fb rt1 us g pr) H := gm_permP ((gm_rot _ _ _).symm) hP
    have hD : va_D A (gWX ad kI kL kG (gM5 bd kI kL kZ ma mb mm n (nI 1) u2.1 u2.2 (gm_b (gm_odd n mm a b2 ≤ 2 ∧ gm_conn mm a b2)) (gm_b (gm_odd n mm a b2 = 0 ∧ gm_conn mm a b2)) (gm_b (gm_good mm a b2 n ∧ gm_ov n mm a b2 ≤ 1 ∧ gm_conn mm a b2)) (gm_RO mm a b2)) LP n mm fa fb rt1 us g pr) := gm_permD ((gm_rot _ _ _).symm) hD
    exact K n mm a b2 fa fb rt1 us g pr ma mb (nI 1) u2.1 u2.2 (gm_b (gm_odd n mm a b2 ≤ 2 ∧ gm_conn mm a b2)) (gm_b (gm_odd n mm a b2 = 0 ∧ gm_conn mm a b2)) (gm_b (gm_good mm a b2 n ∧ gm_ov n mm a b2 ≤ 1 ∧ gm_conn mm a b2)) (gm_RO mm a b2) H locs ls ⟨hn, hm, ha, hb2, ha1, hb1, ⟨t, hgr⟩, Or.inr ⟨rfl, rfl, rfl, rfl, rfl⟩⟩ hP hD hS (lv_sub hl [0, 1, 2, 3] rfl)
  · exact absurd rfl hc
set_option maxHeartbeats 4000000 in
set_option maxRecDepth 100000 in
/-- arrows() -/
theorem law_5 {p : Program} {l : Launch} {e : Env} {s : State} {m : MethodId} {below : List Frame} {meth : Method} {c : Code} {b L : Nat} {xs : Nat → Int32} {dC : Nat → ClassId} {dI : Nat → Nat → Nat} {kI kL kG kZ : ClassId} {ad bd : Nat → Nat} {LP : List Nat} {A : Nat → Prop} (HF : gm_LF p s m meth c b L xs dC dI kI kL kG kZ A) {i : Nat} (hi : i + 3 ≤ L) (K : gm_LAt p l e s m below meth c b dC dI kI kL kG kZ ad bd LP A i 223) : gm_LAt p l e s m below meth c b dC dI kI kL kG kZ ad bd LP A i 173 := by
  obtain ⟨hx, hb, hr, hml, hown, hts, hX, hbl, hbA, hA, hA2, hK, hG, hlocks, hL⟩ := HF
  intro n mm a b2 fa fb rt us g pr ma mb kn can ways fo fc fr ro H locs ls HI hP hD hS hl
  obtain ⟨hn, hm, ha, hb2, ha1, hb1, ⟨t, hgr⟩, hst⟩ := HI
  refine lv_aload_n hx hb dL_law_173 rfl (lv_at hl 1 rfl) ?_
  have hFc := gm_free hD hS hA
  refine va_calli (va_runV (As := []) (rest := []) ⟨hx, hb, hml, hown, hts⟩ (metX0_arrows l dC dI kI kL kG kZ ad (gM5 bd kI kL kZ ma mb mm n kn can ways fo fc fr ro) LP H.size n mm fa fb rt us g pr a b2 hn hm ha hb2) (cwV 0 hts (lw_V q96 q97 q98 q10 q99) rfl rfl rfl (by decide +kernel) ⟨Nat.le_of_ble_eq_true rfl, Nat.le_of_ble_eq_true rfl⟩) ⟨fun a U g mk q => by obtain ⟨q0, q1, qP, qK, qD⟩ := q; exact ⟨q0, q1, qP, va_K.moved (u := U) (U := U.calling g mk a) (Vm.Alike.refl U.vm) qK, qD⟩, va_recv hK hP (ci := 0) (q0 := 0) rfl rfl, fun U hU hW => ⟨rfl, by rw [hU], by rw [hU]; exact hP, va_K.moved hW.alike hK, hD.weaken (fun _ _ _ _ => trivial)⟩⟩ rfl rfl hl.1 rfl (lv_room (Nat.le_of_ble_eq_true rfl)) dL_law_174 ⟨Nat.le_of_ble_eq_true rfl, Nat.le_of_ble_eq_true rfl⟩) hS (fun q _ h => hFc q h) hFc (fun r rt1 t1 H1 locs ht hvm hr1 hB hz1 hk1 hS => ?_)
  obtain ⟨hP1, hK1, hD1⟩ := hB
  rw [ht] at hP1
  have hD1 := hD1.weaken (fun _ _ _ h => hFc _ h)
  clear hP hD hFc hk1 hz1 hK1 hvm ht
  generalize H1 = H at hP1 hS ⊢
  have hP : va_P (dC, dI) vwCl (gWX ad kI kL kG (gM5 bd kI kL kZ ma mb mm n kn can ways fo fc fr ro) LP n mm fa fb rt1 us g pr) H := hP1
  have hD : va_D A (gWX ad kI kL kG (gM5 bd kI kL kZ ma mb mm n kn can ways fo fc fr ro) LP n mm fa fb rt1 us g pr) := hD1
  clear hP1 hD1
  subst hr1
  refine lv_aload_n hx hb dL_law_177 rfl (lv_at hl 2 rfl) ?_
  have hP : va_P (dC, dI) vwCl (gWM bd kI kL kZ (gX6 ad kI kG n mm fa fb rt1 us g ++ gm_pool kL 5 LP pr) ma mb mm n kn can ways fo fc fr ro) H := gm_permP (gm_rot _ _ _) hP
  have hD : va_D A (gWM bd kI kL kZ (gX6 ad kI kG n mm fa fb rt1 us g ++ gm_pool kL 5 LP pr) ma mb mm n kn can ways fo fc fr ro) := gm_permD (gm_rot _ _ _) hD
  have hFc := gm_free hD hS hA
  refine va_calli (va_runV (As := []) (rest := [.int (gm_b (gm_good mm a b2 n ∧ gm_ov n mm a b2 ≤ 1 ∧ gm_conn mm a b2))]) ⟨hx, hb, hml, hown, hts⟩ (metX1_arrows l dC dI kI kL kG kZ bd (gX6 ad kI kG n mm fa fb rt1 us g ++ gm_pool kL 5 LP pr) H.size ma mb mm n kn can ways fo fc fr ro a b2 hn hm ha1 hb1 hst) (cwV 0 hts (lw_V q181 q182 q183 q11 q184) rfl rfl rfl (by decide +kernel) ⟨Nat.le_of_ble_eq_true rfl, Nat.le_of_ble_eq_true rfl⟩) ⟨fun a U g mk q => by obtain ⟨q0, q1, qP, qK, qD⟩ := q; exact ⟨q0, q1, qP, va_K.moved (u := U) (U := U.calling g mk a) (Vm.Alike.refl U.vm) qK, qD⟩, va_recv hK hP (ci := 1) (q0 := 0) rfl rfl, fun U hU hW => ⟨rfl, by rw [hU], by rw [hU]; exact hP, va_K.moved hW.alike hK, hD.weaken (fun _ _ _ _ => trivial)⟩⟩ rfl rfl hl.1 rfl (lv_room (Nat.le_of_ble_eq_true rfl)) dL_law_178 ⟨Nat.le_of_ble_eq_true rfl, Nat.le_of_ble_eq_true rfl⟩) hS (fun q _ h => hFc q h) hFc (fun r2 u2 t1 H1 locs ht hvm hr2 hB hz1 hk1 hS => ?_)
  obtain ⟨hP1, hK1, hD1⟩ := hB
  rw [ht] at hP1
  have hD1 := hD1.weaken (fun _ _ _ h => hFc _ h)
  clear hP hD hFc hk1 hz1 hK1 hvm ht
  generalize H1 = H at hP1 hS ⊢
  have hP : va_P (dC, dI) vwCl (gWM bd kI kL kZ (gX6 ad kI kG n mm fa fb rt1 us g ++ gm_pool kL 5 LP pr) ma mb mm n (nI 1) u2.1 u2.2 (gm_b (gm_odd n mm a b2 ≤ 2 ∧ gm_conn mm a b2)) (gm_b (gm_odd n mm a b2 = 0 ∧ gm_conn mm a b2)) (gm_b (gm_good mm a b2 n ∧ gm_ov n mm a b2 ≤ 1 ∧ gm_conn mm a b2)) (gm_RO mm a b2)) H := hP1
  have hD : va_D A (gWM bd kI kL kZ (gX6 ad kI kG n mm fa fb rt1 us g ++ gm_pool kL 5 LP pr) ma mb mm n (nI 1) u2.1 u2.2 (gm_b (gm_odd n mm a b2 ≤ 2 ∧ gm_conn mm a b2)) (gm_b (gm_odd n mm a b2 = 0 ∧ gm_conn mm a b2)) (gm_b (gm_good mm a b2 n ∧ gm_ov n mm a b2 ≤ 1 ∧ gm_conn mm a b2)) (gm_RO mm a b2)) := hD1
  clear hP1 hD1
  subst hr2
  refine lv_icmp_eq (tgt := 223) hx hb dL_law_181 (by decide) (fun hc => ?_) (fun hc => ?_)
  · skip
    have hP : va_P (dC, dI) vwCl (gWX ad kI kL kG (gM5 bd kI kL kZ ma mb mm n (nI 1) u2.1 u2.2 (gm_b (gm_odd n mm a b2 ≤ 2 ∧ gm_conn mm a b2)) (gm_b (gm_odd n mm a b2 = 0 ∧ gm_conn mm a b2)) (gm_b (gm_good mm a b2 n ∧ gm_ov n mm a b2 ≤ 1 ∧ gm_conn mm a b2)) (gm_RO mm a b2)) LP n mm fa fb rt1 us g pr) H := gm_permP ((gm_rot _ _ _).symm) hP
    have hD : va_D A (gWX ad kI kL kG (gM5 bd kI kL kZ ma mb mm n (nI 1) u2.1 u2.2 (gm_b (gm_odd n mm a b2 ≤ 2 ∧ gm_conn mm a b2)) (gm_b (gm_odd n mm a b2 = 0 ∧ gm_conn mm a b2)) (gm_b (gm_good mm a b2 n ∧ gm_ov n mm a b2 ≤ 1 ∧ gm_conn mm a b2)) (gm_RO mm a b2)) LP n mm fa fb rt1 us g pr) := gm_permD ((gm_rot _ _ _).symm) hD
    exact K n mm a b2 fa fb rt1 us g pr ma mb (nI 1) u2.1 u2.2 (gm_b (gm_odd n mm a b2 ≤ 2 ∧ gm_conn mm a b2)) (gm_b (gm_odd n mm a b2 = 0 ∧ gm_conn mm a b2)) (gm_b (gm_good mm a b2 n ∧ gm_ov n mm a b2 ≤ 1 ∧ gm_conn mm a b2)) (gm_RO mm a b2) H locs ls ⟨hn, hm, ha, hb2, ha1, hb1, ⟨t, hgr⟩, Or.inr ⟨rfl, rfl, rfl, rfl, rfl⟩⟩ hP hD hS (lv_sub hl [0, 1, 2, 3] rfl)
  · exact absurd rfl hc
set_option maxHeartbeats 4000000 in
set_option maxRecDepth 100000 in
/-- rounds() -/
theorem law_6 {p : Program} {l : Launch} {e : Env} {s : State} {m : MethodId} {below : List Frame} {meth : Method} {c : Code} {b L : Nat} {xs : Nat → Int32} {dC : Nat → ClassId} {dI : Nat → Nat → Nat} {kI kL kG kZ : ClassId} {ad bd : Nat → Nat} {LP : List Nat} {A : Nat → Prop} (HF : gm_LF p s m meth c b L xs dC dI kI kL kG kZ A) {i : Nat} (hi : i + 3 ≤ L) (K : gm_LAt p l e s m below meth c b dC dI kI kL kG kZ ad bd LP A i 223) : gm_LAt p l e s m below meth c b dC dI kI kL kG kZ ad bd LP A i 186 := by
  obtain ⟨hx, hb, hr, hml, hown, hts, hX, hbl, hbA, hA, hA2, hK, hG, hlocks, hL⟩ := HF
  intro n mm a b2 fa fb rt us g pr ma mb kn can ways fo fc fr ro H locs ls HI hP hD hS hl
  obtain ⟨hn, hm, ha, hb2, ha1, hb1, ⟨t, hgr⟩, hst⟩ := HI
  refine lv_aload_n hx hb dL_law_186 rfl (lv_at hl 1 rfl) ?_
  have hFc := gm_free hD hS hA
  refine va_calll (va_runV (As := []) (rest := []) ⟨hx, hb, hml, hown, hts⟩ (metX0_rounds l dC dI kI kL kG kZ ad (gM5 bd kI kL kZ ma mb mm n kn can ways fo fc fr ro) LP H.size n mm fa fb rt us g pr a b2 hn hm ha hb2 t hgr) (cwV 0 hts (lw_V q104 q105 q106 q10 q107) rfl rfl rfl (by decide +kernel) ⟨Nat.le_of_ble_eq_true rfl, Nat.le_of_ble_eq_true rfl⟩) ⟨fun a U g mk q => by obtain ⟨q0, q1, qP, qK, qD, qG⟩ := q; exact ⟨q0, q1, qP, va_K.moved (u := U) (U := U.calling g mk a) (Vm.Alike.refl U.vm) qK, qD, gm_GA.moved (u := U) (U := U.calling g mk a) (Vm.Alike.refl U.vm) qG⟩, va_recv hK hP (ci := 0) (q0 := 0) rfl rfl, fun U hU hW => ⟨rfl, by rw [hU], by rw [hU]; exact hP, va_K.moved hW.alike hK, hD.weaken (fun _ _ _ _ => trivial), gm_GA.moved hW.alike hG⟩⟩ rfl rfl hl.1 rfl (lv_room (Nat.le_of_ble_eq_true rfl)) dL_law_187 ⟨Nat.le_of_ble_eq_true rfl, Nat.le_of_ble_eq_true rfl⟩) hS (fun q _ h => hFc q h) hFc (fun r u1 t1 H1 locs ht hvm hr1 hB hz1 hk1 hS => ?_)
  obtain ⟨hP1, hK1, hD1⟩ := hB
  rw [ht] at hP1
  have hD1 := hD1.weaken (fun _ _ _ h => hFc _ h)
  clear hP hD hFc hk1 hz1 hK1 hvm ht
  generalize H1 = H at hP1 hS ⊢
  have hP : va_P (dC, dI) vwCl (gWX ad kI kL kG (gM5 bd kI kL kZ ma mb mm n kn can ways fo fc fr ro) LP n mm fa fb u1.1 u1.2.1 u1.2.2.1 u1.2.2.2) H := hP1
  have hD : va_D A (gWX ad kI kL kG (gM5 bd kI kL kZ ma mb mm n kn can ways fo fc fr ro) LP n mm fa fb u1.1 u1.2.1 u1.2.2.1 u1.2.2.2) := hD1
  clear hP1 hD1
  obtain ⟨hr0, t2, hgr2⟩ := hr1
  subst hr0
  refine lv_aload_n hx hb dL_law_190 rfl (lv_at hl 2 rfl) ?_
  have hP : va_P (dC, dI) vwCl (gWM bd kI kL kZ (gX6 ad kI kG n mm fa fb u1.1 u1.2.1 u1.2.2.1 ++ gm_pool kL 5 LP u1.2.2.2) ma mb mm n kn can ways fo fc fr ro) H := gm_permP (gm_rot _ _ _) hP
  have hD : va_D A (gWM bd kI kL kZ (gX6 ad kI kG n mm fa fb u1.1 u1.2.1 u1.2.2.1 ++ gm_pool kL 5 LP u1.2.2.2) ma mb mm n kn can ways fo fc fr ro) := gm_permD (gm_rot _ _ _) hD
  have hFc := gm_free hD hS hA
  refine va_calll (va_runV (As := []) (rest := [.long (gm_RO mm a b2)]) ⟨hx, hb, hml, hown, hts⟩ (metX1_rounds l dC dI kI kL kG kZ bd (gX6 ad kI kG n mm fa fb u1.1 u1.2.1 u1.2.2.1 ++ gm_pool kL 5 LP u1.2.2.2) H.size ma mb mm n kn can ways fo fc fr ro a b2 hn hm ha1 hb1 hst) (cwV 0 hts (lw_V q185 q186 q187 q11 q188) rfl rfl rfl (by decide +kernel) ⟨Nat.le_of_ble_eq_true rfl, Nat.le_of_ble_eq_true rfl⟩) ⟨fun a U g mk q => by obtain ⟨q0, q1, qP, qK, qD⟩ := q; exact ⟨q0, q1, qP, va_K.moved (u := U) (U := U.calling g mk a) (Vm.Alike.refl U.vm) qK, qD⟩, va_recv hK hP (ci := 1) (q0 := 0) rfl rfl, fun U hU hW => ⟨rfl, by rw [hU], by rw [hU]; exact hP, va_K.moved hW.alike hK, hD.weaken (fun _ _ _ _ => trivial)⟩⟩ rfl rfl hl.1 rfl (lv_room (Nat.le_of_ble_eq_true rfl)) dL_law_191 ⟨Nat.le_of_ble_eq_true rfl, Nat.le_of_ble_eq_true rfl⟩) hS (fun q _ h => hFc q h) hFc (fun r2 u2 t1 H1 locs ht hvm hr2 hB hz1 hk1 hS => ?_)
  obtain ⟨hP1, hK1, hD1⟩ := hB
  rw [ht] at hP1
  have hD1 := hD1.weaken (fun _ _ _ h => hFc _ h)
  clear hP hD hFc hk1 hz1 hK1 hvm ht
  generalize H1 = H at hP1 hS ⊢
  have hP : va_P (dC, dI) vwCl (gWM bd kI kL kZ (gX6 ad kI kG n mm fa fb u1.1 u1.2.1 u1.2.2.1 ++ gm_pool kL 5 LP u1.2.2.2) ma mb mm n (nI 1) u2.1 u2.2 (gm_b (gm_odd n mm a b2 ≤ 2 ∧ gm_conn mm a b2)) (gm_b (gm_odd n mm a b2 = 0 ∧ gm_conn mm a b2)) (gm_b (gm_good mm a b2 n ∧ gm_ov n mm a b2 ≤ 1 ∧ gm_conn mm a b2)) (gm_RO mm a b2)) H := hP1
  have hD : va_D A (gWM bd kI kL kZ (gX6 ad kI kG n mm fa fb u1.1 u1.2.1 u1.2.2.1 ++ gm_pool kL 5 LP u1.2.2.2) ma mb mm n (nI 1) u2.1 u2.2 (gm_b (gm_odd n mm a b2 ≤ 2 ∧ gm_conn mm a b2)) (gm_b (gm_odd n mm a b2 = 0 ∧ gm_conn mm a b2)) (gm_b (gm_good mm a b2 n ∧ gm_ov n mm a b2 ≤ 1 ∧ gm_conn mm a b2)) (gm_RO mm a b2)) := hD1
  clear hP1 hD1
  subst hr2
  refine W.lcmp hx hb dL_law_194 ?_
  refine lv_if_eq (tgt := 223) hx hb dL_law_195 (by decide) (fun hc => ?_) (fun hc => ?_)
  · skip
    have hP : va_P (dC, dI) vwCl (gWX ad kI kL kG (gM5 bd kI kL kZ ma mb mm n (nI 1) u2.1 u2.2 (gm_b (gm_odd n mm a b2 ≤ 2 ∧ gm_conn mm a b2)) (gm_b (gm_odd n mm a b2 = 0 ∧ gm_conn mm a b2)) (gm_b (gm_good mm a b2 n ∧ gm_ov n mm a b2 ≤ 1 ∧ gm_conn mm a b2)) (gm_RO mm a b2)) LP n mm fa fb u1.1 u1.2.1 u1.2.2.1 u1.2.2.2) H := gm_permP ((gm_rot _ _ _).symm) hP
    have hD : va_D A (gWX ad kI kL kG (gM5 bd kI kL kZ ma mb mm n (nI 1) u2.1 u2.2 (gm_b (gm_odd n mm a b2 ≤ 2 ∧ gm_conn mm a b2)) (gm_b (gm_odd n mm a b2 = 0 ∧ gm_conn mm a b2)) (gm_b (gm_good mm a b2 n ∧ gm_ov n mm a b2 ≤ 1 ∧ gm_conn mm a b2)) (gm_RO mm a b2)) LP n mm fa fb u1.1 u1.2.1 u1.2.2.1 u1.2.2.2) := gm_permD ((gm_rot _ _ _).symm) hD
    exact K n mm a b2 fa fb u1.1 u1.2.1 u1.2.2.1 u1.2.2.2 ma mb (nI 1) u2.1 u2.2 (gm_b (gm_odd n mm a b2 ≤ 2 ∧ gm_conn mm a b2)) (gm_b (gm_odd n mm a b2 = 0 ∧ gm_conn mm a b2)) (gm_b (gm_good mm a b2 n ∧ gm_ov n mm a b2 ≤ 1 ∧ gm_conn mm a b2)) (gm_RO mm a b2) H locs ls ⟨hn, hm, ha, hb2, ha1, hb1, ⟨t2, hgr2⟩, Or.inr ⟨rfl, rfl, rfl, rfl, rfl⟩⟩ hP hD hS (lv_sub hl [0, 1, 2, 3] rfl)
  · exact absurd (gm_cmpE.mpr rfl) hc
set_option maxHeartbeats 4000000 in
set_option maxRecDepth 100000 in
/-- ends(k) -/
theorem law_7 {p : Program} {l : Launch} {e : Env} {s : State} {m : MethodId} {below : List Frame} {meth : Method} {c : Code} {b L : Nat} {xs : Nat → Int32} {dC : Nat → ClassId} {dI : Nat → Nat → Nat} {kI kL kG kZ : ClassId} {ad bd : Nat → Nat} {LP : List Nat} {A : Nat → Prop} (HF : gm_LF p s m meth c b L xs dC dI kI kL kG kZ A) {i : Nat} (hi : i + 3 ≤ L) (K : gm_LAt p l e s m below meth c b dC dI kI kL kG kZ ad bd LP A i 223) : gm_LAt p l e s m below meth c b dC dI kI kL kG kZ ad bd LP A i 200 := by
  obtain ⟨hx, hb, hr, hml, hown, hts, hX, hbl, hbA, hA, hA2, hK, hG, hlocks, hL⟩ := HF
  intro n mm a b2 fa fb rt us g pr ma mb kn can ways fo fc fr ro H locs ls HI hP hD hS hl
  obtain ⟨hn, hm, ha, hb2, ha1, hb1, ⟨t, hgr⟩, hst⟩ := HI
  refine lv_aload_n hx hb dL_law_200 rfl (lv_at hl 1 rfl) ?_
  refine lv_aload_n hx hb dL_law_201 rfl (lv_at hl 3 rfl) ?_
  refine lv_iload_n hx hb dL_law_202 rfl (lv_at hl 0 rfl) ?_
  refine lv_iconst (v := nI 1) hx hb dL_law_203 (by decide) ?_
  refine lv_iadd hx hb dL_law_204 ?_
  refine gm_tpi (nI_add i 1) ?_
  refine gm_sld hx hb hX hbl hbA hS (k := (i + 1)) (by omega) (by omega) dL_law_205 ?_
  refine vp_callSi (W.runV (As := [.int (xs (i + 1))]) (rest := []) ⟨hx, hb, hml, hown, hts⟩ (metX0_ends l dC dI kI kL kG kZ ad (gM5 bd kI kL kZ ma mb mm n kn can ways fo fc fr ro) LP n mm fa fb rt us g pr (xs (i + 1)) a b2 hn hm ha hb2) (cwV 1 hts (lw_V q64 q65 q66 q10 q67) rfl rfl rfl (by decide +kernel) ⟨Nat.le_of_ble_eq_true rfl, Nat.le_of_ble_eq_true rfl⟩) ⟨fun a U g mk q => by obtain ⟨q0, qP, qK⟩ := q; exact ⟨q0, qP, va_K.moved (u := U) (U := U.calling g mk a) (Vm.Alike.refl U.vm) qK⟩, va_recv hK hP (ci := 0) (q0 := 0) rfl rfl, fun U hU hW => ⟨rfl, by rw [hU]; exact hP, va_K.moved hW.alike hK⟩⟩ rfl rfl hl.1 rfl (lv_room (Nat.le_of_ble_eq_true rfl)) dL_law_206 ⟨Nat.le_of_ble_eq_true rfl, Nat.le_of_ble_eq_true rfl⟩) (fun r hr1 => ?_)
  subst hr1
  refine lv_aload_n hx hb dL_law_209 rfl (lv_at hl 2 rfl) ?_
  refine lv_aload_n hx hb dL_law_210 rfl (lv_at hl 3 rfl) ?_
  refine lv_iload_n hx hb dL_law_211 rfl (lv_at hl 0 rfl) ?_
  refine lv_iconst (v := nI 1) hx hb dL_law_212 (by decide) ?_
  refine lv_iadd hx hb dL_law_213 ?_
  refine gm_tpi (nI_add i 1) ?_
  refine gm_sld hx hb hX hbl hbA hS (k := (i + 1)) (by omega) (by omega) dL_law_214 ?_
  have hP : va_P (dC, dI) vwCl (gWM bd kI kL kZ (gX6 ad kI kG n mm fa fb rt us g ++ gm_pool kL 5 LP pr) ma mb mm n kn can ways fo fc fr ro) H := gm_permP (gm_rot _ _ _) hP
  have hD : va_D A (gWM bd kI kL kZ (gX6 ad kI kG n mm fa fb rt us g ++ gm_pool kL 5 LP pr) ma mb mm n kn can ways fo fc fr ro) := gm_permD (gm_rot _ _ _) hD
  refine vp_callSi (W.runV (As := [.int (xs (i + 1))]) (rest := [.int (nI (gm_ct a (gm_pl (xs (i + 1)) n) mm + gm_ct b2 (gm_pl (xs (i + 1)) n) mm))]) ⟨hx, hb, hml, hown, hts⟩ (metX1_ends l dC dI kI kL kG kZ bd (gX6 ad kI kG n mm fa fb rt us g ++ gm_pool kL 5 LP pr) ma mb mm n kn can ways fo fc fr ro (xs (i + 1)) a b2 hn hm ha1 hb1) (cwV 1 hts (lw_V q189 q190 q191 q11 q192) rfl rfl rfl (by decide +kernel) ⟨Nat.le_of_ble_eq_true rfl, Nat.le_of_ble_eq_true rfl⟩) ⟨fun a U g mk q => by obtain ⟨q0, qP, qK⟩ := q; exact ⟨q0, qP, va_K.moved (u := U) (U := U.calling g mk a) (Vm.Alike.refl U.vm) qK⟩, va_recv hK hP (ci := 1) (q0 := 0) rfl rfl, fun U hU hW => ⟨rfl, by rw [hU]; exact hP, va_K.moved hW.alike hK⟩⟩ rfl rfl hl.1 rfl (lv_room (Nat.le_of_ble_eq_true rfl)) dL_law_215 ⟨Nat.le_of_ble_eq_true rfl, Nat.le_of_ble_eq_true rfl⟩) (fun r2 hr2 => ?_)
  subst hr2
  refine lv_icmp_eq (tgt := 223) hx hb dL_law_218 (by decide) (fun hc => ?_) (fun hc => ?_)
  · skip
    have hP : va_P (dC, dI) vwCl (gWX ad kI kL kG (gM5 bd kI kL kZ ma mb mm n kn can ways fo fc fr ro) LP n mm fa fb rt us g pr) H := gm_permP ((gm_rot _ _ _).symm) hP
    have hD : va_D A (gWX ad kI kL kG (gM5 bd kI kL kZ ma mb mm n kn can ways fo fc fr ro) LP n mm fa fb rt us g pr) := gm_permD ((gm_rot _ _ _).symm) hD
    exact K n mm a b2 fa fb rt us g pr ma mb kn can ways fo fc fr ro H locs ls ⟨hn, hm, ha, hb2, ha1, hb1, ⟨t, hgr⟩, hst⟩ hP hD hS (lv_sub hl [0, 1, 2, 3] rfl)
  · exact absurd rfl hc
end
section
/-! THE LAW: its loop, its start, and the claim -/
set_option maxHeartbeats 4000000 in
set_option maxRecDepth 100000 in
/-- the law's loop at its head -/
theorem law_loop {p : Program} {l : Launch} {e : Env} {s : State} {m : MethodId} {below : List Frame} {meth : Method} {c : Code} {b L : Nat} {xs : Nat → Int32} {dC : Nat → ClassId} {dI : Nat → Nat → Nat} {kI kL kG kZ : ClassId} {ad bd : Nat → Nat} {LP : List Nat} {A : Nat → Prop} (HF : gm_LF p s m meth c b L xs dC dI kI kL kG kZ A) : ∀ (k i : Nat), i ≤ L → L < i + k → gm_LAt p l e s m below meth c b dC dI kI kL kG kZ ad bd LP A i 18 := by
  intro k
  induction k with
  | zero => intro i h1 h2; exact absurd h2 (by omega)
  | succ k ih =>
    intro i h1 h2
    have HF0 := HF
    obtain ⟨hx, hb, hr, hml, hown, hts, hX, hbl, hbA, hA, hA2, hK, hG, hlocks, hL⟩ := HF
    intro n mm a b2 fa fb rt us g pr ma mb kn can ways fo fc fr ro H locs ls HI hP hD hS hl
    refine lv_iload_n hx hb dL_law_18 rfl (lv_at hl 0 rfl) ?_
    refine lv_aload_n hx hb dL_law_19 rfl (lv_at hl 3 rfl) ?_
    refine va_slen hx hb hX hbl hbA hS dL_law_20 ?_
    refine lv_iconst (v := nI 3) hx hb dL_law_21 (by decide) ?_
    refine lv_isub hx hb dL_law_22 ?_
    refine lv_icmp_gt (tgt := 229) hx hb dL_law_23 (by decide) (fun hc => ?_) (fun hc => ?_)
    · skip
      refine lv_iconst (v := nI 1) hx hb dL_law_229 (by decide) ?_
      refine va_forget (fun q hq => hA2 _ (hS.2.2 q hq)) ?_
      refine W.widen (k := 600000) (n := 7302250) (by decide) (by decide) ?_
      exact lw_ret hx hb hr hlocks dL_law_230
    · have hi : i + 3 ≤ L := by
        rcases Nat.lt_or_ge L (i + 3) with h3 | h3
        · exact absurd ((gm_gt3 (by omega) (by omega)).mpr h3) hc
        · exact h3
      have K : gm_LAt p l e s m below meth c b dC dI kI kL kG kZ ad bd LP A i 223 := by
        clear HI hP hD hS hl
        intro n mm a b2 fa fb rt us g pr ma mb kn can ways fo fc fr ro H locs ls HI hP hD hS hl
        refine lv_iinc (v := nI (i + 3)) (lv' := [(3, .int (nI (i + 3))), (1, .ref (ad 0)), (2, .ref (bd 0)), (0, .ref b)]) hx hb dL_law_223 hl (k := 0) rfl (gm_inc3 i) (by decide) rfl (fun ls hl => ?_)
        refine lv_goto (tgt := 18) hx hb dL_law_226 (by decide) ?_
        exact ih (i + 3) (by omega) (by omega) n mm a b2 fa fb rt us g pr ma mb kn can ways fo fc fr ro H locs ls HI hP hD hS (lv_sub hl [0, 1, 2, 3] rfl)
      refine lv_aload_n hx hb dL_law_26 rfl (lv_at hl 3 rfl) ?_
      refine lv_iload_n hx hb dL_law_27 rfl (lv_at hl 0 rfl) ?_
      refine gm_sld hx hb hX hbl hbA hS (k := i) (by omega) (by omega) dL_law_28 ?_
      refine lv_bipush (v := nI 7) hx hb dL_law_29 (by decide) ?_
      refine lv_iand hx hb dL_law_31 ?_
      refine gm_tpi (pk_and (xs i) (m := nI 7) 3 (by decide)) ?_
      have hv8 : (xs i).toBitVec.toNat % 2 ^ 3 < 8 := Nat.mod_lt _ (by decide)
      generalize (xs i).toBitVec.toNat % 2 ^ 3 = v at hv8 ⊢
      have h9 : v = 0 ∨ v = 1 ∨ v = 2 ∨ v = 3 ∨ v = 4 ∨ v = 5 ∨ v = 6 ∨ v = 7 := by omega
      rcases h9 with rfl | rfl | rfl | rfl | rfl | rfl | rfl | rfl
      · refine lv_tableIn (off := 48) (tgt := 80) hx hb dL_law_32 (by decide) (by decide) rfl (by decide) ?_
        exact law_0 HF0 hi K n mm a b2 fa fb rt us g pr ma mb kn can ways fo fc fr ro H locs ls HI hP hD hS (lv_sub hl [0, 1, 2, 3] rfl)
      · refine lv_tableIn (off := 69) (tgt := 101) hx hb dL_law_32 (by decide) (by decide) rfl (by decide) ?_
        exact law_1 HF0 hi K n mm a b2 fa fb rt us g pr ma mb kn can ways fo fc fr ro H locs ls HI hP hD hS (lv_sub hl [0, 1, 2, 3] rfl)
      · refine lv_tableIn (off := 102) (tgt := 134) hx hb dL_law_32 (by decide) (by decide) rfl (by decide) ?_
        exact law_2 HF0 hi K n mm a b2 fa fb rt us g pr ma mb kn can ways fo fc fr ro H locs ls HI hP hD hS (lv_sub hl [0, 1, 2, 3] rfl)
      · refine lv_tableIn (off := 115) (tgt := 147) hx hb dL_law_32 (by decide) (by decide) rfl (by decide) ?_
        exact law_3 HF0 hi K n mm a b2 fa fb rt us g pr ma mb kn can ways fo fc fr ro H locs ls HI hP hD hS (lv_sub hl [0, 1, 2, 3] rfl)
      · refine lv_tableIn (off := 128) (tgt := 160) hx hb dL_law_32 (by decide) (by decide) rfl (by decide) ?_
        exact law_4 HF0 hi K n mm a b2 fa fb rt us g pr ma mb kn can ways fo fc fr ro H locs ls HI hP hD hS (lv_sub hl [0, 1, 2, 3] rfl)
      · refine lv_tableIn (off := 141) (tgt := 173) hx hb dL_law_32 (by decide) (by decide) rfl (by decide) ?_
        exact law_5 HF0 hi K n mm a b2 fa fb rt us g pr ma mb kn can ways fo fc fr ro H locs ls HI hP hD hS (lv_sub hl [0, 1, 2, 3] rfl)
      · refine lv_tableIn (off := 154) (tgt := 186) hx hb dL_law_32 (by decide) (by decide) rfl (by decide) ?_
        exact law_6 HF0 hi K n mm a b2 fa fb rt us g pr ma mb kn can ways fo fc fr ro H locs ls HI hP hD hS (lv_sub hl [0, 1, 2, 3] rfl)
      · refine lv_tableIn (off := 168) (tgt := 200) hx hb dL_law_32 (by decide) (by decide) rfl (by decide) ?_
        exact law_7 HF0 hi K n mm a b2 fa fb rt us g pr ma mb kn can ways fo fc fr ro H locs ls HI hP hD hS (lv_sub hl [0, 1, 2, 3] rfl)
set_option maxHeartbeats 4000000 in
set_option maxRecDepth 100000 in
/-- the arrays' classes -/
theorem gm_classes {s : State} {b : Nat} (hts : ∀ w ∈ lw_tbl, w.before #[Value.ref b] s = true) : ∃ (dC : Nat → ClassId) (dI : Nat → Nat → Nat) (kI kL kG kZ : ClassId), va_K (dC, dI) vwCl (gTY kI kL kG kZ) s ∧ gm_GA kG kL s := by
  obtain ⟨c0, iS0, hKn0⟩ := u_known (C := RX0) (T := TX0) (N := 7) (n := 7) hts (fun w h => lw_all_tbl (in_X0 w h)) (hts _ (lw_all_tbl q14))
  obtain ⟨c1, iS1, hKn1⟩ := u_known (C := RX1) (T := TX1) (N := 11) (n := 11) hts (fun w h => lw_all_tbl (in_X1 w h)) (hts _ (lw_all_tbl q116))
  obtain ⟨kI, jI, xI, hI1, hI2, hI3⟩ := Cond.arrayClass_spec (hts _ (lw_all_tbl q45))
  obtain ⟨kZ, jZ, xZ, hZ1, hZ2, hZ3⟩ := Cond.arrayClass_spec (hts _ (lw_all_tbl q155))
  obtain ⟨kL', jL, xL, hL1, hL2, hL3⟩ := Cond.arrayClass_spec (hts _ (lw_all_tbl q46))
  obtain ⟨kL, kG, jG, hG1, -, hG3, hG4, hG5⟩ := arrayOverA_spec (hts _ q22)
  have e1 : kL' = kL := Option.some.inj (hL1.symm.trans hG1)
  rw [e1] at hL1 hL2
  refine ⟨fun k => if k = 0 then c0 else c1, fun k => if k = 0 then iS0 else iS1, kI, kL, kG, kZ, ⟨?_, ?_⟩, jG, jL, hG3, hG4, hL2⟩
  · intro k q hq
    match k, hq with
    | 0, hq => cases hq; exact hKn0
    | 1, hq => cases hq; exact hKn1
    | k + 2, hq => simp [vwCl] at hq
  · intro k q hq
    match k, hq with
    | 0, hq => cases hq; exact ⟨fun n z => ⟨fun k h => (by cases h), jI, hI2, xI, hI3⟩, hI1⟩
    | 1, hq => cases hq; exact ⟨fun n z => ⟨fun k h => (by cases h), jL, hL2, xL, hL3⟩, hL1⟩
    | 2, hq => cases hq; exact ⟨fun n z => ⟨fun k h => (by cases h), jG, hG3, kL, hG4⟩, hG5⟩
    | 3, hq => cases hq; exact ⟨fun n z => ⟨fun k h => (by cases h), jZ, hZ2, xZ, hZ3⟩, hZ1⟩
    | k + 4, hq => simp [gTY] at hq
set_option maxHeartbeats 4000000 in
set_option maxRecDepth 100000 in
/-- from the entry, for every script of at most 192 ints, the law comes to its end with true -/
theorem whole_start {p : Program} {e : Env} {s : State} {m : MethodId} {below : List Frame} {meth : Method} {c : Code} (l : Launch) {b L : Nat} {xs : Nat → Int32} (hL : L ≤ 192) (C0 : lw_At p s m meth c b L xs) : W p l e room_1 s m #[Value.ref b] below meth c s.heap [] 0 0 (lw_Z below #[Value.ref b] s) (entryFrame m ([Value.ref b] : List Value).toArray 4) := by
  obtain ⟨hx, hb, hr, hml, hown, hts0, hX, hbl, hlocks, hgv⟩ := id C0
  have hov := hts0 _ q22
  obtain ⟨dC, dI, kI, kL, kG, kZ, hK, hG⟩ := gm_classes hts0
  have hts : ∀ w ∈ lw_all, w.before #[Value.ref b] s = true := fun w h => hts0 w (lw_all_tbl h)
  have hA : ∀ q : Nat, s.heap.size ≤ q → (fun q : Nat => s.heap.size ≤ q) q := fun _ h => h
  have hbA : ¬ (fun q : Nat => s.heap.size ≤ q) b := Nat.not_le.mpr hbl
  have HF : gm_LF p s m meth c b L xs dC dI kI kL kG kZ (fun q : Nat => s.heap.size ≤ q) := ⟨hx, hb, hr, hml, hown, hts, hX, hbl, hbA, hA, fun _ h => h, hK, hG, hlocks, hL⟩
  have hS : va_S (fun q : Nat => s.heap.size ≤ q) s.heap s.heap [] := va_S.rf
  have hP : va_P (dC, dI) vwCl [] s.heap := fun k q h => by simp at h
  have hD : va_D (fun q : Nat => s.heap.size ≤ q) [] := ⟨fun i j p q h => by simp at h, fun k q h => by simp at h⟩
  have hl := lv_entry ([.ref b]) (n := 4) (Nat.le_of_ble_eq_true rfl)
  rw [lg_entry_eq]
  generalize (lg_sl ([.ref b]) ++ List.replicate (4 - (lg_sl ([.ref b])).length) Slot.unset).toArray = ls at hl ⊢
  have hl : lv_has ls 4 [(0, .ref b)] := hl
  refine va_new (ci := 0) (fs := [.int 0, .int 0, .null, .null, .null, .null, .null]) (C := RX0) (T := TX0) (N := 7) hx hb hts in_X0 tyX0 tyX0_ok hown (hts _ q13) (hts _ q14) (hts _ q10) hK hP hD hS hA rfl (fun j hj => by rcases (show j = 0 ∨ j = 1 ∨ j = 2 ∨ j = 3 ∨ j = 4 ∨ j = 5 ∨ j = 6 by omega) with rfl | rfl | rfl | rfl | rfl | rfl | rfl <;> rfl) (Nat.le_of_ble_eq_true rfl) (Nat.le_of_ble_eq_true rfl) dL_law_0 (fun o H hP hD hS => ?_)
  have hP : va_P (dC, dI) vwCl [(o, .inr (0, [.int 0, .int 0, .null, .null, .null, .null, .null]))] H := hP
  have hD : va_D (fun q : Nat => s.heap.size ≤ q) [(o, .inr (0, [.int 0, .int 0, .null, .null, .null, .null, .null]))] := hD
  refine W.widen (k := 1) (n := 7) (by decide) (by decide) ?_
  refine lv_dup hx hb dL_law_3 rfl ?_
  have hFc := gm_free hD hS hA
  refine va_callv (va_runI (As := []) (rest := [.ref o]) ⟨hx, hb, hml, hown, hts⟩ (metX0_init l dC dI kI kL kG kZ o H.size) (cwI 0 hts (lw_meth q17) rfl rfl rfl (hts _ q10) (hts _ q15) (hts _ q16) rfl (by decide +kernel) ⟨Nat.le_of_ble_eq_true rfl, Nat.le_of_ble_eq_true rfl⟩) ⟨fun a U g mk q => by obtain ⟨q0, q1, qP, qK, qD, qO⟩ := q; exact ⟨q0, q1, qP, va_K.moved (u := U) (U := U.calling g mk a) (Vm.Alike.refl U.vm) qK, qD, over_moved (u := U) (E := U.calling g mk a) (Vm.Alike.refl U.vm) qO⟩, fun U hU hW => ⟨rfl, by rw [hU], by rw [hU]; exact hP, va_K.moved hW.alike hK, hD.weaken (fun _ _ _ _ => trivial), over_moved hW.alike hov⟩⟩ rfl rfl hl.1 rfl (lv_room (Nat.le_of_ble_eq_true rfl)) dL_law_4 ⟨Nat.le_of_ble_eq_true rfl, Nat.le_of_ble_eq_true rfl⟩) hS (fun q _ h => hFc q h) hFc (fun u t H1 locs ht hvm hw1 hB hz1 hk1 hS => ?_)
  obtain ⟨hP1, hK1, hD1⟩ := hB
  rw [ht] at hP1
  have hD2 : va_D (fun q : Nat => s.heap.size ≤ q) (gWX u kI kL kG [] (gm_rng (u 5)) 3 0 (fun _ => 0) (fun _ => 0) (fun _ => 0) (fun _ => 0) (fun j => some (u 5 + 1 + j)) (fun _ _ => 0)) := hD1.weaken (fun _ _ _ h => hFc _ h)
  have hw1 : u 0 = o := hw1
  subst hw1
  clear hP hD hFc hk1 hz1 hK1 hvm ht
  generalize H1 = H at hP1 hS ⊢
  have hP : va_P (dC, dI) vwCl (gWX u kI kL kG [] (gm_rng (u 5)) 3 0 (fun _ => 0) (fun _ => 0) (fun _ => 0) (fun _ => 0) (fun j => some (u 5 + 1 + j)) (fun _ _ => 0)) H := hP1
  have hD : va_D (fun q : Nat => s.heap.size ≤ q) (gWX u kI kL kG [] (gm_rng (u 5)) 3 0 (fun _ => 0) (fun _ => 0) (fun _ => 0) (fun _ => 0) (fun j => some (u 5 + 1 + j)) (fun _ _ => 0)) := hD2
  clear hP1 hD1 hD2
  refine W.widen (k := 11) (n := 67) (by decide) (by decide) ?_
  refine lv_astore_n (lv' := [(1, .ref (u 0)), (0, .ref b)]) hx hb dL_law_7 rfl hl (by decide) rfl (fun ls hl => ?_)
  refine va_new (ci := 1) (fs := [.null, .null, .int 0, .int 0, .int 0, .null, .null, .int 0, .int 0, .int 0, .long 0]) (C := RX1) (T := TX1) (N := 11) hx hb hts in_X1 tyX1 tyX1_ok hown (hts _ q115) (hts _ q116) (hts _ q11) hK hP hD hS hA rfl (fun j hj => by rcases (show j = 0 ∨ j = 1 ∨ j = 2 ∨ j = 3 ∨ j = 4 ∨ j = 5 ∨ j = 6 ∨ j = 7 ∨ j = 8 ∨ j = 9 ∨ j = 10 by omega) with rfl | rfl | rfl | rfl | rfl | rfl | rfl | rfl | rfl | rfl | rfl <;> rfl) (Nat.le_of_ble_eq_true rfl) (Nat.le_of_ble_eq_true rfl) dL_law_8 (fun o H hP hD hS => ?_)
  refine W.widen (k := 12) (n := 78) (by decide) (by decide) ?_
  refine lv_dup hx hb dL_law_11 rfl ?_
  have hPc := hP.sub (ws' := [(o, .inr (1, [.null, .null, .int 0, .int 0, .int 0, .null, .null, .int 0, .int 0, .int 0, .long 0]))]) [11] rfl
  have hDc := hD.sub (ws' := [(o, .inr (1, [.null, .null, .int 0, .int 0, .int 0, .null, .null, .int 0, .int 0, .int 0, .long 0]))]) [11] (by decide) rfl
  have hFc := va_free (wc := [(o, .inr (1, [.null, .null, .int 0, .int 0, .int 0, .null, .null, .int 0, .int 0, .int 0, .long 0]))]) hD hS hA [11] rfl
  refine va_callv (va_runI (As := []) (rest := [.ref o]) ⟨hx, hb, hml, hown, hts⟩ (metX1_init l dC dI kI kL kG kZ o H.size) (cwI 0 hts (lw_meth q119) rfl rfl rfl (hts _ q11) (hts _ q117) (hts _ q118) rfl (by decide +kernel) ⟨Nat.le_of_ble_eq_true rfl, Nat.le_of_ble_eq_true rfl⟩) ⟨fun a U g mk q => by obtain ⟨q0, q1, qP, qK, qD⟩ := q; exact ⟨q0, q1, qP, va_K.moved (u := U) (U := U.calling g mk a) (Vm.Alike.refl U.vm) qK, qD⟩, fun U hU hW => ⟨rfl, by rw [hU], by rw [hU]; exact hPc, va_K.moved hW.alike hK, hDc.weaken (fun _ _ _ _ => trivial)⟩⟩ rfl rfl hl.1 rfl (lv_room (Nat.le_of_ble_eq_true rfl)) dL_law_12 ⟨Nat.le_of_ble_eq_true rfl, Nat.le_of_ble_eq_true rfl⟩) hS (fun q _ h => hFc q h) hFc (fun w t H1 locs ht hvm hw1 hB hz1 hk1 hS => ?_)
  obtain ⟨hP1, hK1, hD1⟩ := hB
  rw [ht] at hP1
  have hw1 : w 0 = o := hw1
  subst hw1
  obtain ⟨hP, hD⟩ := va_join (wr := gWX u kI kL kG [] (gm_rng (u 5)) 3 0 (fun _ => 0) (fun _ => 0) (fun _ => 0) (fun _ => 0) (fun j => some (u 5 + 1 + j)) (fun _ _ => 0)) (w1 := gM5 w kI kL kZ (fun _ => 0) (fun _ => 0) 0 3 (nI 0) (fun _ => 0) (fun _ => 0) 0 0 0 0) hP hD [11] [0, 1, 2, 3, 4, 5, 6, 7, 8, 9, 10] rfl rfl (by decide) (by decide) hk1 hFc hP1 hD1
  clear hPc hDc hFc hk1 hz1 hK1 hvm ht hP1 hD1
  generalize H1 = H at hP hS ⊢
  have hP : va_P (dC, dI) vwCl (gWL u w kI kL kG kZ (gm_rng (u 5)) 3 0 (fun _ => 0) (fun _ => 0) (fun _ => 0) (fun _ => 0) (fun j => some (u 5 + 1 + j)) (fun _ _ => 0) (fun _ => 0) (fun _ => 0) (nI 0) (fun _ => 0) (fun _ => 0) 0 0 0 0) H := gm_permP (gm_rot2 _ _ _) hP
  have hD : va_D (fun q : Nat => s.heap.size ≤ q) (gWL u w kI kL kG kZ (gm_rng (u 5)) 3 0 (fun _ => 0) (fun _ => 0) (fun _ => 0) (fun _ => 0) (fun j => some (u 5 + 1 + j)) (fun _ _ => 0) (fun _ => 0) (fun _ => 0) (nI 0) (fun _ => 0) (fun _ => 0) 0 0 0 0) := gm_permD (gm_rot2 _ _ _) hD
  refine W.widen (k := 16) (n := 10338) (by decide) (by decide) ?_
  refine lv_astore_n (lv' := [(2, .ref (w 0)), (1, .ref (u 0)), (0, .ref b)]) hx hb dL_law_15 rfl hl (by decide) rfl (fun ls hl => ?_)
  refine lv_iconst (v := nI 0) hx hb dL_law_16 (by decide) ?_
  refine lv_istore_n (lv' := [(3, .int (nI 0)), (2, .ref (w 0)), (1, .ref (u 0)), (0, .ref b)]) hx hb dL_law_17 rfl hl (by decide) rfl (fun ls hl => ?_)
  exact law_loop HF (L + 1) 0 (Nat.zero_le L) (by omega) 3 0 (fun _ => 0) (fun _ => 0) (fun _ => 0) (fun _ => 0) (fun _ => 0) (fun _ => 0) (fun j => some (u 5 + 1 + j)) (fun _ _ => 0) (fun _ => 0) (fun _ => 0) (nI 0) (fun _ => 0) (fun _ => 0) 0 0 0 0 H locs ls ⟨⟨by decide, by decide⟩, by decide, gm_hold_0 _ _ _, gm_hold_0 _ _ _, gm_hold_0 _ _ _, gm_hold_0 _ _ _, ⟨_, gm_gr_new (u 5)⟩, Or.inl rfl⟩ hP hD hS (lv_sub hl [0, 2, 1, 3] rfl)
set_option maxHeartbeats 4000000 in
theorem lw_walk (l : Launch) (b : Addr) (xs : List Int32) : MetFree l x (headSpec (Jvm.Cond.code x code maxLocals ret :: tables_1) room_1) (lw_P b xs) (fun _ _ _ _ _ => True) lw_Q := by
  refine MetFree.of_bodyS (code := code) (maxLocals := maxLocals) (ret := ret) (by decide) ?_ ?_
  · intro args s m h hn
    obtain ⟨meth, c, h1, h2, h3, h4, h5, h6, -, -⟩ := Cond.code_spec hn (atoms_spec (ws := Jvm.Cond.code x code maxLocals ret :: tables_1) h _ List.mem_cons_self)
    exact ⟨meth, c, h1, h2, h3, h4, h5, h6⟩
  · intro p e s m args below meth c s₁ B hml0 hP _
    obtain ⟨rfl, hx, hbd, hgv⟩ := hP
    obtain ⟨scr, harrAt, hlist, hof, hsmall⟩ := hx
    obtain ⟨hcb, hkn, -, -⟩ := State.arrayAt?_spec harrAt
    have hown : s.vm.findClass R_law = some m.cls := findClass_of_methodNamed B.named
    have hts0 : ∀ c ∈ (Jvm.Cond.code x code maxLocals ret :: tables_1), c.before #[Value.ref b] s = true := atoms_spec (ws := Jvm.Cond.code x code maxLocals ret :: tables_1) B.pre
    have hts : ∀ w ∈ lw_tbl, w.before #[Value.ref b] s = true := k2_hts_sels lw_privs (fun w hw => hts0 w (List.mem_cons_of_mem _ hw)) lw_privs_ok
    have hml : c.maxLocals = 4 := B.maxLocals_eq (hts0 _ List.mem_cons_self)
    have X₀ : Stand p l e room_1 s m #[Value.ref b] below meth c s₁ [] 0 0 := Stand.of_body B
    have hh0 : s₁.heap = s.heap := by rw [B.state]; rfl
    have hsz : scr.slots.size = xs.length := by rw [← Array.length_toList, hlist, List.length_map]
    have hval : ∀ j : Nat, j < xs.length → scr.slots[j]? = some (.int (xs.getD j 0)) := fun j hj => by
      rw [← Array.getElem?_toList, hlist]
      simp [hj]
    have hbl : b < s.heap.size := (Array.getElem?_eq_some_iff.mp hcb).1
    have hX : va_X b xs.length (fun j => xs.getD j 0) s s.heap := ⟨scr, hcb, hof, hkn, hsz, hval⟩
    have K : W p l e room_1 s m #[Value.ref b] below meth c s₁.heap [] 0 0 (lw_Z below #[Value.ref b] s) (entryFrame m ([Value.ref b] : List Value).toArray 4) := by
      rw [hh0]
      exact whole_start l hbd ⟨B.exec, B.bytes, B.returns, hml, hown, hts, hX, hbl, B.notSynchronized, hgv⟩
    obtain ⟨t, a1, o, b1, b2, b3⟩ := K s₁ rfl X₀
    exact ⟨t, o, a1, b1, b2, b3⟩
theorem lw_pre_spec {args : Array Value} {s : State} (h : (Jvm.Cond.and given_1 narrow_1).before args s = true) (hr : rest_1_c.before args s = true) : ∃ (b : Addr) (xs : List Int32), lw_P b xs args s := by
  have hs := flat_of_before _ h
  have hq := flat_of_before _ hr
  have hc : (Cond.count 1).before args s = true := hs _ (by decide +kernel)
  have harr : (Cond.arrayOf (.arg 0) .int).before args s = true := hs _ (by decide +kernel)
  have hle : (Cond.le (.length (.arg 0)) (.int 192)).before args s = true := hs _ (by decide +kernel)
  have hlen : (Cond.isInt (.length (.arg 0))).before args s = true := hq _ (by decide +kernel)
  have hall : (Cond.all (.arg 0) (.isInt (.elem (.arg 0) (.index 0)))).before args s = true := hq _ (by decide +kernel)
  obtain ⟨b, xs, hb, hx⟩ := State.ints_of_pre rfl harr hlen hall
  have hsm : xs.length < 2 ^ 31 := hx.choose_spec.2.2.2
  have hev : (Term.length (.arg 0)).eval args s none [] s = some (.int xs.length.toInt32) := hx.length_eval hb
  have hv := Cond.le_ints hev (show (Term.int 192).eval args s none [] s = some (.int 192) from rfl)
  have hd : xs.length.toInt32 ≤ 192 := by
    simpa [Cond.before, Cond.holds, hv] using hle
  have hN : xs.length ≤ 192 := (Int32.ofNat_le_ofNat hsm (by decide)).mp (show Int32.ofNat xs.length ≤ Int32.ofNat 192 from hd)
  exact ⟨b, xs, Cond.one_arg hc (show args[0]? = some (.ref b) from hb), hx, hN, h⟩
theorem lw_comes (l : Launch) : Comes l x (Jvm.Cond.code x code maxLocals ret :: tables_1) room_1 (fun tb e args s => Calls_1 tb e args s ∧ rest_1 tb e args s ∧ Pre_1 tb e args s)
    (fun _ _ args s o t => lw_Q args s o t) := by
  intro p e ha hc hk s m args below hf hfit hheap happ hpre
  obtain ⟨b, xs, hP⟩ := lw_pre_spec hpre.2.2 hpre.2.1
  obtain ⟨k, o, h1, h2, h3, hQ⟩ := lw_walk l b xs p e ha hc hk s m args below hf ((Spec.applies_iff_loose hf).mp happ).1 hP trivial
  exact ⟨k, o, h1, h2, h3, hQ⟩
theorem lw_frame {s t : State} {o : Outcome} {args : Array Value} (h : Framed s o t [] 600000 7302250) :
    Framed s o t (fieldLocs frame_1_writes args s ++ arrayLocs frame_1_arrays args s ++ staticLocs frame_1_statics s) 600000 7302250 := h
theorem lw_limb (L : Cond) (hL : ∀ (args : Array Value) (s t : State), L.after args s (.returned (some (.int 1))) t = true) :
    ArmFor flags0 classFile x code maxLocals ret World_1 tables_1 room_1 Calls_1 rest_1 Pre_1
      (fun tb e a s o t => postC L tb e a s o t ∧ Framed s o t (fieldLocs frame_1_writes a s ++ arrayLocs frame_1_arrays a s ++ staticLocs frame_1_statics s) 600000 7302250) := by
  intro l _ _ _ p e ha hc hk s m args below hf hfit hheap happ hpre
  obtain ⟨k, o, h1, h2, h3, rfl, hF⟩ := lw_comes l p e ha hc hk s m args below hf hfit hheap happ hpre
  exact ⟨k, _, h1, h2, h3, hL args s _, lw_frame hF⟩
theorem i_vc : Claimed_1_1 ∧ Claimed_1_2 := ⟨lw_limb limb_1_1 (fun args s t => by simp [limb_1_1, Cond.after, Cond.holds, Cond.value]), lw_limb limb_1_2 (fun args s t => Cond.after_iff.mpr (by
  first | (rw [show limb_1_2 = Cond.eq .result (.int 1) from rfl, Cond.eq_ints (x := 1) (y := 1) rfl rfl]; simp; done) | (simp [limb_1_2, Cond.value, Term.eval]; done)))⟩
end
